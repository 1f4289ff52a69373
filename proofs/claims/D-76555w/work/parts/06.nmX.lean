/-! RoadsNotGoneBy -/
set_option maxRecDepth 100000
def RX0 : String := "RoadsNotGoneBy"
def TX0 : u_T := fun k => match k with
  | 0 => ("RoadsNotGoneBy", "folk", "[LRoadsNotGoneBy$Life;", true)
  | 1 => ("RoadsNotGoneBy", "many", "I", false)
  | 2 => ("RoadsNotGoneBy", "year", "I", false)
  | 3 => ("RoadsNotGoneBy", "leads", "[I", true)
  | 4 => ("RoadsNotGoneBy", "jars", "[I", true)
  | 5 => ("RoadsNotGoneBy", "faulty", "LRoadsNotGoneBy$Faulty;", true)
  | 6 => ("RoadsNotGoneBy", "forOne", "I", false)
  | 7 => ("RoadsNotGoneBy", "forJar", "I", false)
  | 8 => ("RoadsNotGoneBy", "texts", "[[LRoadsNotGoneBy$Node;", true)
  | 9 => ("RoadsNotGoneBy", "textMany", "I", false)
  | 10 => ("RoadsNotGoneBy", "keys", "[Ljava/lang/String;", true)
  | 11 => ("RoadsNotGoneBy", "names", "[Ljava/lang/String;", true)
  | 12 => ("RoadsNotGoneBy", "tape", "[B", true)
  | 13 => ("RoadsNotGoneBy", "taped", "I", false)
  | 14 => ("RoadsNotGoneBy", "length", "I", false)
  | 15 => ("RoadsNotGoneBy", "at", "I", false)
  | 16 => ("RoadsNotGoneBy", "begin", "I", false)
  | 17 => ("RoadsNotGoneBy", "token", "I", false)
  | 18 => ("RoadsNotGoneBy", "value", "I", false)
  | 19 => ("RoadsNotGoneBy", "opens", "I", false)
  | 20 => ("RoadsNotGoneBy", "rule", "I", false)
  | 21 => ("RoadsNotGoneBy", "keptJars", "[I", true)
  | 22 => ("RoadsNotGoneBy", "keptOn", "[I", true)
  | 23 => ("RoadsNotGoneBy", "comeTo", "I", false)
  | 24 => ("RoadsNotGoneBy", "ways", "[J", false)
  | 25 => ("RoadsNotGoneBy", "waysOn", "[J", false)
  | 26 => ("RoadsNotGoneBy", "turned", "[I", false)
  | 27 => ("RoadsNotGoneBy", "turnedOn", "[I", false)
  | 28 => ("RoadsNotGoneBy", "keptLeads", "[I", true)
  | 29 => ("RoadsNotGoneBy", "hasImage", "Z", false)
  | 30 => ("RoadsNotGoneBy", "imageRoads", "[[I", true)
  | 31 => ("RoadsNotGoneBy", "imageFolk", "[[I", true)
  | 32 => ("RoadsNotGoneBy", "imageNumbers", "[I", true)
  | _ => ("RoadsNotGoneBy", "sheets", "[LRoadsNotGoneBy$Sheet;", true)
def tyX0 : Nat → FieldType := fun k => match k with
  | 0 => .array (.object "RoadsNotGoneBy$Life")
  | 1 => .int
  | 2 => .int
  | 3 => .array .int
  | 4 => .array .int
  | 5 => .object "RoadsNotGoneBy$Faulty"
  | 6 => .int
  | 7 => .int
  | 8 => .array (.array (.object "RoadsNotGoneBy$Node"))
  | 9 => .int
  | 10 => .array (.object "java/lang/String")
  | 11 => .array (.object "java/lang/String")
  | 12 => .array .byte
  | 13 => .int
  | 14 => .int
  | 15 => .int
  | 16 => .int
  | 17 => .int
  | 18 => .int
  | 19 => .int
  | 20 => .int
  | 21 => .array .int
  | 22 => .array .int
  | 23 => .int
  | 24 => .array .long
  | 25 => .array .long
  | 26 => .array .int
  | 27 => .array .int
  | 28 => .array .int
  | 29 => .boolean
  | 30 => .array (.array .int)
  | 31 => .array (.array .int)
  | 32 => .array .int
  | _ => .array (.object "RoadsNotGoneBy$Sheet")
abbrev wsX00 : List Cond := u_ws RX0 TX0 34
set_option maxRecDepth 100000 in
theorem nmX0 : ∀ a, a < 34 → ∀ b, b < 34 → a ≠ b → (TX0 a).2.1 ≠ (TX0 b).2.1 := by decide +kernel
set_option maxRecDepth 100000 in
theorem tyX0_ok : ∀ k, k < 34 → parseFieldDescriptor (TX0 k).2.2.1 = some (tyX0 k) := by decide +kernel
abbrev cX0_life : ByteArray := prog_1_method_7_code
def yX0_life : MethodName := ⟨RX0, "life", "(III)I"⟩
def dkwX0_life_3 : List UInt8 := [42, 180, 0, 18, 4, 100, 172]
abbrev dktX0_life_3 : List UInt8 := dkwX0_life_3 ++ []
def dkwX0_life_2 : List UInt8 := [180, 0, 53, 42, 180, 0, 18, 27, 28, 29, 184, 0, 57, 83, 42, 89, 180, 0, 18, 4, 96, 181, 0, 18]
abbrev dktX0_life_2 : List UInt8 := dkwX0_life_2 ++ dktX0_life_3
def dkwX0_life_1 : List UInt8 := [29, 184, 0, 49, 154, 0, 6, 16, 254, 172, 42, 180, 0, 18, 8, 160, 0, 6, 16, 252, 172, 42]
abbrev dktX0_life_1 : List UInt8 := dkwX0_life_1 ++ dktX0_life_2
def dkwX0_life_0 : List UInt8 := [27, 133, 9, 20, 0, 45, 184, 0, 14, 153, 0, 22, 28, 133, 9, 20, 0, 47, 184, 0, 14, 153, 0, 10]
abbrev dktX0_life_0 : List UInt8 := dkwX0_life_0 ++ dktX0_life_1
theorem dksX0_life_0 : cX0_life.data.toList.drop 0 = dktX0_life_0 := by decide +kernel
theorem dksX0_life_1 : cX0_life.data.toList.drop 24 = dktX0_life_1 := dk_seg dksX0_life_0 24 rfl rfl
theorem dksX0_life_2 : cX0_life.data.toList.drop 46 = dktX0_life_2 := dk_seg dksX0_life_1 22 rfl rfl
theorem dksX0_life_3 : cX0_life.data.toList.drop 70 = dktX0_life_3 := dk_seg dksX0_life_2 24 rfl rfl
theorem dX0_life_0 : decode cX0_life 0 = .ok (.iload_n 1, 1) := dk_27 (dk_at dksX0_life_0 0 rfl rfl)
theorem dX0_life_1 : decode cX0_life 1 = .ok (.i2l, 1) := dk_133 (dk_at dksX0_life_0 1 rfl rfl)
theorem dX0_life_2 : decode cX0_life 2 = .ok (.lconst 0, 1) := dk_9 (dk_at dksX0_life_0 2 rfl rfl)
theorem dX0_life_3 : decode cX0_life 3 = .ok (.ldc2_w 45, 3) := dk_20 0 45 (dk_at dksX0_life_0 3 rfl rfl)
theorem dX0_life_6 : decode cX0_life 6 = .ok (.invokestatic 14, 3) := dk_184 0 14 (dk_at dksX0_life_0 6 rfl rfl)
theorem dX0_life_9 : decode cX0_life 9 = .ok (.ifCond .eq 22, 3) := dk_153 0 22 (dk_at dksX0_life_0 9 rfl rfl)
theorem dX0_life_12 : decode cX0_life 12 = .ok (.iload_n 2, 1) := dk_28 (dk_at dksX0_life_0 12 rfl rfl)
theorem dX0_life_13 : decode cX0_life 13 = .ok (.i2l, 1) := dk_133 (dk_at dksX0_life_0 13 rfl rfl)
theorem dX0_life_14 : decode cX0_life 14 = .ok (.lconst 0, 1) := dk_9 (dk_at dksX0_life_0 14 rfl rfl)
theorem dX0_life_15 : decode cX0_life 15 = .ok (.ldc2_w 47, 3) := dk_20 0 47 (dk_at dksX0_life_0 15 rfl rfl)
theorem dX0_life_18 : decode cX0_life 18 = .ok (.invokestatic 14, 3) := dk_184 0 14 (dk_at dksX0_life_0 18 rfl rfl)
theorem dX0_life_21 : decode cX0_life 21 = .ok (.ifCond .eq 10, 3) := dk_153 0 10 (dk_at dksX0_life_0 21 rfl rfl)
theorem dX0_life_24 : decode cX0_life 24 = .ok (.iload_n 3, 1) := dk_29 (dk_at dksX0_life_1 0 rfl rfl)
theorem dX0_life_25 : decode cX0_life 25 = .ok (.invokestatic 49, 3) := dk_184 0 49 (dk_at dksX0_life_1 1 rfl rfl)
theorem dX0_life_28 : decode cX0_life 28 = .ok (.ifCond .ne 6, 3) := dk_154 0 6 (dk_at dksX0_life_1 4 rfl rfl)
theorem dX0_life_31 : decode cX0_life 31 = .ok (.bipush (-2), 2) := dk_16 254 (dk_at dksX0_life_1 7 rfl rfl)
theorem dX0_life_33 : decode cX0_life 33 = .ok (.ireturn, 1) := dk_172 (dk_at dksX0_life_1 9 rfl rfl)
theorem dX0_life_34 : decode cX0_life 34 = .ok (.aload_n 0, 1) := dk_42 (dk_at dksX0_life_1 10 rfl rfl)
theorem dX0_life_35 : decode cX0_life 35 = .ok (.getfield 18, 3) := dk_180 0 18 (dk_at dksX0_life_1 11 rfl rfl)
theorem dX0_life_38 : decode cX0_life 38 = .ok (.iconst 5, 1) := dk_8 (dk_at dksX0_life_1 14 rfl rfl)
theorem dX0_life_39 : decode cX0_life 39 = .ok (.if_icmp .ne 6, 3) := dk_160 0 6 (dk_at dksX0_life_1 15 rfl rfl)
theorem dX0_life_42 : decode cX0_life 42 = .ok (.bipush (-4), 2) := dk_16 252 (dk_at dksX0_life_1 18 rfl rfl)
theorem dX0_life_44 : decode cX0_life 44 = .ok (.ireturn, 1) := dk_172 (dk_at dksX0_life_1 20 rfl rfl)
theorem dX0_life_45 : decode cX0_life 45 = .ok (.aload_n 0, 1) := dk_42 (dk_at dksX0_life_1 21 rfl rfl)
theorem dX0_life_46 : decode cX0_life 46 = .ok (.getfield 53, 3) := dk_180 0 53 (dk_at dksX0_life_2 0 rfl rfl)
theorem dX0_life_49 : decode cX0_life 49 = .ok (.aload_n 0, 1) := dk_42 (dk_at dksX0_life_2 3 rfl rfl)
theorem dX0_life_50 : decode cX0_life 50 = .ok (.getfield 18, 3) := dk_180 0 18 (dk_at dksX0_life_2 4 rfl rfl)
theorem dX0_life_53 : decode cX0_life 53 = .ok (.iload_n 1, 1) := dk_27 (dk_at dksX0_life_2 7 rfl rfl)
theorem dX0_life_54 : decode cX0_life 54 = .ok (.iload_n 2, 1) := dk_28 (dk_at dksX0_life_2 8 rfl rfl)
theorem dX0_life_55 : decode cX0_life 55 = .ok (.iload_n 3, 1) := dk_29 (dk_at dksX0_life_2 9 rfl rfl)
theorem dX0_life_56 : decode cX0_life 56 = .ok (.invokestatic 57, 3) := dk_184 0 57 (dk_at dksX0_life_2 10 rfl rfl)
theorem dX0_life_59 : decode cX0_life 59 = .ok (.aastore, 1) := dk_83 (dk_at dksX0_life_2 13 rfl rfl)
theorem dX0_life_60 : decode cX0_life 60 = .ok (.aload_n 0, 1) := dk_42 (dk_at dksX0_life_2 14 rfl rfl)
theorem dX0_life_61 : decode cX0_life 61 = .ok (.dup, 1) := dk_89 (dk_at dksX0_life_2 15 rfl rfl)
theorem dX0_life_62 : decode cX0_life 62 = .ok (.getfield 18, 3) := dk_180 0 18 (dk_at dksX0_life_2 16 rfl rfl)
theorem dX0_life_65 : decode cX0_life 65 = .ok (.iconst 1, 1) := dk_4 (dk_at dksX0_life_2 19 rfl rfl)
theorem dX0_life_66 : decode cX0_life 66 = .ok (.iadd, 1) := dk_96 (dk_at dksX0_life_2 20 rfl rfl)
theorem dX0_life_67 : decode cX0_life 67 = .ok (.putfield 18, 3) := dk_181 0 18 (dk_at dksX0_life_2 21 rfl rfl)
theorem dX0_life_70 : decode cX0_life 70 = .ok (.aload_n 0, 1) := dk_42 (dk_at dksX0_life_3 0 rfl rfl)
theorem dX0_life_71 : decode cX0_life 71 = .ok (.getfield 18, 3) := dk_180 0 18 (dk_at dksX0_life_3 1 rfl rfl)
theorem dX0_life_74 : decode cX0_life 74 = .ok (.iconst 1, 1) := dk_4 (dk_at dksX0_life_3 4 rfl rfl)
theorem dX0_life_75 : decode cX0_life 75 = .ok (.isub, 1) := dk_100 (dk_at dksX0_life_3 5 rfl rfl)
theorem dX0_life_76 : decode cX0_life 76 = .ok (.ireturn, 1) := dk_172 (dk_at dksX0_life_3 6 rfl rfl)
abbrev cX0_in : ByteArray := prog_1_method_1_code
def yX0_in : MethodName := ⟨RX0, "in", "(JJJ)Z"⟩
def dkwX0_in_0 : List UInt8 := [30, 32, 148, 155, 0, 14, 30, 22, 4, 148, 157, 0, 7, 4, 167, 0, 4, 3, 172]
abbrev dktX0_in_0 : List UInt8 := dkwX0_in_0 ++ []
theorem dksX0_in_0 : cX0_in.data.toList.drop 0 = dktX0_in_0 := by decide +kernel
theorem dX0_in_0 : decode cX0_in 0 = .ok (.lload_n 0, 1) := dk_30 (dk_at dksX0_in_0 0 rfl rfl)
theorem dX0_in_1 : decode cX0_in 1 = .ok (.lload_n 2, 1) := dk_32 (dk_at dksX0_in_0 1 rfl rfl)
theorem dX0_in_2 : decode cX0_in 2 = .ok (.lcmp, 1) := dk_148 (dk_at dksX0_in_0 2 rfl rfl)
theorem dX0_in_3 : decode cX0_in 3 = .ok (.ifCond .lt 14, 3) := dk_155 0 14 (dk_at dksX0_in_0 3 rfl rfl)
theorem dX0_in_6 : decode cX0_in 6 = .ok (.lload_n 0, 1) := dk_30 (dk_at dksX0_in_0 6 rfl rfl)
theorem dX0_in_7 : decode cX0_in 7 = .ok (.lload 4, 2) := dk_22 4 (dk_at dksX0_in_0 7 rfl rfl)
theorem dX0_in_9 : decode cX0_in 9 = .ok (.lcmp, 1) := dk_148 (dk_at dksX0_in_0 9 rfl rfl)
theorem dX0_in_10 : decode cX0_in 10 = .ok (.ifCond .gt 7, 3) := dk_157 0 7 (dk_at dksX0_in_0 10 rfl rfl)
theorem dX0_in_13 : decode cX0_in 13 = .ok (.iconst 1, 1) := dk_4 (dk_at dksX0_in_0 13 rfl rfl)
theorem dX0_in_14 : decode cX0_in 14 = .ok (.goto 4, 3) := dk_167 0 4 (dk_at dksX0_in_0 14 rfl rfl)
theorem dX0_in_17 : decode cX0_in 17 = .ok (.iconst 0, 1) := dk_3 (dk_at dksX0_in_0 17 rfl rfl)
theorem dX0_in_18 : decode cX0_in 18 = .ok (.ireturn, 1) := dk_172 (dk_at dksX0_in_0 18 rfl rfl)
abbrev cX0_isCrossing : ByteArray := prog_1_method_3_code
def yX0_isCrossing : MethodName := ⟨RX0, "isCrossing", "(I)Z"⟩
def dkwX0_isCrossing_0 : List UInt8 := [26, 133, 9, 20, 0, 12, 184, 0, 14, 172]
abbrev dktX0_isCrossing_0 : List UInt8 := dkwX0_isCrossing_0 ++ []
theorem dksX0_isCrossing_0 : cX0_isCrossing.data.toList.drop 0 = dktX0_isCrossing_0 := by decide +kernel
theorem dX0_isCrossing_0 : decode cX0_isCrossing 0 = .ok (.iload_n 0, 1) := dk_26 (dk_at dksX0_isCrossing_0 0 rfl rfl)
theorem dX0_isCrossing_1 : decode cX0_isCrossing 1 = .ok (.i2l, 1) := dk_133 (dk_at dksX0_isCrossing_0 1 rfl rfl)
theorem dX0_isCrossing_2 : decode cX0_isCrossing 2 = .ok (.lconst 0, 1) := dk_9 (dk_at dksX0_isCrossing_0 2 rfl rfl)
theorem dX0_isCrossing_3 : decode cX0_isCrossing 3 = .ok (.ldc2_w 12, 3) := dk_20 0 12 (dk_at dksX0_isCrossing_0 3 rfl rfl)
theorem dX0_isCrossing_6 : decode cX0_isCrossing 6 = .ok (.invokestatic 14, 3) := dk_184 0 14 (dk_at dksX0_isCrossing_0 6 rfl rfl)
theorem dX0_isCrossing_9 : decode cX0_isCrossing 9 = .ok (.ireturn, 1) := dk_172 (dk_at dksX0_isCrossing_0 9 rfl rfl)
abbrev cX0_made : ByteArray := prog_1_method_6_code
def yX0_made : MethodName := ⟨RX0, "made", "(III)LRoadsNotGoneBy$Life;"⟩
def dkwX0_made_4 : List UInt8 := [183, 0, 41, 176, 187, 0, 42, 89, 27, 28, 183, 0, 44, 176]
abbrev dktX0_made_4 : List UInt8 := dkwX0_made_4 ++ []
def dkwX0_made_3 : List UInt8 := [27, 28, 183, 0, 35, 176, 187, 0, 36, 89, 27, 28, 183, 0, 38, 176, 187, 0, 39, 89, 27, 28]
abbrev dktX0_made_3 : List UInt8 := dkwX0_made_3 ++ dktX0_made_4
def dkwX0_made_2 : List UInt8 := [187, 0, 24, 89, 27, 28, 183, 0, 26, 176, 187, 0, 30, 89, 27, 28, 183, 0, 32, 176, 187, 0, 33, 89]
abbrev dktX0_made_2 : List UInt8 := dkwX0_made_2 ++ dktX0_made_3
def dkwX0_made_1 : List UInt8 := [170, 0, 0, 0, 0, 0, 85, 0, 0, 0, 1, 0, 0, 0, 5, 0, 0, 0, 35, 0, 0, 0, 45, 0, 0, 0, 55, 0, 0, 0, 65, 0, 0, 0, 75]
abbrev dktX0_made_1 : List UInt8 := dkwX0_made_1 ++ dktX0_made_2
def dkwX0_made_0 : List UInt8 := [26]
abbrev dktX0_made_0 : List UInt8 := dkwX0_made_0 ++ dktX0_made_1
theorem dksX0_made_0 : cX0_made.data.toList.drop 0 = dktX0_made_0 := by decide +kernel
theorem dksX0_made_1 : cX0_made.data.toList.drop 1 = dktX0_made_1 := dk_seg dksX0_made_0 1 rfl rfl
theorem dksX0_made_2 : cX0_made.data.toList.drop 36 = dktX0_made_2 := dk_seg dksX0_made_1 35 rfl rfl
theorem dksX0_made_3 : cX0_made.data.toList.drop 60 = dktX0_made_3 := dk_seg dksX0_made_2 24 rfl rfl
theorem dksX0_made_4 : cX0_made.data.toList.drop 82 = dktX0_made_4 := dk_seg dksX0_made_3 22 rfl rfl
theorem dX0_made_0 : decode cX0_made 0 = .ok (.iload_n 0, 1) := dk_26 (dk_at dksX0_made_0 0 rfl rfl)
theorem dX0_made_1 : decode cX0_made 1 = .ok (.tableswitch 85 1 5 #[35, 45, 55, 65, 75], 35) := by decide +kernel
theorem dX0_made_36 : decode cX0_made 36 = .ok (.new 24, 3) := dk_187 0 24 (dk_at dksX0_made_2 0 rfl rfl)
theorem dX0_made_39 : decode cX0_made 39 = .ok (.dup, 1) := dk_89 (dk_at dksX0_made_2 3 rfl rfl)
theorem dX0_made_40 : decode cX0_made 40 = .ok (.iload_n 1, 1) := dk_27 (dk_at dksX0_made_2 4 rfl rfl)
theorem dX0_made_41 : decode cX0_made 41 = .ok (.iload_n 2, 1) := dk_28 (dk_at dksX0_made_2 5 rfl rfl)
theorem dX0_made_42 : decode cX0_made 42 = .ok (.invokespecial 26, 3) := dk_183 0 26 (dk_at dksX0_made_2 6 rfl rfl)
theorem dX0_made_45 : decode cX0_made 45 = .ok (.areturn, 1) := dk_176 (dk_at dksX0_made_2 9 rfl rfl)
theorem dX0_made_46 : decode cX0_made 46 = .ok (.new 30, 3) := dk_187 0 30 (dk_at dksX0_made_2 10 rfl rfl)
theorem dX0_made_49 : decode cX0_made 49 = .ok (.dup, 1) := dk_89 (dk_at dksX0_made_2 13 rfl rfl)
theorem dX0_made_50 : decode cX0_made 50 = .ok (.iload_n 1, 1) := dk_27 (dk_at dksX0_made_2 14 rfl rfl)
theorem dX0_made_51 : decode cX0_made 51 = .ok (.iload_n 2, 1) := dk_28 (dk_at dksX0_made_2 15 rfl rfl)
theorem dX0_made_52 : decode cX0_made 52 = .ok (.invokespecial 32, 3) := dk_183 0 32 (dk_at dksX0_made_2 16 rfl rfl)
theorem dX0_made_55 : decode cX0_made 55 = .ok (.areturn, 1) := dk_176 (dk_at dksX0_made_2 19 rfl rfl)
theorem dX0_made_56 : decode cX0_made 56 = .ok (.new 33, 3) := dk_187 0 33 (dk_at dksX0_made_2 20 rfl rfl)
theorem dX0_made_59 : decode cX0_made 59 = .ok (.dup, 1) := dk_89 (dk_at dksX0_made_2 23 rfl rfl)
theorem dX0_made_60 : decode cX0_made 60 = .ok (.iload_n 1, 1) := dk_27 (dk_at dksX0_made_3 0 rfl rfl)
theorem dX0_made_61 : decode cX0_made 61 = .ok (.iload_n 2, 1) := dk_28 (dk_at dksX0_made_3 1 rfl rfl)
theorem dX0_made_62 : decode cX0_made 62 = .ok (.invokespecial 35, 3) := dk_183 0 35 (dk_at dksX0_made_3 2 rfl rfl)
theorem dX0_made_65 : decode cX0_made 65 = .ok (.areturn, 1) := dk_176 (dk_at dksX0_made_3 5 rfl rfl)
theorem dX0_made_66 : decode cX0_made 66 = .ok (.new 36, 3) := dk_187 0 36 (dk_at dksX0_made_3 6 rfl rfl)
theorem dX0_made_69 : decode cX0_made 69 = .ok (.dup, 1) := dk_89 (dk_at dksX0_made_3 9 rfl rfl)
theorem dX0_made_70 : decode cX0_made 70 = .ok (.iload_n 1, 1) := dk_27 (dk_at dksX0_made_3 10 rfl rfl)
theorem dX0_made_71 : decode cX0_made 71 = .ok (.iload_n 2, 1) := dk_28 (dk_at dksX0_made_3 11 rfl rfl)
theorem dX0_made_72 : decode cX0_made 72 = .ok (.invokespecial 38, 3) := dk_183 0 38 (dk_at dksX0_made_3 12 rfl rfl)
theorem dX0_made_75 : decode cX0_made 75 = .ok (.areturn, 1) := dk_176 (dk_at dksX0_made_3 15 rfl rfl)
theorem dX0_made_76 : decode cX0_made 76 = .ok (.new 39, 3) := dk_187 0 39 (dk_at dksX0_made_3 16 rfl rfl)
theorem dX0_made_79 : decode cX0_made 79 = .ok (.dup, 1) := dk_89 (dk_at dksX0_made_3 19 rfl rfl)
theorem dX0_made_80 : decode cX0_made 80 = .ok (.iload_n 1, 1) := dk_27 (dk_at dksX0_made_3 20 rfl rfl)
theorem dX0_made_81 : decode cX0_made 81 = .ok (.iload_n 2, 1) := dk_28 (dk_at dksX0_made_3 21 rfl rfl)
theorem dX0_made_82 : decode cX0_made 82 = .ok (.invokespecial 41, 3) := dk_183 0 41 (dk_at dksX0_made_4 0 rfl rfl)
theorem dX0_made_85 : decode cX0_made 85 = .ok (.areturn, 1) := dk_176 (dk_at dksX0_made_4 3 rfl rfl)
theorem dX0_made_86 : decode cX0_made 86 = .ok (.new 42, 3) := dk_187 0 42 (dk_at dksX0_made_4 4 rfl rfl)
theorem dX0_made_89 : decode cX0_made 89 = .ok (.dup, 1) := dk_89 (dk_at dksX0_made_4 7 rfl rfl)
theorem dX0_made_90 : decode cX0_made 90 = .ok (.iload_n 1, 1) := dk_27 (dk_at dksX0_made_4 8 rfl rfl)
theorem dX0_made_91 : decode cX0_made 91 = .ok (.iload_n 2, 1) := dk_28 (dk_at dksX0_made_4 9 rfl rfl)
theorem dX0_made_92 : decode cX0_made 92 = .ok (.invokespecial 44, 3) := dk_183 0 44 (dk_at dksX0_made_4 10 rfl rfl)
theorem dX0_made_95 : decode cX0_made 95 = .ok (.areturn, 1) := dk_176 (dk_at dksX0_made_4 13 rfl rfl)
abbrev cX0_set : ByteArray := prog_1_method_12_code
def yX0_set : MethodName := ⟨RX0, "set", "(III)I"⟩
def dkwX0_set_2 : List UInt8 := [17, 252, 24, 172, 42, 27, 28, 182, 0, 101, 54, 4, 42, 27, 28, 29, 182, 0, 104, 21, 4, 172]
abbrev dktX0_set_2 : List UInt8 := dkwX0_set_2 ++ []
def dkwX0_set_1 : List UInt8 := [8, 160, 0, 9, 20, 0, 95, 167, 0, 4, 9, 27, 184, 0, 97, 133, 184, 0, 14, 154, 0, 7]
abbrev dktX0_set_1 : List UInt8 := dkwX0_set_1 ++ dktX0_set_2
def dkwX0_set_0 : List UInt8 := [27, 133, 9, 20, 0, 89, 184, 0, 14, 153, 0, 37, 42, 27, 28, 182, 0, 91, 153, 0, 28, 29, 133, 27]
abbrev dktX0_set_0 : List UInt8 := dkwX0_set_0 ++ dktX0_set_1
theorem dksX0_set_0 : cX0_set.data.toList.drop 0 = dktX0_set_0 := by decide +kernel
theorem dksX0_set_1 : cX0_set.data.toList.drop 24 = dktX0_set_1 := dk_seg dksX0_set_0 24 rfl rfl
theorem dksX0_set_2 : cX0_set.data.toList.drop 46 = dktX0_set_2 := dk_seg dksX0_set_1 22 rfl rfl
theorem dX0_set_0 : decode cX0_set 0 = .ok (.iload_n 1, 1) := dk_27 (dk_at dksX0_set_0 0 rfl rfl)
theorem dX0_set_1 : decode cX0_set 1 = .ok (.i2l, 1) := dk_133 (dk_at dksX0_set_0 1 rfl rfl)
theorem dX0_set_2 : decode cX0_set 2 = .ok (.lconst 0, 1) := dk_9 (dk_at dksX0_set_0 2 rfl rfl)
theorem dX0_set_3 : decode cX0_set 3 = .ok (.ldc2_w 89, 3) := dk_20 0 89 (dk_at dksX0_set_0 3 rfl rfl)
theorem dX0_set_6 : decode cX0_set 6 = .ok (.invokestatic 14, 3) := dk_184 0 14 (dk_at dksX0_set_0 6 rfl rfl)
theorem dX0_set_9 : decode cX0_set 9 = .ok (.ifCond .eq 37, 3) := dk_153 0 37 (dk_at dksX0_set_0 9 rfl rfl)
theorem dX0_set_12 : decode cX0_set 12 = .ok (.aload_n 0, 1) := dk_42 (dk_at dksX0_set_0 12 rfl rfl)
theorem dX0_set_13 : decode cX0_set 13 = .ok (.iload_n 1, 1) := dk_27 (dk_at dksX0_set_0 13 rfl rfl)
theorem dX0_set_14 : decode cX0_set 14 = .ok (.iload_n 2, 1) := dk_28 (dk_at dksX0_set_0 14 rfl rfl)
theorem dX0_set_15 : decode cX0_set 15 = .ok (.invokevirtual 91, 3) := dk_182 0 91 (dk_at dksX0_set_0 15 rfl rfl)
theorem dX0_set_18 : decode cX0_set 18 = .ok (.ifCond .eq 28, 3) := dk_153 0 28 (dk_at dksX0_set_0 18 rfl rfl)
theorem dX0_set_21 : decode cX0_set 21 = .ok (.iload_n 3, 1) := dk_29 (dk_at dksX0_set_0 21 rfl rfl)
theorem dX0_set_22 : decode cX0_set 22 = .ok (.i2l, 1) := dk_133 (dk_at dksX0_set_0 22 rfl rfl)
theorem dX0_set_23 : decode cX0_set 23 = .ok (.iload_n 1, 1) := dk_27 (dk_at dksX0_set_0 23 rfl rfl)
theorem dX0_set_24 : decode cX0_set 24 = .ok (.iconst 5, 1) := dk_8 (dk_at dksX0_set_1 0 rfl rfl)
theorem dX0_set_25 : decode cX0_set 25 = .ok (.if_icmp .ne 9, 3) := dk_160 0 9 (dk_at dksX0_set_1 1 rfl rfl)
theorem dX0_set_28 : decode cX0_set 28 = .ok (.ldc2_w 95, 3) := dk_20 0 95 (dk_at dksX0_set_1 4 rfl rfl)
theorem dX0_set_31 : decode cX0_set 31 = .ok (.goto 4, 3) := dk_167 0 4 (dk_at dksX0_set_1 7 rfl rfl)
theorem dX0_set_34 : decode cX0_set 34 = .ok (.lconst 0, 1) := dk_9 (dk_at dksX0_set_1 10 rfl rfl)
theorem dX0_set_35 : decode cX0_set 35 = .ok (.iload_n 1, 1) := dk_27 (dk_at dksX0_set_1 11 rfl rfl)
theorem dX0_set_36 : decode cX0_set 36 = .ok (.invokestatic 97, 3) := dk_184 0 97 (dk_at dksX0_set_1 12 rfl rfl)
theorem dX0_set_39 : decode cX0_set 39 = .ok (.i2l, 1) := dk_133 (dk_at dksX0_set_1 15 rfl rfl)
theorem dX0_set_40 : decode cX0_set 40 = .ok (.invokestatic 14, 3) := dk_184 0 14 (dk_at dksX0_set_1 16 rfl rfl)
theorem dX0_set_43 : decode cX0_set 43 = .ok (.ifCond .ne 7, 3) := dk_154 0 7 (dk_at dksX0_set_1 19 rfl rfl)
theorem dX0_set_46 : decode cX0_set 46 = .ok (.sipush (-1000), 3) := dk_17 252 24 (dk_at dksX0_set_2 0 rfl rfl)
theorem dX0_set_49 : decode cX0_set 49 = .ok (.ireturn, 1) := dk_172 (dk_at dksX0_set_2 3 rfl rfl)
theorem dX0_set_50 : decode cX0_set 50 = .ok (.aload_n 0, 1) := dk_42 (dk_at dksX0_set_2 4 rfl rfl)
theorem dX0_set_51 : decode cX0_set 51 = .ok (.iload_n 1, 1) := dk_27 (dk_at dksX0_set_2 5 rfl rfl)
theorem dX0_set_52 : decode cX0_set 52 = .ok (.iload_n 2, 1) := dk_28 (dk_at dksX0_set_2 6 rfl rfl)
theorem dX0_set_53 : decode cX0_set 53 = .ok (.invokevirtual 101, 3) := dk_182 0 101 (dk_at dksX0_set_2 7 rfl rfl)
theorem dX0_set_56 : decode cX0_set 56 = .ok (.istore 4, 2) := dk_54 4 (dk_at dksX0_set_2 10 rfl rfl)
theorem dX0_set_58 : decode cX0_set 58 = .ok (.aload_n 0, 1) := dk_42 (dk_at dksX0_set_2 12 rfl rfl)
theorem dX0_set_59 : decode cX0_set 59 = .ok (.iload_n 1, 1) := dk_27 (dk_at dksX0_set_2 13 rfl rfl)
theorem dX0_set_60 : decode cX0_set 60 = .ok (.iload_n 2, 1) := dk_28 (dk_at dksX0_set_2 14 rfl rfl)
theorem dX0_set_61 : decode cX0_set 61 = .ok (.iload_n 3, 1) := dk_29 (dk_at dksX0_set_2 15 rfl rfl)
theorem dX0_set_62 : decode cX0_set 62 = .ok (.invokevirtual 104, 3) := dk_182 0 104 (dk_at dksX0_set_2 16 rfl rfl)
theorem dX0_set_65 : decode cX0_set 65 = .ok (.iload 4, 2) := dk_21 4 (dk_at dksX0_set_2 19 rfl rfl)
theorem dX0_set_67 : decode cX0_set 67 = .ok (.ireturn, 1) := dk_172 (dk_at dksX0_set_2 21 rfl rfl)
abbrev cX0_isThere : ByteArray := prog_1_method_8_code
def yX0_isThere : MethodName := ⟨RX0, "isThere", "(II)Z"⟩
def dkwX0_isThere_1 : List UInt8 := [182, 0, 64, 153, 0, 7, 4, 167, 0, 4, 3, 172]
abbrev dktX0_isThere_1 : List UInt8 := dkwX0_isThere_1 ++ []
def dkwX0_isThere_0 : List UInt8 := [27, 5, 159, 0, 26, 27, 5, 162, 0, 13, 28, 184, 0, 61, 153, 0, 18, 167, 0, 11, 42, 28]
abbrev dktX0_isThere_0 : List UInt8 := dkwX0_isThere_0 ++ dktX0_isThere_1
theorem dksX0_isThere_0 : cX0_isThere.data.toList.drop 0 = dktX0_isThere_0 := by decide +kernel
theorem dksX0_isThere_1 : cX0_isThere.data.toList.drop 22 = dktX0_isThere_1 := dk_seg dksX0_isThere_0 22 rfl rfl
theorem dX0_isThere_0 : decode cX0_isThere 0 = .ok (.iload_n 1, 1) := dk_27 (dk_at dksX0_isThere_0 0 rfl rfl)
theorem dX0_isThere_1 : decode cX0_isThere 1 = .ok (.iconst 2, 1) := dk_5 (dk_at dksX0_isThere_0 1 rfl rfl)
theorem dX0_isThere_2 : decode cX0_isThere 2 = .ok (.if_icmp .eq 26, 3) := dk_159 0 26 (dk_at dksX0_isThere_0 2 rfl rfl)
theorem dX0_isThere_5 : decode cX0_isThere 5 = .ok (.iload_n 1, 1) := dk_27 (dk_at dksX0_isThere_0 5 rfl rfl)
theorem dX0_isThere_6 : decode cX0_isThere 6 = .ok (.iconst 2, 1) := dk_5 (dk_at dksX0_isThere_0 6 rfl rfl)
theorem dX0_isThere_7 : decode cX0_isThere 7 = .ok (.if_icmp .ge 13, 3) := dk_162 0 13 (dk_at dksX0_isThere_0 7 rfl rfl)
theorem dX0_isThere_10 : decode cX0_isThere 10 = .ok (.iload_n 2, 1) := dk_28 (dk_at dksX0_isThere_0 10 rfl rfl)
theorem dX0_isThere_11 : decode cX0_isThere 11 = .ok (.invokestatic 61, 3) := dk_184 0 61 (dk_at dksX0_isThere_0 11 rfl rfl)
theorem dX0_isThere_14 : decode cX0_isThere 14 = .ok (.ifCond .eq 18, 3) := dk_153 0 18 (dk_at dksX0_isThere_0 14 rfl rfl)
theorem dX0_isThere_17 : decode cX0_isThere 17 = .ok (.goto 11, 3) := dk_167 0 11 (dk_at dksX0_isThere_0 17 rfl rfl)
theorem dX0_isThere_20 : decode cX0_isThere 20 = .ok (.aload_n 0, 1) := dk_42 (dk_at dksX0_isThere_0 20 rfl rfl)
theorem dX0_isThere_21 : decode cX0_isThere 21 = .ok (.iload_n 2, 1) := dk_28 (dk_at dksX0_isThere_0 21 rfl rfl)
theorem dX0_isThere_22 : decode cX0_isThere 22 = .ok (.invokevirtual 64, 3) := dk_182 0 64 (dk_at dksX0_isThere_1 0 rfl rfl)
theorem dX0_isThere_25 : decode cX0_isThere 25 = .ok (.ifCond .eq 7, 3) := dk_153 0 7 (dk_at dksX0_isThere_1 3 rfl rfl)
theorem dX0_isThere_28 : decode cX0_isThere 28 = .ok (.iconst 1, 1) := dk_4 (dk_at dksX0_isThere_1 6 rfl rfl)
theorem dX0_isThere_29 : decode cX0_isThere 29 = .ok (.goto 4, 3) := dk_167 0 4 (dk_at dksX0_isThere_1 7 rfl rfl)
theorem dX0_isThere_32 : decode cX0_isThere 32 = .ok (.iconst 0, 1) := dk_3 (dk_at dksX0_isThere_1 10 rfl rfl)
theorem dX0_isThere_33 : decode cX0_isThere 33 = .ok (.ireturn, 1) := dk_172 (dk_at dksX0_isThere_1 11 rfl rfl)
abbrev cX0_isRoad : ByteArray := prog_1_method_5_code
def yX0_isRoad : MethodName := ⟨RX0, "isRoad", "(I)Z"⟩
def dkwX0_isRoad_0 : List UInt8 := [26, 133, 9, 20, 0, 22, 184, 0, 14, 172]
abbrev dktX0_isRoad_0 : List UInt8 := dkwX0_isRoad_0 ++ []
theorem dksX0_isRoad_0 : cX0_isRoad.data.toList.drop 0 = dktX0_isRoad_0 := by decide +kernel
theorem dX0_isRoad_0 : decode cX0_isRoad 0 = .ok (.iload_n 0, 1) := dk_26 (dk_at dksX0_isRoad_0 0 rfl rfl)
theorem dX0_isRoad_1 : decode cX0_isRoad 1 = .ok (.i2l, 1) := dk_133 (dk_at dksX0_isRoad_0 1 rfl rfl)
theorem dX0_isRoad_2 : decode cX0_isRoad 2 = .ok (.lconst 0, 1) := dk_9 (dk_at dksX0_isRoad_0 2 rfl rfl)
theorem dX0_isRoad_3 : decode cX0_isRoad 3 = .ok (.ldc2_w 22, 3) := dk_20 0 22 (dk_at dksX0_isRoad_0 3 rfl rfl)
theorem dX0_isRoad_6 : decode cX0_isRoad 6 = .ok (.invokestatic 14, 3) := dk_184 0 14 (dk_at dksX0_isRoad_0 6 rfl rfl)
theorem dX0_isRoad_9 : decode cX0_isRoad 9 = .ok (.ireturn, 1) := dk_172 (dk_at dksX0_isRoad_0 9 rfl rfl)
abbrev cX0_isOne : ByteArray := prog_1_method_4_code
def yX0_isOne : MethodName := ⟨RX0, "isOne", "(I)Z"⟩
def dkwX0_isOne_0 : List UInt8 := [27, 133, 9, 42, 180, 0, 18, 4, 100, 133, 184, 0, 14, 172]
abbrev dktX0_isOne_0 : List UInt8 := dkwX0_isOne_0 ++ []
theorem dksX0_isOne_0 : cX0_isOne.data.toList.drop 0 = dktX0_isOne_0 := by decide +kernel
theorem dX0_isOne_0 : decode cX0_isOne 0 = .ok (.iload_n 1, 1) := dk_27 (dk_at dksX0_isOne_0 0 rfl rfl)
theorem dX0_isOne_1 : decode cX0_isOne 1 = .ok (.i2l, 1) := dk_133 (dk_at dksX0_isOne_0 1 rfl rfl)
theorem dX0_isOne_2 : decode cX0_isOne 2 = .ok (.lconst 0, 1) := dk_9 (dk_at dksX0_isOne_0 2 rfl rfl)
theorem dX0_isOne_3 : decode cX0_isOne 3 = .ok (.aload_n 0, 1) := dk_42 (dk_at dksX0_isOne_0 3 rfl rfl)
theorem dX0_isOne_4 : decode cX0_isOne 4 = .ok (.getfield 18, 3) := dk_180 0 18 (dk_at dksX0_isOne_0 4 rfl rfl)
theorem dX0_isOne_7 : decode cX0_isOne 7 = .ok (.iconst 1, 1) := dk_4 (dk_at dksX0_isOne_0 7 rfl rfl)
theorem dX0_isOne_8 : decode cX0_isOne 8 = .ok (.isub, 1) := dk_100 (dk_at dksX0_isOne_0 8 rfl rfl)
theorem dX0_isOne_9 : decode cX0_isOne 9 = .ok (.i2l, 1) := dk_133 (dk_at dksX0_isOne_0 9 rfl rfl)
theorem dX0_isOne_10 : decode cX0_isOne 10 = .ok (.invokestatic 14, 3) := dk_184 0 14 (dk_at dksX0_isOne_0 10 rfl rfl)
theorem dX0_isOne_13 : decode cX0_isOne 13 = .ok (.ireturn, 1) := dk_172 (dk_at dksX0_isOne_0 13 rfl rfl)
abbrev cX0_mostOf : ByteArray := prog_1_method_9_code
def yX0_mostOf : MethodName := ⟨RX0, "mostOf", "(I)I"⟩
def dkwX0_mostOf_2 : List UInt8 := [16, 11, 172, 16, 9, 172, 16, 99, 172, 17, 3, 231, 172]
abbrev dktX0_mostOf_2 : List UInt8 := dkwX0_mostOf_2 ++ []
def dkwX0_mostOf_1 : List UInt8 := [170, 0, 0, 0, 0, 0, 48, 0, 0, 0, 0, 0, 0, 0, 5, 0, 0, 0, 39, 0, 0, 0, 48, 0, 0, 0, 48, 0, 0, 0, 42, 0, 0, 0, 39, 0, 0, 0, 45]
abbrev dktX0_mostOf_1 : List UInt8 := dkwX0_mostOf_1 ++ dktX0_mostOf_2
def dkwX0_mostOf_0 : List UInt8 := [26]
abbrev dktX0_mostOf_0 : List UInt8 := dkwX0_mostOf_0 ++ dktX0_mostOf_1
theorem dksX0_mostOf_0 : cX0_mostOf.data.toList.drop 0 = dktX0_mostOf_0 := by decide +kernel
theorem dksX0_mostOf_1 : cX0_mostOf.data.toList.drop 1 = dktX0_mostOf_1 := dk_seg dksX0_mostOf_0 1 rfl rfl
theorem dksX0_mostOf_2 : cX0_mostOf.data.toList.drop 40 = dktX0_mostOf_2 := dk_seg dksX0_mostOf_1 39 rfl rfl
theorem dX0_mostOf_0 : decode cX0_mostOf 0 = .ok (.iload_n 0, 1) := dk_26 (dk_at dksX0_mostOf_0 0 rfl rfl)
theorem dX0_mostOf_1 : decode cX0_mostOf 1 = .ok (.tableswitch 48 0 5 #[39, 48, 48, 42, 39, 45], 39) := by decide +kernel
theorem dX0_mostOf_40 : decode cX0_mostOf 40 = .ok (.bipush 11, 2) := dk_16 11 (dk_at dksX0_mostOf_2 0 rfl rfl)
theorem dX0_mostOf_42 : decode cX0_mostOf 42 = .ok (.ireturn, 1) := dk_172 (dk_at dksX0_mostOf_2 2 rfl rfl)
theorem dX0_mostOf_43 : decode cX0_mostOf 43 = .ok (.bipush 9, 2) := dk_16 9 (dk_at dksX0_mostOf_2 3 rfl rfl)
theorem dX0_mostOf_45 : decode cX0_mostOf 45 = .ok (.ireturn, 1) := dk_172 (dk_at dksX0_mostOf_2 5 rfl rfl)
theorem dX0_mostOf_46 : decode cX0_mostOf 46 = .ok (.bipush 99, 2) := dk_16 99 (dk_at dksX0_mostOf_2 6 rfl rfl)
theorem dX0_mostOf_48 : decode cX0_mostOf 48 = .ok (.ireturn, 1) := dk_172 (dk_at dksX0_mostOf_2 8 rfl rfl)
theorem dX0_mostOf_49 : decode cX0_mostOf 49 = .ok (.sipush 999, 3) := dk_17 3 231 (dk_at dksX0_mostOf_2 9 rfl rfl)
theorem dX0_mostOf_52 : decode cX0_mostOf 52 = .ok (.ireturn, 1) := dk_172 (dk_at dksX0_mostOf_2 12 rfl rfl)
abbrev cX0_heldBy : ByteArray := prog_1_method_10_code
def yX0_heldBy : MethodName := ⟨RX0, "heldBy", "(II)I"⟩
def dkwX0_heldBy_4 : List UInt8 := [172, 42, 180, 0, 53, 28, 50, 180, 0, 86, 172]
abbrev dktX0_heldBy_4 : List UInt8 := dkwX0_heldBy_4 ++ []
def dkwX0_heldBy_3 : List UInt8 := [50, 180, 0, 77, 172, 42, 180, 0, 53, 28, 50, 180, 0, 80, 172, 42, 180, 0, 53, 28, 50, 180, 0, 83]
abbrev dktX0_heldBy_3 : List UInt8 := dkwX0_heldBy_3 ++ dktX0_heldBy_4
def dkwX0_heldBy_2 : List UInt8 := [42, 180, 0, 67, 28, 46, 172, 42, 180, 0, 71, 28, 46, 172, 42, 180, 0, 74, 172, 42, 180, 0, 53, 28]
abbrev dktX0_heldBy_2 : List UInt8 := dkwX0_heldBy_2 ++ dktX0_heldBy_3
def dkwX0_heldBy_1 : List UInt8 := [170, 0, 0, 0, 0, 0, 88, 0, 0, 0, 0, 0, 0, 0, 5, 0, 0, 0, 39, 0, 0, 0, 46, 0, 0, 0, 53, 0, 0, 0, 58, 0, 0, 0, 68, 0, 0, 0, 78]
abbrev dktX0_heldBy_1 : List UInt8 := dkwX0_heldBy_1 ++ dktX0_heldBy_2
def dkwX0_heldBy_0 : List UInt8 := [27]
abbrev dktX0_heldBy_0 : List UInt8 := dkwX0_heldBy_0 ++ dktX0_heldBy_1
theorem dksX0_heldBy_0 : cX0_heldBy.data.toList.drop 0 = dktX0_heldBy_0 := by decide +kernel
theorem dksX0_heldBy_1 : cX0_heldBy.data.toList.drop 1 = dktX0_heldBy_1 := dk_seg dksX0_heldBy_0 1 rfl rfl
theorem dksX0_heldBy_2 : cX0_heldBy.data.toList.drop 40 = dktX0_heldBy_2 := dk_seg dksX0_heldBy_1 39 rfl rfl
theorem dksX0_heldBy_3 : cX0_heldBy.data.toList.drop 64 = dktX0_heldBy_3 := dk_seg dksX0_heldBy_2 24 rfl rfl
theorem dksX0_heldBy_4 : cX0_heldBy.data.toList.drop 88 = dktX0_heldBy_4 := dk_seg dksX0_heldBy_3 24 rfl rfl
theorem dX0_heldBy_0 : decode cX0_heldBy 0 = .ok (.iload_n 1, 1) := dk_27 (dk_at dksX0_heldBy_0 0 rfl rfl)
theorem dX0_heldBy_1 : decode cX0_heldBy 1 = .ok (.tableswitch 88 0 5 #[39, 46, 53, 58, 68, 78], 39) := by decide +kernel
theorem dX0_heldBy_40 : decode cX0_heldBy 40 = .ok (.aload_n 0, 1) := dk_42 (dk_at dksX0_heldBy_2 0 rfl rfl)
theorem dX0_heldBy_41 : decode cX0_heldBy 41 = .ok (.getfield 67, 3) := dk_180 0 67 (dk_at dksX0_heldBy_2 1 rfl rfl)
theorem dX0_heldBy_44 : decode cX0_heldBy 44 = .ok (.iload_n 2, 1) := dk_28 (dk_at dksX0_heldBy_2 4 rfl rfl)
theorem dX0_heldBy_45 : decode cX0_heldBy 45 = .ok (.iaload, 1) := dk_46 (dk_at dksX0_heldBy_2 5 rfl rfl)
theorem dX0_heldBy_46 : decode cX0_heldBy 46 = .ok (.ireturn, 1) := dk_172 (dk_at dksX0_heldBy_2 6 rfl rfl)
theorem dX0_heldBy_47 : decode cX0_heldBy 47 = .ok (.aload_n 0, 1) := dk_42 (dk_at dksX0_heldBy_2 7 rfl rfl)
theorem dX0_heldBy_48 : decode cX0_heldBy 48 = .ok (.getfield 71, 3) := dk_180 0 71 (dk_at dksX0_heldBy_2 8 rfl rfl)
theorem dX0_heldBy_51 : decode cX0_heldBy 51 = .ok (.iload_n 2, 1) := dk_28 (dk_at dksX0_heldBy_2 11 rfl rfl)
theorem dX0_heldBy_52 : decode cX0_heldBy 52 = .ok (.iaload, 1) := dk_46 (dk_at dksX0_heldBy_2 12 rfl rfl)
theorem dX0_heldBy_53 : decode cX0_heldBy 53 = .ok (.ireturn, 1) := dk_172 (dk_at dksX0_heldBy_2 13 rfl rfl)
theorem dX0_heldBy_54 : decode cX0_heldBy 54 = .ok (.aload_n 0, 1) := dk_42 (dk_at dksX0_heldBy_2 14 rfl rfl)
theorem dX0_heldBy_55 : decode cX0_heldBy 55 = .ok (.getfield 74, 3) := dk_180 0 74 (dk_at dksX0_heldBy_2 15 rfl rfl)
theorem dX0_heldBy_58 : decode cX0_heldBy 58 = .ok (.ireturn, 1) := dk_172 (dk_at dksX0_heldBy_2 18 rfl rfl)
theorem dX0_heldBy_59 : decode cX0_heldBy 59 = .ok (.aload_n 0, 1) := dk_42 (dk_at dksX0_heldBy_2 19 rfl rfl)
theorem dX0_heldBy_60 : decode cX0_heldBy 60 = .ok (.getfield 53, 3) := dk_180 0 53 (dk_at dksX0_heldBy_2 20 rfl rfl)
theorem dX0_heldBy_63 : decode cX0_heldBy 63 = .ok (.iload_n 2, 1) := dk_28 (dk_at dksX0_heldBy_2 23 rfl rfl)
theorem dX0_heldBy_64 : decode cX0_heldBy 64 = .ok (.aaload, 1) := dk_50 (dk_at dksX0_heldBy_3 0 rfl rfl)
theorem dX0_heldBy_65 : decode cX0_heldBy 65 = .ok (.getfield 77, 3) := dk_180 0 77 (dk_at dksX0_heldBy_3 1 rfl rfl)
theorem dX0_heldBy_68 : decode cX0_heldBy 68 = .ok (.ireturn, 1) := dk_172 (dk_at dksX0_heldBy_3 4 rfl rfl)
theorem dX0_heldBy_69 : decode cX0_heldBy 69 = .ok (.aload_n 0, 1) := dk_42 (dk_at dksX0_heldBy_3 5 rfl rfl)
theorem dX0_heldBy_70 : decode cX0_heldBy 70 = .ok (.getfield 53, 3) := dk_180 0 53 (dk_at dksX0_heldBy_3 6 rfl rfl)
theorem dX0_heldBy_73 : decode cX0_heldBy 73 = .ok (.iload_n 2, 1) := dk_28 (dk_at dksX0_heldBy_3 9 rfl rfl)
theorem dX0_heldBy_74 : decode cX0_heldBy 74 = .ok (.aaload, 1) := dk_50 (dk_at dksX0_heldBy_3 10 rfl rfl)
theorem dX0_heldBy_75 : decode cX0_heldBy 75 = .ok (.getfield 80, 3) := dk_180 0 80 (dk_at dksX0_heldBy_3 11 rfl rfl)
theorem dX0_heldBy_78 : decode cX0_heldBy 78 = .ok (.ireturn, 1) := dk_172 (dk_at dksX0_heldBy_3 14 rfl rfl)
theorem dX0_heldBy_79 : decode cX0_heldBy 79 = .ok (.aload_n 0, 1) := dk_42 (dk_at dksX0_heldBy_3 15 rfl rfl)
theorem dX0_heldBy_80 : decode cX0_heldBy 80 = .ok (.getfield 53, 3) := dk_180 0 53 (dk_at dksX0_heldBy_3 16 rfl rfl)
theorem dX0_heldBy_83 : decode cX0_heldBy 83 = .ok (.iload_n 2, 1) := dk_28 (dk_at dksX0_heldBy_3 19 rfl rfl)
theorem dX0_heldBy_84 : decode cX0_heldBy 84 = .ok (.aaload, 1) := dk_50 (dk_at dksX0_heldBy_3 20 rfl rfl)
theorem dX0_heldBy_85 : decode cX0_heldBy 85 = .ok (.getfield 83, 3) := dk_180 0 83 (dk_at dksX0_heldBy_3 21 rfl rfl)
theorem dX0_heldBy_88 : decode cX0_heldBy 88 = .ok (.ireturn, 1) := dk_172 (dk_at dksX0_heldBy_4 0 rfl rfl)
theorem dX0_heldBy_89 : decode cX0_heldBy 89 = .ok (.aload_n 0, 1) := dk_42 (dk_at dksX0_heldBy_4 1 rfl rfl)
theorem dX0_heldBy_90 : decode cX0_heldBy 90 = .ok (.getfield 53, 3) := dk_180 0 53 (dk_at dksX0_heldBy_4 2 rfl rfl)
theorem dX0_heldBy_93 : decode cX0_heldBy 93 = .ok (.iload_n 2, 1) := dk_28 (dk_at dksX0_heldBy_4 5 rfl rfl)
theorem dX0_heldBy_94 : decode cX0_heldBy 94 = .ok (.aaload, 1) := dk_50 (dk_at dksX0_heldBy_4 6 rfl rfl)
theorem dX0_heldBy_95 : decode cX0_heldBy 95 = .ok (.getfield 86, 3) := dk_180 0 86 (dk_at dksX0_heldBy_4 7 rfl rfl)
theorem dX0_heldBy_98 : decode cX0_heldBy 98 = .ok (.ireturn, 1) := dk_172 (dk_at dksX0_heldBy_4 10 rfl rfl)
abbrev cX0_becomes : ByteArray := prog_1_method_11_code
def yX0_becomes : MethodName := ⟨RX0, "becomes", "(III)V"⟩
def dkwX0_becomes_5 : List UInt8 := [180, 0, 53, 28, 50, 29, 181, 0, 86, 177]
abbrev dktX0_becomes_5 : List UInt8 := dkwX0_becomes_5 ++ []
def dkwX0_becomes_4 : List UInt8 := [50, 29, 181, 0, 80, 167, 0, 26, 42, 180, 0, 53, 28, 50, 29, 181, 0, 83, 167, 0, 13, 42]
abbrev dktX0_becomes_4 : List UInt8 := dkwX0_becomes_4 ++ dktX0_becomes_5
def dkwX0_becomes_3 : List UInt8 := [181, 0, 74, 167, 0, 52, 42, 180, 0, 53, 28, 50, 29, 181, 0, 77, 167, 0, 39, 42, 180, 0, 53, 28]
abbrev dktX0_becomes_3 : List UInt8 := dkwX0_becomes_3 ++ dktX0_becomes_4
def dkwX0_becomes_2 : List UInt8 := [42, 180, 0, 67, 28, 29, 79, 167, 0, 70, 42, 180, 0, 71, 28, 29, 79, 167, 0, 60, 42, 29]
abbrev dktX0_becomes_2 : List UInt8 := dkwX0_becomes_2 ++ dktX0_becomes_3
def dkwX0_becomes_1 : List UInt8 := [170, 0, 0, 0, 0, 0, 106, 0, 0, 0, 0, 0, 0, 0, 5, 0, 0, 0, 39, 0, 0, 0, 49, 0, 0, 0, 59, 0, 0, 0, 67, 0, 0, 0, 80, 0, 0, 0, 93]
abbrev dktX0_becomes_1 : List UInt8 := dkwX0_becomes_1 ++ dktX0_becomes_2
def dkwX0_becomes_0 : List UInt8 := [27]
abbrev dktX0_becomes_0 : List UInt8 := dkwX0_becomes_0 ++ dktX0_becomes_1
theorem dksX0_becomes_0 : cX0_becomes.data.toList.drop 0 = dktX0_becomes_0 := by decide +kernel
theorem dksX0_becomes_1 : cX0_becomes.data.toList.drop 1 = dktX0_becomes_1 := dk_seg dksX0_becomes_0 1 rfl rfl
theorem dksX0_becomes_2 : cX0_becomes.data.toList.drop 40 = dktX0_becomes_2 := dk_seg dksX0_becomes_1 39 rfl rfl
theorem dksX0_becomes_3 : cX0_becomes.data.toList.drop 62 = dktX0_becomes_3 := dk_seg dksX0_becomes_2 22 rfl rfl
theorem dksX0_becomes_4 : cX0_becomes.data.toList.drop 86 = dktX0_becomes_4 := dk_seg dksX0_becomes_3 24 rfl rfl
theorem dksX0_becomes_5 : cX0_becomes.data.toList.drop 108 = dktX0_becomes_5 := dk_seg dksX0_becomes_4 22 rfl rfl
theorem dX0_becomes_0 : decode cX0_becomes 0 = .ok (.iload_n 1, 1) := dk_27 (dk_at dksX0_becomes_0 0 rfl rfl)
theorem dX0_becomes_1 : decode cX0_becomes 1 = .ok (.tableswitch 106 0 5 #[39, 49, 59, 67, 80, 93], 39) := by decide +kernel
theorem dX0_becomes_40 : decode cX0_becomes 40 = .ok (.aload_n 0, 1) := dk_42 (dk_at dksX0_becomes_2 0 rfl rfl)
theorem dX0_becomes_41 : decode cX0_becomes 41 = .ok (.getfield 67, 3) := dk_180 0 67 (dk_at dksX0_becomes_2 1 rfl rfl)
theorem dX0_becomes_44 : decode cX0_becomes 44 = .ok (.iload_n 2, 1) := dk_28 (dk_at dksX0_becomes_2 4 rfl rfl)
theorem dX0_becomes_45 : decode cX0_becomes 45 = .ok (.iload_n 3, 1) := dk_29 (dk_at dksX0_becomes_2 5 rfl rfl)
theorem dX0_becomes_46 : decode cX0_becomes 46 = .ok (.iastore, 1) := dk_79 (dk_at dksX0_becomes_2 6 rfl rfl)
theorem dX0_becomes_47 : decode cX0_becomes 47 = .ok (.goto 70, 3) := dk_167 0 70 (dk_at dksX0_becomes_2 7 rfl rfl)
theorem dX0_becomes_50 : decode cX0_becomes 50 = .ok (.aload_n 0, 1) := dk_42 (dk_at dksX0_becomes_2 10 rfl rfl)
theorem dX0_becomes_51 : decode cX0_becomes 51 = .ok (.getfield 71, 3) := dk_180 0 71 (dk_at dksX0_becomes_2 11 rfl rfl)
theorem dX0_becomes_54 : decode cX0_becomes 54 = .ok (.iload_n 2, 1) := dk_28 (dk_at dksX0_becomes_2 14 rfl rfl)
theorem dX0_becomes_55 : decode cX0_becomes 55 = .ok (.iload_n 3, 1) := dk_29 (dk_at dksX0_becomes_2 15 rfl rfl)
theorem dX0_becomes_56 : decode cX0_becomes 56 = .ok (.iastore, 1) := dk_79 (dk_at dksX0_becomes_2 16 rfl rfl)
theorem dX0_becomes_57 : decode cX0_becomes 57 = .ok (.goto 60, 3) := dk_167 0 60 (dk_at dksX0_becomes_2 17 rfl rfl)
theorem dX0_becomes_60 : decode cX0_becomes 60 = .ok (.aload_n 0, 1) := dk_42 (dk_at dksX0_becomes_2 20 rfl rfl)
theorem dX0_becomes_61 : decode cX0_becomes 61 = .ok (.iload_n 3, 1) := dk_29 (dk_at dksX0_becomes_2 21 rfl rfl)
theorem dX0_becomes_62 : decode cX0_becomes 62 = .ok (.putfield 74, 3) := dk_181 0 74 (dk_at dksX0_becomes_3 0 rfl rfl)
theorem dX0_becomes_65 : decode cX0_becomes 65 = .ok (.goto 52, 3) := dk_167 0 52 (dk_at dksX0_becomes_3 3 rfl rfl)
theorem dX0_becomes_68 : decode cX0_becomes 68 = .ok (.aload_n 0, 1) := dk_42 (dk_at dksX0_becomes_3 6 rfl rfl)
theorem dX0_becomes_69 : decode cX0_becomes 69 = .ok (.getfield 53, 3) := dk_180 0 53 (dk_at dksX0_becomes_3 7 rfl rfl)
theorem dX0_becomes_72 : decode cX0_becomes 72 = .ok (.iload_n 2, 1) := dk_28 (dk_at dksX0_becomes_3 10 rfl rfl)
theorem dX0_becomes_73 : decode cX0_becomes 73 = .ok (.aaload, 1) := dk_50 (dk_at dksX0_becomes_3 11 rfl rfl)
theorem dX0_becomes_74 : decode cX0_becomes 74 = .ok (.iload_n 3, 1) := dk_29 (dk_at dksX0_becomes_3 12 rfl rfl)
theorem dX0_becomes_75 : decode cX0_becomes 75 = .ok (.putfield 77, 3) := dk_181 0 77 (dk_at dksX0_becomes_3 13 rfl rfl)
theorem dX0_becomes_78 : decode cX0_becomes 78 = .ok (.goto 39, 3) := dk_167 0 39 (dk_at dksX0_becomes_3 16 rfl rfl)
theorem dX0_becomes_81 : decode cX0_becomes 81 = .ok (.aload_n 0, 1) := dk_42 (dk_at dksX0_becomes_3 19 rfl rfl)
theorem dX0_becomes_82 : decode cX0_becomes 82 = .ok (.getfield 53, 3) := dk_180 0 53 (dk_at dksX0_becomes_3 20 rfl rfl)
theorem dX0_becomes_85 : decode cX0_becomes 85 = .ok (.iload_n 2, 1) := dk_28 (dk_at dksX0_becomes_3 23 rfl rfl)
theorem dX0_becomes_86 : decode cX0_becomes 86 = .ok (.aaload, 1) := dk_50 (dk_at dksX0_becomes_4 0 rfl rfl)
theorem dX0_becomes_87 : decode cX0_becomes 87 = .ok (.iload_n 3, 1) := dk_29 (dk_at dksX0_becomes_4 1 rfl rfl)
theorem dX0_becomes_88 : decode cX0_becomes 88 = .ok (.putfield 80, 3) := dk_181 0 80 (dk_at dksX0_becomes_4 2 rfl rfl)
theorem dX0_becomes_91 : decode cX0_becomes 91 = .ok (.goto 26, 3) := dk_167 0 26 (dk_at dksX0_becomes_4 5 rfl rfl)
theorem dX0_becomes_94 : decode cX0_becomes 94 = .ok (.aload_n 0, 1) := dk_42 (dk_at dksX0_becomes_4 8 rfl rfl)
theorem dX0_becomes_95 : decode cX0_becomes 95 = .ok (.getfield 53, 3) := dk_180 0 53 (dk_at dksX0_becomes_4 9 rfl rfl)
theorem dX0_becomes_98 : decode cX0_becomes 98 = .ok (.iload_n 2, 1) := dk_28 (dk_at dksX0_becomes_4 12 rfl rfl)
theorem dX0_becomes_99 : decode cX0_becomes 99 = .ok (.aaload, 1) := dk_50 (dk_at dksX0_becomes_4 13 rfl rfl)
theorem dX0_becomes_100 : decode cX0_becomes 100 = .ok (.iload_n 3, 1) := dk_29 (dk_at dksX0_becomes_4 14 rfl rfl)
theorem dX0_becomes_101 : decode cX0_becomes 101 = .ok (.putfield 83, 3) := dk_181 0 83 (dk_at dksX0_becomes_4 15 rfl rfl)
theorem dX0_becomes_104 : decode cX0_becomes 104 = .ok (.goto 13, 3) := dk_167 0 13 (dk_at dksX0_becomes_4 18 rfl rfl)
theorem dX0_becomes_107 : decode cX0_becomes 107 = .ok (.aload_n 0, 1) := dk_42 (dk_at dksX0_becomes_4 21 rfl rfl)
theorem dX0_becomes_108 : decode cX0_becomes 108 = .ok (.getfield 53, 3) := dk_180 0 53 (dk_at dksX0_becomes_5 0 rfl rfl)
theorem dX0_becomes_111 : decode cX0_becomes 111 = .ok (.iload_n 2, 1) := dk_28 (dk_at dksX0_becomes_5 3 rfl rfl)
theorem dX0_becomes_112 : decode cX0_becomes 112 = .ok (.aaload, 1) := dk_50 (dk_at dksX0_becomes_5 4 rfl rfl)
theorem dX0_becomes_113 : decode cX0_becomes 113 = .ok (.iload_n 3, 1) := dk_29 (dk_at dksX0_becomes_5 5 rfl rfl)
theorem dX0_becomes_114 : decode cX0_becomes 114 = .ok (.putfield 86, 3) := dk_181 0 86 (dk_at dksX0_becomes_5 6 rfl rfl)
theorem dX0_becomes_117 : decode cX0_becomes 117 = .ok (.return_, 1) := dk_177 (dk_at dksX0_becomes_5 9 rfl rfl)
abbrev cX0_told : ByteArray := prog_1_method_14_code
def yX0_told : MethodName := ⟨RX0, "told", "(II)I"⟩
def dkwX0_told_5 : List UInt8 := [167, 0, 8, 42, 27, 182, 0, 120, 172]
abbrev dktX0_told_5 : List UInt8 := dkwX0_told_5 ++ []
def dkwX0_told_4 : List UInt8 := [180, 0, 53, 27, 50, 182, 0, 113, 167, 0, 22, 28, 16, 8, 160, 0, 11, 42, 27, 182, 0, 117]
abbrev dktX0_told_4 : List UInt8 := dkwX0_told_4 ++ dktX0_told_5
def dkwX0_told_3 : List UInt8 := [153, 0, 11, 42, 27, 182, 0, 64, 154, 0, 7, 17, 252, 24, 172, 28, 16, 7, 160, 0, 15, 42]
abbrev dktX0_told_3 : List UInt8 := dkwX0_told_3 ++ dktX0_told_4
def dkwX0_told_2 : List UInt8 := [27, 182, 0, 108, 167, 0, 6, 17, 252, 24, 172, 28, 133, 20, 0, 111, 20, 0, 47, 184, 0, 14]
abbrev dktX0_told_2 : List UInt8 := dkwX0_told_2 ++ dktX0_told_3
def dkwX0_told_1 : List UInt8 := [182, 0, 101, 167, 0, 6, 17, 252, 24, 172, 28, 16, 10, 160, 0, 22, 27, 184, 0, 49, 153, 0, 11, 42]
abbrev dktX0_told_1 : List UInt8 := dkwX0_told_1 ++ dktX0_told_2
def dkwX0_told_0 : List UInt8 := [28, 133, 9, 20, 0, 89, 184, 0, 14, 153, 0, 25, 42, 28, 27, 182, 0, 91, 153, 0, 12, 42, 28, 27]
abbrev dktX0_told_0 : List UInt8 := dkwX0_told_0 ++ dktX0_told_1
theorem dksX0_told_0 : cX0_told.data.toList.drop 0 = dktX0_told_0 := by decide +kernel
theorem dksX0_told_1 : cX0_told.data.toList.drop 24 = dktX0_told_1 := dk_seg dksX0_told_0 24 rfl rfl
theorem dksX0_told_2 : cX0_told.data.toList.drop 48 = dktX0_told_2 := dk_seg dksX0_told_1 24 rfl rfl
theorem dksX0_told_3 : cX0_told.data.toList.drop 70 = dktX0_told_3 := dk_seg dksX0_told_2 22 rfl rfl
theorem dksX0_told_4 : cX0_told.data.toList.drop 92 = dktX0_told_4 := dk_seg dksX0_told_3 22 rfl rfl
theorem dksX0_told_5 : cX0_told.data.toList.drop 114 = dktX0_told_5 := dk_seg dksX0_told_4 22 rfl rfl
theorem dX0_told_0 : decode cX0_told 0 = .ok (.iload_n 2, 1) := dk_28 (dk_at dksX0_told_0 0 rfl rfl)
theorem dX0_told_1 : decode cX0_told 1 = .ok (.i2l, 1) := dk_133 (dk_at dksX0_told_0 1 rfl rfl)
theorem dX0_told_2 : decode cX0_told 2 = .ok (.lconst 0, 1) := dk_9 (dk_at dksX0_told_0 2 rfl rfl)
theorem dX0_told_3 : decode cX0_told 3 = .ok (.ldc2_w 89, 3) := dk_20 0 89 (dk_at dksX0_told_0 3 rfl rfl)
theorem dX0_told_6 : decode cX0_told 6 = .ok (.invokestatic 14, 3) := dk_184 0 14 (dk_at dksX0_told_0 6 rfl rfl)
theorem dX0_told_9 : decode cX0_told 9 = .ok (.ifCond .eq 25, 3) := dk_153 0 25 (dk_at dksX0_told_0 9 rfl rfl)
theorem dX0_told_12 : decode cX0_told 12 = .ok (.aload_n 0, 1) := dk_42 (dk_at dksX0_told_0 12 rfl rfl)
theorem dX0_told_13 : decode cX0_told 13 = .ok (.iload_n 2, 1) := dk_28 (dk_at dksX0_told_0 13 rfl rfl)
theorem dX0_told_14 : decode cX0_told 14 = .ok (.iload_n 1, 1) := dk_27 (dk_at dksX0_told_0 14 rfl rfl)
theorem dX0_told_15 : decode cX0_told 15 = .ok (.invokevirtual 91, 3) := dk_182 0 91 (dk_at dksX0_told_0 15 rfl rfl)
theorem dX0_told_18 : decode cX0_told 18 = .ok (.ifCond .eq 12, 3) := dk_153 0 12 (dk_at dksX0_told_0 18 rfl rfl)
theorem dX0_told_21 : decode cX0_told 21 = .ok (.aload_n 0, 1) := dk_42 (dk_at dksX0_told_0 21 rfl rfl)
theorem dX0_told_22 : decode cX0_told 22 = .ok (.iload_n 2, 1) := dk_28 (dk_at dksX0_told_0 22 rfl rfl)
theorem dX0_told_23 : decode cX0_told 23 = .ok (.iload_n 1, 1) := dk_27 (dk_at dksX0_told_0 23 rfl rfl)
theorem dX0_told_24 : decode cX0_told 24 = .ok (.invokevirtual 101, 3) := dk_182 0 101 (dk_at dksX0_told_1 0 rfl rfl)
theorem dX0_told_27 : decode cX0_told 27 = .ok (.goto 6, 3) := dk_167 0 6 (dk_at dksX0_told_1 3 rfl rfl)
theorem dX0_told_30 : decode cX0_told 30 = .ok (.sipush (-1000), 3) := dk_17 252 24 (dk_at dksX0_told_1 6 rfl rfl)
theorem dX0_told_33 : decode cX0_told 33 = .ok (.ireturn, 1) := dk_172 (dk_at dksX0_told_1 9 rfl rfl)
theorem dX0_told_34 : decode cX0_told 34 = .ok (.iload_n 2, 1) := dk_28 (dk_at dksX0_told_1 10 rfl rfl)
theorem dX0_told_35 : decode cX0_told 35 = .ok (.bipush 10, 2) := dk_16 10 (dk_at dksX0_told_1 11 rfl rfl)
theorem dX0_told_37 : decode cX0_told 37 = .ok (.if_icmp .ne 22, 3) := dk_160 0 22 (dk_at dksX0_told_1 13 rfl rfl)
theorem dX0_told_40 : decode cX0_told 40 = .ok (.iload_n 1, 1) := dk_27 (dk_at dksX0_told_1 16 rfl rfl)
theorem dX0_told_41 : decode cX0_told 41 = .ok (.invokestatic 49, 3) := dk_184 0 49 (dk_at dksX0_told_1 17 rfl rfl)
theorem dX0_told_44 : decode cX0_told 44 = .ok (.ifCond .eq 11, 3) := dk_153 0 11 (dk_at dksX0_told_1 20 rfl rfl)
theorem dX0_told_47 : decode cX0_told 47 = .ok (.aload_n 0, 1) := dk_42 (dk_at dksX0_told_1 23 rfl rfl)
theorem dX0_told_48 : decode cX0_told 48 = .ok (.iload_n 1, 1) := dk_27 (dk_at dksX0_told_2 0 rfl rfl)
theorem dX0_told_49 : decode cX0_told 49 = .ok (.invokevirtual 108, 3) := dk_182 0 108 (dk_at dksX0_told_2 1 rfl rfl)
theorem dX0_told_52 : decode cX0_told 52 = .ok (.goto 6, 3) := dk_167 0 6 (dk_at dksX0_told_2 4 rfl rfl)
theorem dX0_told_55 : decode cX0_told 55 = .ok (.sipush (-1000), 3) := dk_17 252 24 (dk_at dksX0_told_2 7 rfl rfl)
theorem dX0_told_58 : decode cX0_told 58 = .ok (.ireturn, 1) := dk_172 (dk_at dksX0_told_2 10 rfl rfl)
theorem dX0_told_59 : decode cX0_told 59 = .ok (.iload_n 2, 1) := dk_28 (dk_at dksX0_told_2 11 rfl rfl)
theorem dX0_told_60 : decode cX0_told 60 = .ok (.i2l, 1) := dk_133 (dk_at dksX0_told_2 12 rfl rfl)
theorem dX0_told_61 : decode cX0_told 61 = .ok (.ldc2_w 111, 3) := dk_20 0 111 (dk_at dksX0_told_2 13 rfl rfl)
theorem dX0_told_64 : decode cX0_told 64 = .ok (.ldc2_w 47, 3) := dk_20 0 47 (dk_at dksX0_told_2 16 rfl rfl)
theorem dX0_told_67 : decode cX0_told 67 = .ok (.invokestatic 14, 3) := dk_184 0 14 (dk_at dksX0_told_2 19 rfl rfl)
theorem dX0_told_70 : decode cX0_told 70 = .ok (.ifCond .eq 11, 3) := dk_153 0 11 (dk_at dksX0_told_3 0 rfl rfl)
theorem dX0_told_73 : decode cX0_told 73 = .ok (.aload_n 0, 1) := dk_42 (dk_at dksX0_told_3 3 rfl rfl)
theorem dX0_told_74 : decode cX0_told 74 = .ok (.iload_n 1, 1) := dk_27 (dk_at dksX0_told_3 4 rfl rfl)
theorem dX0_told_75 : decode cX0_told 75 = .ok (.invokevirtual 64, 3) := dk_182 0 64 (dk_at dksX0_told_3 5 rfl rfl)
theorem dX0_told_78 : decode cX0_told 78 = .ok (.ifCond .ne 7, 3) := dk_154 0 7 (dk_at dksX0_told_3 8 rfl rfl)
theorem dX0_told_81 : decode cX0_told 81 = .ok (.sipush (-1000), 3) := dk_17 252 24 (dk_at dksX0_told_3 11 rfl rfl)
theorem dX0_told_84 : decode cX0_told 84 = .ok (.ireturn, 1) := dk_172 (dk_at dksX0_told_3 14 rfl rfl)
theorem dX0_told_85 : decode cX0_told 85 = .ok (.iload_n 2, 1) := dk_28 (dk_at dksX0_told_3 15 rfl rfl)
theorem dX0_told_86 : decode cX0_told 86 = .ok (.bipush 7, 2) := dk_16 7 (dk_at dksX0_told_3 16 rfl rfl)
theorem dX0_told_88 : decode cX0_told 88 = .ok (.if_icmp .ne 15, 3) := dk_160 0 15 (dk_at dksX0_told_3 18 rfl rfl)
theorem dX0_told_91 : decode cX0_told 91 = .ok (.aload_n 0, 1) := dk_42 (dk_at dksX0_told_3 21 rfl rfl)
theorem dX0_told_92 : decode cX0_told 92 = .ok (.getfield 53, 3) := dk_180 0 53 (dk_at dksX0_told_4 0 rfl rfl)
theorem dX0_told_95 : decode cX0_told 95 = .ok (.iload_n 1, 1) := dk_27 (dk_at dksX0_told_4 3 rfl rfl)
theorem dX0_told_96 : decode cX0_told 96 = .ok (.aaload, 1) := dk_50 (dk_at dksX0_told_4 4 rfl rfl)
theorem dX0_told_97 : decode cX0_told 97 = .ok (.invokevirtual 113, 3) := dk_182 0 113 (dk_at dksX0_told_4 5 rfl rfl)
theorem dX0_told_100 : decode cX0_told 100 = .ok (.goto 22, 3) := dk_167 0 22 (dk_at dksX0_told_4 8 rfl rfl)
theorem dX0_told_103 : decode cX0_told 103 = .ok (.iload_n 2, 1) := dk_28 (dk_at dksX0_told_4 11 rfl rfl)
theorem dX0_told_104 : decode cX0_told 104 = .ok (.bipush 8, 2) := dk_16 8 (dk_at dksX0_told_4 12 rfl rfl)
theorem dX0_told_106 : decode cX0_told 106 = .ok (.if_icmp .ne 11, 3) := dk_160 0 11 (dk_at dksX0_told_4 14 rfl rfl)
theorem dX0_told_109 : decode cX0_told 109 = .ok (.aload_n 0, 1) := dk_42 (dk_at dksX0_told_4 17 rfl rfl)
theorem dX0_told_110 : decode cX0_told 110 = .ok (.iload_n 1, 1) := dk_27 (dk_at dksX0_told_4 18 rfl rfl)
theorem dX0_told_111 : decode cX0_told 111 = .ok (.invokevirtual 117, 3) := dk_182 0 117 (dk_at dksX0_told_4 19 rfl rfl)
theorem dX0_told_114 : decode cX0_told 114 = .ok (.goto 8, 3) := dk_167 0 8 (dk_at dksX0_told_5 0 rfl rfl)
theorem dX0_told_117 : decode cX0_told 117 = .ok (.aload_n 0, 1) := dk_42 (dk_at dksX0_told_5 3 rfl rfl)
theorem dX0_told_118 : decode cX0_told 118 = .ok (.iload_n 1, 1) := dk_27 (dk_at dksX0_told_5 4 rfl rfl)
theorem dX0_told_119 : decode cX0_told 119 = .ok (.invokevirtual 120, 3) := dk_182 0 120 (dk_at dksX0_told_5 5 rfl rfl)
theorem dX0_told_122 : decode cX0_told 122 = .ok (.ireturn, 1) := dk_172 (dk_at dksX0_told_5 8 rfl rfl)
abbrev cX0_whoAt : ByteArray := prog_1_method_13_code
def yX0_whoAt : MethodName := ⟨RX0, "whoAt", "(I)I"⟩
def dkwX0_whoAt_1 : List UInt8 := [160, 0, 9, 4, 29, 120, 167, 0, 4, 3, 128, 61, 132, 3, 1, 167, 255, 222, 28, 172]
abbrev dktX0_whoAt_1 : List UInt8 := dkwX0_whoAt_1 ++ []
def dkwX0_whoAt_0 : List UInt8 := [3, 61, 3, 62, 29, 42, 180, 0, 18, 162, 0, 32, 28, 42, 180, 0, 53, 29, 50, 180, 0, 80, 27]
abbrev dktX0_whoAt_0 : List UInt8 := dkwX0_whoAt_0 ++ dktX0_whoAt_1
theorem dksX0_whoAt_0 : cX0_whoAt.data.toList.drop 0 = dktX0_whoAt_0 := by decide +kernel
theorem dksX0_whoAt_1 : cX0_whoAt.data.toList.drop 23 = dktX0_whoAt_1 := dk_seg dksX0_whoAt_0 23 rfl rfl
theorem dX0_whoAt_0 : decode cX0_whoAt 0 = .ok (.iconst 0, 1) := dk_3 (dk_at dksX0_whoAt_0 0 rfl rfl)
theorem dX0_whoAt_1 : decode cX0_whoAt 1 = .ok (.istore_n 2, 1) := dk_61 (dk_at dksX0_whoAt_0 1 rfl rfl)
theorem dX0_whoAt_2 : decode cX0_whoAt 2 = .ok (.iconst 0, 1) := dk_3 (dk_at dksX0_whoAt_0 2 rfl rfl)
theorem dX0_whoAt_3 : decode cX0_whoAt 3 = .ok (.istore_n 3, 1) := dk_62 (dk_at dksX0_whoAt_0 3 rfl rfl)
theorem dX0_whoAt_4 : decode cX0_whoAt 4 = .ok (.iload_n 3, 1) := dk_29 (dk_at dksX0_whoAt_0 4 rfl rfl)
theorem dX0_whoAt_5 : decode cX0_whoAt 5 = .ok (.aload_n 0, 1) := dk_42 (dk_at dksX0_whoAt_0 5 rfl rfl)
theorem dX0_whoAt_6 : decode cX0_whoAt 6 = .ok (.getfield 18, 3) := dk_180 0 18 (dk_at dksX0_whoAt_0 6 rfl rfl)
theorem dX0_whoAt_9 : decode cX0_whoAt 9 = .ok (.if_icmp .ge 32, 3) := dk_162 0 32 (dk_at dksX0_whoAt_0 9 rfl rfl)
theorem dX0_whoAt_12 : decode cX0_whoAt 12 = .ok (.iload_n 2, 1) := dk_28 (dk_at dksX0_whoAt_0 12 rfl rfl)
theorem dX0_whoAt_13 : decode cX0_whoAt 13 = .ok (.aload_n 0, 1) := dk_42 (dk_at dksX0_whoAt_0 13 rfl rfl)
theorem dX0_whoAt_14 : decode cX0_whoAt 14 = .ok (.getfield 53, 3) := dk_180 0 53 (dk_at dksX0_whoAt_0 14 rfl rfl)
theorem dX0_whoAt_17 : decode cX0_whoAt 17 = .ok (.iload_n 3, 1) := dk_29 (dk_at dksX0_whoAt_0 17 rfl rfl)
theorem dX0_whoAt_18 : decode cX0_whoAt 18 = .ok (.aaload, 1) := dk_50 (dk_at dksX0_whoAt_0 18 rfl rfl)
theorem dX0_whoAt_19 : decode cX0_whoAt 19 = .ok (.getfield 80, 3) := dk_180 0 80 (dk_at dksX0_whoAt_0 19 rfl rfl)
theorem dX0_whoAt_22 : decode cX0_whoAt 22 = .ok (.iload_n 1, 1) := dk_27 (dk_at dksX0_whoAt_0 22 rfl rfl)
theorem dX0_whoAt_23 : decode cX0_whoAt 23 = .ok (.if_icmp .ne 9, 3) := dk_160 0 9 (dk_at dksX0_whoAt_1 0 rfl rfl)
theorem dX0_whoAt_26 : decode cX0_whoAt 26 = .ok (.iconst 1, 1) := dk_4 (dk_at dksX0_whoAt_1 3 rfl rfl)
theorem dX0_whoAt_27 : decode cX0_whoAt 27 = .ok (.iload_n 3, 1) := dk_29 (dk_at dksX0_whoAt_1 4 rfl rfl)
theorem dX0_whoAt_28 : decode cX0_whoAt 28 = .ok (.ishl, 1) := dk_120 (dk_at dksX0_whoAt_1 5 rfl rfl)
theorem dX0_whoAt_29 : decode cX0_whoAt 29 = .ok (.goto 4, 3) := dk_167 0 4 (dk_at dksX0_whoAt_1 6 rfl rfl)
theorem dX0_whoAt_32 : decode cX0_whoAt 32 = .ok (.iconst 0, 1) := dk_3 (dk_at dksX0_whoAt_1 9 rfl rfl)
theorem dX0_whoAt_33 : decode cX0_whoAt 33 = .ok (.ior, 1) := dk_128 (dk_at dksX0_whoAt_1 10 rfl rfl)
theorem dX0_whoAt_34 : decode cX0_whoAt 34 = .ok (.istore_n 2, 1) := dk_61 (dk_at dksX0_whoAt_1 11 rfl rfl)
theorem dX0_whoAt_35 : decode cX0_whoAt 35 = .ok (.iinc 3 1, 3) := dk_132 3 1 (dk_at dksX0_whoAt_1 12 rfl rfl)
theorem dX0_whoAt_38 : decode cX0_whoAt 38 = .ok (.goto (-34), 3) := dk_167 255 222 (dk_at dksX0_whoAt_1 15 rfl rfl)
theorem dX0_whoAt_41 : decode cX0_whoAt 41 = .ok (.iload_n 2, 1) := dk_28 (dk_at dksX0_whoAt_1 18 rfl rfl)
theorem dX0_whoAt_42 : decode cX0_whoAt 42 = .ok (.ireturn, 1) := dk_172 (dk_at dksX0_whoAt_1 19 rfl rfl)
abbrev cX0_takesOf : ByteArray := prog_1_method_40_code
def yX0_takesOf : MethodName := ⟨RX0, "takesOf", "(I)I"⟩
def dkwX0_takesOf_2 : List UInt8 := [96, 182, 1, 106, 28, 29, 42, 180, 0, 74, 182, 1, 109, 172]
abbrev dktX0_takesOf_2 : List UInt8 := dkwX0_takesOf_2 ++ []
def dkwX0_takesOf_1 : List UInt8 := [180, 0, 53, 27, 50, 180, 0, 80, 104, 4, 96, 46, 62, 42, 180, 0, 53, 27, 50, 42, 3, 27, 28, 29]
abbrev dktX0_takesOf_1 : List UInt8 := dkwX0_takesOf_1 ++ dktX0_takesOf_2
def dkwX0_takesOf_0 : List UInt8 := [42, 180, 0, 71, 5, 42, 180, 0, 53, 27, 50, 180, 0, 80, 104, 46, 61, 42, 180, 0, 71, 5, 42]
abbrev dktX0_takesOf_0 : List UInt8 := dkwX0_takesOf_0 ++ dktX0_takesOf_1
theorem dksX0_takesOf_0 : cX0_takesOf.data.toList.drop 0 = dktX0_takesOf_0 := by decide +kernel
theorem dksX0_takesOf_1 : cX0_takesOf.data.toList.drop 23 = dktX0_takesOf_1 := dk_seg dksX0_takesOf_0 23 rfl rfl
theorem dksX0_takesOf_2 : cX0_takesOf.data.toList.drop 47 = dktX0_takesOf_2 := dk_seg dksX0_takesOf_1 24 rfl rfl
theorem dX0_takesOf_0 : decode cX0_takesOf 0 = .ok (.aload_n 0, 1) := dk_42 (dk_at dksX0_takesOf_0 0 rfl rfl)
theorem dX0_takesOf_1 : decode cX0_takesOf 1 = .ok (.getfield 71, 3) := dk_180 0 71 (dk_at dksX0_takesOf_0 1 rfl rfl)
theorem dX0_takesOf_4 : decode cX0_takesOf 4 = .ok (.iconst 2, 1) := dk_5 (dk_at dksX0_takesOf_0 4 rfl rfl)
theorem dX0_takesOf_5 : decode cX0_takesOf 5 = .ok (.aload_n 0, 1) := dk_42 (dk_at dksX0_takesOf_0 5 rfl rfl)
theorem dX0_takesOf_6 : decode cX0_takesOf 6 = .ok (.getfield 53, 3) := dk_180 0 53 (dk_at dksX0_takesOf_0 6 rfl rfl)
theorem dX0_takesOf_9 : decode cX0_takesOf 9 = .ok (.iload_n 1, 1) := dk_27 (dk_at dksX0_takesOf_0 9 rfl rfl)
theorem dX0_takesOf_10 : decode cX0_takesOf 10 = .ok (.aaload, 1) := dk_50 (dk_at dksX0_takesOf_0 10 rfl rfl)
theorem dX0_takesOf_11 : decode cX0_takesOf 11 = .ok (.getfield 80, 3) := dk_180 0 80 (dk_at dksX0_takesOf_0 11 rfl rfl)
theorem dX0_takesOf_14 : decode cX0_takesOf 14 = .ok (.imul, 1) := dk_104 (dk_at dksX0_takesOf_0 14 rfl rfl)
theorem dX0_takesOf_15 : decode cX0_takesOf 15 = .ok (.iaload, 1) := dk_46 (dk_at dksX0_takesOf_0 15 rfl rfl)
theorem dX0_takesOf_16 : decode cX0_takesOf 16 = .ok (.istore_n 2, 1) := dk_61 (dk_at dksX0_takesOf_0 16 rfl rfl)
theorem dX0_takesOf_17 : decode cX0_takesOf 17 = .ok (.aload_n 0, 1) := dk_42 (dk_at dksX0_takesOf_0 17 rfl rfl)
theorem dX0_takesOf_18 : decode cX0_takesOf 18 = .ok (.getfield 71, 3) := dk_180 0 71 (dk_at dksX0_takesOf_0 18 rfl rfl)
theorem dX0_takesOf_21 : decode cX0_takesOf 21 = .ok (.iconst 2, 1) := dk_5 (dk_at dksX0_takesOf_0 21 rfl rfl)
theorem dX0_takesOf_22 : decode cX0_takesOf 22 = .ok (.aload_n 0, 1) := dk_42 (dk_at dksX0_takesOf_0 22 rfl rfl)
theorem dX0_takesOf_23 : decode cX0_takesOf 23 = .ok (.getfield 53, 3) := dk_180 0 53 (dk_at dksX0_takesOf_1 0 rfl rfl)
theorem dX0_takesOf_26 : decode cX0_takesOf 26 = .ok (.iload_n 1, 1) := dk_27 (dk_at dksX0_takesOf_1 3 rfl rfl)
theorem dX0_takesOf_27 : decode cX0_takesOf 27 = .ok (.aaload, 1) := dk_50 (dk_at dksX0_takesOf_1 4 rfl rfl)
theorem dX0_takesOf_28 : decode cX0_takesOf 28 = .ok (.getfield 80, 3) := dk_180 0 80 (dk_at dksX0_takesOf_1 5 rfl rfl)
theorem dX0_takesOf_31 : decode cX0_takesOf 31 = .ok (.imul, 1) := dk_104 (dk_at dksX0_takesOf_1 8 rfl rfl)
theorem dX0_takesOf_32 : decode cX0_takesOf 32 = .ok (.iconst 1, 1) := dk_4 (dk_at dksX0_takesOf_1 9 rfl rfl)
theorem dX0_takesOf_33 : decode cX0_takesOf 33 = .ok (.iadd, 1) := dk_96 (dk_at dksX0_takesOf_1 10 rfl rfl)
theorem dX0_takesOf_34 : decode cX0_takesOf 34 = .ok (.iaload, 1) := dk_46 (dk_at dksX0_takesOf_1 11 rfl rfl)
theorem dX0_takesOf_35 : decode cX0_takesOf 35 = .ok (.istore_n 3, 1) := dk_62 (dk_at dksX0_takesOf_1 12 rfl rfl)
theorem dX0_takesOf_36 : decode cX0_takesOf 36 = .ok (.aload_n 0, 1) := dk_42 (dk_at dksX0_takesOf_1 13 rfl rfl)
theorem dX0_takesOf_37 : decode cX0_takesOf 37 = .ok (.getfield 53, 3) := dk_180 0 53 (dk_at dksX0_takesOf_1 14 rfl rfl)
theorem dX0_takesOf_40 : decode cX0_takesOf 40 = .ok (.iload_n 1, 1) := dk_27 (dk_at dksX0_takesOf_1 17 rfl rfl)
theorem dX0_takesOf_41 : decode cX0_takesOf 41 = .ok (.aaload, 1) := dk_50 (dk_at dksX0_takesOf_1 18 rfl rfl)
theorem dX0_takesOf_42 : decode cX0_takesOf 42 = .ok (.aload_n 0, 1) := dk_42 (dk_at dksX0_takesOf_1 19 rfl rfl)
theorem dX0_takesOf_43 : decode cX0_takesOf 43 = .ok (.iconst 0, 1) := dk_3 (dk_at dksX0_takesOf_1 20 rfl rfl)
theorem dX0_takesOf_44 : decode cX0_takesOf 44 = .ok (.iload_n 1, 1) := dk_27 (dk_at dksX0_takesOf_1 21 rfl rfl)
theorem dX0_takesOf_45 : decode cX0_takesOf 45 = .ok (.iload_n 2, 1) := dk_28 (dk_at dksX0_takesOf_1 22 rfl rfl)
theorem dX0_takesOf_46 : decode cX0_takesOf 46 = .ok (.iload_n 3, 1) := dk_29 (dk_at dksX0_takesOf_1 23 rfl rfl)
theorem dX0_takesOf_47 : decode cX0_takesOf 47 = .ok (.iadd, 1) := dk_96 (dk_at dksX0_takesOf_2 0 rfl rfl)
theorem dX0_takesOf_48 : decode cX0_takesOf 48 = .ok (.invokevirtual 362, 3) := dk_182 1 106 (dk_at dksX0_takesOf_2 1 rfl rfl)
theorem dX0_takesOf_51 : decode cX0_takesOf 51 = .ok (.iload_n 2, 1) := dk_28 (dk_at dksX0_takesOf_2 4 rfl rfl)
theorem dX0_takesOf_52 : decode cX0_takesOf 52 = .ok (.iload_n 3, 1) := dk_29 (dk_at dksX0_takesOf_2 5 rfl rfl)
theorem dX0_takesOf_53 : decode cX0_takesOf 53 = .ok (.aload_n 0, 1) := dk_42 (dk_at dksX0_takesOf_2 6 rfl rfl)
theorem dX0_takesOf_54 : decode cX0_takesOf 54 = .ok (.getfield 74, 3) := dk_180 0 74 (dk_at dksX0_takesOf_2 7 rfl rfl)
theorem dX0_takesOf_57 : decode cX0_takesOf 57 = .ok (.invokevirtual 365, 3) := dk_182 1 109 (dk_at dksX0_takesOf_2 10 rfl rfl)
theorem dX0_takesOf_60 : decode cX0_takesOf 60 = .ok (.ireturn, 1) := dk_172 (dk_at dksX0_takesOf_2 13 rfl rfl)
abbrev cX0_says : ByteArray := prog_1_method_39_code
def yX0_says : MethodName := ⟨RX0, "says", "(III)I"⟩
def dkwX0_says_1 : List UInt8 := [27, 4, 160, 0, 7, 3, 167, 0, 5, 16, 157, 16, 99, 184, 1, 102, 172]
abbrev dktX0_says_1 : List UInt8 := dkwX0_says_1 ++ []
def dkwX0_says_0 : List UInt8 := [42, 28, 181, 1, 93, 42, 29, 181, 1, 96, 42, 180, 1, 3, 42, 180, 1, 90, 50, 27, 50, 182, 1, 99]
abbrev dktX0_says_0 : List UInt8 := dkwX0_says_0 ++ dktX0_says_1
theorem dksX0_says_0 : cX0_says.data.toList.drop 0 = dktX0_says_0 := by decide +kernel
theorem dksX0_says_1 : cX0_says.data.toList.drop 24 = dktX0_says_1 := dk_seg dksX0_says_0 24 rfl rfl
theorem dX0_says_0 : decode cX0_says 0 = .ok (.aload_n 0, 1) := dk_42 (dk_at dksX0_says_0 0 rfl rfl)
theorem dX0_says_1 : decode cX0_says 1 = .ok (.iload_n 2, 1) := dk_28 (dk_at dksX0_says_0 1 rfl rfl)
theorem dX0_says_2 : decode cX0_says 2 = .ok (.putfield 349, 3) := dk_181 1 93 (dk_at dksX0_says_0 2 rfl rfl)
theorem dX0_says_5 : decode cX0_says 5 = .ok (.aload_n 0, 1) := dk_42 (dk_at dksX0_says_0 5 rfl rfl)
theorem dX0_says_6 : decode cX0_says 6 = .ok (.iload_n 3, 1) := dk_29 (dk_at dksX0_says_0 6 rfl rfl)
theorem dX0_says_7 : decode cX0_says 7 = .ok (.putfield 352, 3) := dk_181 1 96 (dk_at dksX0_says_0 7 rfl rfl)
theorem dX0_says_10 : decode cX0_says 10 = .ok (.aload_n 0, 1) := dk_42 (dk_at dksX0_says_0 10 rfl rfl)
theorem dX0_says_11 : decode cX0_says 11 = .ok (.getfield 259, 3) := dk_180 1 3 (dk_at dksX0_says_0 11 rfl rfl)
theorem dX0_says_14 : decode cX0_says 14 = .ok (.aload_n 0, 1) := dk_42 (dk_at dksX0_says_0 14 rfl rfl)
theorem dX0_says_15 : decode cX0_says 15 = .ok (.getfield 346, 3) := dk_180 1 90 (dk_at dksX0_says_0 15 rfl rfl)
theorem dX0_says_18 : decode cX0_says 18 = .ok (.aaload, 1) := dk_50 (dk_at dksX0_says_0 18 rfl rfl)
theorem dX0_says_19 : decode cX0_says 19 = .ok (.iload_n 1, 1) := dk_27 (dk_at dksX0_says_0 19 rfl rfl)
theorem dX0_says_20 : decode cX0_says 20 = .ok (.aaload, 1) := dk_50 (dk_at dksX0_says_0 20 rfl rfl)
theorem dX0_says_21 : decode cX0_says 21 = .ok (.invokevirtual 355, 3) := dk_182 1 99 (dk_at dksX0_says_0 21 rfl rfl)
theorem dX0_says_24 : decode cX0_says 24 = .ok (.iload_n 1, 1) := dk_27 (dk_at dksX0_says_1 0 rfl rfl)
theorem dX0_says_25 : decode cX0_says 25 = .ok (.iconst 1, 1) := dk_4 (dk_at dksX0_says_1 1 rfl rfl)
theorem dX0_says_26 : decode cX0_says 26 = .ok (.if_icmp .ne 7, 3) := dk_160 0 7 (dk_at dksX0_says_1 2 rfl rfl)
theorem dX0_says_29 : decode cX0_says 29 = .ok (.iconst 0, 1) := dk_3 (dk_at dksX0_says_1 5 rfl rfl)
theorem dX0_says_30 : decode cX0_says 30 = .ok (.goto 5, 3) := dk_167 0 5 (dk_at dksX0_says_1 6 rfl rfl)
theorem dX0_says_33 : decode cX0_says 33 = .ok (.bipush (-99), 2) := dk_16 157 (dk_at dksX0_says_1 9 rfl rfl)
theorem dX0_says_35 : decode cX0_says 35 = .ok (.bipush 99, 2) := dk_16 99 (dk_at dksX0_says_1 11 rfl rfl)
theorem dX0_says_37 : decode cX0_says 37 = .ok (.invokestatic 358, 3) := dk_184 1 102 (dk_at dksX0_says_1 13 rfl rfl)
theorem dX0_says_40 : decode cX0_says 40 = .ok (.ireturn, 1) := dk_172 (dk_at dksX0_says_1 16 rfl rfl)
abbrev cX0_held : ByteArray := prog_1_method_2_code
def yX0_held : MethodName := ⟨RX0, "held", "(III)I"⟩
def dkwX0_held_0 : List UInt8 := [27, 28, 26, 184, 0, 1, 184, 0, 7, 172]
abbrev dktX0_held_0 : List UInt8 := dkwX0_held_0 ++ []
theorem dksX0_held_0 : cX0_held.data.toList.drop 0 = dktX0_held_0 := by decide +kernel
theorem dX0_held_0 : decode cX0_held 0 = .ok (.iload_n 1, 1) := dk_27 (dk_at dksX0_held_0 0 rfl rfl)
theorem dX0_held_1 : decode cX0_held 1 = .ok (.iload_n 2, 1) := dk_28 (dk_at dksX0_held_0 1 rfl rfl)
theorem dX0_held_2 : decode cX0_held 2 = .ok (.iload_n 0, 1) := dk_26 (dk_at dksX0_held_0 2 rfl rfl)
theorem dX0_held_3 : decode cX0_held 3 = .ok (.invokestatic 1, 3) := dk_184 0 1 (dk_at dksX0_held_0 3 rfl rfl)
theorem dX0_held_6 : decode cX0_held 6 = .ok (.invokestatic 7, 3) := dk_184 0 7 (dk_at dksX0_held_0 6 rfl rfl)
theorem dX0_held_9 : decode cX0_held 9 = .ok (.ireturn, 1) := dk_172 (dk_at dksX0_held_0 9 rfl rfl)
abbrev cX0_putsOf : ByteArray := prog_1_method_41_code
def yX0_putsOf : MethodName := ⟨RX0, "putsOf", "(I)I"⟩
def dkwX0_putsOf_2 : List UInt8 := [182, 1, 106, 182, 1, 112, 3, 16, 99, 184, 1, 102, 172]
abbrev dktX0_putsOf_2 : List UInt8 := dkwX0_putsOf_2 ++ []
def dkwX0_putsOf_1 : List UInt8 := [180, 0, 53, 27, 50, 180, 0, 80, 104, 4, 96, 46, 96, 61, 42, 180, 0, 53, 27, 50, 42, 4, 27, 28]
abbrev dktX0_putsOf_1 : List UInt8 := dkwX0_putsOf_1 ++ dktX0_putsOf_2
def dkwX0_putsOf_0 : List UInt8 := [42, 180, 0, 71, 5, 42, 180, 0, 53, 27, 50, 180, 0, 80, 104, 46, 42, 180, 0, 71, 5, 42]
abbrev dktX0_putsOf_0 : List UInt8 := dkwX0_putsOf_0 ++ dktX0_putsOf_1
theorem dksX0_putsOf_0 : cX0_putsOf.data.toList.drop 0 = dktX0_putsOf_0 := by decide +kernel
theorem dksX0_putsOf_1 : cX0_putsOf.data.toList.drop 22 = dktX0_putsOf_1 := dk_seg dksX0_putsOf_0 22 rfl rfl
theorem dksX0_putsOf_2 : cX0_putsOf.data.toList.drop 46 = dktX0_putsOf_2 := dk_seg dksX0_putsOf_1 24 rfl rfl
theorem dX0_putsOf_0 : decode cX0_putsOf 0 = .ok (.aload_n 0, 1) := dk_42 (dk_at dksX0_putsOf_0 0 rfl rfl)
theorem dX0_putsOf_1 : decode cX0_putsOf 1 = .ok (.getfield 71, 3) := dk_180 0 71 (dk_at dksX0_putsOf_0 1 rfl rfl)
theorem dX0_putsOf_4 : decode cX0_putsOf 4 = .ok (.iconst 2, 1) := dk_5 (dk_at dksX0_putsOf_0 4 rfl rfl)
theorem dX0_putsOf_5 : decode cX0_putsOf 5 = .ok (.aload_n 0, 1) := dk_42 (dk_at dksX0_putsOf_0 5 rfl rfl)
theorem dX0_putsOf_6 : decode cX0_putsOf 6 = .ok (.getfield 53, 3) := dk_180 0 53 (dk_at dksX0_putsOf_0 6 rfl rfl)
theorem dX0_putsOf_9 : decode cX0_putsOf 9 = .ok (.iload_n 1, 1) := dk_27 (dk_at dksX0_putsOf_0 9 rfl rfl)
theorem dX0_putsOf_10 : decode cX0_putsOf 10 = .ok (.aaload, 1) := dk_50 (dk_at dksX0_putsOf_0 10 rfl rfl)
theorem dX0_putsOf_11 : decode cX0_putsOf 11 = .ok (.getfield 80, 3) := dk_180 0 80 (dk_at dksX0_putsOf_0 11 rfl rfl)
theorem dX0_putsOf_14 : decode cX0_putsOf 14 = .ok (.imul, 1) := dk_104 (dk_at dksX0_putsOf_0 14 rfl rfl)
theorem dX0_putsOf_15 : decode cX0_putsOf 15 = .ok (.iaload, 1) := dk_46 (dk_at dksX0_putsOf_0 15 rfl rfl)
theorem dX0_putsOf_16 : decode cX0_putsOf 16 = .ok (.aload_n 0, 1) := dk_42 (dk_at dksX0_putsOf_0 16 rfl rfl)
theorem dX0_putsOf_17 : decode cX0_putsOf 17 = .ok (.getfield 71, 3) := dk_180 0 71 (dk_at dksX0_putsOf_0 17 rfl rfl)
theorem dX0_putsOf_20 : decode cX0_putsOf 20 = .ok (.iconst 2, 1) := dk_5 (dk_at dksX0_putsOf_0 20 rfl rfl)
theorem dX0_putsOf_21 : decode cX0_putsOf 21 = .ok (.aload_n 0, 1) := dk_42 (dk_at dksX0_putsOf_0 21 rfl rfl)
theorem dX0_putsOf_22 : decode cX0_putsOf 22 = .ok (.getfield 53, 3) := dk_180 0 53 (dk_at dksX0_putsOf_1 0 rfl rfl)
theorem dX0_putsOf_25 : decode cX0_putsOf 25 = .ok (.iload_n 1, 1) := dk_27 (dk_at dksX0_putsOf_1 3 rfl rfl)
theorem dX0_putsOf_26 : decode cX0_putsOf 26 = .ok (.aaload, 1) := dk_50 (dk_at dksX0_putsOf_1 4 rfl rfl)
theorem dX0_putsOf_27 : decode cX0_putsOf 27 = .ok (.getfield 80, 3) := dk_180 0 80 (dk_at dksX0_putsOf_1 5 rfl rfl)
theorem dX0_putsOf_30 : decode cX0_putsOf 30 = .ok (.imul, 1) := dk_104 (dk_at dksX0_putsOf_1 8 rfl rfl)
theorem dX0_putsOf_31 : decode cX0_putsOf 31 = .ok (.iconst 1, 1) := dk_4 (dk_at dksX0_putsOf_1 9 rfl rfl)
theorem dX0_putsOf_32 : decode cX0_putsOf 32 = .ok (.iadd, 1) := dk_96 (dk_at dksX0_putsOf_1 10 rfl rfl)
theorem dX0_putsOf_33 : decode cX0_putsOf 33 = .ok (.iaload, 1) := dk_46 (dk_at dksX0_putsOf_1 11 rfl rfl)
theorem dX0_putsOf_34 : decode cX0_putsOf 34 = .ok (.iadd, 1) := dk_96 (dk_at dksX0_putsOf_1 12 rfl rfl)
theorem dX0_putsOf_35 : decode cX0_putsOf 35 = .ok (.istore_n 2, 1) := dk_61 (dk_at dksX0_putsOf_1 13 rfl rfl)
theorem dX0_putsOf_36 : decode cX0_putsOf 36 = .ok (.aload_n 0, 1) := dk_42 (dk_at dksX0_putsOf_1 14 rfl rfl)
theorem dX0_putsOf_37 : decode cX0_putsOf 37 = .ok (.getfield 53, 3) := dk_180 0 53 (dk_at dksX0_putsOf_1 15 rfl rfl)
theorem dX0_putsOf_40 : decode cX0_putsOf 40 = .ok (.iload_n 1, 1) := dk_27 (dk_at dksX0_putsOf_1 18 rfl rfl)
theorem dX0_putsOf_41 : decode cX0_putsOf 41 = .ok (.aaload, 1) := dk_50 (dk_at dksX0_putsOf_1 19 rfl rfl)
theorem dX0_putsOf_42 : decode cX0_putsOf 42 = .ok (.aload_n 0, 1) := dk_42 (dk_at dksX0_putsOf_1 20 rfl rfl)
theorem dX0_putsOf_43 : decode cX0_putsOf 43 = .ok (.iconst 1, 1) := dk_4 (dk_at dksX0_putsOf_1 21 rfl rfl)
theorem dX0_putsOf_44 : decode cX0_putsOf 44 = .ok (.iload_n 1, 1) := dk_27 (dk_at dksX0_putsOf_1 22 rfl rfl)
theorem dX0_putsOf_45 : decode cX0_putsOf 45 = .ok (.iload_n 2, 1) := dk_28 (dk_at dksX0_putsOf_1 23 rfl rfl)
theorem dX0_putsOf_46 : decode cX0_putsOf 46 = .ok (.invokevirtual 362, 3) := dk_182 1 106 (dk_at dksX0_putsOf_2 0 rfl rfl)
theorem dX0_putsOf_49 : decode cX0_putsOf 49 = .ok (.invokevirtual 368, 3) := dk_182 1 112 (dk_at dksX0_putsOf_2 3 rfl rfl)
theorem dX0_putsOf_52 : decode cX0_putsOf 52 = .ok (.iconst 0, 1) := dk_3 (dk_at dksX0_putsOf_2 6 rfl rfl)
theorem dX0_putsOf_53 : decode cX0_putsOf 53 = .ok (.bipush 99, 2) := dk_16 99 (dk_at dksX0_putsOf_2 7 rfl rfl)
theorem dX0_putsOf_55 : decode cX0_putsOf 55 = .ok (.invokestatic 358, 3) := dk_184 1 102 (dk_at dksX0_putsOf_2 9 rfl rfl)
theorem dX0_putsOf_58 : decode cX0_putsOf 58 = .ok (.ireturn, 1) := dk_172 (dk_at dksX0_putsOf_2 12 rfl rfl)
abbrev cX0_feed : ByteArray := prog_1_method_34_code
def yX0_feed : MethodName := ⟨RX0, "feed", "(I)I"⟩
def dkwX0_feed_2 : List UInt8 := [181, 0, 252, 42, 180, 0, 252, 172]
abbrev dktX0_feed_2 : List UInt8 := dkwX0_feed_2 ++ []
def dkwX0_feed_1 : List UInt8 := [160, 0, 6, 16, 252, 172, 42, 180, 0, 126, 42, 180, 0, 252, 27, 145, 84, 42, 89, 180, 0, 252, 4, 96]
abbrev dktX0_feed_1 : List UInt8 := dkwX0_feed_1 ++ dktX0_feed_2
def dkwX0_feed_0 : List UInt8 := [27, 133, 9, 20, 1, 13, 184, 0, 14, 154, 0, 6, 16, 254, 172, 42, 180, 0, 252, 17, 0, 160]
abbrev dktX0_feed_0 : List UInt8 := dkwX0_feed_0 ++ dktX0_feed_1
theorem dksX0_feed_0 : cX0_feed.data.toList.drop 0 = dktX0_feed_0 := by decide +kernel
theorem dksX0_feed_1 : cX0_feed.data.toList.drop 22 = dktX0_feed_1 := dk_seg dksX0_feed_0 22 rfl rfl
theorem dksX0_feed_2 : cX0_feed.data.toList.drop 46 = dktX0_feed_2 := dk_seg dksX0_feed_1 24 rfl rfl
theorem dX0_feed_0 : decode cX0_feed 0 = .ok (.iload_n 1, 1) := dk_27 (dk_at dksX0_feed_0 0 rfl rfl)
theorem dX0_feed_1 : decode cX0_feed 1 = .ok (.i2l, 1) := dk_133 (dk_at dksX0_feed_0 1 rfl rfl)
theorem dX0_feed_2 : decode cX0_feed 2 = .ok (.lconst 0, 1) := dk_9 (dk_at dksX0_feed_0 2 rfl rfl)
theorem dX0_feed_3 : decode cX0_feed 3 = .ok (.ldc2_w 269, 3) := dk_20 1 13 (dk_at dksX0_feed_0 3 rfl rfl)
theorem dX0_feed_6 : decode cX0_feed 6 = .ok (.invokestatic 14, 3) := dk_184 0 14 (dk_at dksX0_feed_0 6 rfl rfl)
theorem dX0_feed_9 : decode cX0_feed 9 = .ok (.ifCond .ne 6, 3) := dk_154 0 6 (dk_at dksX0_feed_0 9 rfl rfl)
theorem dX0_feed_12 : decode cX0_feed 12 = .ok (.bipush (-2), 2) := dk_16 254 (dk_at dksX0_feed_0 12 rfl rfl)
theorem dX0_feed_14 : decode cX0_feed 14 = .ok (.ireturn, 1) := dk_172 (dk_at dksX0_feed_0 14 rfl rfl)
theorem dX0_feed_15 : decode cX0_feed 15 = .ok (.aload_n 0, 1) := dk_42 (dk_at dksX0_feed_0 15 rfl rfl)
theorem dX0_feed_16 : decode cX0_feed 16 = .ok (.getfield 252, 3) := dk_180 0 252 (dk_at dksX0_feed_0 16 rfl rfl)
theorem dX0_feed_19 : decode cX0_feed 19 = .ok (.sipush 160, 3) := dk_17 0 160 (dk_at dksX0_feed_0 19 rfl rfl)
theorem dX0_feed_22 : decode cX0_feed 22 = .ok (.if_icmp .ne 6, 3) := dk_160 0 6 (dk_at dksX0_feed_1 0 rfl rfl)
theorem dX0_feed_25 : decode cX0_feed 25 = .ok (.bipush (-4), 2) := dk_16 252 (dk_at dksX0_feed_1 3 rfl rfl)
theorem dX0_feed_27 : decode cX0_feed 27 = .ok (.ireturn, 1) := dk_172 (dk_at dksX0_feed_1 5 rfl rfl)
theorem dX0_feed_28 : decode cX0_feed 28 = .ok (.aload_n 0, 1) := dk_42 (dk_at dksX0_feed_1 6 rfl rfl)
theorem dX0_feed_29 : decode cX0_feed 29 = .ok (.getfield 126, 3) := dk_180 0 126 (dk_at dksX0_feed_1 7 rfl rfl)
theorem dX0_feed_32 : decode cX0_feed 32 = .ok (.aload_n 0, 1) := dk_42 (dk_at dksX0_feed_1 10 rfl rfl)
theorem dX0_feed_33 : decode cX0_feed 33 = .ok (.getfield 252, 3) := dk_180 0 252 (dk_at dksX0_feed_1 11 rfl rfl)
theorem dX0_feed_36 : decode cX0_feed 36 = .ok (.iload_n 1, 1) := dk_27 (dk_at dksX0_feed_1 14 rfl rfl)
theorem dX0_feed_37 : decode cX0_feed 37 = .ok (.i2b, 1) := dk_145 (dk_at dksX0_feed_1 15 rfl rfl)
theorem dX0_feed_38 : decode cX0_feed 38 = .ok (.bastore, 1) := dk_84 (dk_at dksX0_feed_1 16 rfl rfl)
theorem dX0_feed_39 : decode cX0_feed 39 = .ok (.aload_n 0, 1) := dk_42 (dk_at dksX0_feed_1 17 rfl rfl)
theorem dX0_feed_40 : decode cX0_feed 40 = .ok (.dup, 1) := dk_89 (dk_at dksX0_feed_1 18 rfl rfl)
theorem dX0_feed_41 : decode cX0_feed 41 = .ok (.getfield 252, 3) := dk_180 0 252 (dk_at dksX0_feed_1 19 rfl rfl)
theorem dX0_feed_44 : decode cX0_feed 44 = .ok (.iconst 1, 1) := dk_4 (dk_at dksX0_feed_1 22 rfl rfl)
theorem dX0_feed_45 : decode cX0_feed 45 = .ok (.iadd, 1) := dk_96 (dk_at dksX0_feed_1 23 rfl rfl)
theorem dX0_feed_46 : decode cX0_feed 46 = .ok (.putfield 252, 3) := dk_181 0 252 (dk_at dksX0_feed_2 0 rfl rfl)
theorem dX0_feed_49 : decode cX0_feed 49 = .ok (.aload_n 0, 1) := dk_42 (dk_at dksX0_feed_2 3 rfl rfl)
theorem dX0_feed_50 : decode cX0_feed 50 = .ok (.getfield 252, 3) := dk_180 0 252 (dk_at dksX0_feed_2 4 rfl rfl)
theorem dX0_feed_53 : decode cX0_feed 53 = .ok (.ireturn, 1) := dk_172 (dk_at dksX0_feed_2 7 rfl rfl)
abbrev cX0_text : ByteArray := prog_1_method_35_code
def yX0_text : MethodName := ⟨RX0, "text", "()I"⟩
def dkwX0_text_0 : List UInt8 := [42, 180, 1, 7, 16, 6, 160, 0, 8, 16, 252, 167, 0, 7, 42, 182, 1, 10, 172]
abbrev dktX0_text_0 : List UInt8 := dkwX0_text_0 ++ []
theorem dksX0_text_0 : cX0_text.data.toList.drop 0 = dktX0_text_0 := by decide +kernel
theorem dX0_text_0 : decode cX0_text 0 = .ok (.aload_n 0, 1) := dk_42 (dk_at dksX0_text_0 0 rfl rfl)
theorem dX0_text_1 : decode cX0_text 1 = .ok (.getfield 263, 3) := dk_180 1 7 (dk_at dksX0_text_0 1 rfl rfl)
theorem dX0_text_4 : decode cX0_text 4 = .ok (.bipush 6, 2) := dk_16 6 (dk_at dksX0_text_0 4 rfl rfl)
theorem dX0_text_6 : decode cX0_text 6 = .ok (.if_icmp .ne 8, 3) := dk_160 0 8 (dk_at dksX0_text_0 6 rfl rfl)
theorem dX0_text_9 : decode cX0_text 9 = .ok (.bipush (-4), 2) := dk_16 252 (dk_at dksX0_text_0 9 rfl rfl)
theorem dX0_text_11 : decode cX0_text 11 = .ok (.goto 7, 3) := dk_167 0 7 (dk_at dksX0_text_0 11 rfl rfl)
theorem dX0_text_14 : decode cX0_text 14 = .ok (.aload_n 0, 1) := dk_42 (dk_at dksX0_text_0 14 rfl rfl)
theorem dX0_text_15 : decode cX0_text 15 = .ok (.invokevirtual 266, 3) := dk_182 1 10 (dk_at dksX0_text_0 15 rfl rfl)
theorem dX0_text_18 : decode cX0_text 18 = .ok (.ireturn, 1) := dk_172 (dk_at dksX0_text_0 18 rfl rfl)
abbrev cX0_newText : ByteArray := prog_1_method_32_code
def yX0_newText : MethodName := ⟨RX0, "newText", "()I"⟩
def dkwX0_newText_5 : List UInt8 := [100, 172]
abbrev dktX0_newText_5 : List UInt8 := dkwX0_newText_5 ++ []
def dkwX0_newText_4 : List UInt8 := [180, 1, 3, 42, 180, 1, 7, 43, 83, 42, 89, 180, 1, 7, 4, 96, 181, 1, 7, 42, 180, 1, 7, 4]
abbrev dktX0_newText_4 : List UInt8 := dkwX0_newText_4 ++ dktX0_newText_5
def dkwX0_newText_3 : List UInt8 := [180, 0, 147, 153, 0, 8, 42, 180, 0, 173, 191, 167, 0, 12, 77, 16, 156, 42, 180, 0, 144, 100, 172, 42]
abbrev dktX0_newText_3 : List UInt8 := dkwX0_newText_3 ++ dktX0_newText_4
def dkwX0_newText_2 : List UInt8 := [43, 28, 42, 182, 0, 249, 83, 42, 42, 16, 59, 182, 0, 230, 182, 0, 200, 132, 2, 1, 167, 255, 222, 42]
abbrev dktX0_newText_2 : List UInt8 := dkwX0_newText_2 ++ dktX0_newText_3
def dkwX0_newText_1 : List UInt8 := [189, 0, 255, 76, 42, 182, 0, 194, 3, 61, 28, 6, 162, 0, 35, 42, 42, 28, 182, 0, 208, 182, 0, 200]
abbrev dktX0_newText_1 : List UInt8 := dkwX0_newText_1 ++ dktX0_newText_2
def dkwX0_newText_0 : List UInt8 := [42, 42, 180, 0, 252, 181, 0, 123, 42, 3, 181, 0, 252, 42, 3, 181, 0, 138, 42, 3, 181, 0, 197, 6]
abbrev dktX0_newText_0 : List UInt8 := dkwX0_newText_0 ++ dktX0_newText_1
theorem dksX0_newText_0 : cX0_newText.data.toList.drop 0 = dktX0_newText_0 := by decide +kernel
theorem dksX0_newText_1 : cX0_newText.data.toList.drop 24 = dktX0_newText_1 := dk_seg dksX0_newText_0 24 rfl rfl
theorem dksX0_newText_2 : cX0_newText.data.toList.drop 48 = dktX0_newText_2 := dk_seg dksX0_newText_1 24 rfl rfl
theorem dksX0_newText_3 : cX0_newText.data.toList.drop 72 = dktX0_newText_3 := dk_seg dksX0_newText_2 24 rfl rfl
theorem dksX0_newText_4 : cX0_newText.data.toList.drop 96 = dktX0_newText_4 := dk_seg dksX0_newText_3 24 rfl rfl
theorem dksX0_newText_5 : cX0_newText.data.toList.drop 120 = dktX0_newText_5 := dk_seg dksX0_newText_4 24 rfl rfl
theorem dX0_newText_0 : decode cX0_newText 0 = .ok (.aload_n 0, 1) := dk_42 (dk_at dksX0_newText_0 0 rfl rfl)
theorem dX0_newText_1 : decode cX0_newText 1 = .ok (.aload_n 0, 1) := dk_42 (dk_at dksX0_newText_0 1 rfl rfl)
theorem dX0_newText_2 : decode cX0_newText 2 = .ok (.getfield 252, 3) := dk_180 0 252 (dk_at dksX0_newText_0 2 rfl rfl)
theorem dX0_newText_5 : decode cX0_newText 5 = .ok (.putfield 123, 3) := dk_181 0 123 (dk_at dksX0_newText_0 5 rfl rfl)
theorem dX0_newText_8 : decode cX0_newText 8 = .ok (.aload_n 0, 1) := dk_42 (dk_at dksX0_newText_0 8 rfl rfl)
theorem dX0_newText_9 : decode cX0_newText 9 = .ok (.iconst 0, 1) := dk_3 (dk_at dksX0_newText_0 9 rfl rfl)
theorem dX0_newText_10 : decode cX0_newText 10 = .ok (.putfield 252, 3) := dk_181 0 252 (dk_at dksX0_newText_0 10 rfl rfl)
theorem dX0_newText_13 : decode cX0_newText 13 = .ok (.aload_n 0, 1) := dk_42 (dk_at dksX0_newText_0 13 rfl rfl)
theorem dX0_newText_14 : decode cX0_newText 14 = .ok (.iconst 0, 1) := dk_3 (dk_at dksX0_newText_0 14 rfl rfl)
theorem dX0_newText_15 : decode cX0_newText 15 = .ok (.putfield 138, 3) := dk_181 0 138 (dk_at dksX0_newText_0 15 rfl rfl)
theorem dX0_newText_18 : decode cX0_newText 18 = .ok (.aload_n 0, 1) := dk_42 (dk_at dksX0_newText_0 18 rfl rfl)
theorem dX0_newText_19 : decode cX0_newText 19 = .ok (.iconst 0, 1) := dk_3 (dk_at dksX0_newText_0 19 rfl rfl)
theorem dX0_newText_20 : decode cX0_newText 20 = .ok (.putfield 197, 3) := dk_181 0 197 (dk_at dksX0_newText_0 20 rfl rfl)
theorem dX0_newText_23 : decode cX0_newText 23 = .ok (.iconst 3, 1) := dk_6 (dk_at dksX0_newText_0 23 rfl rfl)
theorem dX0_newText_24 : decode cX0_newText 24 = .ok (.anewarray 255, 3) := dk_189 0 255 (dk_at dksX0_newText_1 0 rfl rfl)
theorem dX0_newText_27 : decode cX0_newText 27 = .ok (.astore_n 1, 1) := dk_76 (dk_at dksX0_newText_1 3 rfl rfl)
theorem dX0_newText_28 : decode cX0_newText 28 = .ok (.aload_n 0, 1) := dk_42 (dk_at dksX0_newText_1 4 rfl rfl)
theorem dX0_newText_29 : decode cX0_newText 29 = .ok (.invokevirtual 194, 3) := dk_182 0 194 (dk_at dksX0_newText_1 5 rfl rfl)
theorem dX0_newText_32 : decode cX0_newText 32 = .ok (.iconst 0, 1) := dk_3 (dk_at dksX0_newText_1 8 rfl rfl)
theorem dX0_newText_33 : decode cX0_newText 33 = .ok (.istore_n 2, 1) := dk_61 (dk_at dksX0_newText_1 9 rfl rfl)
theorem dX0_newText_34 : decode cX0_newText 34 = .ok (.iload_n 2, 1) := dk_28 (dk_at dksX0_newText_1 10 rfl rfl)
theorem dX0_newText_35 : decode cX0_newText 35 = .ok (.iconst 3, 1) := dk_6 (dk_at dksX0_newText_1 11 rfl rfl)
theorem dX0_newText_36 : decode cX0_newText 36 = .ok (.if_icmp .ge 35, 3) := dk_162 0 35 (dk_at dksX0_newText_1 12 rfl rfl)
theorem dX0_newText_39 : decode cX0_newText 39 = .ok (.aload_n 0, 1) := dk_42 (dk_at dksX0_newText_1 15 rfl rfl)
theorem dX0_newText_40 : decode cX0_newText 40 = .ok (.aload_n 0, 1) := dk_42 (dk_at dksX0_newText_1 16 rfl rfl)
theorem dX0_newText_41 : decode cX0_newText 41 = .ok (.iload_n 2, 1) := dk_28 (dk_at dksX0_newText_1 17 rfl rfl)
theorem dX0_newText_42 : decode cX0_newText 42 = .ok (.invokevirtual 208, 3) := dk_182 0 208 (dk_at dksX0_newText_1 18 rfl rfl)
theorem dX0_newText_45 : decode cX0_newText 45 = .ok (.invokevirtual 200, 3) := dk_182 0 200 (dk_at dksX0_newText_1 21 rfl rfl)
theorem dX0_newText_48 : decode cX0_newText 48 = .ok (.aload_n 1, 1) := dk_43 (dk_at dksX0_newText_2 0 rfl rfl)
theorem dX0_newText_49 : decode cX0_newText 49 = .ok (.iload_n 2, 1) := dk_28 (dk_at dksX0_newText_2 1 rfl rfl)
theorem dX0_newText_50 : decode cX0_newText 50 = .ok (.aload_n 0, 1) := dk_42 (dk_at dksX0_newText_2 2 rfl rfl)
theorem dX0_newText_51 : decode cX0_newText 51 = .ok (.invokevirtual 249, 3) := dk_182 0 249 (dk_at dksX0_newText_2 3 rfl rfl)
theorem dX0_newText_54 : decode cX0_newText 54 = .ok (.aastore, 1) := dk_83 (dk_at dksX0_newText_2 6 rfl rfl)
theorem dX0_newText_55 : decode cX0_newText 55 = .ok (.aload_n 0, 1) := dk_42 (dk_at dksX0_newText_2 7 rfl rfl)
theorem dX0_newText_56 : decode cX0_newText 56 = .ok (.aload_n 0, 1) := dk_42 (dk_at dksX0_newText_2 8 rfl rfl)
theorem dX0_newText_57 : decode cX0_newText 57 = .ok (.bipush 59, 2) := dk_16 59 (dk_at dksX0_newText_2 9 rfl rfl)
theorem dX0_newText_59 : decode cX0_newText 59 = .ok (.invokevirtual 230, 3) := dk_182 0 230 (dk_at dksX0_newText_2 11 rfl rfl)
theorem dX0_newText_62 : decode cX0_newText 62 = .ok (.invokevirtual 200, 3) := dk_182 0 200 (dk_at dksX0_newText_2 14 rfl rfl)
theorem dX0_newText_65 : decode cX0_newText 65 = .ok (.iinc 2 1, 3) := dk_132 2 1 (dk_at dksX0_newText_2 17 rfl rfl)
theorem dX0_newText_68 : decode cX0_newText 68 = .ok (.goto (-34), 3) := dk_167 255 222 (dk_at dksX0_newText_2 20 rfl rfl)
theorem dX0_newText_71 : decode cX0_newText 71 = .ok (.aload_n 0, 1) := dk_42 (dk_at dksX0_newText_2 23 rfl rfl)
theorem dX0_newText_72 : decode cX0_newText 72 = .ok (.getfield 147, 3) := dk_180 0 147 (dk_at dksX0_newText_3 0 rfl rfl)
theorem dX0_newText_75 : decode cX0_newText 75 = .ok (.ifCond .eq 8, 3) := dk_153 0 8 (dk_at dksX0_newText_3 3 rfl rfl)
theorem dX0_newText_78 : decode cX0_newText 78 = .ok (.aload_n 0, 1) := dk_42 (dk_at dksX0_newText_3 6 rfl rfl)
theorem dX0_newText_79 : decode cX0_newText 79 = .ok (.getfield 173, 3) := dk_180 0 173 (dk_at dksX0_newText_3 7 rfl rfl)
theorem dX0_newText_82 : decode cX0_newText 82 = .ok (.athrow, 1) := dk_191 (dk_at dksX0_newText_3 10 rfl rfl)
theorem dX0_newText_83 : decode cX0_newText 83 = .ok (.goto 12, 3) := dk_167 0 12 (dk_at dksX0_newText_3 11 rfl rfl)
theorem dX0_newText_86 : decode cX0_newText 86 = .ok (.astore_n 2, 1) := dk_77 (dk_at dksX0_newText_3 14 rfl rfl)
theorem dX0_newText_87 : decode cX0_newText 87 = .ok (.bipush (-100), 2) := dk_16 156 (dk_at dksX0_newText_3 15 rfl rfl)
theorem dX0_newText_89 : decode cX0_newText 89 = .ok (.aload_n 0, 1) := dk_42 (dk_at dksX0_newText_3 17 rfl rfl)
theorem dX0_newText_90 : decode cX0_newText 90 = .ok (.getfield 144, 3) := dk_180 0 144 (dk_at dksX0_newText_3 18 rfl rfl)
theorem dX0_newText_93 : decode cX0_newText 93 = .ok (.isub, 1) := dk_100 (dk_at dksX0_newText_3 21 rfl rfl)
theorem dX0_newText_94 : decode cX0_newText 94 = .ok (.ireturn, 1) := dk_172 (dk_at dksX0_newText_3 22 rfl rfl)
theorem dX0_newText_95 : decode cX0_newText 95 = .ok (.aload_n 0, 1) := dk_42 (dk_at dksX0_newText_3 23 rfl rfl)
theorem dX0_newText_96 : decode cX0_newText 96 = .ok (.getfield 259, 3) := dk_180 1 3 (dk_at dksX0_newText_4 0 rfl rfl)
theorem dX0_newText_99 : decode cX0_newText 99 = .ok (.aload_n 0, 1) := dk_42 (dk_at dksX0_newText_4 3 rfl rfl)
theorem dX0_newText_100 : decode cX0_newText 100 = .ok (.getfield 263, 3) := dk_180 1 7 (dk_at dksX0_newText_4 4 rfl rfl)
theorem dX0_newText_103 : decode cX0_newText 103 = .ok (.aload_n 1, 1) := dk_43 (dk_at dksX0_newText_4 7 rfl rfl)
theorem dX0_newText_104 : decode cX0_newText 104 = .ok (.aastore, 1) := dk_83 (dk_at dksX0_newText_4 8 rfl rfl)
theorem dX0_newText_105 : decode cX0_newText 105 = .ok (.aload_n 0, 1) := dk_42 (dk_at dksX0_newText_4 9 rfl rfl)
theorem dX0_newText_106 : decode cX0_newText 106 = .ok (.dup, 1) := dk_89 (dk_at dksX0_newText_4 10 rfl rfl)
theorem dX0_newText_107 : decode cX0_newText 107 = .ok (.getfield 263, 3) := dk_180 1 7 (dk_at dksX0_newText_4 11 rfl rfl)
theorem dX0_newText_110 : decode cX0_newText 110 = .ok (.iconst 1, 1) := dk_4 (dk_at dksX0_newText_4 14 rfl rfl)
theorem dX0_newText_111 : decode cX0_newText 111 = .ok (.iadd, 1) := dk_96 (dk_at dksX0_newText_4 15 rfl rfl)
theorem dX0_newText_112 : decode cX0_newText 112 = .ok (.putfield 263, 3) := dk_181 1 7 (dk_at dksX0_newText_4 16 rfl rfl)
theorem dX0_newText_115 : decode cX0_newText 115 = .ok (.aload_n 0, 1) := dk_42 (dk_at dksX0_newText_4 19 rfl rfl)
theorem dX0_newText_116 : decode cX0_newText 116 = .ok (.getfield 263, 3) := dk_180 1 7 (dk_at dksX0_newText_4 20 rfl rfl)
theorem dX0_newText_119 : decode cX0_newText 119 = .ok (.iconst 1, 1) := dk_4 (dk_at dksX0_newText_4 23 rfl rfl)
theorem dX0_newText_120 : decode cX0_newText 120 = .ok (.isub, 1) := dk_100 (dk_at dksX0_newText_5 0 rfl rfl)
theorem dX0_newText_121 : decode cX0_newText 121 = .ok (.ireturn, 1) := dk_172 (dk_at dksX0_newText_5 1 rfl rfl)
abbrev cX0_next : ByteArray := prog_1_method_18_code
def yX0_next : MethodName := ⟨RX0, "next", "()V"⟩
def dkwX0_next_5 : List UInt8 := [18, 166, 27, 182, 0, 168, 156, 0, 8, 42, 180, 0, 173, 191, 177]
abbrev dktX0_next_5 : List UInt8 := dkwX0_next_5 ++ []
def dkwX0_next_4 : List UInt8 := [167, 0, 37, 42, 7, 181, 0, 147, 42, 27, 181, 0, 163, 42, 89, 180, 0, 138, 4, 96, 181, 0, 138]
abbrev dktX0_next_4 : List UInt8 := dkwX0_next_4 ++ dktX0_next_5
def dkwX0_next_3 : List UInt8 := [184, 0, 150, 153, 0, 10, 42, 182, 0, 153, 167, 0, 51, 27, 184, 0, 157, 153, 0, 10, 42, 182, 0, 160]
abbrev dktX0_next_3 : List UInt8 := dkwX0_next_3 ++ dktX0_next_4
def dkwX0_next_2 : List UInt8 := [42, 42, 180, 0, 138, 182, 0, 141, 60, 27, 2, 160, 0, 11, 42, 3, 181, 0, 147, 167, 0, 65, 27]
abbrev dktX0_next_2 : List UInt8 := dkwX0_next_2 ++ dktX0_next_3
def dkwX0_next_1 : List UInt8 := [160, 0, 16, 42, 89, 180, 0, 138, 4, 96, 181, 0, 138, 167, 255, 220, 42, 42, 180, 0, 138, 181, 0, 144]
abbrev dktX0_next_1 : List UInt8 := dkwX0_next_1 ++ dktX0_next_2
def dkwX0_next_0 : List UInt8 := [42, 42, 180, 0, 138, 182, 0, 141, 16, 32, 159, 0, 16, 42, 42, 180, 0, 138, 182, 0, 141, 16, 10]
abbrev dktX0_next_0 : List UInt8 := dkwX0_next_0 ++ dktX0_next_1
theorem dksX0_next_0 : cX0_next.data.toList.drop 0 = dktX0_next_0 := by decide +kernel
theorem dksX0_next_1 : cX0_next.data.toList.drop 23 = dktX0_next_1 := dk_seg dksX0_next_0 23 rfl rfl
theorem dksX0_next_2 : cX0_next.data.toList.drop 47 = dktX0_next_2 := dk_seg dksX0_next_1 24 rfl rfl
theorem dksX0_next_3 : cX0_next.data.toList.drop 70 = dktX0_next_3 := dk_seg dksX0_next_2 23 rfl rfl
theorem dksX0_next_4 : cX0_next.data.toList.drop 94 = dktX0_next_4 := dk_seg dksX0_next_3 24 rfl rfl
theorem dksX0_next_5 : cX0_next.data.toList.drop 117 = dktX0_next_5 := dk_seg dksX0_next_4 23 rfl rfl
theorem dX0_next_0 : decode cX0_next 0 = .ok (.aload_n 0, 1) := dk_42 (dk_at dksX0_next_0 0 rfl rfl)
theorem dX0_next_1 : decode cX0_next 1 = .ok (.aload_n 0, 1) := dk_42 (dk_at dksX0_next_0 1 rfl rfl)
theorem dX0_next_2 : decode cX0_next 2 = .ok (.getfield 138, 3) := dk_180 0 138 (dk_at dksX0_next_0 2 rfl rfl)
theorem dX0_next_5 : decode cX0_next 5 = .ok (.invokevirtual 141, 3) := dk_182 0 141 (dk_at dksX0_next_0 5 rfl rfl)
theorem dX0_next_8 : decode cX0_next 8 = .ok (.bipush 32, 2) := dk_16 32 (dk_at dksX0_next_0 8 rfl rfl)
theorem dX0_next_10 : decode cX0_next 10 = .ok (.if_icmp .eq 16, 3) := dk_159 0 16 (dk_at dksX0_next_0 10 rfl rfl)
theorem dX0_next_13 : decode cX0_next 13 = .ok (.aload_n 0, 1) := dk_42 (dk_at dksX0_next_0 13 rfl rfl)
theorem dX0_next_14 : decode cX0_next 14 = .ok (.aload_n 0, 1) := dk_42 (dk_at dksX0_next_0 14 rfl rfl)
theorem dX0_next_15 : decode cX0_next 15 = .ok (.getfield 138, 3) := dk_180 0 138 (dk_at dksX0_next_0 15 rfl rfl)
theorem dX0_next_18 : decode cX0_next 18 = .ok (.invokevirtual 141, 3) := dk_182 0 141 (dk_at dksX0_next_0 18 rfl rfl)
theorem dX0_next_21 : decode cX0_next 21 = .ok (.bipush 10, 2) := dk_16 10 (dk_at dksX0_next_0 21 rfl rfl)
theorem dX0_next_23 : decode cX0_next 23 = .ok (.if_icmp .ne 16, 3) := dk_160 0 16 (dk_at dksX0_next_1 0 rfl rfl)
theorem dX0_next_26 : decode cX0_next 26 = .ok (.aload_n 0, 1) := dk_42 (dk_at dksX0_next_1 3 rfl rfl)
theorem dX0_next_27 : decode cX0_next 27 = .ok (.dup, 1) := dk_89 (dk_at dksX0_next_1 4 rfl rfl)
theorem dX0_next_28 : decode cX0_next 28 = .ok (.getfield 138, 3) := dk_180 0 138 (dk_at dksX0_next_1 5 rfl rfl)
theorem dX0_next_31 : decode cX0_next 31 = .ok (.iconst 1, 1) := dk_4 (dk_at dksX0_next_1 8 rfl rfl)
theorem dX0_next_32 : decode cX0_next 32 = .ok (.iadd, 1) := dk_96 (dk_at dksX0_next_1 9 rfl rfl)
theorem dX0_next_33 : decode cX0_next 33 = .ok (.putfield 138, 3) := dk_181 0 138 (dk_at dksX0_next_1 10 rfl rfl)
theorem dX0_next_36 : decode cX0_next 36 = .ok (.goto (-36), 3) := dk_167 255 220 (dk_at dksX0_next_1 13 rfl rfl)
theorem dX0_next_39 : decode cX0_next 39 = .ok (.aload_n 0, 1) := dk_42 (dk_at dksX0_next_1 16 rfl rfl)
theorem dX0_next_40 : decode cX0_next 40 = .ok (.aload_n 0, 1) := dk_42 (dk_at dksX0_next_1 17 rfl rfl)
theorem dX0_next_41 : decode cX0_next 41 = .ok (.getfield 138, 3) := dk_180 0 138 (dk_at dksX0_next_1 18 rfl rfl)
theorem dX0_next_44 : decode cX0_next 44 = .ok (.putfield 144, 3) := dk_181 0 144 (dk_at dksX0_next_1 21 rfl rfl)
theorem dX0_next_47 : decode cX0_next 47 = .ok (.aload_n 0, 1) := dk_42 (dk_at dksX0_next_2 0 rfl rfl)
theorem dX0_next_48 : decode cX0_next 48 = .ok (.aload_n 0, 1) := dk_42 (dk_at dksX0_next_2 1 rfl rfl)
theorem dX0_next_49 : decode cX0_next 49 = .ok (.getfield 138, 3) := dk_180 0 138 (dk_at dksX0_next_2 2 rfl rfl)
theorem dX0_next_52 : decode cX0_next 52 = .ok (.invokevirtual 141, 3) := dk_182 0 141 (dk_at dksX0_next_2 5 rfl rfl)
theorem dX0_next_55 : decode cX0_next 55 = .ok (.istore_n 1, 1) := dk_60 (dk_at dksX0_next_2 8 rfl rfl)
theorem dX0_next_56 : decode cX0_next 56 = .ok (.iload_n 1, 1) := dk_27 (dk_at dksX0_next_2 9 rfl rfl)
theorem dX0_next_57 : decode cX0_next 57 = .ok (.iconst (-1), 1) := dk_2 (dk_at dksX0_next_2 10 rfl rfl)
theorem dX0_next_58 : decode cX0_next 58 = .ok (.if_icmp .ne 11, 3) := dk_160 0 11 (dk_at dksX0_next_2 11 rfl rfl)
theorem dX0_next_61 : decode cX0_next 61 = .ok (.aload_n 0, 1) := dk_42 (dk_at dksX0_next_2 14 rfl rfl)
theorem dX0_next_62 : decode cX0_next 62 = .ok (.iconst 0, 1) := dk_3 (dk_at dksX0_next_2 15 rfl rfl)
theorem dX0_next_63 : decode cX0_next 63 = .ok (.putfield 147, 3) := dk_181 0 147 (dk_at dksX0_next_2 16 rfl rfl)
theorem dX0_next_66 : decode cX0_next 66 = .ok (.goto 65, 3) := dk_167 0 65 (dk_at dksX0_next_2 19 rfl rfl)
theorem dX0_next_69 : decode cX0_next 69 = .ok (.iload_n 1, 1) := dk_27 (dk_at dksX0_next_2 22 rfl rfl)
theorem dX0_next_70 : decode cX0_next 70 = .ok (.invokestatic 150, 3) := dk_184 0 150 (dk_at dksX0_next_3 0 rfl rfl)
theorem dX0_next_73 : decode cX0_next 73 = .ok (.ifCond .eq 10, 3) := dk_153 0 10 (dk_at dksX0_next_3 3 rfl rfl)
theorem dX0_next_76 : decode cX0_next 76 = .ok (.aload_n 0, 1) := dk_42 (dk_at dksX0_next_3 6 rfl rfl)
theorem dX0_next_77 : decode cX0_next 77 = .ok (.invokevirtual 153, 3) := dk_182 0 153 (dk_at dksX0_next_3 7 rfl rfl)
theorem dX0_next_80 : decode cX0_next 80 = .ok (.goto 51, 3) := dk_167 0 51 (dk_at dksX0_next_3 10 rfl rfl)
theorem dX0_next_83 : decode cX0_next 83 = .ok (.iload_n 1, 1) := dk_27 (dk_at dksX0_next_3 13 rfl rfl)
theorem dX0_next_84 : decode cX0_next 84 = .ok (.invokestatic 157, 3) := dk_184 0 157 (dk_at dksX0_next_3 14 rfl rfl)
theorem dX0_next_87 : decode cX0_next 87 = .ok (.ifCond .eq 10, 3) := dk_153 0 10 (dk_at dksX0_next_3 17 rfl rfl)
theorem dX0_next_90 : decode cX0_next 90 = .ok (.aload_n 0, 1) := dk_42 (dk_at dksX0_next_3 20 rfl rfl)
theorem dX0_next_91 : decode cX0_next 91 = .ok (.invokevirtual 160, 3) := dk_182 0 160 (dk_at dksX0_next_3 21 rfl rfl)
theorem dX0_next_94 : decode cX0_next 94 = .ok (.goto 37, 3) := dk_167 0 37 (dk_at dksX0_next_4 0 rfl rfl)
theorem dX0_next_97 : decode cX0_next 97 = .ok (.aload_n 0, 1) := dk_42 (dk_at dksX0_next_4 3 rfl rfl)
theorem dX0_next_98 : decode cX0_next 98 = .ok (.iconst 4, 1) := dk_7 (dk_at dksX0_next_4 4 rfl rfl)
theorem dX0_next_99 : decode cX0_next 99 = .ok (.putfield 147, 3) := dk_181 0 147 (dk_at dksX0_next_4 5 rfl rfl)
theorem dX0_next_102 : decode cX0_next 102 = .ok (.aload_n 0, 1) := dk_42 (dk_at dksX0_next_4 8 rfl rfl)
theorem dX0_next_103 : decode cX0_next 103 = .ok (.iload_n 1, 1) := dk_27 (dk_at dksX0_next_4 9 rfl rfl)
theorem dX0_next_104 : decode cX0_next 104 = .ok (.putfield 163, 3) := dk_181 0 163 (dk_at dksX0_next_4 10 rfl rfl)
theorem dX0_next_107 : decode cX0_next 107 = .ok (.aload_n 0, 1) := dk_42 (dk_at dksX0_next_4 13 rfl rfl)
theorem dX0_next_108 : decode cX0_next 108 = .ok (.dup, 1) := dk_89 (dk_at dksX0_next_4 14 rfl rfl)
theorem dX0_next_109 : decode cX0_next 109 = .ok (.getfield 138, 3) := dk_180 0 138 (dk_at dksX0_next_4 15 rfl rfl)
theorem dX0_next_112 : decode cX0_next 112 = .ok (.iconst 1, 1) := dk_4 (dk_at dksX0_next_4 18 rfl rfl)
theorem dX0_next_113 : decode cX0_next 113 = .ok (.iadd, 1) := dk_96 (dk_at dksX0_next_4 19 rfl rfl)
theorem dX0_next_114 : decode cX0_next 114 = .ok (.putfield 138, 3) := dk_181 0 138 (dk_at dksX0_next_4 20 rfl rfl)
theorem dX0_next_117 : decode cX0_next 117 = .ok (.ldc 166, 2) := dk_18 166 (dk_at dksX0_next_5 0 rfl rfl)
theorem dX0_next_119 : decode cX0_next 119 = .ok (.iload_n 1, 1) := dk_27 (dk_at dksX0_next_5 2 rfl rfl)
theorem dX0_next_120 : decode cX0_next 120 = .ok (.invokevirtual 168, 3) := dk_182 0 168 (dk_at dksX0_next_5 3 rfl rfl)
theorem dX0_next_123 : decode cX0_next 123 = .ok (.ifCond .ge 8, 3) := dk_156 0 8 (dk_at dksX0_next_5 6 rfl rfl)
theorem dX0_next_126 : decode cX0_next 126 = .ok (.aload_n 0, 1) := dk_42 (dk_at dksX0_next_5 9 rfl rfl)
theorem dX0_next_127 : decode cX0_next 127 = .ok (.getfield 173, 3) := dk_180 0 173 (dk_at dksX0_next_5 10 rfl rfl)
theorem dX0_next_130 : decode cX0_next 130 = .ok (.athrow, 1) := dk_191 (dk_at dksX0_next_5 13 rfl rfl)
theorem dX0_next_131 : decode cX0_next 131 = .ok (.return_, 1) := dk_177 (dk_at dksX0_next_5 14 rfl rfl)
abbrev cX0_byteAt : ByteArray := prog_1_method_15_code
def yX0_byteAt : MethodName := ⟨RX0, "byteAt", "(I)I"⟩
def dkwX0_byteAt_0 : List UInt8 := [27, 42, 180, 0, 123, 162, 0, 16, 42, 180, 0, 126, 27, 51, 17, 0, 255, 126, 167, 0, 4, 2, 172]
abbrev dktX0_byteAt_0 : List UInt8 := dkwX0_byteAt_0 ++ []
theorem dksX0_byteAt_0 : cX0_byteAt.data.toList.drop 0 = dktX0_byteAt_0 := by decide +kernel
theorem dX0_byteAt_0 : decode cX0_byteAt 0 = .ok (.iload_n 1, 1) := dk_27 (dk_at dksX0_byteAt_0 0 rfl rfl)
theorem dX0_byteAt_1 : decode cX0_byteAt 1 = .ok (.aload_n 0, 1) := dk_42 (dk_at dksX0_byteAt_0 1 rfl rfl)
theorem dX0_byteAt_2 : decode cX0_byteAt 2 = .ok (.getfield 123, 3) := dk_180 0 123 (dk_at dksX0_byteAt_0 2 rfl rfl)
theorem dX0_byteAt_5 : decode cX0_byteAt 5 = .ok (.if_icmp .ge 16, 3) := dk_162 0 16 (dk_at dksX0_byteAt_0 5 rfl rfl)
theorem dX0_byteAt_8 : decode cX0_byteAt 8 = .ok (.aload_n 0, 1) := dk_42 (dk_at dksX0_byteAt_0 8 rfl rfl)
theorem dX0_byteAt_9 : decode cX0_byteAt 9 = .ok (.getfield 126, 3) := dk_180 0 126 (dk_at dksX0_byteAt_0 9 rfl rfl)
theorem dX0_byteAt_12 : decode cX0_byteAt 12 = .ok (.iload_n 1, 1) := dk_27 (dk_at dksX0_byteAt_0 12 rfl rfl)
theorem dX0_byteAt_13 : decode cX0_byteAt 13 = .ok (.baload, 1) := dk_51 (dk_at dksX0_byteAt_0 13 rfl rfl)
theorem dX0_byteAt_14 : decode cX0_byteAt 14 = .ok (.sipush 255, 3) := dk_17 0 255 (dk_at dksX0_byteAt_0 14 rfl rfl)
theorem dX0_byteAt_17 : decode cX0_byteAt 17 = .ok (.iand, 1) := dk_126 (dk_at dksX0_byteAt_0 17 rfl rfl)
theorem dX0_byteAt_18 : decode cX0_byteAt 18 = .ok (.goto 4, 3) := dk_167 0 4 (dk_at dksX0_byteAt_0 18 rfl rfl)
theorem dX0_byteAt_21 : decode cX0_byteAt 21 = .ok (.iconst (-1), 1) := dk_2 (dk_at dksX0_byteAt_0 21 rfl rfl)
theorem dX0_byteAt_22 : decode cX0_byteAt 22 = .ok (.ireturn, 1) := dk_172 (dk_at dksX0_byteAt_0 22 rfl rfl)
abbrev cX0_isLetter : ByteArray := prog_1_method_16_code
def yX0_isLetter : MethodName := ⟨RX0, "isLetter", "(I)Z"⟩
def dkwX0_isLetter_0 : List UInt8 := [26, 133, 20, 0, 130, 20, 0, 132, 184, 0, 14, 172]
abbrev dktX0_isLetter_0 : List UInt8 := dkwX0_isLetter_0 ++ []
theorem dksX0_isLetter_0 : cX0_isLetter.data.toList.drop 0 = dktX0_isLetter_0 := by decide +kernel
theorem dX0_isLetter_0 : decode cX0_isLetter 0 = .ok (.iload_n 0, 1) := dk_26 (dk_at dksX0_isLetter_0 0 rfl rfl)
theorem dX0_isLetter_1 : decode cX0_isLetter 1 = .ok (.i2l, 1) := dk_133 (dk_at dksX0_isLetter_0 1 rfl rfl)
theorem dX0_isLetter_2 : decode cX0_isLetter 2 = .ok (.ldc2_w 130, 3) := dk_20 0 130 (dk_at dksX0_isLetter_0 2 rfl rfl)
theorem dX0_isLetter_5 : decode cX0_isLetter 5 = .ok (.ldc2_w 132, 3) := dk_20 0 132 (dk_at dksX0_isLetter_0 5 rfl rfl)
theorem dX0_isLetter_8 : decode cX0_isLetter 8 = .ok (.invokestatic 14, 3) := dk_184 0 14 (dk_at dksX0_isLetter_0 8 rfl rfl)
theorem dX0_isLetter_11 : decode cX0_isLetter 11 = .ok (.ireturn, 1) := dk_172 (dk_at dksX0_isLetter_0 11 rfl rfl)
abbrev cX0_word : ByteArray := prog_1_method_20_code
def yX0_word : MethodName := ⟨RX0, "word", "()V"⟩
def dkwX0_word_3 : List UInt8 := [42, 180, 0, 163, 2, 160, 0, 8, 42, 180, 0, 173, 191, 177]
abbrev dktX0_word_3 : List UInt8 := dkwX0_word_3 ++ []
def dkwX0_word_2 : List UInt8 := [181, 0, 147, 42, 27, 2, 160, 0, 14, 42, 42, 180, 0, 191, 182, 0, 187, 167, 0, 4, 27, 181, 0, 163]
abbrev dktX0_word_2 : List UInt8 := dkwX0_word_2 ++ dktX0_word_3
def dkwX0_word_1 : List UInt8 := [167, 255, 232, 42, 42, 180, 0, 183, 182, 0, 187, 60, 42, 27, 2, 160, 0, 7, 5, 167, 0, 4, 4]
abbrev dktX0_word_1 : List UInt8 := dkwX0_word_1 ++ dktX0_word_2
def dkwX0_word_0 : List UInt8 := [42, 42, 180, 0, 138, 182, 0, 141, 184, 0, 150, 153, 0, 16, 42, 89, 180, 0, 138, 4, 96, 181, 0, 138]
abbrev dktX0_word_0 : List UInt8 := dkwX0_word_0 ++ dktX0_word_1
theorem dksX0_word_0 : cX0_word.data.toList.drop 0 = dktX0_word_0 := by decide +kernel
theorem dksX0_word_1 : cX0_word.data.toList.drop 24 = dktX0_word_1 := dk_seg dksX0_word_0 24 rfl rfl
theorem dksX0_word_2 : cX0_word.data.toList.drop 47 = dktX0_word_2 := dk_seg dksX0_word_1 23 rfl rfl
theorem dksX0_word_3 : cX0_word.data.toList.drop 71 = dktX0_word_3 := dk_seg dksX0_word_2 24 rfl rfl
theorem dX0_word_0 : decode cX0_word 0 = .ok (.aload_n 0, 1) := dk_42 (dk_at dksX0_word_0 0 rfl rfl)
theorem dX0_word_1 : decode cX0_word 1 = .ok (.aload_n 0, 1) := dk_42 (dk_at dksX0_word_0 1 rfl rfl)
theorem dX0_word_2 : decode cX0_word 2 = .ok (.getfield 138, 3) := dk_180 0 138 (dk_at dksX0_word_0 2 rfl rfl)
theorem dX0_word_5 : decode cX0_word 5 = .ok (.invokevirtual 141, 3) := dk_182 0 141 (dk_at dksX0_word_0 5 rfl rfl)
theorem dX0_word_8 : decode cX0_word 8 = .ok (.invokestatic 150, 3) := dk_184 0 150 (dk_at dksX0_word_0 8 rfl rfl)
theorem dX0_word_11 : decode cX0_word 11 = .ok (.ifCond .eq 16, 3) := dk_153 0 16 (dk_at dksX0_word_0 11 rfl rfl)
theorem dX0_word_14 : decode cX0_word 14 = .ok (.aload_n 0, 1) := dk_42 (dk_at dksX0_word_0 14 rfl rfl)
theorem dX0_word_15 : decode cX0_word 15 = .ok (.dup, 1) := dk_89 (dk_at dksX0_word_0 15 rfl rfl)
theorem dX0_word_16 : decode cX0_word 16 = .ok (.getfield 138, 3) := dk_180 0 138 (dk_at dksX0_word_0 16 rfl rfl)
theorem dX0_word_19 : decode cX0_word 19 = .ok (.iconst 1, 1) := dk_4 (dk_at dksX0_word_0 19 rfl rfl)
theorem dX0_word_20 : decode cX0_word 20 = .ok (.iadd, 1) := dk_96 (dk_at dksX0_word_0 20 rfl rfl)
theorem dX0_word_21 : decode cX0_word 21 = .ok (.putfield 138, 3) := dk_181 0 138 (dk_at dksX0_word_0 21 rfl rfl)
theorem dX0_word_24 : decode cX0_word 24 = .ok (.goto (-24), 3) := dk_167 255 232 (dk_at dksX0_word_1 0 rfl rfl)
theorem dX0_word_27 : decode cX0_word 27 = .ok (.aload_n 0, 1) := dk_42 (dk_at dksX0_word_1 3 rfl rfl)
theorem dX0_word_28 : decode cX0_word 28 = .ok (.aload_n 0, 1) := dk_42 (dk_at dksX0_word_1 4 rfl rfl)
theorem dX0_word_29 : decode cX0_word 29 = .ok (.getfield 183, 3) := dk_180 0 183 (dk_at dksX0_word_1 5 rfl rfl)
theorem dX0_word_32 : decode cX0_word 32 = .ok (.invokevirtual 187, 3) := dk_182 0 187 (dk_at dksX0_word_1 8 rfl rfl)
theorem dX0_word_35 : decode cX0_word 35 = .ok (.istore_n 1, 1) := dk_60 (dk_at dksX0_word_1 11 rfl rfl)
theorem dX0_word_36 : decode cX0_word 36 = .ok (.aload_n 0, 1) := dk_42 (dk_at dksX0_word_1 12 rfl rfl)
theorem dX0_word_37 : decode cX0_word 37 = .ok (.iload_n 1, 1) := dk_27 (dk_at dksX0_word_1 13 rfl rfl)
theorem dX0_word_38 : decode cX0_word 38 = .ok (.iconst (-1), 1) := dk_2 (dk_at dksX0_word_1 14 rfl rfl)
theorem dX0_word_39 : decode cX0_word 39 = .ok (.if_icmp .ne 7, 3) := dk_160 0 7 (dk_at dksX0_word_1 15 rfl rfl)
theorem dX0_word_42 : decode cX0_word 42 = .ok (.iconst 2, 1) := dk_5 (dk_at dksX0_word_1 18 rfl rfl)
theorem dX0_word_43 : decode cX0_word 43 = .ok (.goto 4, 3) := dk_167 0 4 (dk_at dksX0_word_1 19 rfl rfl)
theorem dX0_word_46 : decode cX0_word 46 = .ok (.iconst 1, 1) := dk_4 (dk_at dksX0_word_1 22 rfl rfl)
theorem dX0_word_47 : decode cX0_word 47 = .ok (.putfield 147, 3) := dk_181 0 147 (dk_at dksX0_word_2 0 rfl rfl)
theorem dX0_word_50 : decode cX0_word 50 = .ok (.aload_n 0, 1) := dk_42 (dk_at dksX0_word_2 3 rfl rfl)
theorem dX0_word_51 : decode cX0_word 51 = .ok (.iload_n 1, 1) := dk_27 (dk_at dksX0_word_2 4 rfl rfl)
theorem dX0_word_52 : decode cX0_word 52 = .ok (.iconst (-1), 1) := dk_2 (dk_at dksX0_word_2 5 rfl rfl)
theorem dX0_word_53 : decode cX0_word 53 = .ok (.if_icmp .ne 14, 3) := dk_160 0 14 (dk_at dksX0_word_2 6 rfl rfl)
theorem dX0_word_56 : decode cX0_word 56 = .ok (.aload_n 0, 1) := dk_42 (dk_at dksX0_word_2 9 rfl rfl)
theorem dX0_word_57 : decode cX0_word 57 = .ok (.aload_n 0, 1) := dk_42 (dk_at dksX0_word_2 10 rfl rfl)
theorem dX0_word_58 : decode cX0_word 58 = .ok (.getfield 191, 3) := dk_180 0 191 (dk_at dksX0_word_2 11 rfl rfl)
theorem dX0_word_61 : decode cX0_word 61 = .ok (.invokevirtual 187, 3) := dk_182 0 187 (dk_at dksX0_word_2 14 rfl rfl)
theorem dX0_word_64 : decode cX0_word 64 = .ok (.goto 4, 3) := dk_167 0 4 (dk_at dksX0_word_2 17 rfl rfl)
theorem dX0_word_67 : decode cX0_word 67 = .ok (.iload_n 1, 1) := dk_27 (dk_at dksX0_word_2 20 rfl rfl)
theorem dX0_word_68 : decode cX0_word 68 = .ok (.putfield 163, 3) := dk_181 0 163 (dk_at dksX0_word_2 21 rfl rfl)
theorem dX0_word_71 : decode cX0_word 71 = .ok (.aload_n 0, 1) := dk_42 (dk_at dksX0_word_3 0 rfl rfl)
theorem dX0_word_72 : decode cX0_word 72 = .ok (.getfield 163, 3) := dk_180 0 163 (dk_at dksX0_word_3 1 rfl rfl)
theorem dX0_word_75 : decode cX0_word 75 = .ok (.iconst (-1), 1) := dk_2 (dk_at dksX0_word_3 4 rfl rfl)
theorem dX0_word_76 : decode cX0_word 76 = .ok (.if_icmp .ne 8, 3) := dk_160 0 8 (dk_at dksX0_word_3 5 rfl rfl)
theorem dX0_word_79 : decode cX0_word 79 = .ok (.aload_n 0, 1) := dk_42 (dk_at dksX0_word_3 8 rfl rfl)
theorem dX0_word_80 : decode cX0_word 80 = .ok (.getfield 173, 3) := dk_180 0 173 (dk_at dksX0_word_3 9 rfl rfl)
theorem dX0_word_83 : decode cX0_word 83 = .ok (.athrow, 1) := dk_191 (dk_at dksX0_word_3 12 rfl rfl)
theorem dX0_word_84 : decode cX0_word 84 = .ok (.return_, 1) := dk_177 (dk_at dksX0_word_3 13 rfl rfl)
abbrev cX0_placeIn : ByteArray := prog_1_method_19_code
def yX0_placeIn : MethodName := ⟨RX0, "placeIn", "([Ljava/lang/String;)I"⟩
def dkwX0_placeIn_4 : List UInt8 := [132, 2, 1, 167, 255, 162, 2, 172]
abbrev dktX0_placeIn_4 : List UInt8 := dkwX0_placeIn_4 ++ []
def dkwX0_placeIn_3 : List UInt8 := [182, 0, 141, 160, 0, 7, 4, 167, 0, 4, 3, 62, 132, 4, 1, 167, 255, 207, 29, 153, 0, 5, 28, 172]
abbrev dktX0_placeIn_3 : List UInt8 := dkwX0_placeIn_3 ++ dktX0_placeIn_4
def dkwX0_placeIn_2 : List UInt8 := [180, 0, 144, 100, 162, 0, 37, 43, 28, 50, 21, 4, 182, 0, 179, 42, 42, 180, 0, 144, 21, 4, 96]
abbrev dktX0_placeIn_2 : List UInt8 := dkwX0_placeIn_2 ++ dktX0_placeIn_3
def dkwX0_placeIn_1 : List UInt8 := [160, 0, 7, 4, 167, 0, 4, 3, 62, 3, 54, 4, 29, 153, 0, 51, 21, 4, 42, 180, 0, 138, 42]
abbrev dktX0_placeIn_1 : List UInt8 := dkwX0_placeIn_1 ++ dktX0_placeIn_2
def dkwX0_placeIn_0 : List UInt8 := [3, 61, 28, 43, 190, 162, 0, 94, 43, 28, 50, 182, 0, 177, 42, 180, 0, 138, 42, 180, 0, 144, 100]
abbrev dktX0_placeIn_0 : List UInt8 := dkwX0_placeIn_0 ++ dktX0_placeIn_1
theorem dksX0_placeIn_0 : cX0_placeIn.data.toList.drop 0 = dktX0_placeIn_0 := by decide +kernel
theorem dksX0_placeIn_1 : cX0_placeIn.data.toList.drop 23 = dktX0_placeIn_1 := dk_seg dksX0_placeIn_0 23 rfl rfl
theorem dksX0_placeIn_2 : cX0_placeIn.data.toList.drop 46 = dktX0_placeIn_2 := dk_seg dksX0_placeIn_1 23 rfl rfl
theorem dksX0_placeIn_3 : cX0_placeIn.data.toList.drop 69 = dktX0_placeIn_3 := dk_seg dksX0_placeIn_2 23 rfl rfl
theorem dksX0_placeIn_4 : cX0_placeIn.data.toList.drop 93 = dktX0_placeIn_4 := dk_seg dksX0_placeIn_3 24 rfl rfl
theorem dX0_placeIn_0 : decode cX0_placeIn 0 = .ok (.iconst 0, 1) := dk_3 (dk_at dksX0_placeIn_0 0 rfl rfl)
theorem dX0_placeIn_1 : decode cX0_placeIn 1 = .ok (.istore_n 2, 1) := dk_61 (dk_at dksX0_placeIn_0 1 rfl rfl)
theorem dX0_placeIn_2 : decode cX0_placeIn 2 = .ok (.iload_n 2, 1) := dk_28 (dk_at dksX0_placeIn_0 2 rfl rfl)
theorem dX0_placeIn_3 : decode cX0_placeIn 3 = .ok (.aload_n 1, 1) := dk_43 (dk_at dksX0_placeIn_0 3 rfl rfl)
theorem dX0_placeIn_4 : decode cX0_placeIn 4 = .ok (.arraylength, 1) := dk_190 (dk_at dksX0_placeIn_0 4 rfl rfl)
theorem dX0_placeIn_5 : decode cX0_placeIn 5 = .ok (.if_icmp .ge 94, 3) := dk_162 0 94 (dk_at dksX0_placeIn_0 5 rfl rfl)
theorem dX0_placeIn_8 : decode cX0_placeIn 8 = .ok (.aload_n 1, 1) := dk_43 (dk_at dksX0_placeIn_0 8 rfl rfl)
theorem dX0_placeIn_9 : decode cX0_placeIn 9 = .ok (.iload_n 2, 1) := dk_28 (dk_at dksX0_placeIn_0 9 rfl rfl)
theorem dX0_placeIn_10 : decode cX0_placeIn 10 = .ok (.aaload, 1) := dk_50 (dk_at dksX0_placeIn_0 10 rfl rfl)
theorem dX0_placeIn_11 : decode cX0_placeIn 11 = .ok (.invokevirtual 177, 3) := dk_182 0 177 (dk_at dksX0_placeIn_0 11 rfl rfl)
theorem dX0_placeIn_14 : decode cX0_placeIn 14 = .ok (.aload_n 0, 1) := dk_42 (dk_at dksX0_placeIn_0 14 rfl rfl)
theorem dX0_placeIn_15 : decode cX0_placeIn 15 = .ok (.getfield 138, 3) := dk_180 0 138 (dk_at dksX0_placeIn_0 15 rfl rfl)
theorem dX0_placeIn_18 : decode cX0_placeIn 18 = .ok (.aload_n 0, 1) := dk_42 (dk_at dksX0_placeIn_0 18 rfl rfl)
theorem dX0_placeIn_19 : decode cX0_placeIn 19 = .ok (.getfield 144, 3) := dk_180 0 144 (dk_at dksX0_placeIn_0 19 rfl rfl)
theorem dX0_placeIn_22 : decode cX0_placeIn 22 = .ok (.isub, 1) := dk_100 (dk_at dksX0_placeIn_0 22 rfl rfl)
theorem dX0_placeIn_23 : decode cX0_placeIn 23 = .ok (.if_icmp .ne 7, 3) := dk_160 0 7 (dk_at dksX0_placeIn_1 0 rfl rfl)
theorem dX0_placeIn_26 : decode cX0_placeIn 26 = .ok (.iconst 1, 1) := dk_4 (dk_at dksX0_placeIn_1 3 rfl rfl)
theorem dX0_placeIn_27 : decode cX0_placeIn 27 = .ok (.goto 4, 3) := dk_167 0 4 (dk_at dksX0_placeIn_1 4 rfl rfl)
theorem dX0_placeIn_30 : decode cX0_placeIn 30 = .ok (.iconst 0, 1) := dk_3 (dk_at dksX0_placeIn_1 7 rfl rfl)
theorem dX0_placeIn_31 : decode cX0_placeIn 31 = .ok (.istore_n 3, 1) := dk_62 (dk_at dksX0_placeIn_1 8 rfl rfl)
theorem dX0_placeIn_32 : decode cX0_placeIn 32 = .ok (.iconst 0, 1) := dk_3 (dk_at dksX0_placeIn_1 9 rfl rfl)
theorem dX0_placeIn_33 : decode cX0_placeIn 33 = .ok (.istore 4, 2) := dk_54 4 (dk_at dksX0_placeIn_1 10 rfl rfl)
theorem dX0_placeIn_35 : decode cX0_placeIn 35 = .ok (.iload_n 3, 1) := dk_29 (dk_at dksX0_placeIn_1 12 rfl rfl)
theorem dX0_placeIn_36 : decode cX0_placeIn 36 = .ok (.ifCond .eq 51, 3) := dk_153 0 51 (dk_at dksX0_placeIn_1 13 rfl rfl)
theorem dX0_placeIn_39 : decode cX0_placeIn 39 = .ok (.iload 4, 2) := dk_21 4 (dk_at dksX0_placeIn_1 16 rfl rfl)
theorem dX0_placeIn_41 : decode cX0_placeIn 41 = .ok (.aload_n 0, 1) := dk_42 (dk_at dksX0_placeIn_1 18 rfl rfl)
theorem dX0_placeIn_42 : decode cX0_placeIn 42 = .ok (.getfield 138, 3) := dk_180 0 138 (dk_at dksX0_placeIn_1 19 rfl rfl)
theorem dX0_placeIn_45 : decode cX0_placeIn 45 = .ok (.aload_n 0, 1) := dk_42 (dk_at dksX0_placeIn_1 22 rfl rfl)
theorem dX0_placeIn_46 : decode cX0_placeIn 46 = .ok (.getfield 144, 3) := dk_180 0 144 (dk_at dksX0_placeIn_2 0 rfl rfl)
theorem dX0_placeIn_49 : decode cX0_placeIn 49 = .ok (.isub, 1) := dk_100 (dk_at dksX0_placeIn_2 3 rfl rfl)
theorem dX0_placeIn_50 : decode cX0_placeIn 50 = .ok (.if_icmp .ge 37, 3) := dk_162 0 37 (dk_at dksX0_placeIn_2 4 rfl rfl)
theorem dX0_placeIn_53 : decode cX0_placeIn 53 = .ok (.aload_n 1, 1) := dk_43 (dk_at dksX0_placeIn_2 7 rfl rfl)
theorem dX0_placeIn_54 : decode cX0_placeIn 54 = .ok (.iload_n 2, 1) := dk_28 (dk_at dksX0_placeIn_2 8 rfl rfl)
theorem dX0_placeIn_55 : decode cX0_placeIn 55 = .ok (.aaload, 1) := dk_50 (dk_at dksX0_placeIn_2 9 rfl rfl)
theorem dX0_placeIn_56 : decode cX0_placeIn 56 = .ok (.iload 4, 2) := dk_21 4 (dk_at dksX0_placeIn_2 10 rfl rfl)
theorem dX0_placeIn_58 : decode cX0_placeIn 58 = .ok (.invokevirtual 179, 3) := dk_182 0 179 (dk_at dksX0_placeIn_2 12 rfl rfl)
theorem dX0_placeIn_61 : decode cX0_placeIn 61 = .ok (.aload_n 0, 1) := dk_42 (dk_at dksX0_placeIn_2 15 rfl rfl)
theorem dX0_placeIn_62 : decode cX0_placeIn 62 = .ok (.aload_n 0, 1) := dk_42 (dk_at dksX0_placeIn_2 16 rfl rfl)
theorem dX0_placeIn_63 : decode cX0_placeIn 63 = .ok (.getfield 144, 3) := dk_180 0 144 (dk_at dksX0_placeIn_2 17 rfl rfl)
theorem dX0_placeIn_66 : decode cX0_placeIn 66 = .ok (.iload 4, 2) := dk_21 4 (dk_at dksX0_placeIn_2 20 rfl rfl)
theorem dX0_placeIn_68 : decode cX0_placeIn 68 = .ok (.iadd, 1) := dk_96 (dk_at dksX0_placeIn_2 22 rfl rfl)
theorem dX0_placeIn_69 : decode cX0_placeIn 69 = .ok (.invokevirtual 141, 3) := dk_182 0 141 (dk_at dksX0_placeIn_3 0 rfl rfl)
theorem dX0_placeIn_72 : decode cX0_placeIn 72 = .ok (.if_icmp .ne 7, 3) := dk_160 0 7 (dk_at dksX0_placeIn_3 3 rfl rfl)
theorem dX0_placeIn_75 : decode cX0_placeIn 75 = .ok (.iconst 1, 1) := dk_4 (dk_at dksX0_placeIn_3 6 rfl rfl)
theorem dX0_placeIn_76 : decode cX0_placeIn 76 = .ok (.goto 4, 3) := dk_167 0 4 (dk_at dksX0_placeIn_3 7 rfl rfl)
theorem dX0_placeIn_79 : decode cX0_placeIn 79 = .ok (.iconst 0, 1) := dk_3 (dk_at dksX0_placeIn_3 10 rfl rfl)
theorem dX0_placeIn_80 : decode cX0_placeIn 80 = .ok (.istore_n 3, 1) := dk_62 (dk_at dksX0_placeIn_3 11 rfl rfl)
theorem dX0_placeIn_81 : decode cX0_placeIn 81 = .ok (.iinc 4 1, 3) := dk_132 4 1 (dk_at dksX0_placeIn_3 12 rfl rfl)
theorem dX0_placeIn_84 : decode cX0_placeIn 84 = .ok (.goto (-49), 3) := dk_167 255 207 (dk_at dksX0_placeIn_3 15 rfl rfl)
theorem dX0_placeIn_87 : decode cX0_placeIn 87 = .ok (.iload_n 3, 1) := dk_29 (dk_at dksX0_placeIn_3 18 rfl rfl)
theorem dX0_placeIn_88 : decode cX0_placeIn 88 = .ok (.ifCond .eq 5, 3) := dk_153 0 5 (dk_at dksX0_placeIn_3 19 rfl rfl)
theorem dX0_placeIn_91 : decode cX0_placeIn 91 = .ok (.iload_n 2, 1) := dk_28 (dk_at dksX0_placeIn_3 22 rfl rfl)
theorem dX0_placeIn_92 : decode cX0_placeIn 92 = .ok (.ireturn, 1) := dk_172 (dk_at dksX0_placeIn_3 23 rfl rfl)
theorem dX0_placeIn_93 : decode cX0_placeIn 93 = .ok (.iinc 2 1, 3) := dk_132 2 1 (dk_at dksX0_placeIn_4 0 rfl rfl)
theorem dX0_placeIn_96 : decode cX0_placeIn 96 = .ok (.goto (-94), 3) := dk_167 255 162 (dk_at dksX0_placeIn_4 3 rfl rfl)
theorem dX0_placeIn_99 : decode cX0_placeIn 99 = .ok (.iconst (-1), 1) := dk_2 (dk_at dksX0_placeIn_4 6 rfl rfl)
theorem dX0_placeIn_100 : decode cX0_placeIn 100 = .ok (.ireturn, 1) := dk_172 (dk_at dksX0_placeIn_4 7 rfl rfl)
abbrev cX0_isDigit : ByteArray := prog_1_method_17_code
def yX0_isDigit : MethodName := ⟨RX0, "isDigit", "(I)Z"⟩
def dkwX0_isDigit_0 : List UInt8 := [26, 133, 20, 0, 134, 20, 0, 136, 184, 0, 14, 172]
abbrev dktX0_isDigit_0 : List UInt8 := dkwX0_isDigit_0 ++ []
theorem dksX0_isDigit_0 : cX0_isDigit.data.toList.drop 0 = dktX0_isDigit_0 := by decide +kernel
theorem dX0_isDigit_0 : decode cX0_isDigit 0 = .ok (.iload_n 0, 1) := dk_26 (dk_at dksX0_isDigit_0 0 rfl rfl)
theorem dX0_isDigit_1 : decode cX0_isDigit 1 = .ok (.i2l, 1) := dk_133 (dk_at dksX0_isDigit_0 1 rfl rfl)
theorem dX0_isDigit_2 : decode cX0_isDigit 2 = .ok (.ldc2_w 134, 3) := dk_20 0 134 (dk_at dksX0_isDigit_0 2 rfl rfl)
theorem dX0_isDigit_5 : decode cX0_isDigit 5 = .ok (.ldc2_w 136, 3) := dk_20 0 136 (dk_at dksX0_isDigit_0 5 rfl rfl)
theorem dX0_isDigit_8 : decode cX0_isDigit 8 = .ok (.invokestatic 14, 3) := dk_184 0 14 (dk_at dksX0_isDigit_0 8 rfl rfl)
theorem dX0_isDigit_11 : decode cX0_isDigit 11 = .ok (.ireturn, 1) := dk_172 (dk_at dksX0_isDigit_0 11 rfl rfl)
abbrev cX0_digits : ByteArray := prog_1_method_21_code
def yX0_digits : MethodName := ⟨RX0, "digits", "()V"⟩
def dkwX0_digits_4 : List UInt8 := [180, 0, 173, 191, 177]
abbrev dktX0_digits_4 : List UInt8 := dkwX0_digits_4 ++ []
def dkwX0_digits_3 : List UInt8 := [167, 255, 189, 42, 6, 181, 0, 147, 42, 180, 0, 138, 42, 180, 0, 144, 100, 7, 164, 0, 8, 42]
abbrev dktX0_digits_3 : List UInt8 := dkwX0_digits_3 ++ dktX0_digits_4
def dkwX0_digits_2 : List UInt8 := [96, 16, 48, 100, 167, 0, 7, 42, 180, 0, 163, 181, 0, 163, 42, 89, 180, 0, 138, 4, 96, 181, 0, 138]
abbrev dktX0_digits_2 : List UInt8 := dkwX0_digits_2 ++ dktX0_digits_3
def dkwX0_digits_1 : List UInt8 := [42, 180, 0, 144, 100, 7, 162, 0, 25, 16, 10, 42, 180, 0, 163, 104, 42, 42, 180, 0, 138, 182, 0, 141]
abbrev dktX0_digits_1 : List UInt8 := dkwX0_digits_1 ++ dktX0_digits_2
def dkwX0_digits_0 : List UInt8 := [42, 3, 181, 0, 163, 42, 42, 180, 0, 138, 182, 0, 141, 184, 0, 157, 153, 0, 59, 42, 42, 180, 0, 138]
abbrev dktX0_digits_0 : List UInt8 := dkwX0_digits_0 ++ dktX0_digits_1
theorem dksX0_digits_0 : cX0_digits.data.toList.drop 0 = dktX0_digits_0 := by decide +kernel
theorem dksX0_digits_1 : cX0_digits.data.toList.drop 24 = dktX0_digits_1 := dk_seg dksX0_digits_0 24 rfl rfl
theorem dksX0_digits_2 : cX0_digits.data.toList.drop 48 = dktX0_digits_2 := dk_seg dksX0_digits_1 24 rfl rfl
theorem dksX0_digits_3 : cX0_digits.data.toList.drop 72 = dktX0_digits_3 := dk_seg dksX0_digits_2 24 rfl rfl
theorem dksX0_digits_4 : cX0_digits.data.toList.drop 94 = dktX0_digits_4 := dk_seg dksX0_digits_3 22 rfl rfl
theorem dX0_digits_0 : decode cX0_digits 0 = .ok (.aload_n 0, 1) := dk_42 (dk_at dksX0_digits_0 0 rfl rfl)
theorem dX0_digits_1 : decode cX0_digits 1 = .ok (.iconst 0, 1) := dk_3 (dk_at dksX0_digits_0 1 rfl rfl)
theorem dX0_digits_2 : decode cX0_digits 2 = .ok (.putfield 163, 3) := dk_181 0 163 (dk_at dksX0_digits_0 2 rfl rfl)
theorem dX0_digits_5 : decode cX0_digits 5 = .ok (.aload_n 0, 1) := dk_42 (dk_at dksX0_digits_0 5 rfl rfl)
theorem dX0_digits_6 : decode cX0_digits 6 = .ok (.aload_n 0, 1) := dk_42 (dk_at dksX0_digits_0 6 rfl rfl)
theorem dX0_digits_7 : decode cX0_digits 7 = .ok (.getfield 138, 3) := dk_180 0 138 (dk_at dksX0_digits_0 7 rfl rfl)
theorem dX0_digits_10 : decode cX0_digits 10 = .ok (.invokevirtual 141, 3) := dk_182 0 141 (dk_at dksX0_digits_0 10 rfl rfl)
theorem dX0_digits_13 : decode cX0_digits 13 = .ok (.invokestatic 157, 3) := dk_184 0 157 (dk_at dksX0_digits_0 13 rfl rfl)
theorem dX0_digits_16 : decode cX0_digits 16 = .ok (.ifCond .eq 59, 3) := dk_153 0 59 (dk_at dksX0_digits_0 16 rfl rfl)
theorem dX0_digits_19 : decode cX0_digits 19 = .ok (.aload_n 0, 1) := dk_42 (dk_at dksX0_digits_0 19 rfl rfl)
theorem dX0_digits_20 : decode cX0_digits 20 = .ok (.aload_n 0, 1) := dk_42 (dk_at dksX0_digits_0 20 rfl rfl)
theorem dX0_digits_21 : decode cX0_digits 21 = .ok (.getfield 138, 3) := dk_180 0 138 (dk_at dksX0_digits_0 21 rfl rfl)
theorem dX0_digits_24 : decode cX0_digits 24 = .ok (.aload_n 0, 1) := dk_42 (dk_at dksX0_digits_1 0 rfl rfl)
theorem dX0_digits_25 : decode cX0_digits 25 = .ok (.getfield 144, 3) := dk_180 0 144 (dk_at dksX0_digits_1 1 rfl rfl)
theorem dX0_digits_28 : decode cX0_digits 28 = .ok (.isub, 1) := dk_100 (dk_at dksX0_digits_1 4 rfl rfl)
theorem dX0_digits_29 : decode cX0_digits 29 = .ok (.iconst 4, 1) := dk_7 (dk_at dksX0_digits_1 5 rfl rfl)
theorem dX0_digits_30 : decode cX0_digits 30 = .ok (.if_icmp .ge 25, 3) := dk_162 0 25 (dk_at dksX0_digits_1 6 rfl rfl)
theorem dX0_digits_33 : decode cX0_digits 33 = .ok (.bipush 10, 2) := dk_16 10 (dk_at dksX0_digits_1 9 rfl rfl)
theorem dX0_digits_35 : decode cX0_digits 35 = .ok (.aload_n 0, 1) := dk_42 (dk_at dksX0_digits_1 11 rfl rfl)
theorem dX0_digits_36 : decode cX0_digits 36 = .ok (.getfield 163, 3) := dk_180 0 163 (dk_at dksX0_digits_1 12 rfl rfl)
theorem dX0_digits_39 : decode cX0_digits 39 = .ok (.imul, 1) := dk_104 (dk_at dksX0_digits_1 15 rfl rfl)
theorem dX0_digits_40 : decode cX0_digits 40 = .ok (.aload_n 0, 1) := dk_42 (dk_at dksX0_digits_1 16 rfl rfl)
theorem dX0_digits_41 : decode cX0_digits 41 = .ok (.aload_n 0, 1) := dk_42 (dk_at dksX0_digits_1 17 rfl rfl)
theorem dX0_digits_42 : decode cX0_digits 42 = .ok (.getfield 138, 3) := dk_180 0 138 (dk_at dksX0_digits_1 18 rfl rfl)
theorem dX0_digits_45 : decode cX0_digits 45 = .ok (.invokevirtual 141, 3) := dk_182 0 141 (dk_at dksX0_digits_1 21 rfl rfl)
theorem dX0_digits_48 : decode cX0_digits 48 = .ok (.iadd, 1) := dk_96 (dk_at dksX0_digits_2 0 rfl rfl)
theorem dX0_digits_49 : decode cX0_digits 49 = .ok (.bipush 48, 2) := dk_16 48 (dk_at dksX0_digits_2 1 rfl rfl)
theorem dX0_digits_51 : decode cX0_digits 51 = .ok (.isub, 1) := dk_100 (dk_at dksX0_digits_2 3 rfl rfl)
theorem dX0_digits_52 : decode cX0_digits 52 = .ok (.goto 7, 3) := dk_167 0 7 (dk_at dksX0_digits_2 4 rfl rfl)
theorem dX0_digits_55 : decode cX0_digits 55 = .ok (.aload_n 0, 1) := dk_42 (dk_at dksX0_digits_2 7 rfl rfl)
theorem dX0_digits_56 : decode cX0_digits 56 = .ok (.getfield 163, 3) := dk_180 0 163 (dk_at dksX0_digits_2 8 rfl rfl)
theorem dX0_digits_59 : decode cX0_digits 59 = .ok (.putfield 163, 3) := dk_181 0 163 (dk_at dksX0_digits_2 11 rfl rfl)
theorem dX0_digits_62 : decode cX0_digits 62 = .ok (.aload_n 0, 1) := dk_42 (dk_at dksX0_digits_2 14 rfl rfl)
theorem dX0_digits_63 : decode cX0_digits 63 = .ok (.dup, 1) := dk_89 (dk_at dksX0_digits_2 15 rfl rfl)
theorem dX0_digits_64 : decode cX0_digits 64 = .ok (.getfield 138, 3) := dk_180 0 138 (dk_at dksX0_digits_2 16 rfl rfl)
theorem dX0_digits_67 : decode cX0_digits 67 = .ok (.iconst 1, 1) := dk_4 (dk_at dksX0_digits_2 19 rfl rfl)
theorem dX0_digits_68 : decode cX0_digits 68 = .ok (.iadd, 1) := dk_96 (dk_at dksX0_digits_2 20 rfl rfl)
theorem dX0_digits_69 : decode cX0_digits 69 = .ok (.putfield 138, 3) := dk_181 0 138 (dk_at dksX0_digits_2 21 rfl rfl)
theorem dX0_digits_72 : decode cX0_digits 72 = .ok (.goto (-67), 3) := dk_167 255 189 (dk_at dksX0_digits_3 0 rfl rfl)
theorem dX0_digits_75 : decode cX0_digits 75 = .ok (.aload_n 0, 1) := dk_42 (dk_at dksX0_digits_3 3 rfl rfl)
theorem dX0_digits_76 : decode cX0_digits 76 = .ok (.iconst 3, 1) := dk_6 (dk_at dksX0_digits_3 4 rfl rfl)
theorem dX0_digits_77 : decode cX0_digits 77 = .ok (.putfield 147, 3) := dk_181 0 147 (dk_at dksX0_digits_3 5 rfl rfl)
theorem dX0_digits_80 : decode cX0_digits 80 = .ok (.aload_n 0, 1) := dk_42 (dk_at dksX0_digits_3 8 rfl rfl)
theorem dX0_digits_81 : decode cX0_digits 81 = .ok (.getfield 138, 3) := dk_180 0 138 (dk_at dksX0_digits_3 9 rfl rfl)
theorem dX0_digits_84 : decode cX0_digits 84 = .ok (.aload_n 0, 1) := dk_42 (dk_at dksX0_digits_3 12 rfl rfl)
theorem dX0_digits_85 : decode cX0_digits 85 = .ok (.getfield 144, 3) := dk_180 0 144 (dk_at dksX0_digits_3 13 rfl rfl)
theorem dX0_digits_88 : decode cX0_digits 88 = .ok (.isub, 1) := dk_100 (dk_at dksX0_digits_3 16 rfl rfl)
theorem dX0_digits_89 : decode cX0_digits 89 = .ok (.iconst 4, 1) := dk_7 (dk_at dksX0_digits_3 17 rfl rfl)
theorem dX0_digits_90 : decode cX0_digits 90 = .ok (.if_icmp .le 8, 3) := dk_164 0 8 (dk_at dksX0_digits_3 18 rfl rfl)
theorem dX0_digits_93 : decode cX0_digits 93 = .ok (.aload_n 0, 1) := dk_42 (dk_at dksX0_digits_3 21 rfl rfl)
theorem dX0_digits_94 : decode cX0_digits 94 = .ok (.getfield 173, 3) := dk_180 0 173 (dk_at dksX0_digits_4 0 rfl rfl)
theorem dX0_digits_97 : decode cX0_digits 97 = .ok (.athrow, 1) := dk_191 (dk_at dksX0_digits_4 3 rfl rfl)
theorem dX0_digits_98 : decode cX0_digits 98 = .ok (.return_, 1) := dk_177 (dk_at dksX0_digits_4 4 rfl rfl)
abbrev cX0_isKey : ByteArray := prog_1_method_23_code
def yX0_isKey : MethodName := ⟨RX0, "isKey", "(I)Z"⟩
def dkwX0_isKey_0 : List UInt8 := [42, 180, 0, 147, 4, 160, 0, 15, 42, 180, 0, 163, 27, 160, 0, 7, 4, 167, 0, 4, 3, 172]
abbrev dktX0_isKey_0 : List UInt8 := dkwX0_isKey_0 ++ []
theorem dksX0_isKey_0 : cX0_isKey.data.toList.drop 0 = dktX0_isKey_0 := by decide +kernel
theorem dX0_isKey_0 : decode cX0_isKey 0 = .ok (.aload_n 0, 1) := dk_42 (dk_at dksX0_isKey_0 0 rfl rfl)
theorem dX0_isKey_1 : decode cX0_isKey 1 = .ok (.getfield 147, 3) := dk_180 0 147 (dk_at dksX0_isKey_0 1 rfl rfl)
theorem dX0_isKey_4 : decode cX0_isKey 4 = .ok (.iconst 1, 1) := dk_4 (dk_at dksX0_isKey_0 4 rfl rfl)
theorem dX0_isKey_5 : decode cX0_isKey 5 = .ok (.if_icmp .ne 15, 3) := dk_160 0 15 (dk_at dksX0_isKey_0 5 rfl rfl)
theorem dX0_isKey_8 : decode cX0_isKey 8 = .ok (.aload_n 0, 1) := dk_42 (dk_at dksX0_isKey_0 8 rfl rfl)
theorem dX0_isKey_9 : decode cX0_isKey 9 = .ok (.getfield 163, 3) := dk_180 0 163 (dk_at dksX0_isKey_0 9 rfl rfl)
theorem dX0_isKey_12 : decode cX0_isKey 12 = .ok (.iload_n 1, 1) := dk_27 (dk_at dksX0_isKey_0 12 rfl rfl)
theorem dX0_isKey_13 : decode cX0_isKey 13 = .ok (.if_icmp .ne 7, 3) := dk_160 0 7 (dk_at dksX0_isKey_0 13 rfl rfl)
theorem dX0_isKey_16 : decode cX0_isKey 16 = .ok (.iconst 1, 1) := dk_4 (dk_at dksX0_isKey_0 16 rfl rfl)
theorem dX0_isKey_17 : decode cX0_isKey 17 = .ok (.goto 4, 3) := dk_167 0 4 (dk_at dksX0_isKey_0 17 rfl rfl)
theorem dX0_isKey_20 : decode cX0_isKey 20 = .ok (.iconst 0, 1) := dk_3 (dk_at dksX0_isKey_0 20 rfl rfl)
theorem dX0_isKey_21 : decode cX0_isKey 21 = .ok (.ireturn, 1) := dk_172 (dk_at dksX0_isKey_0 21 rfl rfl)
abbrev cX0_need : ByteArray := prog_1_method_24_code
def yX0_need : MethodName := ⟨RX0, "need", "(Z)V"⟩
def dkwX0_need_0 : List UInt8 := [27, 154, 0, 8, 42, 180, 0, 173, 191, 42, 182, 0, 194, 177]
abbrev dktX0_need_0 : List UInt8 := dkwX0_need_0 ++ []
theorem dksX0_need_0 : cX0_need.data.toList.drop 0 = dktX0_need_0 := by decide +kernel
theorem dX0_need_0 : decode cX0_need 0 = .ok (.iload_n 1, 1) := dk_27 (dk_at dksX0_need_0 0 rfl rfl)
theorem dX0_need_1 : decode cX0_need 1 = .ok (.ifCond .ne 8, 3) := dk_154 0 8 (dk_at dksX0_need_0 1 rfl rfl)
theorem dX0_need_4 : decode cX0_need 4 = .ok (.aload_n 0, 1) := dk_42 (dk_at dksX0_need_0 4 rfl rfl)
theorem dX0_need_5 : decode cX0_need 5 = .ok (.getfield 173, 3) := dk_180 0 173 (dk_at dksX0_need_0 5 rfl rfl)
theorem dX0_need_8 : decode cX0_need 8 = .ok (.athrow, 1) := dk_191 (dk_at dksX0_need_0 8 rfl rfl)
theorem dX0_need_9 : decode cX0_need 9 = .ok (.aload_n 0, 1) := dk_42 (dk_at dksX0_need_0 9 rfl rfl)
theorem dX0_need_10 : decode cX0_need 10 = .ok (.invokevirtual 194, 3) := dk_182 0 194 (dk_at dksX0_need_0 10 rfl rfl)
theorem dX0_need_13 : decode cX0_need 13 = .ok (.return_, 1) := dk_177 (dk_at dksX0_need_0 13 rfl rfl)
abbrev cX0_either : ByteArray := prog_1_method_26_code
def yX0_either : MethodName := ⟨RX0, "either", "()LRoadsNotGoneBy$Node;"⟩
def dkwX0_either_1 : List UInt8 := [42, 182, 0, 204, 183, 0, 213, 76, 167, 255, 229, 43, 176]
abbrev dktX0_either_1 : List UInt8 := dkwX0_either_1 ++ []
def dkwX0_either_0 : List UInt8 := [42, 182, 0, 204, 76, 42, 6, 182, 0, 208, 153, 0, 25, 42, 182, 0, 194, 187, 0, 211, 89, 16, 124, 43]
abbrev dktX0_either_0 : List UInt8 := dkwX0_either_0 ++ dktX0_either_1
theorem dksX0_either_0 : cX0_either.data.toList.drop 0 = dktX0_either_0 := by decide +kernel
theorem dksX0_either_1 : cX0_either.data.toList.drop 24 = dktX0_either_1 := dk_seg dksX0_either_0 24 rfl rfl
theorem dX0_either_0 : decode cX0_either 0 = .ok (.aload_n 0, 1) := dk_42 (dk_at dksX0_either_0 0 rfl rfl)
theorem dX0_either_1 : decode cX0_either 1 = .ok (.invokevirtual 204, 3) := dk_182 0 204 (dk_at dksX0_either_0 1 rfl rfl)
theorem dX0_either_4 : decode cX0_either 4 = .ok (.astore_n 1, 1) := dk_76 (dk_at dksX0_either_0 4 rfl rfl)
theorem dX0_either_5 : decode cX0_either 5 = .ok (.aload_n 0, 1) := dk_42 (dk_at dksX0_either_0 5 rfl rfl)
theorem dX0_either_6 : decode cX0_either 6 = .ok (.iconst 3, 1) := dk_6 (dk_at dksX0_either_0 6 rfl rfl)
theorem dX0_either_7 : decode cX0_either 7 = .ok (.invokevirtual 208, 3) := dk_182 0 208 (dk_at dksX0_either_0 7 rfl rfl)
theorem dX0_either_10 : decode cX0_either 10 = .ok (.ifCond .eq 25, 3) := dk_153 0 25 (dk_at dksX0_either_0 10 rfl rfl)
theorem dX0_either_13 : decode cX0_either 13 = .ok (.aload_n 0, 1) := dk_42 (dk_at dksX0_either_0 13 rfl rfl)
theorem dX0_either_14 : decode cX0_either 14 = .ok (.invokevirtual 194, 3) := dk_182 0 194 (dk_at dksX0_either_0 14 rfl rfl)
theorem dX0_either_17 : decode cX0_either 17 = .ok (.new 211, 3) := dk_187 0 211 (dk_at dksX0_either_0 17 rfl rfl)
theorem dX0_either_20 : decode cX0_either 20 = .ok (.dup, 1) := dk_89 (dk_at dksX0_either_0 20 rfl rfl)
theorem dX0_either_21 : decode cX0_either 21 = .ok (.bipush 124, 2) := dk_16 124 (dk_at dksX0_either_0 21 rfl rfl)
theorem dX0_either_23 : decode cX0_either 23 = .ok (.aload_n 1, 1) := dk_43 (dk_at dksX0_either_0 23 rfl rfl)
theorem dX0_either_24 : decode cX0_either 24 = .ok (.aload_n 0, 1) := dk_42 (dk_at dksX0_either_1 0 rfl rfl)
theorem dX0_either_25 : decode cX0_either 25 = .ok (.invokevirtual 204, 3) := dk_182 0 204 (dk_at dksX0_either_1 1 rfl rfl)
theorem dX0_either_28 : decode cX0_either 28 = .ok (.invokespecial 213, 3) := dk_183 0 213 (dk_at dksX0_either_1 4 rfl rfl)
theorem dX0_either_31 : decode cX0_either 31 = .ok (.astore_n 1, 1) := dk_76 (dk_at dksX0_either_1 7 rfl rfl)
theorem dX0_either_32 : decode cX0_either 32 = .ok (.goto (-27), 3) := dk_167 255 229 (dk_at dksX0_either_1 8 rfl rfl)
theorem dX0_either_35 : decode cX0_either 35 = .ok (.aload_n 1, 1) := dk_43 (dk_at dksX0_either_1 11 rfl rfl)
theorem dX0_either_36 : decode cX0_either 36 = .ok (.areturn, 1) := dk_176 (dk_at dksX0_either_1 12 rfl rfl)
abbrev cX0_both : ByteArray := prog_1_method_27_code
def yX0_both : MethodName := ⟨RX0, "both", "()LRoadsNotGoneBy$Node;"⟩
def dkwX0_both_1 : List UInt8 := [42, 182, 0, 216, 183, 0, 213, 76, 167, 255, 229, 43, 176]
abbrev dktX0_both_1 : List UInt8 := dkwX0_both_1 ++ []
def dkwX0_both_0 : List UInt8 := [42, 182, 0, 216, 76, 42, 7, 182, 0, 208, 153, 0, 25, 42, 182, 0, 194, 187, 0, 211, 89, 16, 38, 43]
abbrev dktX0_both_0 : List UInt8 := dkwX0_both_0 ++ dktX0_both_1
theorem dksX0_both_0 : cX0_both.data.toList.drop 0 = dktX0_both_0 := by decide +kernel
theorem dksX0_both_1 : cX0_both.data.toList.drop 24 = dktX0_both_1 := dk_seg dksX0_both_0 24 rfl rfl
theorem dX0_both_0 : decode cX0_both 0 = .ok (.aload_n 0, 1) := dk_42 (dk_at dksX0_both_0 0 rfl rfl)
theorem dX0_both_1 : decode cX0_both 1 = .ok (.invokevirtual 216, 3) := dk_182 0 216 (dk_at dksX0_both_0 1 rfl rfl)
theorem dX0_both_4 : decode cX0_both 4 = .ok (.astore_n 1, 1) := dk_76 (dk_at dksX0_both_0 4 rfl rfl)
theorem dX0_both_5 : decode cX0_both 5 = .ok (.aload_n 0, 1) := dk_42 (dk_at dksX0_both_0 5 rfl rfl)
theorem dX0_both_6 : decode cX0_both 6 = .ok (.iconst 4, 1) := dk_7 (dk_at dksX0_both_0 6 rfl rfl)
theorem dX0_both_7 : decode cX0_both 7 = .ok (.invokevirtual 208, 3) := dk_182 0 208 (dk_at dksX0_both_0 7 rfl rfl)
theorem dX0_both_10 : decode cX0_both 10 = .ok (.ifCond .eq 25, 3) := dk_153 0 25 (dk_at dksX0_both_0 10 rfl rfl)
theorem dX0_both_13 : decode cX0_both 13 = .ok (.aload_n 0, 1) := dk_42 (dk_at dksX0_both_0 13 rfl rfl)
theorem dX0_both_14 : decode cX0_both 14 = .ok (.invokevirtual 194, 3) := dk_182 0 194 (dk_at dksX0_both_0 14 rfl rfl)
theorem dX0_both_17 : decode cX0_both 17 = .ok (.new 211, 3) := dk_187 0 211 (dk_at dksX0_both_0 17 rfl rfl)
theorem dX0_both_20 : decode cX0_both 20 = .ok (.dup, 1) := dk_89 (dk_at dksX0_both_0 20 rfl rfl)
theorem dX0_both_21 : decode cX0_both 21 = .ok (.bipush 38, 2) := dk_16 38 (dk_at dksX0_both_0 21 rfl rfl)
theorem dX0_both_23 : decode cX0_both 23 = .ok (.aload_n 1, 1) := dk_43 (dk_at dksX0_both_0 23 rfl rfl)
theorem dX0_both_24 : decode cX0_both 24 = .ok (.aload_n 0, 1) := dk_42 (dk_at dksX0_both_1 0 rfl rfl)
theorem dX0_both_25 : decode cX0_both 25 = .ok (.invokevirtual 216, 3) := dk_182 0 216 (dk_at dksX0_both_1 1 rfl rfl)
theorem dX0_both_28 : decode cX0_both 28 = .ok (.invokespecial 213, 3) := dk_183 0 213 (dk_at dksX0_both_1 4 rfl rfl)
theorem dX0_both_31 : decode cX0_both 31 = .ok (.astore_n 1, 1) := dk_76 (dk_at dksX0_both_1 7 rfl rfl)
theorem dX0_both_32 : decode cX0_both 32 = .ok (.goto (-27), 3) := dk_167 255 229 (dk_at dksX0_both_1 8 rfl rfl)
theorem dX0_both_35 : decode cX0_both 35 = .ok (.aload_n 1, 1) := dk_43 (dk_at dksX0_both_1 11 rfl rfl)
theorem dX0_both_36 : decode cX0_both 36 = .ok (.areturn, 1) := dk_176 (dk_at dksX0_both_1 12 rfl rfl)
abbrev cX0_not : ByteArray := prog_1_method_28_code
def yX0_not : MethodName := ⟨RX0, "not", "()LRoadsNotGoneBy$Node;"⟩
def dkwX0_not_3 : List UInt8 := [89, 28, 43, 42, 182, 0, 227, 183, 0, 213, 76, 43, 176]
abbrev dktX0_not_3 : List UInt8 := dkwX0_not_3 ++ []
def dkwX0_not_2 : List UInt8 := [154, 0, 12, 42, 16, 61, 182, 0, 230, 153, 0, 26, 42, 180, 0, 163, 61, 42, 182, 0, 194, 187, 0, 211]
abbrev dktX0_not_2 : List UInt8 := dkwX0_not_2 ++ dktX0_not_3
def dkwX0_not_1 : List UInt8 := [181, 0, 197, 187, 0, 222, 89, 43, 3, 183, 0, 224, 176, 42, 182, 0, 227, 76, 42, 16, 60, 182, 0, 230]
abbrev dktX0_not_1 : List UInt8 := dkwX0_not_1 ++ dktX0_not_2
def dkwX0_not_0 : List UInt8 := [42, 8, 182, 0, 208, 153, 0, 32, 42, 182, 0, 219, 42, 182, 0, 216, 76, 42, 89, 180, 0, 197, 4, 100]
abbrev dktX0_not_0 : List UInt8 := dkwX0_not_0 ++ dktX0_not_1
theorem dksX0_not_0 : cX0_not.data.toList.drop 0 = dktX0_not_0 := by decide +kernel
theorem dksX0_not_1 : cX0_not.data.toList.drop 24 = dktX0_not_1 := dk_seg dksX0_not_0 24 rfl rfl
theorem dksX0_not_2 : cX0_not.data.toList.drop 48 = dktX0_not_2 := dk_seg dksX0_not_1 24 rfl rfl
theorem dksX0_not_3 : cX0_not.data.toList.drop 72 = dktX0_not_3 := dk_seg dksX0_not_2 24 rfl rfl
theorem dX0_not_0 : decode cX0_not 0 = .ok (.aload_n 0, 1) := dk_42 (dk_at dksX0_not_0 0 rfl rfl)
theorem dX0_not_1 : decode cX0_not 1 = .ok (.iconst 5, 1) := dk_8 (dk_at dksX0_not_0 1 rfl rfl)
theorem dX0_not_2 : decode cX0_not 2 = .ok (.invokevirtual 208, 3) := dk_182 0 208 (dk_at dksX0_not_0 2 rfl rfl)
theorem dX0_not_5 : decode cX0_not 5 = .ok (.ifCond .eq 32, 3) := dk_153 0 32 (dk_at dksX0_not_0 5 rfl rfl)
theorem dX0_not_8 : decode cX0_not 8 = .ok (.aload_n 0, 1) := dk_42 (dk_at dksX0_not_0 8 rfl rfl)
theorem dX0_not_9 : decode cX0_not 9 = .ok (.invokevirtual 219, 3) := dk_182 0 219 (dk_at dksX0_not_0 9 rfl rfl)
theorem dX0_not_12 : decode cX0_not 12 = .ok (.aload_n 0, 1) := dk_42 (dk_at dksX0_not_0 12 rfl rfl)
theorem dX0_not_13 : decode cX0_not 13 = .ok (.invokevirtual 216, 3) := dk_182 0 216 (dk_at dksX0_not_0 13 rfl rfl)
theorem dX0_not_16 : decode cX0_not 16 = .ok (.astore_n 1, 1) := dk_76 (dk_at dksX0_not_0 16 rfl rfl)
theorem dX0_not_17 : decode cX0_not 17 = .ok (.aload_n 0, 1) := dk_42 (dk_at dksX0_not_0 17 rfl rfl)
theorem dX0_not_18 : decode cX0_not 18 = .ok (.dup, 1) := dk_89 (dk_at dksX0_not_0 18 rfl rfl)
theorem dX0_not_19 : decode cX0_not 19 = .ok (.getfield 197, 3) := dk_180 0 197 (dk_at dksX0_not_0 19 rfl rfl)
theorem dX0_not_22 : decode cX0_not 22 = .ok (.iconst 1, 1) := dk_4 (dk_at dksX0_not_0 22 rfl rfl)
theorem dX0_not_23 : decode cX0_not 23 = .ok (.isub, 1) := dk_100 (dk_at dksX0_not_0 23 rfl rfl)
theorem dX0_not_24 : decode cX0_not 24 = .ok (.putfield 197, 3) := dk_181 0 197 (dk_at dksX0_not_1 0 rfl rfl)
theorem dX0_not_27 : decode cX0_not 27 = .ok (.new 222, 3) := dk_187 0 222 (dk_at dksX0_not_1 3 rfl rfl)
theorem dX0_not_30 : decode cX0_not 30 = .ok (.dup, 1) := dk_89 (dk_at dksX0_not_1 6 rfl rfl)
theorem dX0_not_31 : decode cX0_not 31 = .ok (.aload_n 1, 1) := dk_43 (dk_at dksX0_not_1 7 rfl rfl)
theorem dX0_not_32 : decode cX0_not 32 = .ok (.iconst 0, 1) := dk_3 (dk_at dksX0_not_1 8 rfl rfl)
theorem dX0_not_33 : decode cX0_not 33 = .ok (.invokespecial 224, 3) := dk_183 0 224 (dk_at dksX0_not_1 9 rfl rfl)
theorem dX0_not_36 : decode cX0_not 36 = .ok (.areturn, 1) := dk_176 (dk_at dksX0_not_1 12 rfl rfl)
theorem dX0_not_37 : decode cX0_not 37 = .ok (.aload_n 0, 1) := dk_42 (dk_at dksX0_not_1 13 rfl rfl)
theorem dX0_not_38 : decode cX0_not 38 = .ok (.invokevirtual 227, 3) := dk_182 0 227 (dk_at dksX0_not_1 14 rfl rfl)
theorem dX0_not_41 : decode cX0_not 41 = .ok (.astore_n 1, 1) := dk_76 (dk_at dksX0_not_1 17 rfl rfl)
theorem dX0_not_42 : decode cX0_not 42 = .ok (.aload_n 0, 1) := dk_42 (dk_at dksX0_not_1 18 rfl rfl)
theorem dX0_not_43 : decode cX0_not 43 = .ok (.bipush 60, 2) := dk_16 60 (dk_at dksX0_not_1 19 rfl rfl)
theorem dX0_not_45 : decode cX0_not 45 = .ok (.invokevirtual 230, 3) := dk_182 0 230 (dk_at dksX0_not_1 21 rfl rfl)
theorem dX0_not_48 : decode cX0_not 48 = .ok (.ifCond .ne 12, 3) := dk_154 0 12 (dk_at dksX0_not_2 0 rfl rfl)
theorem dX0_not_51 : decode cX0_not 51 = .ok (.aload_n 0, 1) := dk_42 (dk_at dksX0_not_2 3 rfl rfl)
theorem dX0_not_52 : decode cX0_not 52 = .ok (.bipush 61, 2) := dk_16 61 (dk_at dksX0_not_2 4 rfl rfl)
theorem dX0_not_54 : decode cX0_not 54 = .ok (.invokevirtual 230, 3) := dk_182 0 230 (dk_at dksX0_not_2 6 rfl rfl)
theorem dX0_not_57 : decode cX0_not 57 = .ok (.ifCond .eq 26, 3) := dk_153 0 26 (dk_at dksX0_not_2 9 rfl rfl)
theorem dX0_not_60 : decode cX0_not 60 = .ok (.aload_n 0, 1) := dk_42 (dk_at dksX0_not_2 12 rfl rfl)
theorem dX0_not_61 : decode cX0_not 61 = .ok (.getfield 163, 3) := dk_180 0 163 (dk_at dksX0_not_2 13 rfl rfl)
theorem dX0_not_64 : decode cX0_not 64 = .ok (.istore_n 2, 1) := dk_61 (dk_at dksX0_not_2 16 rfl rfl)
theorem dX0_not_65 : decode cX0_not 65 = .ok (.aload_n 0, 1) := dk_42 (dk_at dksX0_not_2 17 rfl rfl)
theorem dX0_not_66 : decode cX0_not 66 = .ok (.invokevirtual 194, 3) := dk_182 0 194 (dk_at dksX0_not_2 18 rfl rfl)
theorem dX0_not_69 : decode cX0_not 69 = .ok (.new 211, 3) := dk_187 0 211 (dk_at dksX0_not_2 21 rfl rfl)
theorem dX0_not_72 : decode cX0_not 72 = .ok (.dup, 1) := dk_89 (dk_at dksX0_not_3 0 rfl rfl)
theorem dX0_not_73 : decode cX0_not 73 = .ok (.iload_n 2, 1) := dk_28 (dk_at dksX0_not_3 1 rfl rfl)
theorem dX0_not_74 : decode cX0_not 74 = .ok (.aload_n 1, 1) := dk_43 (dk_at dksX0_not_3 2 rfl rfl)
theorem dX0_not_75 : decode cX0_not 75 = .ok (.aload_n 0, 1) := dk_42 (dk_at dksX0_not_3 3 rfl rfl)
theorem dX0_not_76 : decode cX0_not 76 = .ok (.invokevirtual 227, 3) := dk_182 0 227 (dk_at dksX0_not_3 4 rfl rfl)
theorem dX0_not_79 : decode cX0_not 79 = .ok (.invokespecial 213, 3) := dk_183 0 213 (dk_at dksX0_not_3 7 rfl rfl)
theorem dX0_not_82 : decode cX0_not 82 = .ok (.astore_n 1, 1) := dk_76 (dk_at dksX0_not_3 10 rfl rfl)
theorem dX0_not_83 : decode cX0_not 83 = .ok (.aload_n 1, 1) := dk_43 (dk_at dksX0_not_3 11 rfl rfl)
theorem dX0_not_84 : decode cX0_not 84 = .ok (.areturn, 1) := dk_176 (dk_at dksX0_not_3 12 rfl rfl)
abbrev cX0_openOne : ByteArray := prog_1_method_25_code
def yX0_openOne : MethodName := ⟨RX0, "openOne", "()V"⟩
def dkwX0_openOne_1 : List UInt8 := [181, 0, 197, 177]
abbrev dktX0_openOne_1 : List UInt8 := dkwX0_openOne_1 ++ []
def dkwX0_openOne_0 : List UInt8 := [42, 42, 180, 0, 197, 8, 162, 0, 7, 4, 167, 0, 4, 3, 182, 0, 200, 42, 89, 180, 0, 197, 4, 96]
abbrev dktX0_openOne_0 : List UInt8 := dkwX0_openOne_0 ++ dktX0_openOne_1
theorem dksX0_openOne_0 : cX0_openOne.data.toList.drop 0 = dktX0_openOne_0 := by decide +kernel
theorem dksX0_openOne_1 : cX0_openOne.data.toList.drop 24 = dktX0_openOne_1 := dk_seg dksX0_openOne_0 24 rfl rfl
theorem dX0_openOne_0 : decode cX0_openOne 0 = .ok (.aload_n 0, 1) := dk_42 (dk_at dksX0_openOne_0 0 rfl rfl)
theorem dX0_openOne_1 : decode cX0_openOne 1 = .ok (.aload_n 0, 1) := dk_42 (dk_at dksX0_openOne_0 1 rfl rfl)
theorem dX0_openOne_2 : decode cX0_openOne 2 = .ok (.getfield 197, 3) := dk_180 0 197 (dk_at dksX0_openOne_0 2 rfl rfl)
theorem dX0_openOne_5 : decode cX0_openOne 5 = .ok (.iconst 5, 1) := dk_8 (dk_at dksX0_openOne_0 5 rfl rfl)
theorem dX0_openOne_6 : decode cX0_openOne 6 = .ok (.if_icmp .ge 7, 3) := dk_162 0 7 (dk_at dksX0_openOne_0 6 rfl rfl)
theorem dX0_openOne_9 : decode cX0_openOne 9 = .ok (.iconst 1, 1) := dk_4 (dk_at dksX0_openOne_0 9 rfl rfl)
theorem dX0_openOne_10 : decode cX0_openOne 10 = .ok (.goto 4, 3) := dk_167 0 4 (dk_at dksX0_openOne_0 10 rfl rfl)
theorem dX0_openOne_13 : decode cX0_openOne 13 = .ok (.iconst 0, 1) := dk_3 (dk_at dksX0_openOne_0 13 rfl rfl)
theorem dX0_openOne_14 : decode cX0_openOne 14 = .ok (.invokevirtual 200, 3) := dk_182 0 200 (dk_at dksX0_openOne_0 14 rfl rfl)
theorem dX0_openOne_17 : decode cX0_openOne 17 = .ok (.aload_n 0, 1) := dk_42 (dk_at dksX0_openOne_0 17 rfl rfl)
theorem dX0_openOne_18 : decode cX0_openOne 18 = .ok (.dup, 1) := dk_89 (dk_at dksX0_openOne_0 18 rfl rfl)
theorem dX0_openOne_19 : decode cX0_openOne 19 = .ok (.getfield 197, 3) := dk_180 0 197 (dk_at dksX0_openOne_0 19 rfl rfl)
theorem dX0_openOne_22 : decode cX0_openOne 22 = .ok (.iconst 1, 1) := dk_4 (dk_at dksX0_openOne_0 22 rfl rfl)
theorem dX0_openOne_23 : decode cX0_openOne 23 = .ok (.iadd, 1) := dk_96 (dk_at dksX0_openOne_0 23 rfl rfl)
theorem dX0_openOne_24 : decode cX0_openOne 24 = .ok (.putfield 197, 3) := dk_181 0 197 (dk_at dksX0_openOne_1 0 rfl rfl)
theorem dX0_openOne_27 : decode cX0_openOne 27 = .ok (.return_, 1) := dk_177 (dk_at dksX0_openOne_1 3 rfl rfl)
abbrev cX0_plus : ByteArray := prog_1_method_29_code
def yX0_plus : MethodName := ⟨RX0, "plus", "()LRoadsNotGoneBy$Node;"⟩
def dkwX0_plus_2 : List UInt8 := [167, 255, 215, 43, 176]
abbrev dktX0_plus_2 : List UInt8 := dkwX0_plus_2 ++ []
def dkwX0_plus_1 : List UInt8 := [180, 0, 163, 61, 42, 182, 0, 194, 187, 0, 211, 89, 28, 43, 42, 182, 0, 233, 183, 0, 213, 76]
abbrev dktX0_plus_1 : List UInt8 := dkwX0_plus_1 ++ dktX0_plus_2
def dkwX0_plus_0 : List UInt8 := [42, 182, 0, 233, 76, 42, 16, 43, 182, 0, 230, 154, 0, 12, 42, 16, 45, 182, 0, 230, 153, 0, 29, 42]
abbrev dktX0_plus_0 : List UInt8 := dkwX0_plus_0 ++ dktX0_plus_1
theorem dksX0_plus_0 : cX0_plus.data.toList.drop 0 = dktX0_plus_0 := by decide +kernel
theorem dksX0_plus_1 : cX0_plus.data.toList.drop 24 = dktX0_plus_1 := dk_seg dksX0_plus_0 24 rfl rfl
theorem dksX0_plus_2 : cX0_plus.data.toList.drop 46 = dktX0_plus_2 := dk_seg dksX0_plus_1 22 rfl rfl
theorem dX0_plus_0 : decode cX0_plus 0 = .ok (.aload_n 0, 1) := dk_42 (dk_at dksX0_plus_0 0 rfl rfl)
theorem dX0_plus_1 : decode cX0_plus 1 = .ok (.invokevirtual 233, 3) := dk_182 0 233 (dk_at dksX0_plus_0 1 rfl rfl)
theorem dX0_plus_4 : decode cX0_plus 4 = .ok (.astore_n 1, 1) := dk_76 (dk_at dksX0_plus_0 4 rfl rfl)
theorem dX0_plus_5 : decode cX0_plus 5 = .ok (.aload_n 0, 1) := dk_42 (dk_at dksX0_plus_0 5 rfl rfl)
theorem dX0_plus_6 : decode cX0_plus 6 = .ok (.bipush 43, 2) := dk_16 43 (dk_at dksX0_plus_0 6 rfl rfl)
theorem dX0_plus_8 : decode cX0_plus 8 = .ok (.invokevirtual 230, 3) := dk_182 0 230 (dk_at dksX0_plus_0 8 rfl rfl)
theorem dX0_plus_11 : decode cX0_plus 11 = .ok (.ifCond .ne 12, 3) := dk_154 0 12 (dk_at dksX0_plus_0 11 rfl rfl)
theorem dX0_plus_14 : decode cX0_plus 14 = .ok (.aload_n 0, 1) := dk_42 (dk_at dksX0_plus_0 14 rfl rfl)
theorem dX0_plus_15 : decode cX0_plus 15 = .ok (.bipush 45, 2) := dk_16 45 (dk_at dksX0_plus_0 15 rfl rfl)
theorem dX0_plus_17 : decode cX0_plus 17 = .ok (.invokevirtual 230, 3) := dk_182 0 230 (dk_at dksX0_plus_0 17 rfl rfl)
theorem dX0_plus_20 : decode cX0_plus 20 = .ok (.ifCond .eq 29, 3) := dk_153 0 29 (dk_at dksX0_plus_0 20 rfl rfl)
theorem dX0_plus_23 : decode cX0_plus 23 = .ok (.aload_n 0, 1) := dk_42 (dk_at dksX0_plus_0 23 rfl rfl)
theorem dX0_plus_24 : decode cX0_plus 24 = .ok (.getfield 163, 3) := dk_180 0 163 (dk_at dksX0_plus_1 0 rfl rfl)
theorem dX0_plus_27 : decode cX0_plus 27 = .ok (.istore_n 2, 1) := dk_61 (dk_at dksX0_plus_1 3 rfl rfl)
theorem dX0_plus_28 : decode cX0_plus 28 = .ok (.aload_n 0, 1) := dk_42 (dk_at dksX0_plus_1 4 rfl rfl)
theorem dX0_plus_29 : decode cX0_plus 29 = .ok (.invokevirtual 194, 3) := dk_182 0 194 (dk_at dksX0_plus_1 5 rfl rfl)
theorem dX0_plus_32 : decode cX0_plus 32 = .ok (.new 211, 3) := dk_187 0 211 (dk_at dksX0_plus_1 8 rfl rfl)
theorem dX0_plus_35 : decode cX0_plus 35 = .ok (.dup, 1) := dk_89 (dk_at dksX0_plus_1 11 rfl rfl)
theorem dX0_plus_36 : decode cX0_plus 36 = .ok (.iload_n 2, 1) := dk_28 (dk_at dksX0_plus_1 12 rfl rfl)
theorem dX0_plus_37 : decode cX0_plus 37 = .ok (.aload_n 1, 1) := dk_43 (dk_at dksX0_plus_1 13 rfl rfl)
theorem dX0_plus_38 : decode cX0_plus 38 = .ok (.aload_n 0, 1) := dk_42 (dk_at dksX0_plus_1 14 rfl rfl)
theorem dX0_plus_39 : decode cX0_plus 39 = .ok (.invokevirtual 233, 3) := dk_182 0 233 (dk_at dksX0_plus_1 15 rfl rfl)
theorem dX0_plus_42 : decode cX0_plus 42 = .ok (.invokespecial 213, 3) := dk_183 0 213 (dk_at dksX0_plus_1 18 rfl rfl)
theorem dX0_plus_45 : decode cX0_plus 45 = .ok (.astore_n 1, 1) := dk_76 (dk_at dksX0_plus_1 21 rfl rfl)
theorem dX0_plus_46 : decode cX0_plus 46 = .ok (.goto (-41), 3) := dk_167 255 215 (dk_at dksX0_plus_2 0 rfl rfl)
theorem dX0_plus_49 : decode cX0_plus 49 = .ok (.aload_n 1, 1) := dk_43 (dk_at dksX0_plus_2 3 rfl rfl)
theorem dX0_plus_50 : decode cX0_plus 50 = .ok (.areturn, 1) := dk_176 (dk_at dksX0_plus_2 4 rfl rfl)
abbrev cX0_times : ByteArray := prog_1_method_30_code
def yX0_times : MethodName := ⟨RX0, "times", "()LRoadsNotGoneBy$Node;"⟩
def dkwX0_times_1 : List UInt8 := [43, 42, 182, 0, 236, 183, 0, 213, 76, 167, 255, 228, 43, 176]
abbrev dktX0_times_1 : List UInt8 := dkwX0_times_1 ++ []
def dkwX0_times_0 : List UInt8 := [42, 182, 0, 236, 76, 42, 16, 42, 182, 0, 230, 153, 0, 25, 42, 182, 0, 194, 187, 0, 211, 89, 16, 42]
abbrev dktX0_times_0 : List UInt8 := dkwX0_times_0 ++ dktX0_times_1
theorem dksX0_times_0 : cX0_times.data.toList.drop 0 = dktX0_times_0 := by decide +kernel
theorem dksX0_times_1 : cX0_times.data.toList.drop 24 = dktX0_times_1 := dk_seg dksX0_times_0 24 rfl rfl
theorem dX0_times_0 : decode cX0_times 0 = .ok (.aload_n 0, 1) := dk_42 (dk_at dksX0_times_0 0 rfl rfl)
theorem dX0_times_1 : decode cX0_times 1 = .ok (.invokevirtual 236, 3) := dk_182 0 236 (dk_at dksX0_times_0 1 rfl rfl)
theorem dX0_times_4 : decode cX0_times 4 = .ok (.astore_n 1, 1) := dk_76 (dk_at dksX0_times_0 4 rfl rfl)
theorem dX0_times_5 : decode cX0_times 5 = .ok (.aload_n 0, 1) := dk_42 (dk_at dksX0_times_0 5 rfl rfl)
theorem dX0_times_6 : decode cX0_times 6 = .ok (.bipush 42, 2) := dk_16 42 (dk_at dksX0_times_0 6 rfl rfl)
theorem dX0_times_8 : decode cX0_times 8 = .ok (.invokevirtual 230, 3) := dk_182 0 230 (dk_at dksX0_times_0 8 rfl rfl)
theorem dX0_times_11 : decode cX0_times 11 = .ok (.ifCond .eq 25, 3) := dk_153 0 25 (dk_at dksX0_times_0 11 rfl rfl)
theorem dX0_times_14 : decode cX0_times 14 = .ok (.aload_n 0, 1) := dk_42 (dk_at dksX0_times_0 14 rfl rfl)
theorem dX0_times_15 : decode cX0_times 15 = .ok (.invokevirtual 194, 3) := dk_182 0 194 (dk_at dksX0_times_0 15 rfl rfl)
theorem dX0_times_18 : decode cX0_times 18 = .ok (.new 211, 3) := dk_187 0 211 (dk_at dksX0_times_0 18 rfl rfl)
theorem dX0_times_21 : decode cX0_times 21 = .ok (.dup, 1) := dk_89 (dk_at dksX0_times_0 21 rfl rfl)
theorem dX0_times_22 : decode cX0_times 22 = .ok (.bipush 42, 2) := dk_16 42 (dk_at dksX0_times_0 22 rfl rfl)
theorem dX0_times_24 : decode cX0_times 24 = .ok (.aload_n 1, 1) := dk_43 (dk_at dksX0_times_1 0 rfl rfl)
theorem dX0_times_25 : decode cX0_times 25 = .ok (.aload_n 0, 1) := dk_42 (dk_at dksX0_times_1 1 rfl rfl)
theorem dX0_times_26 : decode cX0_times 26 = .ok (.invokevirtual 236, 3) := dk_182 0 236 (dk_at dksX0_times_1 2 rfl rfl)
theorem dX0_times_29 : decode cX0_times 29 = .ok (.invokespecial 213, 3) := dk_183 0 213 (dk_at dksX0_times_1 5 rfl rfl)
theorem dX0_times_32 : decode cX0_times 32 = .ok (.astore_n 1, 1) := dk_76 (dk_at dksX0_times_1 8 rfl rfl)
theorem dX0_times_33 : decode cX0_times 33 = .ok (.goto (-28), 3) := dk_167 255 228 (dk_at dksX0_times_1 9 rfl rfl)
theorem dX0_times_36 : decode cX0_times 36 = .ok (.aload_n 1, 1) := dk_43 (dk_at dksX0_times_1 12 rfl rfl)
theorem dX0_times_37 : decode cX0_times 37 = .ok (.areturn, 1) := dk_176 (dk_at dksX0_times_1 13 rfl rfl)
abbrev cX0_one : ByteArray := prog_1_method_31_code
def yX0_one : MethodName := ⟨RX0, "one", "()LRoadsNotGoneBy$Node;"⟩
def dkwX0_one_5 : List UInt8 := [154, 0, 8, 42, 180, 0, 173, 191, 42, 89, 180, 0, 197, 4, 100, 181, 0, 197, 42, 182, 0, 194, 44, 176]
abbrev dktX0_one_5 : List UInt8 := dkwX0_one_5 ++ []
def dkwX0_one_4 : List UInt8 := [154, 0, 8, 42, 180, 0, 173, 191, 42, 182, 0, 219, 42, 182, 0, 249, 77, 42, 16, 41, 182, 0, 230]
abbrev dktX0_one_4 : List UInt8 := dkwX0_one_4 ++ dktX0_one_5
def dkwX0_one_3 : List UInt8 := [180, 0, 197, 4, 100, 181, 0, 197, 187, 0, 222, 89, 44, 4, 183, 0, 224, 176, 42, 16, 40, 182, 0, 230]
abbrev dktX0_one_3 : List UInt8 := dkwX0_one_3 ++ dktX0_one_4
def dkwX0_one_2 : List UInt8 := [183, 0, 246, 176, 42, 16, 45, 182, 0, 230, 153, 0, 32, 42, 182, 0, 219, 42, 182, 0, 236, 77, 42, 89]
abbrev dktX0_one_2 : List UInt8 := dkwX0_one_2 ++ dktX0_one_3
def dkwX0_one_1 : List UInt8 := [183, 0, 241, 176, 42, 180, 0, 147, 5, 160, 0, 17, 42, 182, 0, 194, 187, 0, 244, 89, 42, 27]
abbrev dktX0_one_1 : List UInt8 := dkwX0_one_1 ++ dktX0_one_2
def dkwX0_one_0 : List UInt8 := [42, 180, 0, 163, 60, 42, 180, 0, 147, 6, 160, 0, 16, 42, 182, 0, 194, 187, 0, 239, 89, 27]
abbrev dktX0_one_0 : List UInt8 := dkwX0_one_0 ++ dktX0_one_1
theorem dksX0_one_0 : cX0_one.data.toList.drop 0 = dktX0_one_0 := by decide +kernel
theorem dksX0_one_1 : cX0_one.data.toList.drop 22 = dktX0_one_1 := dk_seg dksX0_one_0 22 rfl rfl
theorem dksX0_one_2 : cX0_one.data.toList.drop 44 = dktX0_one_2 := dk_seg dksX0_one_1 22 rfl rfl
theorem dksX0_one_3 : cX0_one.data.toList.drop 68 = dktX0_one_3 := dk_seg dksX0_one_2 24 rfl rfl
theorem dksX0_one_4 : cX0_one.data.toList.drop 92 = dktX0_one_4 := dk_seg dksX0_one_3 24 rfl rfl
theorem dksX0_one_5 : cX0_one.data.toList.drop 115 = dktX0_one_5 := dk_seg dksX0_one_4 23 rfl rfl
theorem dX0_one_0 : decode cX0_one 0 = .ok (.aload_n 0, 1) := dk_42 (dk_at dksX0_one_0 0 rfl rfl)
theorem dX0_one_1 : decode cX0_one 1 = .ok (.getfield 163, 3) := dk_180 0 163 (dk_at dksX0_one_0 1 rfl rfl)
theorem dX0_one_4 : decode cX0_one 4 = .ok (.istore_n 1, 1) := dk_60 (dk_at dksX0_one_0 4 rfl rfl)
theorem dX0_one_5 : decode cX0_one 5 = .ok (.aload_n 0, 1) := dk_42 (dk_at dksX0_one_0 5 rfl rfl)
theorem dX0_one_6 : decode cX0_one 6 = .ok (.getfield 147, 3) := dk_180 0 147 (dk_at dksX0_one_0 6 rfl rfl)
theorem dX0_one_9 : decode cX0_one 9 = .ok (.iconst 3, 1) := dk_6 (dk_at dksX0_one_0 9 rfl rfl)
theorem dX0_one_10 : decode cX0_one 10 = .ok (.if_icmp .ne 16, 3) := dk_160 0 16 (dk_at dksX0_one_0 10 rfl rfl)
theorem dX0_one_13 : decode cX0_one 13 = .ok (.aload_n 0, 1) := dk_42 (dk_at dksX0_one_0 13 rfl rfl)
theorem dX0_one_14 : decode cX0_one 14 = .ok (.invokevirtual 194, 3) := dk_182 0 194 (dk_at dksX0_one_0 14 rfl rfl)
theorem dX0_one_17 : decode cX0_one 17 = .ok (.new 239, 3) := dk_187 0 239 (dk_at dksX0_one_0 17 rfl rfl)
theorem dX0_one_20 : decode cX0_one 20 = .ok (.dup, 1) := dk_89 (dk_at dksX0_one_0 20 rfl rfl)
theorem dX0_one_21 : decode cX0_one 21 = .ok (.iload_n 1, 1) := dk_27 (dk_at dksX0_one_0 21 rfl rfl)
theorem dX0_one_22 : decode cX0_one 22 = .ok (.invokespecial 241, 3) := dk_183 0 241 (dk_at dksX0_one_1 0 rfl rfl)
theorem dX0_one_25 : decode cX0_one 25 = .ok (.areturn, 1) := dk_176 (dk_at dksX0_one_1 3 rfl rfl)
theorem dX0_one_26 : decode cX0_one 26 = .ok (.aload_n 0, 1) := dk_42 (dk_at dksX0_one_1 4 rfl rfl)
theorem dX0_one_27 : decode cX0_one 27 = .ok (.getfield 147, 3) := dk_180 0 147 (dk_at dksX0_one_1 5 rfl rfl)
theorem dX0_one_30 : decode cX0_one 30 = .ok (.iconst 2, 1) := dk_5 (dk_at dksX0_one_1 8 rfl rfl)
theorem dX0_one_31 : decode cX0_one 31 = .ok (.if_icmp .ne 17, 3) := dk_160 0 17 (dk_at dksX0_one_1 9 rfl rfl)
theorem dX0_one_34 : decode cX0_one 34 = .ok (.aload_n 0, 1) := dk_42 (dk_at dksX0_one_1 12 rfl rfl)
theorem dX0_one_35 : decode cX0_one 35 = .ok (.invokevirtual 194, 3) := dk_182 0 194 (dk_at dksX0_one_1 13 rfl rfl)
theorem dX0_one_38 : decode cX0_one 38 = .ok (.new 244, 3) := dk_187 0 244 (dk_at dksX0_one_1 16 rfl rfl)
theorem dX0_one_41 : decode cX0_one 41 = .ok (.dup, 1) := dk_89 (dk_at dksX0_one_1 19 rfl rfl)
theorem dX0_one_42 : decode cX0_one 42 = .ok (.aload_n 0, 1) := dk_42 (dk_at dksX0_one_1 20 rfl rfl)
theorem dX0_one_43 : decode cX0_one 43 = .ok (.iload_n 1, 1) := dk_27 (dk_at dksX0_one_1 21 rfl rfl)
theorem dX0_one_44 : decode cX0_one 44 = .ok (.invokespecial 246, 3) := dk_183 0 246 (dk_at dksX0_one_2 0 rfl rfl)
theorem dX0_one_47 : decode cX0_one 47 = .ok (.areturn, 1) := dk_176 (dk_at dksX0_one_2 3 rfl rfl)
theorem dX0_one_48 : decode cX0_one 48 = .ok (.aload_n 0, 1) := dk_42 (dk_at dksX0_one_2 4 rfl rfl)
theorem dX0_one_49 : decode cX0_one 49 = .ok (.bipush 45, 2) := dk_16 45 (dk_at dksX0_one_2 5 rfl rfl)
theorem dX0_one_51 : decode cX0_one 51 = .ok (.invokevirtual 230, 3) := dk_182 0 230 (dk_at dksX0_one_2 7 rfl rfl)
theorem dX0_one_54 : decode cX0_one 54 = .ok (.ifCond .eq 32, 3) := dk_153 0 32 (dk_at dksX0_one_2 10 rfl rfl)
theorem dX0_one_57 : decode cX0_one 57 = .ok (.aload_n 0, 1) := dk_42 (dk_at dksX0_one_2 13 rfl rfl)
theorem dX0_one_58 : decode cX0_one 58 = .ok (.invokevirtual 219, 3) := dk_182 0 219 (dk_at dksX0_one_2 14 rfl rfl)
theorem dX0_one_61 : decode cX0_one 61 = .ok (.aload_n 0, 1) := dk_42 (dk_at dksX0_one_2 17 rfl rfl)
theorem dX0_one_62 : decode cX0_one 62 = .ok (.invokevirtual 236, 3) := dk_182 0 236 (dk_at dksX0_one_2 18 rfl rfl)
theorem dX0_one_65 : decode cX0_one 65 = .ok (.astore_n 2, 1) := dk_77 (dk_at dksX0_one_2 21 rfl rfl)
theorem dX0_one_66 : decode cX0_one 66 = .ok (.aload_n 0, 1) := dk_42 (dk_at dksX0_one_2 22 rfl rfl)
theorem dX0_one_67 : decode cX0_one 67 = .ok (.dup, 1) := dk_89 (dk_at dksX0_one_2 23 rfl rfl)
theorem dX0_one_68 : decode cX0_one 68 = .ok (.getfield 197, 3) := dk_180 0 197 (dk_at dksX0_one_3 0 rfl rfl)
theorem dX0_one_71 : decode cX0_one 71 = .ok (.iconst 1, 1) := dk_4 (dk_at dksX0_one_3 3 rfl rfl)
theorem dX0_one_72 : decode cX0_one 72 = .ok (.isub, 1) := dk_100 (dk_at dksX0_one_3 4 rfl rfl)
theorem dX0_one_73 : decode cX0_one 73 = .ok (.putfield 197, 3) := dk_181 0 197 (dk_at dksX0_one_3 5 rfl rfl)
theorem dX0_one_76 : decode cX0_one 76 = .ok (.new 222, 3) := dk_187 0 222 (dk_at dksX0_one_3 8 rfl rfl)
theorem dX0_one_79 : decode cX0_one 79 = .ok (.dup, 1) := dk_89 (dk_at dksX0_one_3 11 rfl rfl)
theorem dX0_one_80 : decode cX0_one 80 = .ok (.aload_n 2, 1) := dk_44 (dk_at dksX0_one_3 12 rfl rfl)
theorem dX0_one_81 : decode cX0_one 81 = .ok (.iconst 1, 1) := dk_4 (dk_at dksX0_one_3 13 rfl rfl)
theorem dX0_one_82 : decode cX0_one 82 = .ok (.invokespecial 224, 3) := dk_183 0 224 (dk_at dksX0_one_3 14 rfl rfl)
theorem dX0_one_85 : decode cX0_one 85 = .ok (.areturn, 1) := dk_176 (dk_at dksX0_one_3 17 rfl rfl)
theorem dX0_one_86 : decode cX0_one 86 = .ok (.aload_n 0, 1) := dk_42 (dk_at dksX0_one_3 18 rfl rfl)
theorem dX0_one_87 : decode cX0_one 87 = .ok (.bipush 40, 2) := dk_16 40 (dk_at dksX0_one_3 19 rfl rfl)
theorem dX0_one_89 : decode cX0_one 89 = .ok (.invokevirtual 230, 3) := dk_182 0 230 (dk_at dksX0_one_3 21 rfl rfl)
theorem dX0_one_92 : decode cX0_one 92 = .ok (.ifCond .ne 8, 3) := dk_154 0 8 (dk_at dksX0_one_4 0 rfl rfl)
theorem dX0_one_95 : decode cX0_one 95 = .ok (.aload_n 0, 1) := dk_42 (dk_at dksX0_one_4 3 rfl rfl)
theorem dX0_one_96 : decode cX0_one 96 = .ok (.getfield 173, 3) := dk_180 0 173 (dk_at dksX0_one_4 4 rfl rfl)
theorem dX0_one_99 : decode cX0_one 99 = .ok (.athrow, 1) := dk_191 (dk_at dksX0_one_4 7 rfl rfl)
theorem dX0_one_100 : decode cX0_one 100 = .ok (.aload_n 0, 1) := dk_42 (dk_at dksX0_one_4 8 rfl rfl)
theorem dX0_one_101 : decode cX0_one 101 = .ok (.invokevirtual 219, 3) := dk_182 0 219 (dk_at dksX0_one_4 9 rfl rfl)
theorem dX0_one_104 : decode cX0_one 104 = .ok (.aload_n 0, 1) := dk_42 (dk_at dksX0_one_4 12 rfl rfl)
theorem dX0_one_105 : decode cX0_one 105 = .ok (.invokevirtual 249, 3) := dk_182 0 249 (dk_at dksX0_one_4 13 rfl rfl)
theorem dX0_one_108 : decode cX0_one 108 = .ok (.astore_n 2, 1) := dk_77 (dk_at dksX0_one_4 16 rfl rfl)
theorem dX0_one_109 : decode cX0_one 109 = .ok (.aload_n 0, 1) := dk_42 (dk_at dksX0_one_4 17 rfl rfl)
theorem dX0_one_110 : decode cX0_one 110 = .ok (.bipush 41, 2) := dk_16 41 (dk_at dksX0_one_4 18 rfl rfl)
theorem dX0_one_112 : decode cX0_one 112 = .ok (.invokevirtual 230, 3) := dk_182 0 230 (dk_at dksX0_one_4 20 rfl rfl)
theorem dX0_one_115 : decode cX0_one 115 = .ok (.ifCond .ne 8, 3) := dk_154 0 8 (dk_at dksX0_one_5 0 rfl rfl)
theorem dX0_one_118 : decode cX0_one 118 = .ok (.aload_n 0, 1) := dk_42 (dk_at dksX0_one_5 3 rfl rfl)
theorem dX0_one_119 : decode cX0_one 119 = .ok (.getfield 173, 3) := dk_180 0 173 (dk_at dksX0_one_5 4 rfl rfl)
theorem dX0_one_122 : decode cX0_one 122 = .ok (.athrow, 1) := dk_191 (dk_at dksX0_one_5 7 rfl rfl)
theorem dX0_one_123 : decode cX0_one 123 = .ok (.aload_n 0, 1) := dk_42 (dk_at dksX0_one_5 8 rfl rfl)
theorem dX0_one_124 : decode cX0_one 124 = .ok (.dup, 1) := dk_89 (dk_at dksX0_one_5 9 rfl rfl)
theorem dX0_one_125 : decode cX0_one 125 = .ok (.getfield 197, 3) := dk_180 0 197 (dk_at dksX0_one_5 10 rfl rfl)
theorem dX0_one_128 : decode cX0_one 128 = .ok (.iconst 1, 1) := dk_4 (dk_at dksX0_one_5 13 rfl rfl)
theorem dX0_one_129 : decode cX0_one 129 = .ok (.isub, 1) := dk_100 (dk_at dksX0_one_5 14 rfl rfl)
theorem dX0_one_130 : decode cX0_one 130 = .ok (.putfield 197, 3) := dk_181 0 197 (dk_at dksX0_one_5 15 rfl rfl)
theorem dX0_one_133 : decode cX0_one 133 = .ok (.aload_n 0, 1) := dk_42 (dk_at dksX0_one_5 18 rfl rfl)
theorem dX0_one_134 : decode cX0_one 134 = .ok (.invokevirtual 194, 3) := dk_182 0 194 (dk_at dksX0_one_5 19 rfl rfl)
theorem dX0_one_137 : decode cX0_one 137 = .ok (.aload_n 2, 1) := dk_44 (dk_at dksX0_one_5 22 rfl rfl)
theorem dX0_one_138 : decode cX0_one 138 = .ok (.areturn, 1) := dk_176 (dk_at dksX0_one_5 23 rfl rfl)
abbrev cX0_isSign : ByteArray := prog_1_method_22_code
def yX0_isSign : MethodName := ⟨RX0, "isSign", "(I)Z"⟩
def dkwX0_isSign_0 : List UInt8 := [42, 180, 0, 147, 7, 160, 0, 15, 42, 180, 0, 163, 27, 160, 0, 7, 4, 167, 0, 4, 3, 172]
abbrev dktX0_isSign_0 : List UInt8 := dkwX0_isSign_0 ++ []
theorem dksX0_isSign_0 : cX0_isSign.data.toList.drop 0 = dktX0_isSign_0 := by decide +kernel
theorem dX0_isSign_0 : decode cX0_isSign 0 = .ok (.aload_n 0, 1) := dk_42 (dk_at dksX0_isSign_0 0 rfl rfl)
theorem dX0_isSign_1 : decode cX0_isSign 1 = .ok (.getfield 147, 3) := dk_180 0 147 (dk_at dksX0_isSign_0 1 rfl rfl)
theorem dX0_isSign_4 : decode cX0_isSign 4 = .ok (.iconst 4, 1) := dk_7 (dk_at dksX0_isSign_0 4 rfl rfl)
theorem dX0_isSign_5 : decode cX0_isSign 5 = .ok (.if_icmp .ne 15, 3) := dk_160 0 15 (dk_at dksX0_isSign_0 5 rfl rfl)
theorem dX0_isSign_8 : decode cX0_isSign 8 = .ok (.aload_n 0, 1) := dk_42 (dk_at dksX0_isSign_0 8 rfl rfl)
theorem dX0_isSign_9 : decode cX0_isSign 9 = .ok (.getfield 163, 3) := dk_180 0 163 (dk_at dksX0_isSign_0 9 rfl rfl)
theorem dX0_isSign_12 : decode cX0_isSign 12 = .ok (.iload_n 1, 1) := dk_27 (dk_at dksX0_isSign_0 12 rfl rfl)
theorem dX0_isSign_13 : decode cX0_isSign 13 = .ok (.if_icmp .ne 7, 3) := dk_160 0 7 (dk_at dksX0_isSign_0 13 rfl rfl)
theorem dX0_isSign_16 : decode cX0_isSign 16 = .ok (.iconst 1, 1) := dk_4 (dk_at dksX0_isSign_0 16 rfl rfl)
theorem dX0_isSign_17 : decode cX0_isSign 17 = .ok (.goto 4, 3) := dk_167 0 4 (dk_at dksX0_isSign_0 17 rfl rfl)
theorem dX0_isSign_20 : decode cX0_isSign 20 = .ok (.iconst 0, 1) := dk_3 (dk_at dksX0_isSign_0 20 rfl rfl)
theorem dX0_isSign_21 : decode cX0_isSign 21 = .ok (.ireturn, 1) := dk_172 (dk_at dksX0_isSign_0 21 rfl rfl)
abbrev cX0_init : ByteArray := prog_1_method_37_code
def yX0_init : MethodName := ⟨RX0, "<init>", "()V"⟩
def dkwX0_init_14 : List UInt8 := [19, 1, 81, 182, 1, 83, 177]
abbrev dktX0_init_14 : List UInt8 := dkwX0_init_14 ++ []
def dkwX0_init_13 : List UInt8 := [180, 0, 67, 5, 27, 104, 4, 96, 27, 5, 96, 16, 12, 112, 79, 132, 1, 1, 167, 255, 217, 42]
abbrev dktX0_init_13 : List UInt8 := dkwX0_init_13 ++ dktX0_init_14
def dkwX0_init_12 : List UInt8 := [3, 60, 27, 16, 12, 162, 0, 39, 42, 180, 0, 67, 5, 27, 104, 27, 4, 96, 16, 12, 112, 79, 42]
abbrev dktX0_init_12 : List UInt8 := dkwX0_init_12 ++ dktX0_init_13
def dkwX0_init_11 : List UInt8 := [83, 89, 5, 187, 1, 74, 89, 183, 1, 76, 83, 89, 6, 187, 1, 74, 89, 183, 1, 76, 83, 181, 1, 77]
abbrev dktX0_init_11 : List UInt8 := dkwX0_init_11 ++ dktX0_init_12
def dkwX0_init_10 : List UInt8 := [42, 7, 189, 1, 74, 89, 3, 187, 1, 74, 89, 183, 1, 76, 83, 89, 4, 187, 1, 74, 89, 183, 1, 76]
abbrev dktX0_init_10 : List UInt8 := dkwX0_init_10 ++ dktX0_init_11
def dkwX0_init_9 : List UInt8 := [197, 1, 63, 2, 181, 1, 65, 42, 7, 8, 197, 1, 63, 2, 181, 1, 68, 42, 6, 188, 10, 181, 1, 71]
abbrev dktX0_init_9 : List UInt8 := dkwX0_init_9 ++ dktX0_init_10
def dkwX0_init_8 : List UInt8 := [181, 1, 54, 42, 16, 12, 188, 10, 181, 1, 57, 42, 16, 24, 188, 10, 181, 1, 60, 42, 5, 16, 24]
abbrev dktX0_init_8 : List UInt8 := dkwX0_init_8 ++ dktX0_init_9
def dkwX0_init_7 : List UInt8 := [181, 1, 44, 42, 16, 12, 188, 11, 181, 1, 47, 42, 16, 12, 188, 11, 181, 1, 51, 42, 16, 12, 188, 10]
abbrev dktX0_init_7 : List UInt8 := dkwX0_init_7 ++ dktX0_init_8
def dkwX0_init_6 : List UInt8 := [181, 0, 191, 42, 17, 0, 160, 188, 8, 181, 0, 126, 42, 16, 24, 188, 10, 181, 1, 41, 42, 8, 188, 10]
abbrev dktX0_init_6 : List UInt8 := dkwX0_init_6 ++ dktX0_init_7
def dkwX0_init_5 : List UInt8 := [19, 1, 37, 83, 89, 6, 19, 1, 38, 83, 89, 7, 19, 1, 39, 83, 89, 8, 19, 1, 40, 83]
abbrev dktX0_init_5 : List UInt8 := dkwX0_init_5 ++ dktX0_init_6
def dkwX0_init_4 : List UInt8 := [181, 0, 183, 42, 16, 6, 189, 0, 169, 89, 3, 19, 1, 33, 83, 89, 4, 19, 1, 35, 83, 89, 5]
abbrev dktX0_init_4 : List UInt8 := dkwX0_init_4 ++ dktX0_init_5
def dkwX0_init_3 : List UInt8 := [19, 1, 26, 83, 89, 6, 19, 1, 28, 83, 89, 7, 19, 1, 30, 83, 89, 8, 19, 1, 32, 83]
abbrev dktX0_init_3 : List UInt8 := dkwX0_init_3 ++ dktX0_init_4
def dkwX0_init_2 : List UInt8 := [181, 1, 3, 42, 16, 6, 189, 0, 169, 89, 3, 19, 1, 22, 83, 89, 4, 19, 1, 24, 83, 89, 5]
abbrev dktX0_init_2 : List UInt8 := dkwX0_init_2 ++ dktX0_init_3
def dkwX0_init_1 : List UInt8 := [188, 10, 181, 0, 71, 42, 187, 1, 1, 89, 183, 1, 19, 181, 0, 173, 42, 16, 6, 189, 1, 20]
abbrev dktX0_init_1 : List UInt8 := dkwX0_init_1 ++ dktX0_init_2
def dkwX0_init_0 : List UInt8 := [42, 183, 1, 15, 42, 8, 189, 0, 42, 181, 0, 53, 42, 16, 24, 188, 10, 181, 0, 67, 42, 16, 24]
abbrev dktX0_init_0 : List UInt8 := dkwX0_init_0 ++ dktX0_init_1
theorem dksX0_init_0 : cX0_init.data.toList.drop 0 = dktX0_init_0 := by decide +kernel
theorem dksX0_init_1 : cX0_init.data.toList.drop 23 = dktX0_init_1 := dk_seg dksX0_init_0 23 rfl rfl
theorem dksX0_init_2 : cX0_init.data.toList.drop 45 = dktX0_init_2 := dk_seg dksX0_init_1 22 rfl rfl
theorem dksX0_init_3 : cX0_init.data.toList.drop 68 = dktX0_init_3 := dk_seg dksX0_init_2 23 rfl rfl
theorem dksX0_init_4 : cX0_init.data.toList.drop 90 = dktX0_init_4 := dk_seg dksX0_init_3 22 rfl rfl
theorem dksX0_init_5 : cX0_init.data.toList.drop 113 = dktX0_init_5 := dk_seg dksX0_init_4 23 rfl rfl
theorem dksX0_init_6 : cX0_init.data.toList.drop 135 = dktX0_init_6 := dk_seg dksX0_init_5 22 rfl rfl
theorem dksX0_init_7 : cX0_init.data.toList.drop 159 = dktX0_init_7 := dk_seg dksX0_init_6 24 rfl rfl
theorem dksX0_init_8 : cX0_init.data.toList.drop 183 = dktX0_init_8 := dk_seg dksX0_init_7 24 rfl rfl
theorem dksX0_init_9 : cX0_init.data.toList.drop 206 = dktX0_init_9 := dk_seg dksX0_init_8 23 rfl rfl
theorem dksX0_init_10 : cX0_init.data.toList.drop 230 = dktX0_init_10 := dk_seg dksX0_init_9 24 rfl rfl
theorem dksX0_init_11 : cX0_init.data.toList.drop 254 = dktX0_init_11 := dk_seg dksX0_init_10 24 rfl rfl
theorem dksX0_init_12 : cX0_init.data.toList.drop 278 = dktX0_init_12 := dk_seg dksX0_init_11 24 rfl rfl
theorem dksX0_init_13 : cX0_init.data.toList.drop 301 = dktX0_init_13 := dk_seg dksX0_init_12 23 rfl rfl
theorem dksX0_init_14 : cX0_init.data.toList.drop 323 = dktX0_init_14 := dk_seg dksX0_init_13 22 rfl rfl
theorem dX0_init_0 : decode cX0_init 0 = .ok (.aload_n 0, 1) := dk_42 (dk_at dksX0_init_0 0 rfl rfl)
theorem dX0_init_1 : decode cX0_init 1 = .ok (.invokespecial 271, 3) := dk_183 1 15 (dk_at dksX0_init_0 1 rfl rfl)
theorem dX0_init_4 : decode cX0_init 4 = .ok (.aload_n 0, 1) := dk_42 (dk_at dksX0_init_0 4 rfl rfl)
theorem dX0_init_5 : decode cX0_init 5 = .ok (.iconst 5, 1) := dk_8 (dk_at dksX0_init_0 5 rfl rfl)
theorem dX0_init_6 : decode cX0_init 6 = .ok (.anewarray 42, 3) := dk_189 0 42 (dk_at dksX0_init_0 6 rfl rfl)
theorem dX0_init_9 : decode cX0_init 9 = .ok (.putfield 53, 3) := dk_181 0 53 (dk_at dksX0_init_0 9 rfl rfl)
theorem dX0_init_12 : decode cX0_init 12 = .ok (.aload_n 0, 1) := dk_42 (dk_at dksX0_init_0 12 rfl rfl)
theorem dX0_init_13 : decode cX0_init 13 = .ok (.bipush 24, 2) := dk_16 24 (dk_at dksX0_init_0 13 rfl rfl)
theorem dX0_init_15 : decode cX0_init 15 = .ok (.newarray .int, 2) := dk_188_10 (dk_at dksX0_init_0 15 rfl rfl)
theorem dX0_init_17 : decode cX0_init 17 = .ok (.putfield 67, 3) := dk_181 0 67 (dk_at dksX0_init_0 17 rfl rfl)
theorem dX0_init_20 : decode cX0_init 20 = .ok (.aload_n 0, 1) := dk_42 (dk_at dksX0_init_0 20 rfl rfl)
theorem dX0_init_21 : decode cX0_init 21 = .ok (.bipush 24, 2) := dk_16 24 (dk_at dksX0_init_0 21 rfl rfl)
theorem dX0_init_23 : decode cX0_init 23 = .ok (.newarray .int, 2) := dk_188_10 (dk_at dksX0_init_1 0 rfl rfl)
theorem dX0_init_25 : decode cX0_init 25 = .ok (.putfield 71, 3) := dk_181 0 71 (dk_at dksX0_init_1 2 rfl rfl)
theorem dX0_init_28 : decode cX0_init 28 = .ok (.aload_n 0, 1) := dk_42 (dk_at dksX0_init_1 5 rfl rfl)
theorem dX0_init_29 : decode cX0_init 29 = .ok (.new 257, 3) := dk_187 1 1 (dk_at dksX0_init_1 6 rfl rfl)
theorem dX0_init_32 : decode cX0_init 32 = .ok (.dup, 1) := dk_89 (dk_at dksX0_init_1 9 rfl rfl)
theorem dX0_init_33 : decode cX0_init 33 = .ok (.invokespecial 275, 3) := dk_183 1 19 (dk_at dksX0_init_1 10 rfl rfl)
theorem dX0_init_36 : decode cX0_init 36 = .ok (.putfield 173, 3) := dk_181 0 173 (dk_at dksX0_init_1 13 rfl rfl)
theorem dX0_init_39 : decode cX0_init 39 = .ok (.aload_n 0, 1) := dk_42 (dk_at dksX0_init_1 16 rfl rfl)
theorem dX0_init_40 : decode cX0_init 40 = .ok (.bipush 6, 2) := dk_16 6 (dk_at dksX0_init_1 17 rfl rfl)
theorem dX0_init_42 : decode cX0_init 42 = .ok (.anewarray 276, 3) := dk_189 1 20 (dk_at dksX0_init_1 19 rfl rfl)
theorem dX0_init_45 : decode cX0_init 45 = .ok (.putfield 259, 3) := dk_181 1 3 (dk_at dksX0_init_2 0 rfl rfl)
theorem dX0_init_48 : decode cX0_init 48 = .ok (.aload_n 0, 1) := dk_42 (dk_at dksX0_init_2 3 rfl rfl)
theorem dX0_init_49 : decode cX0_init 49 = .ok (.bipush 6, 2) := dk_16 6 (dk_at dksX0_init_2 4 rfl rfl)
theorem dX0_init_51 : decode cX0_init 51 = .ok (.anewarray 169, 3) := dk_189 0 169 (dk_at dksX0_init_2 6 rfl rfl)
theorem dX0_init_54 : decode cX0_init 54 = .ok (.dup, 1) := dk_89 (dk_at dksX0_init_2 9 rfl rfl)
theorem dX0_init_55 : decode cX0_init 55 = .ok (.iconst 0, 1) := dk_3 (dk_at dksX0_init_2 10 rfl rfl)
theorem dX0_init_56 : decode cX0_init 56 = .ok (.ldc_w 278, 3) := dk_19 1 22 (dk_at dksX0_init_2 11 rfl rfl)
theorem dX0_init_59 : decode cX0_init 59 = .ok (.aastore, 1) := dk_83 (dk_at dksX0_init_2 14 rfl rfl)
theorem dX0_init_60 : decode cX0_init 60 = .ok (.dup, 1) := dk_89 (dk_at dksX0_init_2 15 rfl rfl)
theorem dX0_init_61 : decode cX0_init 61 = .ok (.iconst 1, 1) := dk_4 (dk_at dksX0_init_2 16 rfl rfl)
theorem dX0_init_62 : decode cX0_init 62 = .ok (.ldc_w 280, 3) := dk_19 1 24 (dk_at dksX0_init_2 17 rfl rfl)
theorem dX0_init_65 : decode cX0_init 65 = .ok (.aastore, 1) := dk_83 (dk_at dksX0_init_2 20 rfl rfl)
theorem dX0_init_66 : decode cX0_init 66 = .ok (.dup, 1) := dk_89 (dk_at dksX0_init_2 21 rfl rfl)
theorem dX0_init_67 : decode cX0_init 67 = .ok (.iconst 2, 1) := dk_5 (dk_at dksX0_init_2 22 rfl rfl)
theorem dX0_init_68 : decode cX0_init 68 = .ok (.ldc_w 282, 3) := dk_19 1 26 (dk_at dksX0_init_3 0 rfl rfl)
theorem dX0_init_71 : decode cX0_init 71 = .ok (.aastore, 1) := dk_83 (dk_at dksX0_init_3 3 rfl rfl)
theorem dX0_init_72 : decode cX0_init 72 = .ok (.dup, 1) := dk_89 (dk_at dksX0_init_3 4 rfl rfl)
theorem dX0_init_73 : decode cX0_init 73 = .ok (.iconst 3, 1) := dk_6 (dk_at dksX0_init_3 5 rfl rfl)
theorem dX0_init_74 : decode cX0_init 74 = .ok (.ldc_w 284, 3) := dk_19 1 28 (dk_at dksX0_init_3 6 rfl rfl)
theorem dX0_init_77 : decode cX0_init 77 = .ok (.aastore, 1) := dk_83 (dk_at dksX0_init_3 9 rfl rfl)
theorem dX0_init_78 : decode cX0_init 78 = .ok (.dup, 1) := dk_89 (dk_at dksX0_init_3 10 rfl rfl)
theorem dX0_init_79 : decode cX0_init 79 = .ok (.iconst 4, 1) := dk_7 (dk_at dksX0_init_3 11 rfl rfl)
theorem dX0_init_80 : decode cX0_init 80 = .ok (.ldc_w 286, 3) := dk_19 1 30 (dk_at dksX0_init_3 12 rfl rfl)
theorem dX0_init_83 : decode cX0_init 83 = .ok (.aastore, 1) := dk_83 (dk_at dksX0_init_3 15 rfl rfl)
theorem dX0_init_84 : decode cX0_init 84 = .ok (.dup, 1) := dk_89 (dk_at dksX0_init_3 16 rfl rfl)
theorem dX0_init_85 : decode cX0_init 85 = .ok (.iconst 5, 1) := dk_8 (dk_at dksX0_init_3 17 rfl rfl)
theorem dX0_init_86 : decode cX0_init 86 = .ok (.ldc_w 288, 3) := dk_19 1 32 (dk_at dksX0_init_3 18 rfl rfl)
theorem dX0_init_89 : decode cX0_init 89 = .ok (.aastore, 1) := dk_83 (dk_at dksX0_init_3 21 rfl rfl)
theorem dX0_init_90 : decode cX0_init 90 = .ok (.putfield 183, 3) := dk_181 0 183 (dk_at dksX0_init_4 0 rfl rfl)
theorem dX0_init_93 : decode cX0_init 93 = .ok (.aload_n 0, 1) := dk_42 (dk_at dksX0_init_4 3 rfl rfl)
theorem dX0_init_94 : decode cX0_init 94 = .ok (.bipush 6, 2) := dk_16 6 (dk_at dksX0_init_4 4 rfl rfl)
theorem dX0_init_96 : decode cX0_init 96 = .ok (.anewarray 169, 3) := dk_189 0 169 (dk_at dksX0_init_4 6 rfl rfl)
theorem dX0_init_99 : decode cX0_init 99 = .ok (.dup, 1) := dk_89 (dk_at dksX0_init_4 9 rfl rfl)
theorem dX0_init_100 : decode cX0_init 100 = .ok (.iconst 0, 1) := dk_3 (dk_at dksX0_init_4 10 rfl rfl)
theorem dX0_init_101 : decode cX0_init 101 = .ok (.ldc_w 289, 3) := dk_19 1 33 (dk_at dksX0_init_4 11 rfl rfl)
theorem dX0_init_104 : decode cX0_init 104 = .ok (.aastore, 1) := dk_83 (dk_at dksX0_init_4 14 rfl rfl)
theorem dX0_init_105 : decode cX0_init 105 = .ok (.dup, 1) := dk_89 (dk_at dksX0_init_4 15 rfl rfl)
theorem dX0_init_106 : decode cX0_init 106 = .ok (.iconst 1, 1) := dk_4 (dk_at dksX0_init_4 16 rfl rfl)
theorem dX0_init_107 : decode cX0_init 107 = .ok (.ldc_w 291, 3) := dk_19 1 35 (dk_at dksX0_init_4 17 rfl rfl)
theorem dX0_init_110 : decode cX0_init 110 = .ok (.aastore, 1) := dk_83 (dk_at dksX0_init_4 20 rfl rfl)
theorem dX0_init_111 : decode cX0_init 111 = .ok (.dup, 1) := dk_89 (dk_at dksX0_init_4 21 rfl rfl)
theorem dX0_init_112 : decode cX0_init 112 = .ok (.iconst 2, 1) := dk_5 (dk_at dksX0_init_4 22 rfl rfl)
theorem dX0_init_113 : decode cX0_init 113 = .ok (.ldc_w 293, 3) := dk_19 1 37 (dk_at dksX0_init_5 0 rfl rfl)
theorem dX0_init_116 : decode cX0_init 116 = .ok (.aastore, 1) := dk_83 (dk_at dksX0_init_5 3 rfl rfl)
theorem dX0_init_117 : decode cX0_init 117 = .ok (.dup, 1) := dk_89 (dk_at dksX0_init_5 4 rfl rfl)
theorem dX0_init_118 : decode cX0_init 118 = .ok (.iconst 3, 1) := dk_6 (dk_at dksX0_init_5 5 rfl rfl)
theorem dX0_init_119 : decode cX0_init 119 = .ok (.ldc_w 294, 3) := dk_19 1 38 (dk_at dksX0_init_5 6 rfl rfl)
theorem dX0_init_122 : decode cX0_init 122 = .ok (.aastore, 1) := dk_83 (dk_at dksX0_init_5 9 rfl rfl)
theorem dX0_init_123 : decode cX0_init 123 = .ok (.dup, 1) := dk_89 (dk_at dksX0_init_5 10 rfl rfl)
theorem dX0_init_124 : decode cX0_init 124 = .ok (.iconst 4, 1) := dk_7 (dk_at dksX0_init_5 11 rfl rfl)
theorem dX0_init_125 : decode cX0_init 125 = .ok (.ldc_w 295, 3) := dk_19 1 39 (dk_at dksX0_init_5 12 rfl rfl)
theorem dX0_init_128 : decode cX0_init 128 = .ok (.aastore, 1) := dk_83 (dk_at dksX0_init_5 15 rfl rfl)
theorem dX0_init_129 : decode cX0_init 129 = .ok (.dup, 1) := dk_89 (dk_at dksX0_init_5 16 rfl rfl)
theorem dX0_init_130 : decode cX0_init 130 = .ok (.iconst 5, 1) := dk_8 (dk_at dksX0_init_5 17 rfl rfl)
theorem dX0_init_131 : decode cX0_init 131 = .ok (.ldc_w 296, 3) := dk_19 1 40 (dk_at dksX0_init_5 18 rfl rfl)
theorem dX0_init_134 : decode cX0_init 134 = .ok (.aastore, 1) := dk_83 (dk_at dksX0_init_5 21 rfl rfl)
theorem dX0_init_135 : decode cX0_init 135 = .ok (.putfield 191, 3) := dk_181 0 191 (dk_at dksX0_init_6 0 rfl rfl)
theorem dX0_init_138 : decode cX0_init 138 = .ok (.aload_n 0, 1) := dk_42 (dk_at dksX0_init_6 3 rfl rfl)
theorem dX0_init_139 : decode cX0_init 139 = .ok (.sipush 160, 3) := dk_17 0 160 (dk_at dksX0_init_6 4 rfl rfl)
theorem dX0_init_142 : decode cX0_init 142 = .ok (.newarray .byte, 2) := dk_188_8 (dk_at dksX0_init_6 7 rfl rfl)
theorem dX0_init_144 : decode cX0_init 144 = .ok (.putfield 126, 3) := dk_181 0 126 (dk_at dksX0_init_6 9 rfl rfl)
theorem dX0_init_147 : decode cX0_init 147 = .ok (.aload_n 0, 1) := dk_42 (dk_at dksX0_init_6 12 rfl rfl)
theorem dX0_init_148 : decode cX0_init 148 = .ok (.bipush 24, 2) := dk_16 24 (dk_at dksX0_init_6 13 rfl rfl)
theorem dX0_init_150 : decode cX0_init 150 = .ok (.newarray .int, 2) := dk_188_10 (dk_at dksX0_init_6 15 rfl rfl)
theorem dX0_init_152 : decode cX0_init 152 = .ok (.putfield 297, 3) := dk_181 1 41 (dk_at dksX0_init_6 17 rfl rfl)
theorem dX0_init_155 : decode cX0_init 155 = .ok (.aload_n 0, 1) := dk_42 (dk_at dksX0_init_6 20 rfl rfl)
theorem dX0_init_156 : decode cX0_init 156 = .ok (.iconst 5, 1) := dk_8 (dk_at dksX0_init_6 21 rfl rfl)
theorem dX0_init_157 : decode cX0_init 157 = .ok (.newarray .int, 2) := dk_188_10 (dk_at dksX0_init_6 22 rfl rfl)
theorem dX0_init_159 : decode cX0_init 159 = .ok (.putfield 300, 3) := dk_181 1 44 (dk_at dksX0_init_7 0 rfl rfl)
theorem dX0_init_162 : decode cX0_init 162 = .ok (.aload_n 0, 1) := dk_42 (dk_at dksX0_init_7 3 rfl rfl)
theorem dX0_init_163 : decode cX0_init 163 = .ok (.bipush 12, 2) := dk_16 12 (dk_at dksX0_init_7 4 rfl rfl)
theorem dX0_init_165 : decode cX0_init 165 = .ok (.newarray .long, 2) := dk_188_11 (dk_at dksX0_init_7 6 rfl rfl)
theorem dX0_init_167 : decode cX0_init 167 = .ok (.putfield 303, 3) := dk_181 1 47 (dk_at dksX0_init_7 8 rfl rfl)
theorem dX0_init_170 : decode cX0_init 170 = .ok (.aload_n 0, 1) := dk_42 (dk_at dksX0_init_7 11 rfl rfl)
theorem dX0_init_171 : decode cX0_init 171 = .ok (.bipush 12, 2) := dk_16 12 (dk_at dksX0_init_7 12 rfl rfl)
theorem dX0_init_173 : decode cX0_init 173 = .ok (.newarray .long, 2) := dk_188_11 (dk_at dksX0_init_7 14 rfl rfl)
theorem dX0_init_175 : decode cX0_init 175 = .ok (.putfield 307, 3) := dk_181 1 51 (dk_at dksX0_init_7 16 rfl rfl)
theorem dX0_init_178 : decode cX0_init 178 = .ok (.aload_n 0, 1) := dk_42 (dk_at dksX0_init_7 19 rfl rfl)
theorem dX0_init_179 : decode cX0_init 179 = .ok (.bipush 12, 2) := dk_16 12 (dk_at dksX0_init_7 20 rfl rfl)
theorem dX0_init_181 : decode cX0_init 181 = .ok (.newarray .int, 2) := dk_188_10 (dk_at dksX0_init_7 22 rfl rfl)
theorem dX0_init_183 : decode cX0_init 183 = .ok (.putfield 310, 3) := dk_181 1 54 (dk_at dksX0_init_8 0 rfl rfl)
theorem dX0_init_186 : decode cX0_init 186 = .ok (.aload_n 0, 1) := dk_42 (dk_at dksX0_init_8 3 rfl rfl)
theorem dX0_init_187 : decode cX0_init 187 = .ok (.bipush 12, 2) := dk_16 12 (dk_at dksX0_init_8 4 rfl rfl)
theorem dX0_init_189 : decode cX0_init 189 = .ok (.newarray .int, 2) := dk_188_10 (dk_at dksX0_init_8 6 rfl rfl)
theorem dX0_init_191 : decode cX0_init 191 = .ok (.putfield 313, 3) := dk_181 1 57 (dk_at dksX0_init_8 8 rfl rfl)
theorem dX0_init_194 : decode cX0_init 194 = .ok (.aload_n 0, 1) := dk_42 (dk_at dksX0_init_8 11 rfl rfl)
theorem dX0_init_195 : decode cX0_init 195 = .ok (.bipush 24, 2) := dk_16 24 (dk_at dksX0_init_8 12 rfl rfl)
theorem dX0_init_197 : decode cX0_init 197 = .ok (.newarray .int, 2) := dk_188_10 (dk_at dksX0_init_8 14 rfl rfl)
theorem dX0_init_199 : decode cX0_init 199 = .ok (.putfield 316, 3) := dk_181 1 60 (dk_at dksX0_init_8 16 rfl rfl)
theorem dX0_init_202 : decode cX0_init 202 = .ok (.aload_n 0, 1) := dk_42 (dk_at dksX0_init_8 19 rfl rfl)
theorem dX0_init_203 : decode cX0_init 203 = .ok (.iconst 2, 1) := dk_5 (dk_at dksX0_init_8 20 rfl rfl)
theorem dX0_init_204 : decode cX0_init 204 = .ok (.bipush 24, 2) := dk_16 24 (dk_at dksX0_init_8 21 rfl rfl)
theorem dX0_init_206 : decode cX0_init 206 = .ok (.multianewarray 319 2, 4) := by decide +kernel
theorem dX0_init_210 : decode cX0_init 210 = .ok (.putfield 321, 3) := dk_181 1 65 (dk_at dksX0_init_9 4 rfl rfl)
theorem dX0_init_213 : decode cX0_init 213 = .ok (.aload_n 0, 1) := dk_42 (dk_at dksX0_init_9 7 rfl rfl)
theorem dX0_init_214 : decode cX0_init 214 = .ok (.iconst 4, 1) := dk_7 (dk_at dksX0_init_9 8 rfl rfl)
theorem dX0_init_215 : decode cX0_init 215 = .ok (.iconst 5, 1) := dk_8 (dk_at dksX0_init_9 9 rfl rfl)
theorem dX0_init_216 : decode cX0_init 216 = .ok (.multianewarray 319 2, 4) := by decide +kernel
theorem dX0_init_220 : decode cX0_init 220 = .ok (.putfield 324, 3) := dk_181 1 68 (dk_at dksX0_init_9 14 rfl rfl)
theorem dX0_init_223 : decode cX0_init 223 = .ok (.aload_n 0, 1) := dk_42 (dk_at dksX0_init_9 17 rfl rfl)
theorem dX0_init_224 : decode cX0_init 224 = .ok (.iconst 3, 1) := dk_6 (dk_at dksX0_init_9 18 rfl rfl)
theorem dX0_init_225 : decode cX0_init 225 = .ok (.newarray .int, 2) := dk_188_10 (dk_at dksX0_init_9 19 rfl rfl)
theorem dX0_init_227 : decode cX0_init 227 = .ok (.putfield 327, 3) := dk_181 1 71 (dk_at dksX0_init_9 21 rfl rfl)
theorem dX0_init_230 : decode cX0_init 230 = .ok (.aload_n 0, 1) := dk_42 (dk_at dksX0_init_10 0 rfl rfl)
theorem dX0_init_231 : decode cX0_init 231 = .ok (.iconst 4, 1) := dk_7 (dk_at dksX0_init_10 1 rfl rfl)
theorem dX0_init_232 : decode cX0_init 232 = .ok (.anewarray 330, 3) := dk_189 1 74 (dk_at dksX0_init_10 2 rfl rfl)
theorem dX0_init_235 : decode cX0_init 235 = .ok (.dup, 1) := dk_89 (dk_at dksX0_init_10 5 rfl rfl)
theorem dX0_init_236 : decode cX0_init 236 = .ok (.iconst 0, 1) := dk_3 (dk_at dksX0_init_10 6 rfl rfl)
theorem dX0_init_237 : decode cX0_init 237 = .ok (.new 330, 3) := dk_187 1 74 (dk_at dksX0_init_10 7 rfl rfl)
theorem dX0_init_240 : decode cX0_init 240 = .ok (.dup, 1) := dk_89 (dk_at dksX0_init_10 10 rfl rfl)
theorem dX0_init_241 : decode cX0_init 241 = .ok (.invokespecial 332, 3) := dk_183 1 76 (dk_at dksX0_init_10 11 rfl rfl)
theorem dX0_init_244 : decode cX0_init 244 = .ok (.aastore, 1) := dk_83 (dk_at dksX0_init_10 14 rfl rfl)
theorem dX0_init_245 : decode cX0_init 245 = .ok (.dup, 1) := dk_89 (dk_at dksX0_init_10 15 rfl rfl)
theorem dX0_init_246 : decode cX0_init 246 = .ok (.iconst 1, 1) := dk_4 (dk_at dksX0_init_10 16 rfl rfl)
theorem dX0_init_247 : decode cX0_init 247 = .ok (.new 330, 3) := dk_187 1 74 (dk_at dksX0_init_10 17 rfl rfl)
theorem dX0_init_250 : decode cX0_init 250 = .ok (.dup, 1) := dk_89 (dk_at dksX0_init_10 20 rfl rfl)
theorem dX0_init_251 : decode cX0_init 251 = .ok (.invokespecial 332, 3) := dk_183 1 76 (dk_at dksX0_init_10 21 rfl rfl)
theorem dX0_init_254 : decode cX0_init 254 = .ok (.aastore, 1) := dk_83 (dk_at dksX0_init_11 0 rfl rfl)
theorem dX0_init_255 : decode cX0_init 255 = .ok (.dup, 1) := dk_89 (dk_at dksX0_init_11 1 rfl rfl)
theorem dX0_init_256 : decode cX0_init 256 = .ok (.iconst 2, 1) := dk_5 (dk_at dksX0_init_11 2 rfl rfl)
theorem dX0_init_257 : decode cX0_init 257 = .ok (.new 330, 3) := dk_187 1 74 (dk_at dksX0_init_11 3 rfl rfl)
theorem dX0_init_260 : decode cX0_init 260 = .ok (.dup, 1) := dk_89 (dk_at dksX0_init_11 6 rfl rfl)
theorem dX0_init_261 : decode cX0_init 261 = .ok (.invokespecial 332, 3) := dk_183 1 76 (dk_at dksX0_init_11 7 rfl rfl)
theorem dX0_init_264 : decode cX0_init 264 = .ok (.aastore, 1) := dk_83 (dk_at dksX0_init_11 10 rfl rfl)
theorem dX0_init_265 : decode cX0_init 265 = .ok (.dup, 1) := dk_89 (dk_at dksX0_init_11 11 rfl rfl)
theorem dX0_init_266 : decode cX0_init 266 = .ok (.iconst 3, 1) := dk_6 (dk_at dksX0_init_11 12 rfl rfl)
theorem dX0_init_267 : decode cX0_init 267 = .ok (.new 330, 3) := dk_187 1 74 (dk_at dksX0_init_11 13 rfl rfl)
theorem dX0_init_270 : decode cX0_init 270 = .ok (.dup, 1) := dk_89 (dk_at dksX0_init_11 16 rfl rfl)
theorem dX0_init_271 : decode cX0_init 271 = .ok (.invokespecial 332, 3) := dk_183 1 76 (dk_at dksX0_init_11 17 rfl rfl)
theorem dX0_init_274 : decode cX0_init 274 = .ok (.aastore, 1) := dk_83 (dk_at dksX0_init_11 20 rfl rfl)
theorem dX0_init_275 : decode cX0_init 275 = .ok (.putfield 333, 3) := dk_181 1 77 (dk_at dksX0_init_11 21 rfl rfl)
theorem dX0_init_278 : decode cX0_init 278 = .ok (.iconst 0, 1) := dk_3 (dk_at dksX0_init_12 0 rfl rfl)
theorem dX0_init_279 : decode cX0_init 279 = .ok (.istore_n 1, 1) := dk_60 (dk_at dksX0_init_12 1 rfl rfl)
theorem dX0_init_280 : decode cX0_init 280 = .ok (.iload_n 1, 1) := dk_27 (dk_at dksX0_init_12 2 rfl rfl)
theorem dX0_init_281 : decode cX0_init 281 = .ok (.bipush 12, 2) := dk_16 12 (dk_at dksX0_init_12 3 rfl rfl)
theorem dX0_init_283 : decode cX0_init 283 = .ok (.if_icmp .ge 39, 3) := dk_162 0 39 (dk_at dksX0_init_12 5 rfl rfl)
theorem dX0_init_286 : decode cX0_init 286 = .ok (.aload_n 0, 1) := dk_42 (dk_at dksX0_init_12 8 rfl rfl)
theorem dX0_init_287 : decode cX0_init 287 = .ok (.getfield 67, 3) := dk_180 0 67 (dk_at dksX0_init_12 9 rfl rfl)
theorem dX0_init_290 : decode cX0_init 290 = .ok (.iconst 2, 1) := dk_5 (dk_at dksX0_init_12 12 rfl rfl)
theorem dX0_init_291 : decode cX0_init 291 = .ok (.iload_n 1, 1) := dk_27 (dk_at dksX0_init_12 13 rfl rfl)
theorem dX0_init_292 : decode cX0_init 292 = .ok (.imul, 1) := dk_104 (dk_at dksX0_init_12 14 rfl rfl)
theorem dX0_init_293 : decode cX0_init 293 = .ok (.iload_n 1, 1) := dk_27 (dk_at dksX0_init_12 15 rfl rfl)
theorem dX0_init_294 : decode cX0_init 294 = .ok (.iconst 1, 1) := dk_4 (dk_at dksX0_init_12 16 rfl rfl)
theorem dX0_init_295 : decode cX0_init 295 = .ok (.iadd, 1) := dk_96 (dk_at dksX0_init_12 17 rfl rfl)
theorem dX0_init_296 : decode cX0_init 296 = .ok (.bipush 12, 2) := dk_16 12 (dk_at dksX0_init_12 18 rfl rfl)
theorem dX0_init_298 : decode cX0_init 298 = .ok (.irem, 1) := dk_112 (dk_at dksX0_init_12 20 rfl rfl)
theorem dX0_init_299 : decode cX0_init 299 = .ok (.iastore, 1) := dk_79 (dk_at dksX0_init_12 21 rfl rfl)
theorem dX0_init_300 : decode cX0_init 300 = .ok (.aload_n 0, 1) := dk_42 (dk_at dksX0_init_12 22 rfl rfl)
theorem dX0_init_301 : decode cX0_init 301 = .ok (.getfield 67, 3) := dk_180 0 67 (dk_at dksX0_init_13 0 rfl rfl)
theorem dX0_init_304 : decode cX0_init 304 = .ok (.iconst 2, 1) := dk_5 (dk_at dksX0_init_13 3 rfl rfl)
theorem dX0_init_305 : decode cX0_init 305 = .ok (.iload_n 1, 1) := dk_27 (dk_at dksX0_init_13 4 rfl rfl)
theorem dX0_init_306 : decode cX0_init 306 = .ok (.imul, 1) := dk_104 (dk_at dksX0_init_13 5 rfl rfl)
theorem dX0_init_307 : decode cX0_init 307 = .ok (.iconst 1, 1) := dk_4 (dk_at dksX0_init_13 6 rfl rfl)
theorem dX0_init_308 : decode cX0_init 308 = .ok (.iadd, 1) := dk_96 (dk_at dksX0_init_13 7 rfl rfl)
theorem dX0_init_309 : decode cX0_init 309 = .ok (.iload_n 1, 1) := dk_27 (dk_at dksX0_init_13 8 rfl rfl)
theorem dX0_init_310 : decode cX0_init 310 = .ok (.iconst 2, 1) := dk_5 (dk_at dksX0_init_13 9 rfl rfl)
theorem dX0_init_311 : decode cX0_init 311 = .ok (.iadd, 1) := dk_96 (dk_at dksX0_init_13 10 rfl rfl)
theorem dX0_init_312 : decode cX0_init 312 = .ok (.bipush 12, 2) := dk_16 12 (dk_at dksX0_init_13 11 rfl rfl)
theorem dX0_init_314 : decode cX0_init 314 = .ok (.irem, 1) := dk_112 (dk_at dksX0_init_13 13 rfl rfl)
theorem dX0_init_315 : decode cX0_init 315 = .ok (.iastore, 1) := dk_79 (dk_at dksX0_init_13 14 rfl rfl)
theorem dX0_init_316 : decode cX0_init 316 = .ok (.iinc 1 1, 3) := dk_132 1 1 (dk_at dksX0_init_13 15 rfl rfl)
theorem dX0_init_319 : decode cX0_init 319 = .ok (.goto (-39), 3) := dk_167 255 217 (dk_at dksX0_init_13 18 rfl rfl)
theorem dX0_init_322 : decode cX0_init 322 = .ok (.aload_n 0, 1) := dk_42 (dk_at dksX0_init_13 21 rfl rfl)
theorem dX0_init_323 : decode cX0_init 323 = .ok (.ldc_w 337, 3) := dk_19 1 81 (dk_at dksX0_init_14 0 rfl rfl)
theorem dX0_init_326 : decode cX0_init 326 = .ok (.invokevirtual 339, 3) := dk_182 1 83 (dk_at dksX0_init_14 3 rfl rfl)
theorem dX0_init_329 : decode cX0_init 329 = .ok (.return_, 1) := dk_177 (dk_at dksX0_init_14 6 rfl rfl)
abbrev cX0_firstText : ByteArray := prog_1_method_33_code
def yX0_firstText : MethodName := ⟨RX0, "firstText", "(Ljava/lang/String;)V"⟩
def dkwX0_firstText_1 : List UInt8 := [132, 2, 1, 167, 255, 233, 42, 43, 182, 0, 177, 181, 0, 252, 42, 182, 1, 10, 61, 177]
abbrev dktX0_firstText_1 : List UInt8 := dkwX0_firstText_1 ++ []
def dkwX0_firstText_0 : List UInt8 := [3, 61, 28, 43, 182, 0, 177, 162, 0, 21, 42, 180, 0, 126, 28, 43, 28, 182, 0, 179, 145, 84]
abbrev dktX0_firstText_0 : List UInt8 := dkwX0_firstText_0 ++ dktX0_firstText_1
theorem dksX0_firstText_0 : cX0_firstText.data.toList.drop 0 = dktX0_firstText_0 := by decide +kernel
theorem dksX0_firstText_1 : cX0_firstText.data.toList.drop 22 = dktX0_firstText_1 := dk_seg dksX0_firstText_0 22 rfl rfl
theorem dX0_firstText_0 : decode cX0_firstText 0 = .ok (.iconst 0, 1) := dk_3 (dk_at dksX0_firstText_0 0 rfl rfl)
theorem dX0_firstText_1 : decode cX0_firstText 1 = .ok (.istore_n 2, 1) := dk_61 (dk_at dksX0_firstText_0 1 rfl rfl)
theorem dX0_firstText_2 : decode cX0_firstText 2 = .ok (.iload_n 2, 1) := dk_28 (dk_at dksX0_firstText_0 2 rfl rfl)
theorem dX0_firstText_3 : decode cX0_firstText 3 = .ok (.aload_n 1, 1) := dk_43 (dk_at dksX0_firstText_0 3 rfl rfl)
theorem dX0_firstText_4 : decode cX0_firstText 4 = .ok (.invokevirtual 177, 3) := dk_182 0 177 (dk_at dksX0_firstText_0 4 rfl rfl)
theorem dX0_firstText_7 : decode cX0_firstText 7 = .ok (.if_icmp .ge 21, 3) := dk_162 0 21 (dk_at dksX0_firstText_0 7 rfl rfl)
theorem dX0_firstText_10 : decode cX0_firstText 10 = .ok (.aload_n 0, 1) := dk_42 (dk_at dksX0_firstText_0 10 rfl rfl)
theorem dX0_firstText_11 : decode cX0_firstText 11 = .ok (.getfield 126, 3) := dk_180 0 126 (dk_at dksX0_firstText_0 11 rfl rfl)
theorem dX0_firstText_14 : decode cX0_firstText 14 = .ok (.iload_n 2, 1) := dk_28 (dk_at dksX0_firstText_0 14 rfl rfl)
theorem dX0_firstText_15 : decode cX0_firstText 15 = .ok (.aload_n 1, 1) := dk_43 (dk_at dksX0_firstText_0 15 rfl rfl)
theorem dX0_firstText_16 : decode cX0_firstText 16 = .ok (.iload_n 2, 1) := dk_28 (dk_at dksX0_firstText_0 16 rfl rfl)
theorem dX0_firstText_17 : decode cX0_firstText 17 = .ok (.invokevirtual 179, 3) := dk_182 0 179 (dk_at dksX0_firstText_0 17 rfl rfl)
theorem dX0_firstText_20 : decode cX0_firstText 20 = .ok (.i2b, 1) := dk_145 (dk_at dksX0_firstText_0 20 rfl rfl)
theorem dX0_firstText_21 : decode cX0_firstText 21 = .ok (.bastore, 1) := dk_84 (dk_at dksX0_firstText_0 21 rfl rfl)
theorem dX0_firstText_22 : decode cX0_firstText 22 = .ok (.iinc 2 1, 3) := dk_132 2 1 (dk_at dksX0_firstText_1 0 rfl rfl)
theorem dX0_firstText_25 : decode cX0_firstText 25 = .ok (.goto (-23), 3) := dk_167 255 233 (dk_at dksX0_firstText_1 3 rfl rfl)
theorem dX0_firstText_28 : decode cX0_firstText 28 = .ok (.aload_n 0, 1) := dk_42 (dk_at dksX0_firstText_1 6 rfl rfl)
theorem dX0_firstText_29 : decode cX0_firstText 29 = .ok (.aload_n 1, 1) := dk_43 (dk_at dksX0_firstText_1 7 rfl rfl)
theorem dX0_firstText_30 : decode cX0_firstText 30 = .ok (.invokevirtual 177, 3) := dk_182 0 177 (dk_at dksX0_firstText_1 8 rfl rfl)
theorem dX0_firstText_33 : decode cX0_firstText 33 = .ok (.putfield 252, 3) := dk_181 0 252 (dk_at dksX0_firstText_1 11 rfl rfl)
theorem dX0_firstText_36 : decode cX0_firstText 36 = .ok (.aload_n 0, 1) := dk_42 (dk_at dksX0_firstText_1 14 rfl rfl)
theorem dX0_firstText_37 : decode cX0_firstText 37 = .ok (.invokevirtual 266, 3) := dk_182 1 10 (dk_at dksX0_firstText_1 15 rfl rfl)
theorem dX0_firstText_40 : decode cX0_firstText 40 = .ok (.istore_n 2, 1) := dk_61 (dk_at dksX0_firstText_1 18 rfl rfl)
theorem dX0_firstText_41 : decode cX0_firstText 41 = .ok (.return_, 1) := dk_177 (dk_at dksX0_firstText_1 19 rfl rfl)
abbrev cX0_force : ByteArray := prog_1_method_38_code
def yX0_force : MethodName := ⟨RX0, "force", "(I)I"⟩
def dkwX0_force_0 : List UInt8 := [42, 27, 182, 1, 87, 154, 0, 6, 16, 254, 172, 42, 180, 1, 90, 61, 42, 27, 181, 1, 90, 28, 172]
abbrev dktX0_force_0 : List UInt8 := dkwX0_force_0 ++ []
theorem dksX0_force_0 : cX0_force.data.toList.drop 0 = dktX0_force_0 := by decide +kernel
theorem dX0_force_0 : decode cX0_force 0 = .ok (.aload_n 0, 1) := dk_42 (dk_at dksX0_force_0 0 rfl rfl)
theorem dX0_force_1 : decode cX0_force 1 = .ok (.iload_n 1, 1) := dk_27 (dk_at dksX0_force_0 1 rfl rfl)
theorem dX0_force_2 : decode cX0_force 2 = .ok (.invokevirtual 343, 3) := dk_182 1 87 (dk_at dksX0_force_0 2 rfl rfl)
theorem dX0_force_5 : decode cX0_force 5 = .ok (.ifCond .ne 6, 3) := dk_154 0 6 (dk_at dksX0_force_0 5 rfl rfl)
theorem dX0_force_8 : decode cX0_force 8 = .ok (.bipush (-2), 2) := dk_16 254 (dk_at dksX0_force_0 8 rfl rfl)
theorem dX0_force_10 : decode cX0_force 10 = .ok (.ireturn, 1) := dk_172 (dk_at dksX0_force_0 10 rfl rfl)
theorem dX0_force_11 : decode cX0_force 11 = .ok (.aload_n 0, 1) := dk_42 (dk_at dksX0_force_0 11 rfl rfl)
theorem dX0_force_12 : decode cX0_force 12 = .ok (.getfield 346, 3) := dk_180 1 90 (dk_at dksX0_force_0 12 rfl rfl)
theorem dX0_force_15 : decode cX0_force 15 = .ok (.istore_n 2, 1) := dk_61 (dk_at dksX0_force_0 15 rfl rfl)
theorem dX0_force_16 : decode cX0_force 16 = .ok (.aload_n 0, 1) := dk_42 (dk_at dksX0_force_0 16 rfl rfl)
theorem dX0_force_17 : decode cX0_force 17 = .ok (.iload_n 1, 1) := dk_27 (dk_at dksX0_force_0 17 rfl rfl)
theorem dX0_force_18 : decode cX0_force 18 = .ok (.putfield 346, 3) := dk_181 1 90 (dk_at dksX0_force_0 18 rfl rfl)
theorem dX0_force_21 : decode cX0_force 21 = .ok (.iload_n 2, 1) := dk_28 (dk_at dksX0_force_0 21 rfl rfl)
theorem dX0_force_22 : decode cX0_force 22 = .ok (.ireturn, 1) := dk_172 (dk_at dksX0_force_0 22 rfl rfl)
abbrev cX0_isText : ByteArray := prog_1_method_36_code
def yX0_isText : MethodName := ⟨RX0, "isText", "(I)Z"⟩
def dkwX0_isText_0 : List UInt8 := [27, 133, 9, 42, 180, 1, 7, 4, 100, 133, 184, 0, 14, 172]
abbrev dktX0_isText_0 : List UInt8 := dkwX0_isText_0 ++ []
theorem dksX0_isText_0 : cX0_isText.data.toList.drop 0 = dktX0_isText_0 := by decide +kernel
theorem dX0_isText_0 : decode cX0_isText 0 = .ok (.iload_n 1, 1) := dk_27 (dk_at dksX0_isText_0 0 rfl rfl)
theorem dX0_isText_1 : decode cX0_isText 1 = .ok (.i2l, 1) := dk_133 (dk_at dksX0_isText_0 1 rfl rfl)
theorem dX0_isText_2 : decode cX0_isText 2 = .ok (.lconst 0, 1) := dk_9 (dk_at dksX0_isText_0 2 rfl rfl)
theorem dX0_isText_3 : decode cX0_isText 3 = .ok (.aload_n 0, 1) := dk_42 (dk_at dksX0_isText_0 3 rfl rfl)
theorem dX0_isText_4 : decode cX0_isText 4 = .ok (.getfield 263, 3) := dk_180 1 7 (dk_at dksX0_isText_0 4 rfl rfl)
theorem dX0_isText_7 : decode cX0_isText 7 = .ok (.iconst 1, 1) := dk_4 (dk_at dksX0_isText_0 7 rfl rfl)
theorem dX0_isText_8 : decode cX0_isText 8 = .ok (.isub, 1) := dk_100 (dk_at dksX0_isText_0 8 rfl rfl)
theorem dX0_isText_9 : decode cX0_isText 9 = .ok (.i2l, 1) := dk_133 (dk_at dksX0_isText_0 9 rfl rfl)
theorem dX0_isText_10 : decode cX0_isText 10 = .ok (.invokestatic 14, 3) := dk_184 0 14 (dk_at dksX0_isText_0 10 rfl rfl)
theorem dX0_isText_13 : decode cX0_isText 13 = .ok (.ireturn, 1) := dk_172 (dk_at dksX0_isText_0 13 rfl rfl)
abbrev cX0_tastes : ByteArray := prog_1_method_43_code
def yX0_tastes : MethodName := ⟨RX0, "tastes", "(II)I"⟩
def dkwX0_tastes_1 : List UInt8 := [17, 252, 24, 172]
abbrev dktX0_tastes_1 : List UInt8 := dkwX0_tastes_1 ++ []
def dkwX0_tastes_0 : List UInt8 := [42, 27, 182, 0, 64, 153, 0, 19, 28, 184, 0, 61, 153, 0, 12, 42, 27, 28, 182, 1, 117, 167, 0, 6]
abbrev dktX0_tastes_0 : List UInt8 := dkwX0_tastes_0 ++ dktX0_tastes_1
theorem dksX0_tastes_0 : cX0_tastes.data.toList.drop 0 = dktX0_tastes_0 := by decide +kernel
theorem dksX0_tastes_1 : cX0_tastes.data.toList.drop 24 = dktX0_tastes_1 := dk_seg dksX0_tastes_0 24 rfl rfl
theorem dX0_tastes_0 : decode cX0_tastes 0 = .ok (.aload_n 0, 1) := dk_42 (dk_at dksX0_tastes_0 0 rfl rfl)
theorem dX0_tastes_1 : decode cX0_tastes 1 = .ok (.iload_n 1, 1) := dk_27 (dk_at dksX0_tastes_0 1 rfl rfl)
theorem dX0_tastes_2 : decode cX0_tastes 2 = .ok (.invokevirtual 64, 3) := dk_182 0 64 (dk_at dksX0_tastes_0 2 rfl rfl)
theorem dX0_tastes_5 : decode cX0_tastes 5 = .ok (.ifCond .eq 19, 3) := dk_153 0 19 (dk_at dksX0_tastes_0 5 rfl rfl)
theorem dX0_tastes_8 : decode cX0_tastes 8 = .ok (.iload_n 2, 1) := dk_28 (dk_at dksX0_tastes_0 8 rfl rfl)
theorem dX0_tastes_9 : decode cX0_tastes 9 = .ok (.invokestatic 61, 3) := dk_184 0 61 (dk_at dksX0_tastes_0 9 rfl rfl)
theorem dX0_tastes_12 : decode cX0_tastes 12 = .ok (.ifCond .eq 12, 3) := dk_153 0 12 (dk_at dksX0_tastes_0 12 rfl rfl)
theorem dX0_tastes_15 : decode cX0_tastes 15 = .ok (.aload_n 0, 1) := dk_42 (dk_at dksX0_tastes_0 15 rfl rfl)
theorem dX0_tastes_16 : decode cX0_tastes 16 = .ok (.iload_n 1, 1) := dk_27 (dk_at dksX0_tastes_0 16 rfl rfl)
theorem dX0_tastes_17 : decode cX0_tastes 17 = .ok (.iload_n 2, 1) := dk_28 (dk_at dksX0_tastes_0 17 rfl rfl)
theorem dX0_tastes_18 : decode cX0_tastes 18 = .ok (.invokevirtual 373, 3) := dk_182 1 117 (dk_at dksX0_tastes_0 18 rfl rfl)
theorem dX0_tastes_21 : decode cX0_tastes 21 = .ok (.goto 6, 3) := dk_167 0 6 (dk_at dksX0_tastes_0 21 rfl rfl)
theorem dX0_tastes_24 : decode cX0_tastes 24 = .ok (.sipush (-1000), 3) := dk_17 252 24 (dk_at dksX0_tastes_1 0 rfl rfl)
theorem dX0_tastes_27 : decode cX0_tastes 27 = .ok (.ireturn, 1) := dk_172 (dk_at dksX0_tastes_1 3 rfl rfl)
abbrev cX0_feelsOf : ByteArray := prog_1_method_42_code
def yX0_feelsOf : MethodName := ⟨RX0, "feelsOf", "(II)I"⟩
def dkwX0_feelsOf_0 : List UInt8 := [42, 180, 0, 53, 27, 50, 42, 5, 27, 42, 180, 0, 71, 28, 46, 182, 1, 106, 182, 1, 115, 172]
abbrev dktX0_feelsOf_0 : List UInt8 := dkwX0_feelsOf_0 ++ []
theorem dksX0_feelsOf_0 : cX0_feelsOf.data.toList.drop 0 = dktX0_feelsOf_0 := by decide +kernel
theorem dX0_feelsOf_0 : decode cX0_feelsOf 0 = .ok (.aload_n 0, 1) := dk_42 (dk_at dksX0_feelsOf_0 0 rfl rfl)
theorem dX0_feelsOf_1 : decode cX0_feelsOf 1 = .ok (.getfield 53, 3) := dk_180 0 53 (dk_at dksX0_feelsOf_0 1 rfl rfl)
theorem dX0_feelsOf_4 : decode cX0_feelsOf 4 = .ok (.iload_n 1, 1) := dk_27 (dk_at dksX0_feelsOf_0 4 rfl rfl)
theorem dX0_feelsOf_5 : decode cX0_feelsOf 5 = .ok (.aaload, 1) := dk_50 (dk_at dksX0_feelsOf_0 5 rfl rfl)
theorem dX0_feelsOf_6 : decode cX0_feelsOf 6 = .ok (.aload_n 0, 1) := dk_42 (dk_at dksX0_feelsOf_0 6 rfl rfl)
theorem dX0_feelsOf_7 : decode cX0_feelsOf 7 = .ok (.iconst 2, 1) := dk_5 (dk_at dksX0_feelsOf_0 7 rfl rfl)
theorem dX0_feelsOf_8 : decode cX0_feelsOf 8 = .ok (.iload_n 1, 1) := dk_27 (dk_at dksX0_feelsOf_0 8 rfl rfl)
theorem dX0_feelsOf_9 : decode cX0_feelsOf 9 = .ok (.aload_n 0, 1) := dk_42 (dk_at dksX0_feelsOf_0 9 rfl rfl)
theorem dX0_feelsOf_10 : decode cX0_feelsOf 10 = .ok (.getfield 71, 3) := dk_180 0 71 (dk_at dksX0_feelsOf_0 10 rfl rfl)
theorem dX0_feelsOf_13 : decode cX0_feelsOf 13 = .ok (.iload_n 2, 1) := dk_28 (dk_at dksX0_feelsOf_0 13 rfl rfl)
theorem dX0_feelsOf_14 : decode cX0_feelsOf 14 = .ok (.iaload, 1) := dk_46 (dk_at dksX0_feelsOf_0 14 rfl rfl)
theorem dX0_feelsOf_15 : decode cX0_feelsOf 15 = .ok (.invokevirtual 362, 3) := dk_182 1 106 (dk_at dksX0_feelsOf_0 15 rfl rfl)
theorem dX0_feelsOf_18 : decode cX0_feelsOf 18 = .ok (.invokevirtual 371, 3) := dk_182 1 115 (dk_at dksX0_feelsOf_0 18 rfl rfl)
theorem dX0_feelsOf_21 : decode cX0_feelsOf 21 = .ok (.ireturn, 1) := dk_172 (dk_at dksX0_feelsOf_0 21 rfl rfl)
abbrev cX0_year : ByteArray := prog_1_method_47_code
def yX0_year : MethodName := ⟨RX0, "year", "()I"⟩
def dkwX0_year_0 : List UInt8 := [42, 180, 0, 74, 17, 3, 231, 160, 0, 6, 16, 253, 172, 42, 2, 182, 1, 123, 42, 182, 1, 126, 172]
abbrev dktX0_year_0 : List UInt8 := dkwX0_year_0 ++ []
theorem dksX0_year_0 : cX0_year.data.toList.drop 0 = dktX0_year_0 := by decide +kernel
theorem dX0_year_0 : decode cX0_year 0 = .ok (.aload_n 0, 1) := dk_42 (dk_at dksX0_year_0 0 rfl rfl)
theorem dX0_year_1 : decode cX0_year 1 = .ok (.getfield 74, 3) := dk_180 0 74 (dk_at dksX0_year_0 1 rfl rfl)
theorem dX0_year_4 : decode cX0_year 4 = .ok (.sipush 999, 3) := dk_17 3 231 (dk_at dksX0_year_0 4 rfl rfl)
theorem dX0_year_7 : decode cX0_year 7 = .ok (.if_icmp .ne 6, 3) := dk_160 0 6 (dk_at dksX0_year_0 7 rfl rfl)
theorem dX0_year_10 : decode cX0_year 10 = .ok (.bipush (-3), 2) := dk_16 253 (dk_at dksX0_year_0 10 rfl rfl)
theorem dX0_year_12 : decode cX0_year 12 = .ok (.ireturn, 1) := dk_172 (dk_at dksX0_year_0 12 rfl rfl)
theorem dX0_year_13 : decode cX0_year 13 = .ok (.aload_n 0, 1) := dk_42 (dk_at dksX0_year_0 13 rfl rfl)
theorem dX0_year_14 : decode cX0_year 14 = .ok (.iconst (-1), 1) := dk_2 (dk_at dksX0_year_0 14 rfl rfl)
theorem dX0_year_15 : decode cX0_year 15 = .ok (.invokevirtual 379, 3) := dk_182 1 123 (dk_at dksX0_year_0 15 rfl rfl)
theorem dX0_year_18 : decode cX0_year 18 = .ok (.aload_n 0, 1) := dk_42 (dk_at dksX0_year_0 18 rfl rfl)
theorem dX0_year_19 : decode cX0_year 19 = .ok (.invokevirtual 382, 3) := dk_182 1 126 (dk_at dksX0_year_0 19 rfl rfl)
theorem dX0_year_22 : decode cX0_year 22 = .ok (.ireturn, 1) := dk_172 (dk_at dksX0_year_0 22 rfl rfl)
abbrev cX0_passes : ByteArray := prog_1_method_45_code
def yX0_passes : MethodName := ⟨RX0, "passes", "(I)V"⟩
def dkwX0_passes_2 : List UInt8 := [42, 89, 180, 0, 74, 4, 96, 181, 0, 74, 177]
abbrev dktX0_passes_2 : List UInt8 := dkwX0_passes_2 ++ []
def dkwX0_passes_1 : List UInt8 := [28, 28, 27, 160, 0, 9, 4, 29, 100, 167, 0, 4, 29, 21, 4, 182, 1, 120, 132, 2, 1, 167, 255, 213]
abbrev dktX0_passes_1 : List UInt8 := dkwX0_passes_1 ++ dktX0_passes_2
def dkwX0_passes_0 : List UInt8 := [3, 61, 28, 42, 180, 0, 18, 162, 0, 41, 42, 28, 182, 0, 117, 62, 42, 28, 182, 0, 120, 54, 4, 42]
abbrev dktX0_passes_0 : List UInt8 := dkwX0_passes_0 ++ dktX0_passes_1
theorem dksX0_passes_0 : cX0_passes.data.toList.drop 0 = dktX0_passes_0 := by decide +kernel
theorem dksX0_passes_1 : cX0_passes.data.toList.drop 24 = dktX0_passes_1 := dk_seg dksX0_passes_0 24 rfl rfl
theorem dksX0_passes_2 : cX0_passes.data.toList.drop 48 = dktX0_passes_2 := dk_seg dksX0_passes_1 24 rfl rfl
theorem dX0_passes_0 : decode cX0_passes 0 = .ok (.iconst 0, 1) := dk_3 (dk_at dksX0_passes_0 0 rfl rfl)
theorem dX0_passes_1 : decode cX0_passes 1 = .ok (.istore_n 2, 1) := dk_61 (dk_at dksX0_passes_0 1 rfl rfl)
theorem dX0_passes_2 : decode cX0_passes 2 = .ok (.iload_n 2, 1) := dk_28 (dk_at dksX0_passes_0 2 rfl rfl)
theorem dX0_passes_3 : decode cX0_passes 3 = .ok (.aload_n 0, 1) := dk_42 (dk_at dksX0_passes_0 3 rfl rfl)
theorem dX0_passes_4 : decode cX0_passes 4 = .ok (.getfield 18, 3) := dk_180 0 18 (dk_at dksX0_passes_0 4 rfl rfl)
theorem dX0_passes_7 : decode cX0_passes 7 = .ok (.if_icmp .ge 41, 3) := dk_162 0 41 (dk_at dksX0_passes_0 7 rfl rfl)
theorem dX0_passes_10 : decode cX0_passes 10 = .ok (.aload_n 0, 1) := dk_42 (dk_at dksX0_passes_0 10 rfl rfl)
theorem dX0_passes_11 : decode cX0_passes 11 = .ok (.iload_n 2, 1) := dk_28 (dk_at dksX0_passes_0 11 rfl rfl)
theorem dX0_passes_12 : decode cX0_passes 12 = .ok (.invokevirtual 117, 3) := dk_182 0 117 (dk_at dksX0_passes_0 12 rfl rfl)
theorem dX0_passes_15 : decode cX0_passes 15 = .ok (.istore_n 3, 1) := dk_62 (dk_at dksX0_passes_0 15 rfl rfl)
theorem dX0_passes_16 : decode cX0_passes 16 = .ok (.aload_n 0, 1) := dk_42 (dk_at dksX0_passes_0 16 rfl rfl)
theorem dX0_passes_17 : decode cX0_passes 17 = .ok (.iload_n 2, 1) := dk_28 (dk_at dksX0_passes_0 17 rfl rfl)
theorem dX0_passes_18 : decode cX0_passes 18 = .ok (.invokevirtual 120, 3) := dk_182 0 120 (dk_at dksX0_passes_0 18 rfl rfl)
theorem dX0_passes_21 : decode cX0_passes 21 = .ok (.istore 4, 2) := dk_54 4 (dk_at dksX0_passes_0 21 rfl rfl)
theorem dX0_passes_23 : decode cX0_passes 23 = .ok (.aload_n 0, 1) := dk_42 (dk_at dksX0_passes_0 23 rfl rfl)
theorem dX0_passes_24 : decode cX0_passes 24 = .ok (.iload_n 2, 1) := dk_28 (dk_at dksX0_passes_1 0 rfl rfl)
theorem dX0_passes_25 : decode cX0_passes 25 = .ok (.iload_n 2, 1) := dk_28 (dk_at dksX0_passes_1 1 rfl rfl)
theorem dX0_passes_26 : decode cX0_passes 26 = .ok (.iload_n 1, 1) := dk_27 (dk_at dksX0_passes_1 2 rfl rfl)
theorem dX0_passes_27 : decode cX0_passes 27 = .ok (.if_icmp .ne 9, 3) := dk_160 0 9 (dk_at dksX0_passes_1 3 rfl rfl)
theorem dX0_passes_30 : decode cX0_passes 30 = .ok (.iconst 1, 1) := dk_4 (dk_at dksX0_passes_1 6 rfl rfl)
theorem dX0_passes_31 : decode cX0_passes 31 = .ok (.iload_n 3, 1) := dk_29 (dk_at dksX0_passes_1 7 rfl rfl)
theorem dX0_passes_32 : decode cX0_passes 32 = .ok (.isub, 1) := dk_100 (dk_at dksX0_passes_1 8 rfl rfl)
theorem dX0_passes_33 : decode cX0_passes 33 = .ok (.goto 4, 3) := dk_167 0 4 (dk_at dksX0_passes_1 9 rfl rfl)
theorem dX0_passes_36 : decode cX0_passes 36 = .ok (.iload_n 3, 1) := dk_29 (dk_at dksX0_passes_1 12 rfl rfl)
theorem dX0_passes_37 : decode cX0_passes 37 = .ok (.iload 4, 2) := dk_21 4 (dk_at dksX0_passes_1 13 rfl rfl)
theorem dX0_passes_39 : decode cX0_passes 39 = .ok (.invokevirtual 376, 3) := dk_182 1 120 (dk_at dksX0_passes_1 15 rfl rfl)
theorem dX0_passes_42 : decode cX0_passes 42 = .ok (.iinc 2 1, 3) := dk_132 2 1 (dk_at dksX0_passes_1 18 rfl rfl)
theorem dX0_passes_45 : decode cX0_passes 45 = .ok (.goto (-43), 3) := dk_167 255 213 (dk_at dksX0_passes_1 21 rfl rfl)
theorem dX0_passes_48 : decode cX0_passes 48 = .ok (.aload_n 0, 1) := dk_42 (dk_at dksX0_passes_2 0 rfl rfl)
theorem dX0_passes_49 : decode cX0_passes 49 = .ok (.dup, 1) := dk_89 (dk_at dksX0_passes_2 1 rfl rfl)
theorem dX0_passes_50 : decode cX0_passes 50 = .ok (.getfield 74, 3) := dk_180 0 74 (dk_at dksX0_passes_2 2 rfl rfl)
theorem dX0_passes_53 : decode cX0_passes 53 = .ok (.iconst 1, 1) := dk_4 (dk_at dksX0_passes_2 5 rfl rfl)
theorem dX0_passes_54 : decode cX0_passes 54 = .ok (.iadd, 1) := dk_96 (dk_at dksX0_passes_2 6 rfl rfl)
theorem dX0_passes_55 : decode cX0_passes 55 = .ok (.putfield 74, 3) := dk_181 0 74 (dk_at dksX0_passes_2 7 rfl rfl)
theorem dX0_passes_58 : decode cX0_passes 58 = .ok (.return_, 1) := dk_177 (dk_at dksX0_passes_2 10 rfl rfl)
abbrev cX0_goesBy : ByteArray := prog_1_method_44_code
def yX0_goesBy : MethodName := ⟨RX0, "goesBy", "(III)V"⟩
def dkwX0_goesBy_2 : List UInt8 := [180, 0, 67, 5, 42, 180, 0, 53, 27, 50, 180, 0, 80, 104, 28, 96, 46, 181, 0, 80, 177]
abbrev dktX0_goesBy_2 : List UInt8 := dkwX0_goesBy_2 ++ []
def dkwX0_goesBy_1 : List UInt8 := [17, 3, 231, 42, 180, 0, 71, 21, 4, 46, 29, 96, 184, 0, 1, 79, 42, 180, 0, 53, 27, 50, 42]
abbrev dktX0_goesBy_1 : List UInt8 := dkwX0_goesBy_1 ++ dktX0_goesBy_2
def dkwX0_goesBy_0 : List UInt8 := [5, 42, 180, 0, 53, 27, 50, 180, 0, 80, 104, 4, 96, 28, 100, 54, 4, 42, 180, 0, 71, 21, 4]
abbrev dktX0_goesBy_0 : List UInt8 := dkwX0_goesBy_0 ++ dktX0_goesBy_1
theorem dksX0_goesBy_0 : cX0_goesBy.data.toList.drop 0 = dktX0_goesBy_0 := by decide +kernel
theorem dksX0_goesBy_1 : cX0_goesBy.data.toList.drop 23 = dktX0_goesBy_1 := dk_seg dksX0_goesBy_0 23 rfl rfl
theorem dksX0_goesBy_2 : cX0_goesBy.data.toList.drop 46 = dktX0_goesBy_2 := dk_seg dksX0_goesBy_1 23 rfl rfl
theorem dX0_goesBy_0 : decode cX0_goesBy 0 = .ok (.iconst 2, 1) := dk_5 (dk_at dksX0_goesBy_0 0 rfl rfl)
theorem dX0_goesBy_1 : decode cX0_goesBy 1 = .ok (.aload_n 0, 1) := dk_42 (dk_at dksX0_goesBy_0 1 rfl rfl)
theorem dX0_goesBy_2 : decode cX0_goesBy 2 = .ok (.getfield 53, 3) := dk_180 0 53 (dk_at dksX0_goesBy_0 2 rfl rfl)
theorem dX0_goesBy_5 : decode cX0_goesBy 5 = .ok (.iload_n 1, 1) := dk_27 (dk_at dksX0_goesBy_0 5 rfl rfl)
theorem dX0_goesBy_6 : decode cX0_goesBy 6 = .ok (.aaload, 1) := dk_50 (dk_at dksX0_goesBy_0 6 rfl rfl)
theorem dX0_goesBy_7 : decode cX0_goesBy 7 = .ok (.getfield 80, 3) := dk_180 0 80 (dk_at dksX0_goesBy_0 7 rfl rfl)
theorem dX0_goesBy_10 : decode cX0_goesBy 10 = .ok (.imul, 1) := dk_104 (dk_at dksX0_goesBy_0 10 rfl rfl)
theorem dX0_goesBy_11 : decode cX0_goesBy 11 = .ok (.iconst 1, 1) := dk_4 (dk_at dksX0_goesBy_0 11 rfl rfl)
theorem dX0_goesBy_12 : decode cX0_goesBy 12 = .ok (.iadd, 1) := dk_96 (dk_at dksX0_goesBy_0 12 rfl rfl)
theorem dX0_goesBy_13 : decode cX0_goesBy 13 = .ok (.iload_n 2, 1) := dk_28 (dk_at dksX0_goesBy_0 13 rfl rfl)
theorem dX0_goesBy_14 : decode cX0_goesBy 14 = .ok (.isub, 1) := dk_100 (dk_at dksX0_goesBy_0 14 rfl rfl)
theorem dX0_goesBy_15 : decode cX0_goesBy 15 = .ok (.istore 4, 2) := dk_54 4 (dk_at dksX0_goesBy_0 15 rfl rfl)
theorem dX0_goesBy_17 : decode cX0_goesBy 17 = .ok (.aload_n 0, 1) := dk_42 (dk_at dksX0_goesBy_0 17 rfl rfl)
theorem dX0_goesBy_18 : decode cX0_goesBy 18 = .ok (.getfield 71, 3) := dk_180 0 71 (dk_at dksX0_goesBy_0 18 rfl rfl)
theorem dX0_goesBy_21 : decode cX0_goesBy 21 = .ok (.iload 4, 2) := dk_21 4 (dk_at dksX0_goesBy_0 21 rfl rfl)
theorem dX0_goesBy_23 : decode cX0_goesBy 23 = .ok (.sipush 999, 3) := dk_17 3 231 (dk_at dksX0_goesBy_1 0 rfl rfl)
theorem dX0_goesBy_26 : decode cX0_goesBy 26 = .ok (.aload_n 0, 1) := dk_42 (dk_at dksX0_goesBy_1 3 rfl rfl)
theorem dX0_goesBy_27 : decode cX0_goesBy 27 = .ok (.getfield 71, 3) := dk_180 0 71 (dk_at dksX0_goesBy_1 4 rfl rfl)
theorem dX0_goesBy_30 : decode cX0_goesBy 30 = .ok (.iload 4, 2) := dk_21 4 (dk_at dksX0_goesBy_1 7 rfl rfl)
theorem dX0_goesBy_32 : decode cX0_goesBy 32 = .ok (.iaload, 1) := dk_46 (dk_at dksX0_goesBy_1 9 rfl rfl)
theorem dX0_goesBy_33 : decode cX0_goesBy 33 = .ok (.iload_n 3, 1) := dk_29 (dk_at dksX0_goesBy_1 10 rfl rfl)
theorem dX0_goesBy_34 : decode cX0_goesBy 34 = .ok (.iadd, 1) := dk_96 (dk_at dksX0_goesBy_1 11 rfl rfl)
theorem dX0_goesBy_35 : decode cX0_goesBy 35 = .ok (.invokestatic 1, 3) := dk_184 0 1 (dk_at dksX0_goesBy_1 12 rfl rfl)
theorem dX0_goesBy_38 : decode cX0_goesBy 38 = .ok (.iastore, 1) := dk_79 (dk_at dksX0_goesBy_1 15 rfl rfl)
theorem dX0_goesBy_39 : decode cX0_goesBy 39 = .ok (.aload_n 0, 1) := dk_42 (dk_at dksX0_goesBy_1 16 rfl rfl)
theorem dX0_goesBy_40 : decode cX0_goesBy 40 = .ok (.getfield 53, 3) := dk_180 0 53 (dk_at dksX0_goesBy_1 17 rfl rfl)
theorem dX0_goesBy_43 : decode cX0_goesBy 43 = .ok (.iload_n 1, 1) := dk_27 (dk_at dksX0_goesBy_1 20 rfl rfl)
theorem dX0_goesBy_44 : decode cX0_goesBy 44 = .ok (.aaload, 1) := dk_50 (dk_at dksX0_goesBy_1 21 rfl rfl)
theorem dX0_goesBy_45 : decode cX0_goesBy 45 = .ok (.aload_n 0, 1) := dk_42 (dk_at dksX0_goesBy_1 22 rfl rfl)
theorem dX0_goesBy_46 : decode cX0_goesBy 46 = .ok (.getfield 67, 3) := dk_180 0 67 (dk_at dksX0_goesBy_2 0 rfl rfl)
theorem dX0_goesBy_49 : decode cX0_goesBy 49 = .ok (.iconst 2, 1) := dk_5 (dk_at dksX0_goesBy_2 3 rfl rfl)
theorem dX0_goesBy_50 : decode cX0_goesBy 50 = .ok (.aload_n 0, 1) := dk_42 (dk_at dksX0_goesBy_2 4 rfl rfl)
theorem dX0_goesBy_51 : decode cX0_goesBy 51 = .ok (.getfield 53, 3) := dk_180 0 53 (dk_at dksX0_goesBy_2 5 rfl rfl)
theorem dX0_goesBy_54 : decode cX0_goesBy 54 = .ok (.iload_n 1, 1) := dk_27 (dk_at dksX0_goesBy_2 8 rfl rfl)
theorem dX0_goesBy_55 : decode cX0_goesBy 55 = .ok (.aaload, 1) := dk_50 (dk_at dksX0_goesBy_2 9 rfl rfl)
theorem dX0_goesBy_56 : decode cX0_goesBy 56 = .ok (.getfield 80, 3) := dk_180 0 80 (dk_at dksX0_goesBy_2 10 rfl rfl)
theorem dX0_goesBy_59 : decode cX0_goesBy 59 = .ok (.imul, 1) := dk_104 (dk_at dksX0_goesBy_2 13 rfl rfl)
theorem dX0_goesBy_60 : decode cX0_goesBy 60 = .ok (.iload_n 2, 1) := dk_28 (dk_at dksX0_goesBy_2 14 rfl rfl)
theorem dX0_goesBy_61 : decode cX0_goesBy 61 = .ok (.iadd, 1) := dk_96 (dk_at dksX0_goesBy_2 15 rfl rfl)
theorem dX0_goesBy_62 : decode cX0_goesBy 62 = .ok (.iaload, 1) := dk_46 (dk_at dksX0_goesBy_2 16 rfl rfl)
theorem dX0_goesBy_63 : decode cX0_goesBy 63 = .ok (.putfield 80, 3) := dk_181 0 80 (dk_at dksX0_goesBy_2 17 rfl rfl)
theorem dX0_goesBy_66 : decode cX0_goesBy 66 = .ok (.return_, 1) := dk_177 (dk_at dksX0_goesBy_2 20 rfl rfl)
abbrev cX0_jarsAll : ByteArray := prog_1_method_46_code
def yX0_jarsAll : MethodName := ⟨RX0, "jarsAll", "()I"⟩
def dkwX0_jarsAll_1 : List UInt8 := [167, 255, 238, 27, 172]
abbrev dktX0_jarsAll_1 : List UInt8 := dkwX0_jarsAll_1 ++ []
def dkwX0_jarsAll_0 : List UInt8 := [3, 60, 3, 61, 28, 16, 24, 162, 0, 18, 27, 42, 180, 0, 71, 28, 46, 96, 60, 132, 2, 1]
abbrev dktX0_jarsAll_0 : List UInt8 := dkwX0_jarsAll_0 ++ dktX0_jarsAll_1
theorem dksX0_jarsAll_0 : cX0_jarsAll.data.toList.drop 0 = dktX0_jarsAll_0 := by decide +kernel
theorem dksX0_jarsAll_1 : cX0_jarsAll.data.toList.drop 22 = dktX0_jarsAll_1 := dk_seg dksX0_jarsAll_0 22 rfl rfl
theorem dX0_jarsAll_0 : decode cX0_jarsAll 0 = .ok (.iconst 0, 1) := dk_3 (dk_at dksX0_jarsAll_0 0 rfl rfl)
theorem dX0_jarsAll_1 : decode cX0_jarsAll 1 = .ok (.istore_n 1, 1) := dk_60 (dk_at dksX0_jarsAll_0 1 rfl rfl)
theorem dX0_jarsAll_2 : decode cX0_jarsAll 2 = .ok (.iconst 0, 1) := dk_3 (dk_at dksX0_jarsAll_0 2 rfl rfl)
theorem dX0_jarsAll_3 : decode cX0_jarsAll 3 = .ok (.istore_n 2, 1) := dk_61 (dk_at dksX0_jarsAll_0 3 rfl rfl)
theorem dX0_jarsAll_4 : decode cX0_jarsAll 4 = .ok (.iload_n 2, 1) := dk_28 (dk_at dksX0_jarsAll_0 4 rfl rfl)
theorem dX0_jarsAll_5 : decode cX0_jarsAll 5 = .ok (.bipush 24, 2) := dk_16 24 (dk_at dksX0_jarsAll_0 5 rfl rfl)
theorem dX0_jarsAll_7 : decode cX0_jarsAll 7 = .ok (.if_icmp .ge 18, 3) := dk_162 0 18 (dk_at dksX0_jarsAll_0 7 rfl rfl)
theorem dX0_jarsAll_10 : decode cX0_jarsAll 10 = .ok (.iload_n 1, 1) := dk_27 (dk_at dksX0_jarsAll_0 10 rfl rfl)
theorem dX0_jarsAll_11 : decode cX0_jarsAll 11 = .ok (.aload_n 0, 1) := dk_42 (dk_at dksX0_jarsAll_0 11 rfl rfl)
theorem dX0_jarsAll_12 : decode cX0_jarsAll 12 = .ok (.getfield 71, 3) := dk_180 0 71 (dk_at dksX0_jarsAll_0 12 rfl rfl)
theorem dX0_jarsAll_15 : decode cX0_jarsAll 15 = .ok (.iload_n 2, 1) := dk_28 (dk_at dksX0_jarsAll_0 15 rfl rfl)
theorem dX0_jarsAll_16 : decode cX0_jarsAll 16 = .ok (.iaload, 1) := dk_46 (dk_at dksX0_jarsAll_0 16 rfl rfl)
theorem dX0_jarsAll_17 : decode cX0_jarsAll 17 = .ok (.iadd, 1) := dk_96 (dk_at dksX0_jarsAll_0 17 rfl rfl)
theorem dX0_jarsAll_18 : decode cX0_jarsAll 18 = .ok (.istore_n 1, 1) := dk_60 (dk_at dksX0_jarsAll_0 18 rfl rfl)
theorem dX0_jarsAll_19 : decode cX0_jarsAll 19 = .ok (.iinc 2 1, 3) := dk_132 2 1 (dk_at dksX0_jarsAll_0 19 rfl rfl)
theorem dX0_jarsAll_22 : decode cX0_jarsAll 22 = .ok (.goto (-18), 3) := dk_167 255 238 (dk_at dksX0_jarsAll_1 0 rfl rfl)
theorem dX0_jarsAll_25 : decode cX0_jarsAll 25 = .ok (.iload_n 1, 1) := dk_27 (dk_at dksX0_jarsAll_1 3 rfl rfl)
theorem dX0_jarsAll_26 : decode cX0_jarsAll 26 = .ok (.ireturn, 1) := dk_172 (dk_at dksX0_jarsAll_1 4 rfl rfl)
abbrev cX0_spoon : ByteArray := prog_1_method_48_code
def yX0_spoon : MethodName := ⟨RX0, "spoon", "(II)I"⟩
def dkwX0_spoon_3 : List UInt8 := [184, 0, 1, 181, 0, 86, 42, 180, 0, 71, 28, 92, 46, 4, 100, 79, 45, 180, 0, 83, 172]
abbrev dktX0_spoon_3 : List UInt8 := dkwX0_spoon_3 ++ []
def dkwX0_spoon_2 : List UInt8 := [182, 1, 117, 96, 16, 157, 16, 99, 184, 1, 102, 181, 0, 83, 45, 17, 3, 231, 45, 180, 0, 86, 4, 96]
abbrev dktX0_spoon_2 : List UInt8 := dkwX0_spoon_2 ++ dktX0_spoon_3
def dkwX0_spoon_1 : List UInt8 := [46, 154, 0, 7, 17, 252, 21, 172, 42, 180, 0, 53, 27, 50, 78, 45, 45, 180, 0, 83, 42, 27, 28]
abbrev dktX0_spoon_1 : List UInt8 := dkwX0_spoon_1 ++ dktX0_spoon_2
def dkwX0_spoon_0 : List UInt8 := [42, 27, 182, 0, 64, 153, 0, 10, 28, 184, 0, 61, 154, 0, 7, 17, 252, 24, 172, 42, 180, 0, 71, 28]
abbrev dktX0_spoon_0 : List UInt8 := dkwX0_spoon_0 ++ dktX0_spoon_1
theorem dksX0_spoon_0 : cX0_spoon.data.toList.drop 0 = dktX0_spoon_0 := by decide +kernel
theorem dksX0_spoon_1 : cX0_spoon.data.toList.drop 24 = dktX0_spoon_1 := dk_seg dksX0_spoon_0 24 rfl rfl
theorem dksX0_spoon_2 : cX0_spoon.data.toList.drop 47 = dktX0_spoon_2 := dk_seg dksX0_spoon_1 23 rfl rfl
theorem dksX0_spoon_3 : cX0_spoon.data.toList.drop 71 = dktX0_spoon_3 := dk_seg dksX0_spoon_2 24 rfl rfl
theorem dX0_spoon_0 : decode cX0_spoon 0 = .ok (.aload_n 0, 1) := dk_42 (dk_at dksX0_spoon_0 0 rfl rfl)
theorem dX0_spoon_1 : decode cX0_spoon 1 = .ok (.iload_n 1, 1) := dk_27 (dk_at dksX0_spoon_0 1 rfl rfl)
theorem dX0_spoon_2 : decode cX0_spoon 2 = .ok (.invokevirtual 64, 3) := dk_182 0 64 (dk_at dksX0_spoon_0 2 rfl rfl)
theorem dX0_spoon_5 : decode cX0_spoon 5 = .ok (.ifCond .eq 10, 3) := dk_153 0 10 (dk_at dksX0_spoon_0 5 rfl rfl)
theorem dX0_spoon_8 : decode cX0_spoon 8 = .ok (.iload_n 2, 1) := dk_28 (dk_at dksX0_spoon_0 8 rfl rfl)
theorem dX0_spoon_9 : decode cX0_spoon 9 = .ok (.invokestatic 61, 3) := dk_184 0 61 (dk_at dksX0_spoon_0 9 rfl rfl)
theorem dX0_spoon_12 : decode cX0_spoon 12 = .ok (.ifCond .ne 7, 3) := dk_154 0 7 (dk_at dksX0_spoon_0 12 rfl rfl)
theorem dX0_spoon_15 : decode cX0_spoon 15 = .ok (.sipush (-1000), 3) := dk_17 252 24 (dk_at dksX0_spoon_0 15 rfl rfl)
theorem dX0_spoon_18 : decode cX0_spoon 18 = .ok (.ireturn, 1) := dk_172 (dk_at dksX0_spoon_0 18 rfl rfl)
theorem dX0_spoon_19 : decode cX0_spoon 19 = .ok (.aload_n 0, 1) := dk_42 (dk_at dksX0_spoon_0 19 rfl rfl)
theorem dX0_spoon_20 : decode cX0_spoon 20 = .ok (.getfield 71, 3) := dk_180 0 71 (dk_at dksX0_spoon_0 20 rfl rfl)
theorem dX0_spoon_23 : decode cX0_spoon 23 = .ok (.iload_n 2, 1) := dk_28 (dk_at dksX0_spoon_0 23 rfl rfl)
theorem dX0_spoon_24 : decode cX0_spoon 24 = .ok (.iaload, 1) := dk_46 (dk_at dksX0_spoon_1 0 rfl rfl)
theorem dX0_spoon_25 : decode cX0_spoon 25 = .ok (.ifCond .ne 7, 3) := dk_154 0 7 (dk_at dksX0_spoon_1 1 rfl rfl)
theorem dX0_spoon_28 : decode cX0_spoon 28 = .ok (.sipush (-1003), 3) := dk_17 252 21 (dk_at dksX0_spoon_1 4 rfl rfl)
theorem dX0_spoon_31 : decode cX0_spoon 31 = .ok (.ireturn, 1) := dk_172 (dk_at dksX0_spoon_1 7 rfl rfl)
theorem dX0_spoon_32 : decode cX0_spoon 32 = .ok (.aload_n 0, 1) := dk_42 (dk_at dksX0_spoon_1 8 rfl rfl)
theorem dX0_spoon_33 : decode cX0_spoon 33 = .ok (.getfield 53, 3) := dk_180 0 53 (dk_at dksX0_spoon_1 9 rfl rfl)
theorem dX0_spoon_36 : decode cX0_spoon 36 = .ok (.iload_n 1, 1) := dk_27 (dk_at dksX0_spoon_1 12 rfl rfl)
theorem dX0_spoon_37 : decode cX0_spoon 37 = .ok (.aaload, 1) := dk_50 (dk_at dksX0_spoon_1 13 rfl rfl)
theorem dX0_spoon_38 : decode cX0_spoon 38 = .ok (.astore_n 3, 1) := dk_78 (dk_at dksX0_spoon_1 14 rfl rfl)
theorem dX0_spoon_39 : decode cX0_spoon 39 = .ok (.aload_n 3, 1) := dk_45 (dk_at dksX0_spoon_1 15 rfl rfl)
theorem dX0_spoon_40 : decode cX0_spoon 40 = .ok (.aload_n 3, 1) := dk_45 (dk_at dksX0_spoon_1 16 rfl rfl)
theorem dX0_spoon_41 : decode cX0_spoon 41 = .ok (.getfield 83, 3) := dk_180 0 83 (dk_at dksX0_spoon_1 17 rfl rfl)
theorem dX0_spoon_44 : decode cX0_spoon 44 = .ok (.aload_n 0, 1) := dk_42 (dk_at dksX0_spoon_1 20 rfl rfl)
theorem dX0_spoon_45 : decode cX0_spoon 45 = .ok (.iload_n 1, 1) := dk_27 (dk_at dksX0_spoon_1 21 rfl rfl)
theorem dX0_spoon_46 : decode cX0_spoon 46 = .ok (.iload_n 2, 1) := dk_28 (dk_at dksX0_spoon_1 22 rfl rfl)
theorem dX0_spoon_47 : decode cX0_spoon 47 = .ok (.invokevirtual 373, 3) := dk_182 1 117 (dk_at dksX0_spoon_2 0 rfl rfl)
theorem dX0_spoon_50 : decode cX0_spoon 50 = .ok (.iadd, 1) := dk_96 (dk_at dksX0_spoon_2 3 rfl rfl)
theorem dX0_spoon_51 : decode cX0_spoon 51 = .ok (.bipush (-99), 2) := dk_16 157 (dk_at dksX0_spoon_2 4 rfl rfl)
theorem dX0_spoon_53 : decode cX0_spoon 53 = .ok (.bipush 99, 2) := dk_16 99 (dk_at dksX0_spoon_2 6 rfl rfl)
theorem dX0_spoon_55 : decode cX0_spoon 55 = .ok (.invokestatic 358, 3) := dk_184 1 102 (dk_at dksX0_spoon_2 8 rfl rfl)
theorem dX0_spoon_58 : decode cX0_spoon 58 = .ok (.putfield 83, 3) := dk_181 0 83 (dk_at dksX0_spoon_2 11 rfl rfl)
theorem dX0_spoon_61 : decode cX0_spoon 61 = .ok (.aload_n 3, 1) := dk_45 (dk_at dksX0_spoon_2 14 rfl rfl)
theorem dX0_spoon_62 : decode cX0_spoon 62 = .ok (.sipush 999, 3) := dk_17 3 231 (dk_at dksX0_spoon_2 15 rfl rfl)
theorem dX0_spoon_65 : decode cX0_spoon 65 = .ok (.aload_n 3, 1) := dk_45 (dk_at dksX0_spoon_2 18 rfl rfl)
theorem dX0_spoon_66 : decode cX0_spoon 66 = .ok (.getfield 86, 3) := dk_180 0 86 (dk_at dksX0_spoon_2 19 rfl rfl)
theorem dX0_spoon_69 : decode cX0_spoon 69 = .ok (.iconst 1, 1) := dk_4 (dk_at dksX0_spoon_2 22 rfl rfl)
theorem dX0_spoon_70 : decode cX0_spoon 70 = .ok (.iadd, 1) := dk_96 (dk_at dksX0_spoon_2 23 rfl rfl)
theorem dX0_spoon_71 : decode cX0_spoon 71 = .ok (.invokestatic 1, 3) := dk_184 0 1 (dk_at dksX0_spoon_3 0 rfl rfl)
theorem dX0_spoon_74 : decode cX0_spoon 74 = .ok (.putfield 86, 3) := dk_181 0 86 (dk_at dksX0_spoon_3 3 rfl rfl)
theorem dX0_spoon_77 : decode cX0_spoon 77 = .ok (.aload_n 0, 1) := dk_42 (dk_at dksX0_spoon_3 6 rfl rfl)
theorem dX0_spoon_78 : decode cX0_spoon 78 = .ok (.getfield 71, 3) := dk_180 0 71 (dk_at dksX0_spoon_3 7 rfl rfl)
theorem dX0_spoon_81 : decode cX0_spoon 81 = .ok (.iload_n 2, 1) := dk_28 (dk_at dksX0_spoon_3 10 rfl rfl)
theorem dX0_spoon_82 : decode cX0_spoon 82 = .ok (.dup2, 1) := dk_92 (dk_at dksX0_spoon_3 11 rfl rfl)
theorem dX0_spoon_83 : decode cX0_spoon 83 = .ok (.iaload, 1) := dk_46 (dk_at dksX0_spoon_3 12 rfl rfl)
theorem dX0_spoon_84 : decode cX0_spoon 84 = .ok (.iconst 1, 1) := dk_4 (dk_at dksX0_spoon_3 13 rfl rfl)
theorem dX0_spoon_85 : decode cX0_spoon 85 = .ok (.isub, 1) := dk_100 (dk_at dksX0_spoon_3 14 rfl rfl)
theorem dX0_spoon_86 : decode cX0_spoon 86 = .ok (.iastore, 1) := dk_79 (dk_at dksX0_spoon_3 15 rfl rfl)
theorem dX0_spoon_87 : decode cX0_spoon 87 = .ok (.aload_n 3, 1) := dk_45 (dk_at dksX0_spoon_3 16 rfl rfl)
theorem dX0_spoon_88 : decode cX0_spoon 88 = .ok (.getfield 83, 3) := dk_180 0 83 (dk_at dksX0_spoon_3 17 rfl rfl)
theorem dX0_spoon_91 : decode cX0_spoon 91 = .ok (.ireturn, 1) := dk_172 (dk_at dksX0_spoon_3 20 rfl rfl)
abbrev cX0_run : ByteArray := prog_1_method_53_code
def yX0_run : MethodName := ⟨RX0, "run", "(III)I"⟩
def dkwX0_run_2 : List UInt8 := [184, 0, 14, 153, 0, 18, 21, 4, 153, 0, 13, 42, 27, 28, 29, 182, 1, 155, 167, 0, 5, 16, 254, 172]
abbrev dktX0_run_2 : List UInt8 := dkwX0_run_2 ++ []
def dkwX0_run_1 : List UInt8 := [153, 0, 7, 4, 167, 0, 4, 3, 54, 4, 42, 27, 182, 0, 64, 153, 0, 30, 28, 133, 9, 20, 1, 153]
abbrev dktX0_run_1 : List UInt8 := dkwX0_run_1 ++ dktX0_run_2
def dkwX0_run_0 : List UInt8 := [29, 133, 9, 20, 1, 147, 184, 0, 14, 154, 0, 17, 29, 133, 20, 1, 149, 20, 1, 151, 184, 0, 14]
abbrev dktX0_run_0 : List UInt8 := dkwX0_run_0 ++ dktX0_run_1
theorem dksX0_run_0 : cX0_run.data.toList.drop 0 = dktX0_run_0 := by decide +kernel
theorem dksX0_run_1 : cX0_run.data.toList.drop 23 = dktX0_run_1 := dk_seg dksX0_run_0 23 rfl rfl
theorem dksX0_run_2 : cX0_run.data.toList.drop 47 = dktX0_run_2 := dk_seg dksX0_run_1 24 rfl rfl
theorem dX0_run_0 : decode cX0_run 0 = .ok (.iload_n 3, 1) := dk_29 (dk_at dksX0_run_0 0 rfl rfl)
theorem dX0_run_1 : decode cX0_run 1 = .ok (.i2l, 1) := dk_133 (dk_at dksX0_run_0 1 rfl rfl)
theorem dX0_run_2 : decode cX0_run 2 = .ok (.lconst 0, 1) := dk_9 (dk_at dksX0_run_0 2 rfl rfl)
theorem dX0_run_3 : decode cX0_run 3 = .ok (.ldc2_w 403, 3) := dk_20 1 147 (dk_at dksX0_run_0 3 rfl rfl)
theorem dX0_run_6 : decode cX0_run 6 = .ok (.invokestatic 14, 3) := dk_184 0 14 (dk_at dksX0_run_0 6 rfl rfl)
theorem dX0_run_9 : decode cX0_run 9 = .ok (.ifCond .ne 17, 3) := dk_154 0 17 (dk_at dksX0_run_0 9 rfl rfl)
theorem dX0_run_12 : decode cX0_run 12 = .ok (.iload_n 3, 1) := dk_29 (dk_at dksX0_run_0 12 rfl rfl)
theorem dX0_run_13 : decode cX0_run 13 = .ok (.i2l, 1) := dk_133 (dk_at dksX0_run_0 13 rfl rfl)
theorem dX0_run_14 : decode cX0_run 14 = .ok (.ldc2_w 405, 3) := dk_20 1 149 (dk_at dksX0_run_0 14 rfl rfl)
theorem dX0_run_17 : decode cX0_run 17 = .ok (.ldc2_w 407, 3) := dk_20 1 151 (dk_at dksX0_run_0 17 rfl rfl)
theorem dX0_run_20 : decode cX0_run 20 = .ok (.invokestatic 14, 3) := dk_184 0 14 (dk_at dksX0_run_0 20 rfl rfl)
theorem dX0_run_23 : decode cX0_run 23 = .ok (.ifCond .eq 7, 3) := dk_153 0 7 (dk_at dksX0_run_1 0 rfl rfl)
theorem dX0_run_26 : decode cX0_run 26 = .ok (.iconst 1, 1) := dk_4 (dk_at dksX0_run_1 3 rfl rfl)
theorem dX0_run_27 : decode cX0_run 27 = .ok (.goto 4, 3) := dk_167 0 4 (dk_at dksX0_run_1 4 rfl rfl)
theorem dX0_run_30 : decode cX0_run 30 = .ok (.iconst 0, 1) := dk_3 (dk_at dksX0_run_1 7 rfl rfl)
theorem dX0_run_31 : decode cX0_run 31 = .ok (.istore 4, 2) := dk_54 4 (dk_at dksX0_run_1 8 rfl rfl)
theorem dX0_run_33 : decode cX0_run 33 = .ok (.aload_n 0, 1) := dk_42 (dk_at dksX0_run_1 10 rfl rfl)
theorem dX0_run_34 : decode cX0_run 34 = .ok (.iload_n 1, 1) := dk_27 (dk_at dksX0_run_1 11 rfl rfl)
theorem dX0_run_35 : decode cX0_run 35 = .ok (.invokevirtual 64, 3) := dk_182 0 64 (dk_at dksX0_run_1 12 rfl rfl)
theorem dX0_run_38 : decode cX0_run 38 = .ok (.ifCond .eq 30, 3) := dk_153 0 30 (dk_at dksX0_run_1 15 rfl rfl)
theorem dX0_run_41 : decode cX0_run 41 = .ok (.iload_n 2, 1) := dk_28 (dk_at dksX0_run_1 18 rfl rfl)
theorem dX0_run_42 : decode cX0_run 42 = .ok (.i2l, 1) := dk_133 (dk_at dksX0_run_1 19 rfl rfl)
theorem dX0_run_43 : decode cX0_run 43 = .ok (.lconst 0, 1) := dk_9 (dk_at dksX0_run_1 20 rfl rfl)
theorem dX0_run_44 : decode cX0_run 44 = .ok (.ldc2_w 409, 3) := dk_20 1 153 (dk_at dksX0_run_1 21 rfl rfl)
theorem dX0_run_47 : decode cX0_run 47 = .ok (.invokestatic 14, 3) := dk_184 0 14 (dk_at dksX0_run_2 0 rfl rfl)
theorem dX0_run_50 : decode cX0_run 50 = .ok (.ifCond .eq 18, 3) := dk_153 0 18 (dk_at dksX0_run_2 3 rfl rfl)
theorem dX0_run_53 : decode cX0_run 53 = .ok (.iload 4, 2) := dk_21 4 (dk_at dksX0_run_2 6 rfl rfl)
theorem dX0_run_55 : decode cX0_run 55 = .ok (.ifCond .eq 13, 3) := dk_153 0 13 (dk_at dksX0_run_2 8 rfl rfl)
theorem dX0_run_58 : decode cX0_run 58 = .ok (.aload_n 0, 1) := dk_42 (dk_at dksX0_run_2 11 rfl rfl)
theorem dX0_run_59 : decode cX0_run 59 = .ok (.iload_n 1, 1) := dk_27 (dk_at dksX0_run_2 12 rfl rfl)
theorem dX0_run_60 : decode cX0_run 60 = .ok (.iload_n 2, 1) := dk_28 (dk_at dksX0_run_2 13 rfl rfl)
theorem dX0_run_61 : decode cX0_run 61 = .ok (.iload_n 3, 1) := dk_29 (dk_at dksX0_run_2 14 rfl rfl)
theorem dX0_run_62 : decode cX0_run 62 = .ok (.invokevirtual 411, 3) := dk_182 1 155 (dk_at dksX0_run_2 15 rfl rfl)
theorem dX0_run_65 : decode cX0_run 65 = .ok (.goto 5, 3) := dk_167 0 5 (dk_at dksX0_run_2 18 rfl rfl)
theorem dX0_run_68 : decode cX0_run 68 = .ok (.bipush (-2), 2) := dk_16 254 (dk_at dksX0_run_2 21 rfl rfl)
theorem dX0_run_70 : decode cX0_run 70 = .ok (.ireturn, 1) := dk_172 (dk_at dksX0_run_2 23 rfl rfl)
abbrev cX0_runs : ByteArray := prog_1_method_52_code
def yX0_runs : MethodName := ⟨RX0, "runs", "(III)I"⟩
def dkwX0_runs_5 : List UInt8 := [58, 6, 42, 21, 4, 182, 1, 144, 25, 6, 191]
abbrev dktX0_runs_5 : List UInt8 := dkwX0_runs_5 ++ []
def dkwX0_runs_4 : List UInt8 := [21, 5, 172, 42, 180, 0, 71, 29, 16, 10, 100, 46, 54, 5, 42, 21, 4, 182, 1, 144, 21, 5, 172]
abbrev dktX0_runs_4 : List UInt8 := dkwX0_runs_4 ++ dktX0_runs_5
def dkwX0_runs_3 : List UInt8 := [54, 5, 42, 21, 4, 182, 1, 144, 21, 5, 172, 42, 182, 1, 126, 54, 5, 42, 21, 4, 182, 1, 144]
abbrev dktX0_runs_3 : List UInt8 := dkwX0_runs_3 ++ dktX0_runs_4
def dkwX0_runs_2 : List UInt8 := [42, 180, 0, 53, 27, 50, 180, 0, 80, 54, 5, 42, 21, 4, 182, 1, 144, 21, 5, 172, 42, 180, 1, 135]
abbrev dktX0_runs_2 : List UInt8 := dkwX0_runs_2 ++ dktX0_runs_3
def dkwX0_runs_1 : List UInt8 := [170, 0, 0, 0, 0, 0, 77, 0, 0, 0, 0, 0, 0, 0, 2, 0, 0, 0, 27, 0, 0, 0, 47, 0, 0, 0, 62]
abbrev dktX0_runs_1 : List UInt8 := dkwX0_runs_1 ++ dktX0_runs_2
def dkwX0_runs_0 : List UInt8 := [42, 180, 0, 74, 54, 4, 42, 182, 1, 138, 42, 27, 28, 182, 1, 141, 29]
abbrev dktX0_runs_0 : List UInt8 := dkwX0_runs_0 ++ dktX0_runs_1
theorem dksX0_runs_0 : cX0_runs.data.toList.drop 0 = dktX0_runs_0 := by decide +kernel
theorem dksX0_runs_1 : cX0_runs.data.toList.drop 17 = dktX0_runs_1 := dk_seg dksX0_runs_0 17 rfl rfl
theorem dksX0_runs_2 : cX0_runs.data.toList.drop 44 = dktX0_runs_2 := dk_seg dksX0_runs_1 27 rfl rfl
theorem dksX0_runs_3 : cX0_runs.data.toList.drop 68 = dktX0_runs_3 := dk_seg dksX0_runs_2 24 rfl rfl
theorem dksX0_runs_4 : cX0_runs.data.toList.drop 91 = dktX0_runs_4 := dk_seg dksX0_runs_3 23 rfl rfl
theorem dksX0_runs_5 : cX0_runs.data.toList.drop 114 = dktX0_runs_5 := dk_seg dksX0_runs_4 23 rfl rfl
theorem dX0_runs_0 : decode cX0_runs 0 = .ok (.aload_n 0, 1) := dk_42 (dk_at dksX0_runs_0 0 rfl rfl)
theorem dX0_runs_1 : decode cX0_runs 1 = .ok (.getfield 74, 3) := dk_180 0 74 (dk_at dksX0_runs_0 1 rfl rfl)
theorem dX0_runs_4 : decode cX0_runs 4 = .ok (.istore 4, 2) := dk_54 4 (dk_at dksX0_runs_0 4 rfl rfl)
theorem dX0_runs_6 : decode cX0_runs 6 = .ok (.aload_n 0, 1) := dk_42 (dk_at dksX0_runs_0 6 rfl rfl)
theorem dX0_runs_7 : decode cX0_runs 7 = .ok (.invokevirtual 394, 3) := dk_182 1 138 (dk_at dksX0_runs_0 7 rfl rfl)
theorem dX0_runs_10 : decode cX0_runs 10 = .ok (.aload_n 0, 1) := dk_42 (dk_at dksX0_runs_0 10 rfl rfl)
theorem dX0_runs_11 : decode cX0_runs 11 = .ok (.iload_n 1, 1) := dk_27 (dk_at dksX0_runs_0 11 rfl rfl)
theorem dX0_runs_12 : decode cX0_runs 12 = .ok (.iload_n 2, 1) := dk_28 (dk_at dksX0_runs_0 12 rfl rfl)
theorem dX0_runs_13 : decode cX0_runs 13 = .ok (.invokevirtual 397, 3) := dk_182 1 141 (dk_at dksX0_runs_0 13 rfl rfl)
theorem dX0_runs_16 : decode cX0_runs 16 = .ok (.iload_n 3, 1) := dk_29 (dk_at dksX0_runs_0 16 rfl rfl)
theorem dX0_runs_17 : decode cX0_runs 17 = .ok (.tableswitch 77 0 2 #[27, 47, 62], 27) := by decide +kernel
theorem dX0_runs_44 : decode cX0_runs 44 = .ok (.aload_n 0, 1) := dk_42 (dk_at dksX0_runs_2 0 rfl rfl)
theorem dX0_runs_45 : decode cX0_runs 45 = .ok (.getfield 53, 3) := dk_180 0 53 (dk_at dksX0_runs_2 1 rfl rfl)
theorem dX0_runs_48 : decode cX0_runs 48 = .ok (.iload_n 1, 1) := dk_27 (dk_at dksX0_runs_2 4 rfl rfl)
theorem dX0_runs_49 : decode cX0_runs 49 = .ok (.aaload, 1) := dk_50 (dk_at dksX0_runs_2 5 rfl rfl)
theorem dX0_runs_50 : decode cX0_runs 50 = .ok (.getfield 80, 3) := dk_180 0 80 (dk_at dksX0_runs_2 6 rfl rfl)
theorem dX0_runs_53 : decode cX0_runs 53 = .ok (.istore 5, 2) := dk_54 5 (dk_at dksX0_runs_2 9 rfl rfl)
theorem dX0_runs_55 : decode cX0_runs 55 = .ok (.aload_n 0, 1) := dk_42 (dk_at dksX0_runs_2 11 rfl rfl)
theorem dX0_runs_56 : decode cX0_runs 56 = .ok (.iload 4, 2) := dk_21 4 (dk_at dksX0_runs_2 12 rfl rfl)
theorem dX0_runs_58 : decode cX0_runs 58 = .ok (.invokevirtual 400, 3) := dk_182 1 144 (dk_at dksX0_runs_2 14 rfl rfl)
theorem dX0_runs_61 : decode cX0_runs 61 = .ok (.iload 5, 2) := dk_21 5 (dk_at dksX0_runs_2 17 rfl rfl)
theorem dX0_runs_63 : decode cX0_runs 63 = .ok (.ireturn, 1) := dk_172 (dk_at dksX0_runs_2 19 rfl rfl)
theorem dX0_runs_64 : decode cX0_runs 64 = .ok (.aload_n 0, 1) := dk_42 (dk_at dksX0_runs_2 20 rfl rfl)
theorem dX0_runs_65 : decode cX0_runs 65 = .ok (.getfield 391, 3) := dk_180 1 135 (dk_at dksX0_runs_2 21 rfl rfl)
theorem dX0_runs_68 : decode cX0_runs 68 = .ok (.istore 5, 2) := dk_54 5 (dk_at dksX0_runs_3 0 rfl rfl)
theorem dX0_runs_70 : decode cX0_runs 70 = .ok (.aload_n 0, 1) := dk_42 (dk_at dksX0_runs_3 2 rfl rfl)
theorem dX0_runs_71 : decode cX0_runs 71 = .ok (.iload 4, 2) := dk_21 4 (dk_at dksX0_runs_3 3 rfl rfl)
theorem dX0_runs_73 : decode cX0_runs 73 = .ok (.invokevirtual 400, 3) := dk_182 1 144 (dk_at dksX0_runs_3 5 rfl rfl)
theorem dX0_runs_76 : decode cX0_runs 76 = .ok (.iload 5, 2) := dk_21 5 (dk_at dksX0_runs_3 8 rfl rfl)
theorem dX0_runs_78 : decode cX0_runs 78 = .ok (.ireturn, 1) := dk_172 (dk_at dksX0_runs_3 10 rfl rfl)
theorem dX0_runs_79 : decode cX0_runs 79 = .ok (.aload_n 0, 1) := dk_42 (dk_at dksX0_runs_3 11 rfl rfl)
theorem dX0_runs_80 : decode cX0_runs 80 = .ok (.invokevirtual 382, 3) := dk_182 1 126 (dk_at dksX0_runs_3 12 rfl rfl)
theorem dX0_runs_83 : decode cX0_runs 83 = .ok (.istore 5, 2) := dk_54 5 (dk_at dksX0_runs_3 15 rfl rfl)
theorem dX0_runs_85 : decode cX0_runs 85 = .ok (.aload_n 0, 1) := dk_42 (dk_at dksX0_runs_3 17 rfl rfl)
theorem dX0_runs_86 : decode cX0_runs 86 = .ok (.iload 4, 2) := dk_21 4 (dk_at dksX0_runs_3 18 rfl rfl)
theorem dX0_runs_88 : decode cX0_runs 88 = .ok (.invokevirtual 400, 3) := dk_182 1 144 (dk_at dksX0_runs_3 20 rfl rfl)
theorem dX0_runs_91 : decode cX0_runs 91 = .ok (.iload 5, 2) := dk_21 5 (dk_at dksX0_runs_4 0 rfl rfl)
theorem dX0_runs_93 : decode cX0_runs 93 = .ok (.ireturn, 1) := dk_172 (dk_at dksX0_runs_4 2 rfl rfl)
theorem dX0_runs_94 : decode cX0_runs 94 = .ok (.aload_n 0, 1) := dk_42 (dk_at dksX0_runs_4 3 rfl rfl)
theorem dX0_runs_95 : decode cX0_runs 95 = .ok (.getfield 71, 3) := dk_180 0 71 (dk_at dksX0_runs_4 4 rfl rfl)
theorem dX0_runs_98 : decode cX0_runs 98 = .ok (.iload_n 3, 1) := dk_29 (dk_at dksX0_runs_4 7 rfl rfl)
theorem dX0_runs_99 : decode cX0_runs 99 = .ok (.bipush 10, 2) := dk_16 10 (dk_at dksX0_runs_4 8 rfl rfl)
theorem dX0_runs_101 : decode cX0_runs 101 = .ok (.isub, 1) := dk_100 (dk_at dksX0_runs_4 10 rfl rfl)
theorem dX0_runs_102 : decode cX0_runs 102 = .ok (.iaload, 1) := dk_46 (dk_at dksX0_runs_4 11 rfl rfl)
theorem dX0_runs_103 : decode cX0_runs 103 = .ok (.istore 5, 2) := dk_54 5 (dk_at dksX0_runs_4 12 rfl rfl)
theorem dX0_runs_105 : decode cX0_runs 105 = .ok (.aload_n 0, 1) := dk_42 (dk_at dksX0_runs_4 14 rfl rfl)
theorem dX0_runs_106 : decode cX0_runs 106 = .ok (.iload 4, 2) := dk_21 4 (dk_at dksX0_runs_4 15 rfl rfl)
theorem dX0_runs_108 : decode cX0_runs 108 = .ok (.invokevirtual 400, 3) := dk_182 1 144 (dk_at dksX0_runs_4 17 rfl rfl)
theorem dX0_runs_111 : decode cX0_runs 111 = .ok (.iload 5, 2) := dk_21 5 (dk_at dksX0_runs_4 20 rfl rfl)
theorem dX0_runs_113 : decode cX0_runs 113 = .ok (.ireturn, 1) := dk_172 (dk_at dksX0_runs_4 22 rfl rfl)
theorem dX0_runs_114 : decode cX0_runs 114 = .ok (.astore 6, 2) := dk_58 6 (dk_at dksX0_runs_5 0 rfl rfl)
theorem dX0_runs_116 : decode cX0_runs 116 = .ok (.aload_n 0, 1) := dk_42 (dk_at dksX0_runs_5 2 rfl rfl)
theorem dX0_runs_117 : decode cX0_runs 117 = .ok (.iload 4, 2) := dk_21 4 (dk_at dksX0_runs_5 3 rfl rfl)
theorem dX0_runs_119 : decode cX0_runs 119 = .ok (.invokevirtual 400, 3) := dk_182 1 144 (dk_at dksX0_runs_5 5 rfl rfl)
theorem dX0_runs_122 : decode cX0_runs 122 = .ok (.aload 6, 2) := dk_25 6 (dk_at dksX0_runs_5 8 rfl rfl)
theorem dX0_runs_124 : decode cX0_runs 124 = .ok (.athrow, 1) := dk_191 (dk_at dksX0_runs_5 10 rfl rfl)
abbrev cX0_keeps : ByteArray := prog_1_method_49_code
def yX0_keeps : MethodName := ⟨RX0, "keeps", "()V"⟩
def dkwX0_keeps_2 : List UInt8 := [177]
abbrev dktX0_keeps_2 : List UInt8 := dkwX0_keeps_2 ++ []
def dkwX0_keeps_1 : List UInt8 := [162, 0, 24, 42, 180, 1, 44, 27, 42, 180, 0, 53, 27, 50, 180, 0, 80, 79, 132, 1, 1, 167, 255, 230]
abbrev dktX0_keeps_1 : List UInt8 := dkwX0_keeps_1 ++ dktX0_keeps_2
def dkwX0_keeps_0 : List UInt8 := [42, 180, 0, 71, 3, 42, 180, 1, 41, 3, 16, 24, 184, 1, 129, 3, 60, 27, 42, 180, 0, 18]
abbrev dktX0_keeps_0 : List UInt8 := dkwX0_keeps_0 ++ dktX0_keeps_1
theorem dksX0_keeps_0 : cX0_keeps.data.toList.drop 0 = dktX0_keeps_0 := by decide +kernel
theorem dksX0_keeps_1 : cX0_keeps.data.toList.drop 22 = dktX0_keeps_1 := dk_seg dksX0_keeps_0 22 rfl rfl
theorem dksX0_keeps_2 : cX0_keeps.data.toList.drop 46 = dktX0_keeps_2 := dk_seg dksX0_keeps_1 24 rfl rfl
theorem dX0_keeps_0 : decode cX0_keeps 0 = .ok (.aload_n 0, 1) := dk_42 (dk_at dksX0_keeps_0 0 rfl rfl)
theorem dX0_keeps_1 : decode cX0_keeps 1 = .ok (.getfield 71, 3) := dk_180 0 71 (dk_at dksX0_keeps_0 1 rfl rfl)
theorem dX0_keeps_4 : decode cX0_keeps 4 = .ok (.iconst 0, 1) := dk_3 (dk_at dksX0_keeps_0 4 rfl rfl)
theorem dX0_keeps_5 : decode cX0_keeps 5 = .ok (.aload_n 0, 1) := dk_42 (dk_at dksX0_keeps_0 5 rfl rfl)
theorem dX0_keeps_6 : decode cX0_keeps 6 = .ok (.getfield 297, 3) := dk_180 1 41 (dk_at dksX0_keeps_0 6 rfl rfl)
theorem dX0_keeps_9 : decode cX0_keeps 9 = .ok (.iconst 0, 1) := dk_3 (dk_at dksX0_keeps_0 9 rfl rfl)
theorem dX0_keeps_10 : decode cX0_keeps 10 = .ok (.bipush 24, 2) := dk_16 24 (dk_at dksX0_keeps_0 10 rfl rfl)
theorem dX0_keeps_12 : decode cX0_keeps 12 = .ok (.invokestatic 385, 3) := dk_184 1 129 (dk_at dksX0_keeps_0 12 rfl rfl)
theorem dX0_keeps_15 : decode cX0_keeps 15 = .ok (.iconst 0, 1) := dk_3 (dk_at dksX0_keeps_0 15 rfl rfl)
theorem dX0_keeps_16 : decode cX0_keeps 16 = .ok (.istore_n 1, 1) := dk_60 (dk_at dksX0_keeps_0 16 rfl rfl)
theorem dX0_keeps_17 : decode cX0_keeps 17 = .ok (.iload_n 1, 1) := dk_27 (dk_at dksX0_keeps_0 17 rfl rfl)
theorem dX0_keeps_18 : decode cX0_keeps 18 = .ok (.aload_n 0, 1) := dk_42 (dk_at dksX0_keeps_0 18 rfl rfl)
theorem dX0_keeps_19 : decode cX0_keeps 19 = .ok (.getfield 18, 3) := dk_180 0 18 (dk_at dksX0_keeps_0 19 rfl rfl)
theorem dX0_keeps_22 : decode cX0_keeps 22 = .ok (.if_icmp .ge 24, 3) := dk_162 0 24 (dk_at dksX0_keeps_1 0 rfl rfl)
theorem dX0_keeps_25 : decode cX0_keeps 25 = .ok (.aload_n 0, 1) := dk_42 (dk_at dksX0_keeps_1 3 rfl rfl)
theorem dX0_keeps_26 : decode cX0_keeps 26 = .ok (.getfield 300, 3) := dk_180 1 44 (dk_at dksX0_keeps_1 4 rfl rfl)
theorem dX0_keeps_29 : decode cX0_keeps 29 = .ok (.iload_n 1, 1) := dk_27 (dk_at dksX0_keeps_1 7 rfl rfl)
theorem dX0_keeps_30 : decode cX0_keeps 30 = .ok (.aload_n 0, 1) := dk_42 (dk_at dksX0_keeps_1 8 rfl rfl)
theorem dX0_keeps_31 : decode cX0_keeps 31 = .ok (.getfield 53, 3) := dk_180 0 53 (dk_at dksX0_keeps_1 9 rfl rfl)
theorem dX0_keeps_34 : decode cX0_keeps 34 = .ok (.iload_n 1, 1) := dk_27 (dk_at dksX0_keeps_1 12 rfl rfl)
theorem dX0_keeps_35 : decode cX0_keeps 35 = .ok (.aaload, 1) := dk_50 (dk_at dksX0_keeps_1 13 rfl rfl)
theorem dX0_keeps_36 : decode cX0_keeps 36 = .ok (.getfield 80, 3) := dk_180 0 80 (dk_at dksX0_keeps_1 14 rfl rfl)
theorem dX0_keeps_39 : decode cX0_keeps 39 = .ok (.iastore, 1) := dk_79 (dk_at dksX0_keeps_1 17 rfl rfl)
theorem dX0_keeps_40 : decode cX0_keeps 40 = .ok (.iinc 1 1, 3) := dk_132 1 1 (dk_at dksX0_keeps_1 18 rfl rfl)
theorem dX0_keeps_43 : decode cX0_keeps 43 = .ok (.goto (-26), 3) := dk_167 255 230 (dk_at dksX0_keeps_1 21 rfl rfl)
theorem dX0_keeps_46 : decode cX0_keeps 46 = .ok (.return_, 1) := dk_177 (dk_at dksX0_keeps_2 0 rfl rfl)
abbrev cX0_goes : ByteArray := prog_1_method_51_code
def yX0_goes : MethodName := ⟨RX0, "goes", "(II)V"⟩
def dkwX0_goes_2 : List UInt8 := [132, 3, 1, 167, 255, 223, 177]
abbrev dktX0_goes_2 : List UInt8 := dkwX0_goes_2 ++ []
def dkwX0_goes_1 : List UInt8 := [182, 1, 123, 42, 89, 180, 1, 135, 4, 42, 180, 0, 53, 27, 50, 180, 0, 80, 120, 128, 181, 1, 135]
abbrev dktX0_goes_1 : List UInt8 := dkwX0_goes_1 ++ dktX0_goes_2
def dkwX0_goes_0 : List UInt8 := [42, 4, 42, 180, 0, 53, 27, 50, 180, 0, 80, 120, 181, 1, 135, 3, 62, 29, 28, 162, 0, 34, 42, 2]
abbrev dktX0_goes_0 : List UInt8 := dkwX0_goes_0 ++ dktX0_goes_1
theorem dksX0_goes_0 : cX0_goes.data.toList.drop 0 = dktX0_goes_0 := by decide +kernel
theorem dksX0_goes_1 : cX0_goes.data.toList.drop 24 = dktX0_goes_1 := dk_seg dksX0_goes_0 24 rfl rfl
theorem dksX0_goes_2 : cX0_goes.data.toList.drop 47 = dktX0_goes_2 := dk_seg dksX0_goes_1 23 rfl rfl
theorem dX0_goes_0 : decode cX0_goes 0 = .ok (.aload_n 0, 1) := dk_42 (dk_at dksX0_goes_0 0 rfl rfl)
theorem dX0_goes_1 : decode cX0_goes 1 = .ok (.iconst 1, 1) := dk_4 (dk_at dksX0_goes_0 1 rfl rfl)
theorem dX0_goes_2 : decode cX0_goes 2 = .ok (.aload_n 0, 1) := dk_42 (dk_at dksX0_goes_0 2 rfl rfl)
theorem dX0_goes_3 : decode cX0_goes 3 = .ok (.getfield 53, 3) := dk_180 0 53 (dk_at dksX0_goes_0 3 rfl rfl)
theorem dX0_goes_6 : decode cX0_goes 6 = .ok (.iload_n 1, 1) := dk_27 (dk_at dksX0_goes_0 6 rfl rfl)
theorem dX0_goes_7 : decode cX0_goes 7 = .ok (.aaload, 1) := dk_50 (dk_at dksX0_goes_0 7 rfl rfl)
theorem dX0_goes_8 : decode cX0_goes 8 = .ok (.getfield 80, 3) := dk_180 0 80 (dk_at dksX0_goes_0 8 rfl rfl)
theorem dX0_goes_11 : decode cX0_goes 11 = .ok (.ishl, 1) := dk_120 (dk_at dksX0_goes_0 11 rfl rfl)
theorem dX0_goes_12 : decode cX0_goes 12 = .ok (.putfield 391, 3) := dk_181 1 135 (dk_at dksX0_goes_0 12 rfl rfl)
theorem dX0_goes_15 : decode cX0_goes 15 = .ok (.iconst 0, 1) := dk_3 (dk_at dksX0_goes_0 15 rfl rfl)
theorem dX0_goes_16 : decode cX0_goes 16 = .ok (.istore_n 3, 1) := dk_62 (dk_at dksX0_goes_0 16 rfl rfl)
theorem dX0_goes_17 : decode cX0_goes 17 = .ok (.iload_n 3, 1) := dk_29 (dk_at dksX0_goes_0 17 rfl rfl)
theorem dX0_goes_18 : decode cX0_goes 18 = .ok (.iload_n 2, 1) := dk_28 (dk_at dksX0_goes_0 18 rfl rfl)
theorem dX0_goes_19 : decode cX0_goes 19 = .ok (.if_icmp .ge 34, 3) := dk_162 0 34 (dk_at dksX0_goes_0 19 rfl rfl)
theorem dX0_goes_22 : decode cX0_goes 22 = .ok (.aload_n 0, 1) := dk_42 (dk_at dksX0_goes_0 22 rfl rfl)
theorem dX0_goes_23 : decode cX0_goes 23 = .ok (.iconst (-1), 1) := dk_2 (dk_at dksX0_goes_0 23 rfl rfl)
theorem dX0_goes_24 : decode cX0_goes 24 = .ok (.invokevirtual 379, 3) := dk_182 1 123 (dk_at dksX0_goes_1 0 rfl rfl)
theorem dX0_goes_27 : decode cX0_goes 27 = .ok (.aload_n 0, 1) := dk_42 (dk_at dksX0_goes_1 3 rfl rfl)
theorem dX0_goes_28 : decode cX0_goes 28 = .ok (.dup, 1) := dk_89 (dk_at dksX0_goes_1 4 rfl rfl)
theorem dX0_goes_29 : decode cX0_goes 29 = .ok (.getfield 391, 3) := dk_180 1 135 (dk_at dksX0_goes_1 5 rfl rfl)
theorem dX0_goes_32 : decode cX0_goes 32 = .ok (.iconst 1, 1) := dk_4 (dk_at dksX0_goes_1 8 rfl rfl)
theorem dX0_goes_33 : decode cX0_goes 33 = .ok (.aload_n 0, 1) := dk_42 (dk_at dksX0_goes_1 9 rfl rfl)
theorem dX0_goes_34 : decode cX0_goes 34 = .ok (.getfield 53, 3) := dk_180 0 53 (dk_at dksX0_goes_1 10 rfl rfl)
theorem dX0_goes_37 : decode cX0_goes 37 = .ok (.iload_n 1, 1) := dk_27 (dk_at dksX0_goes_1 13 rfl rfl)
theorem dX0_goes_38 : decode cX0_goes 38 = .ok (.aaload, 1) := dk_50 (dk_at dksX0_goes_1 14 rfl rfl)
theorem dX0_goes_39 : decode cX0_goes 39 = .ok (.getfield 80, 3) := dk_180 0 80 (dk_at dksX0_goes_1 15 rfl rfl)
theorem dX0_goes_42 : decode cX0_goes 42 = .ok (.ishl, 1) := dk_120 (dk_at dksX0_goes_1 18 rfl rfl)
theorem dX0_goes_43 : decode cX0_goes 43 = .ok (.ior, 1) := dk_128 (dk_at dksX0_goes_1 19 rfl rfl)
theorem dX0_goes_44 : decode cX0_goes 44 = .ok (.putfield 391, 3) := dk_181 1 135 (dk_at dksX0_goes_1 20 rfl rfl)
theorem dX0_goes_47 : decode cX0_goes 47 = .ok (.iinc 3 1, 3) := dk_132 3 1 (dk_at dksX0_goes_2 0 rfl rfl)
theorem dX0_goes_50 : decode cX0_goes 50 = .ok (.goto (-33), 3) := dk_167 255 223 (dk_at dksX0_goes_2 3 rfl rfl)
theorem dX0_goes_53 : decode cX0_goes 53 = .ok (.return_, 1) := dk_177 (dk_at dksX0_goes_2 6 rfl rfl)
abbrev cX0_laysBack : ByteArray := prog_1_method_50_code
def yX0_laysBack : MethodName := ⟨RX0, "laysBack", "(I)V"⟩
def dkwX0_laysBack_2 : List UInt8 := [42, 27, 181, 0, 74, 177]
abbrev dktX0_laysBack_2 : List UInt8 := dkwX0_laysBack_2 ++ []
def dkwX0_laysBack_1 : List UInt8 := [162, 0, 24, 42, 180, 0, 53, 28, 50, 42, 180, 1, 44, 28, 46, 181, 0, 80, 132, 2, 1, 167, 255, 230]
abbrev dktX0_laysBack_1 : List UInt8 := dkwX0_laysBack_1 ++ dktX0_laysBack_2
def dkwX0_laysBack_0 : List UInt8 := [42, 180, 1, 41, 3, 42, 180, 0, 71, 3, 16, 24, 184, 1, 129, 3, 61, 28, 42, 180, 0, 18]
abbrev dktX0_laysBack_0 : List UInt8 := dkwX0_laysBack_0 ++ dktX0_laysBack_1
theorem dksX0_laysBack_0 : cX0_laysBack.data.toList.drop 0 = dktX0_laysBack_0 := by decide +kernel
theorem dksX0_laysBack_1 : cX0_laysBack.data.toList.drop 22 = dktX0_laysBack_1 := dk_seg dksX0_laysBack_0 22 rfl rfl
theorem dksX0_laysBack_2 : cX0_laysBack.data.toList.drop 46 = dktX0_laysBack_2 := dk_seg dksX0_laysBack_1 24 rfl rfl
theorem dX0_laysBack_0 : decode cX0_laysBack 0 = .ok (.aload_n 0, 1) := dk_42 (dk_at dksX0_laysBack_0 0 rfl rfl)
theorem dX0_laysBack_1 : decode cX0_laysBack 1 = .ok (.getfield 297, 3) := dk_180 1 41 (dk_at dksX0_laysBack_0 1 rfl rfl)
theorem dX0_laysBack_4 : decode cX0_laysBack 4 = .ok (.iconst 0, 1) := dk_3 (dk_at dksX0_laysBack_0 4 rfl rfl)
theorem dX0_laysBack_5 : decode cX0_laysBack 5 = .ok (.aload_n 0, 1) := dk_42 (dk_at dksX0_laysBack_0 5 rfl rfl)
theorem dX0_laysBack_6 : decode cX0_laysBack 6 = .ok (.getfield 71, 3) := dk_180 0 71 (dk_at dksX0_laysBack_0 6 rfl rfl)
theorem dX0_laysBack_9 : decode cX0_laysBack 9 = .ok (.iconst 0, 1) := dk_3 (dk_at dksX0_laysBack_0 9 rfl rfl)
theorem dX0_laysBack_10 : decode cX0_laysBack 10 = .ok (.bipush 24, 2) := dk_16 24 (dk_at dksX0_laysBack_0 10 rfl rfl)
theorem dX0_laysBack_12 : decode cX0_laysBack 12 = .ok (.invokestatic 385, 3) := dk_184 1 129 (dk_at dksX0_laysBack_0 12 rfl rfl)
theorem dX0_laysBack_15 : decode cX0_laysBack 15 = .ok (.iconst 0, 1) := dk_3 (dk_at dksX0_laysBack_0 15 rfl rfl)
theorem dX0_laysBack_16 : decode cX0_laysBack 16 = .ok (.istore_n 2, 1) := dk_61 (dk_at dksX0_laysBack_0 16 rfl rfl)
theorem dX0_laysBack_17 : decode cX0_laysBack 17 = .ok (.iload_n 2, 1) := dk_28 (dk_at dksX0_laysBack_0 17 rfl rfl)
theorem dX0_laysBack_18 : decode cX0_laysBack 18 = .ok (.aload_n 0, 1) := dk_42 (dk_at dksX0_laysBack_0 18 rfl rfl)
theorem dX0_laysBack_19 : decode cX0_laysBack 19 = .ok (.getfield 18, 3) := dk_180 0 18 (dk_at dksX0_laysBack_0 19 rfl rfl)
theorem dX0_laysBack_22 : decode cX0_laysBack 22 = .ok (.if_icmp .ge 24, 3) := dk_162 0 24 (dk_at dksX0_laysBack_1 0 rfl rfl)
theorem dX0_laysBack_25 : decode cX0_laysBack 25 = .ok (.aload_n 0, 1) := dk_42 (dk_at dksX0_laysBack_1 3 rfl rfl)
theorem dX0_laysBack_26 : decode cX0_laysBack 26 = .ok (.getfield 53, 3) := dk_180 0 53 (dk_at dksX0_laysBack_1 4 rfl rfl)
theorem dX0_laysBack_29 : decode cX0_laysBack 29 = .ok (.iload_n 2, 1) := dk_28 (dk_at dksX0_laysBack_1 7 rfl rfl)
theorem dX0_laysBack_30 : decode cX0_laysBack 30 = .ok (.aaload, 1) := dk_50 (dk_at dksX0_laysBack_1 8 rfl rfl)
theorem dX0_laysBack_31 : decode cX0_laysBack 31 = .ok (.aload_n 0, 1) := dk_42 (dk_at dksX0_laysBack_1 9 rfl rfl)
theorem dX0_laysBack_32 : decode cX0_laysBack 32 = .ok (.getfield 300, 3) := dk_180 1 44 (dk_at dksX0_laysBack_1 10 rfl rfl)
theorem dX0_laysBack_35 : decode cX0_laysBack 35 = .ok (.iload_n 2, 1) := dk_28 (dk_at dksX0_laysBack_1 13 rfl rfl)
theorem dX0_laysBack_36 : decode cX0_laysBack 36 = .ok (.iaload, 1) := dk_46 (dk_at dksX0_laysBack_1 14 rfl rfl)
theorem dX0_laysBack_37 : decode cX0_laysBack 37 = .ok (.putfield 80, 3) := dk_181 0 80 (dk_at dksX0_laysBack_1 15 rfl rfl)
theorem dX0_laysBack_40 : decode cX0_laysBack 40 = .ok (.iinc 2 1, 3) := dk_132 2 1 (dk_at dksX0_laysBack_1 18 rfl rfl)
theorem dX0_laysBack_43 : decode cX0_laysBack 43 = .ok (.goto (-26), 3) := dk_167 255 230 (dk_at dksX0_laysBack_1 21 rfl rfl)
theorem dX0_laysBack_46 : decode cX0_laysBack 46 = .ok (.aload_n 0, 1) := dk_42 (dk_at dksX0_laysBack_2 0 rfl rfl)
theorem dX0_laysBack_47 : decode cX0_laysBack 47 = .ok (.iload_n 1, 1) := dk_27 (dk_at dksX0_laysBack_2 1 rfl rfl)
theorem dX0_laysBack_48 : decode cX0_laysBack 48 = .ok (.putfield 74, 3) := dk_181 0 74 (dk_at dksX0_laysBack_2 2 rfl rfl)
theorem dX0_laysBack_51 : decode cX0_laysBack 51 = .ok (.return_, 1) := dk_177 (dk_at dksX0_laysBack_2 5 rfl rfl)
abbrev cX0_otherwise : ByteArray := prog_1_method_54_code
def yX0_otherwise : MethodName := ⟨RX0, "otherwise", "(III)I"⟩
def dkwX0_otherwise_4 : List UInt8 := [21, 5, 172, 58, 6, 42, 21, 4, 182, 1, 144, 25, 6, 191]
abbrev dktX0_otherwise_4 : List UInt8 := dkwX0_otherwise_4 ++ []
def dkwX0_otherwise_3 : List UInt8 := [132, 5, 1, 167, 255, 232, 42, 180, 0, 53, 27, 50, 180, 0, 80, 54, 5, 42, 21, 4, 182, 1, 144]
abbrev dktX0_otherwise_3 : List UInt8 := dkwX0_otherwise_3 ++ dktX0_otherwise_4
def dkwX0_otherwise_2 : List UInt8 := [54, 5, 21, 5, 28, 162, 0, 24, 42, 21, 5, 29, 160, 0, 7, 27, 167, 0, 4, 2, 182, 1, 123]
abbrev dktX0_otherwise_2 : List UInt8 := dkwX0_otherwise_2 ++ dktX0_otherwise_3
def dkwX0_otherwise_1 : List UInt8 := [4, 100, 133, 184, 0, 14, 154, 0, 6, 16, 254, 172, 42, 180, 0, 74, 54, 4, 42, 182, 1, 138, 3]
abbrev dktX0_otherwise_1 : List UInt8 := dkwX0_otherwise_1 ++ dktX0_otherwise_2
def dkwX0_otherwise_0 : List UInt8 := [42, 27, 182, 0, 64, 153, 0, 28, 28, 133, 10, 20, 1, 158, 184, 0, 14, 153, 0, 16, 29, 133, 9, 28]
abbrev dktX0_otherwise_0 : List UInt8 := dkwX0_otherwise_0 ++ dktX0_otherwise_1
theorem dksX0_otherwise_0 : cX0_otherwise.data.toList.drop 0 = dktX0_otherwise_0 := by decide +kernel
theorem dksX0_otherwise_1 : cX0_otherwise.data.toList.drop 24 = dktX0_otherwise_1 := dk_seg dksX0_otherwise_0 24 rfl rfl
theorem dksX0_otherwise_2 : cX0_otherwise.data.toList.drop 47 = dktX0_otherwise_2 := dk_seg dksX0_otherwise_1 23 rfl rfl
theorem dksX0_otherwise_3 : cX0_otherwise.data.toList.drop 70 = dktX0_otherwise_3 := dk_seg dksX0_otherwise_2 23 rfl rfl
theorem dksX0_otherwise_4 : cX0_otherwise.data.toList.drop 93 = dktX0_otherwise_4 := dk_seg dksX0_otherwise_3 23 rfl rfl
theorem dX0_otherwise_0 : decode cX0_otherwise 0 = .ok (.aload_n 0, 1) := dk_42 (dk_at dksX0_otherwise_0 0 rfl rfl)
theorem dX0_otherwise_1 : decode cX0_otherwise 1 = .ok (.iload_n 1, 1) := dk_27 (dk_at dksX0_otherwise_0 1 rfl rfl)
theorem dX0_otherwise_2 : decode cX0_otherwise 2 = .ok (.invokevirtual 64, 3) := dk_182 0 64 (dk_at dksX0_otherwise_0 2 rfl rfl)
theorem dX0_otherwise_5 : decode cX0_otherwise 5 = .ok (.ifCond .eq 28, 3) := dk_153 0 28 (dk_at dksX0_otherwise_0 5 rfl rfl)
theorem dX0_otherwise_8 : decode cX0_otherwise 8 = .ok (.iload_n 2, 1) := dk_28 (dk_at dksX0_otherwise_0 8 rfl rfl)
theorem dX0_otherwise_9 : decode cX0_otherwise 9 = .ok (.i2l, 1) := dk_133 (dk_at dksX0_otherwise_0 9 rfl rfl)
theorem dX0_otherwise_10 : decode cX0_otherwise 10 = .ok (.lconst 1, 1) := dk_10 (dk_at dksX0_otherwise_0 10 rfl rfl)
theorem dX0_otherwise_11 : decode cX0_otherwise 11 = .ok (.ldc2_w 414, 3) := dk_20 1 158 (dk_at dksX0_otherwise_0 11 rfl rfl)
theorem dX0_otherwise_14 : decode cX0_otherwise 14 = .ok (.invokestatic 14, 3) := dk_184 0 14 (dk_at dksX0_otherwise_0 14 rfl rfl)
theorem dX0_otherwise_17 : decode cX0_otherwise 17 = .ok (.ifCond .eq 16, 3) := dk_153 0 16 (dk_at dksX0_otherwise_0 17 rfl rfl)
theorem dX0_otherwise_20 : decode cX0_otherwise 20 = .ok (.iload_n 3, 1) := dk_29 (dk_at dksX0_otherwise_0 20 rfl rfl)
theorem dX0_otherwise_21 : decode cX0_otherwise 21 = .ok (.i2l, 1) := dk_133 (dk_at dksX0_otherwise_0 21 rfl rfl)
theorem dX0_otherwise_22 : decode cX0_otherwise 22 = .ok (.lconst 0, 1) := dk_9 (dk_at dksX0_otherwise_0 22 rfl rfl)
theorem dX0_otherwise_23 : decode cX0_otherwise 23 = .ok (.iload_n 2, 1) := dk_28 (dk_at dksX0_otherwise_0 23 rfl rfl)
theorem dX0_otherwise_24 : decode cX0_otherwise 24 = .ok (.iconst 1, 1) := dk_4 (dk_at dksX0_otherwise_1 0 rfl rfl)
theorem dX0_otherwise_25 : decode cX0_otherwise 25 = .ok (.isub, 1) := dk_100 (dk_at dksX0_otherwise_1 1 rfl rfl)
theorem dX0_otherwise_26 : decode cX0_otherwise 26 = .ok (.i2l, 1) := dk_133 (dk_at dksX0_otherwise_1 2 rfl rfl)
theorem dX0_otherwise_27 : decode cX0_otherwise 27 = .ok (.invokestatic 14, 3) := dk_184 0 14 (dk_at dksX0_otherwise_1 3 rfl rfl)
theorem dX0_otherwise_30 : decode cX0_otherwise 30 = .ok (.ifCond .ne 6, 3) := dk_154 0 6 (dk_at dksX0_otherwise_1 6 rfl rfl)
theorem dX0_otherwise_33 : decode cX0_otherwise 33 = .ok (.bipush (-2), 2) := dk_16 254 (dk_at dksX0_otherwise_1 9 rfl rfl)
theorem dX0_otherwise_35 : decode cX0_otherwise 35 = .ok (.ireturn, 1) := dk_172 (dk_at dksX0_otherwise_1 11 rfl rfl)
theorem dX0_otherwise_36 : decode cX0_otherwise 36 = .ok (.aload_n 0, 1) := dk_42 (dk_at dksX0_otherwise_1 12 rfl rfl)
theorem dX0_otherwise_37 : decode cX0_otherwise 37 = .ok (.getfield 74, 3) := dk_180 0 74 (dk_at dksX0_otherwise_1 13 rfl rfl)
theorem dX0_otherwise_40 : decode cX0_otherwise 40 = .ok (.istore 4, 2) := dk_54 4 (dk_at dksX0_otherwise_1 16 rfl rfl)
theorem dX0_otherwise_42 : decode cX0_otherwise 42 = .ok (.aload_n 0, 1) := dk_42 (dk_at dksX0_otherwise_1 18 rfl rfl)
theorem dX0_otherwise_43 : decode cX0_otherwise 43 = .ok (.invokevirtual 394, 3) := dk_182 1 138 (dk_at dksX0_otherwise_1 19 rfl rfl)
theorem dX0_otherwise_46 : decode cX0_otherwise 46 = .ok (.iconst 0, 1) := dk_3 (dk_at dksX0_otherwise_1 22 rfl rfl)
theorem dX0_otherwise_47 : decode cX0_otherwise 47 = .ok (.istore 5, 2) := dk_54 5 (dk_at dksX0_otherwise_2 0 rfl rfl)
theorem dX0_otherwise_49 : decode cX0_otherwise 49 = .ok (.iload 5, 2) := dk_21 5 (dk_at dksX0_otherwise_2 2 rfl rfl)
theorem dX0_otherwise_51 : decode cX0_otherwise 51 = .ok (.iload_n 2, 1) := dk_28 (dk_at dksX0_otherwise_2 4 rfl rfl)
theorem dX0_otherwise_52 : decode cX0_otherwise 52 = .ok (.if_icmp .ge 24, 3) := dk_162 0 24 (dk_at dksX0_otherwise_2 5 rfl rfl)
theorem dX0_otherwise_55 : decode cX0_otherwise 55 = .ok (.aload_n 0, 1) := dk_42 (dk_at dksX0_otherwise_2 8 rfl rfl)
theorem dX0_otherwise_56 : decode cX0_otherwise 56 = .ok (.iload 5, 2) := dk_21 5 (dk_at dksX0_otherwise_2 9 rfl rfl)
theorem dX0_otherwise_58 : decode cX0_otherwise 58 = .ok (.iload_n 3, 1) := dk_29 (dk_at dksX0_otherwise_2 11 rfl rfl)
theorem dX0_otherwise_59 : decode cX0_otherwise 59 = .ok (.if_icmp .ne 7, 3) := dk_160 0 7 (dk_at dksX0_otherwise_2 12 rfl rfl)
theorem dX0_otherwise_62 : decode cX0_otherwise 62 = .ok (.iload_n 1, 1) := dk_27 (dk_at dksX0_otherwise_2 15 rfl rfl)
theorem dX0_otherwise_63 : decode cX0_otherwise 63 = .ok (.goto 4, 3) := dk_167 0 4 (dk_at dksX0_otherwise_2 16 rfl rfl)
theorem dX0_otherwise_66 : decode cX0_otherwise 66 = .ok (.iconst (-1), 1) := dk_2 (dk_at dksX0_otherwise_2 19 rfl rfl)
theorem dX0_otherwise_67 : decode cX0_otherwise 67 = .ok (.invokevirtual 379, 3) := dk_182 1 123 (dk_at dksX0_otherwise_2 20 rfl rfl)
theorem dX0_otherwise_70 : decode cX0_otherwise 70 = .ok (.iinc 5 1, 3) := dk_132 5 1 (dk_at dksX0_otherwise_3 0 rfl rfl)
theorem dX0_otherwise_73 : decode cX0_otherwise 73 = .ok (.goto (-24), 3) := dk_167 255 232 (dk_at dksX0_otherwise_3 3 rfl rfl)
theorem dX0_otherwise_76 : decode cX0_otherwise 76 = .ok (.aload_n 0, 1) := dk_42 (dk_at dksX0_otherwise_3 6 rfl rfl)
theorem dX0_otherwise_77 : decode cX0_otherwise 77 = .ok (.getfield 53, 3) := dk_180 0 53 (dk_at dksX0_otherwise_3 7 rfl rfl)
theorem dX0_otherwise_80 : decode cX0_otherwise 80 = .ok (.iload_n 1, 1) := dk_27 (dk_at dksX0_otherwise_3 10 rfl rfl)
theorem dX0_otherwise_81 : decode cX0_otherwise 81 = .ok (.aaload, 1) := dk_50 (dk_at dksX0_otherwise_3 11 rfl rfl)
theorem dX0_otherwise_82 : decode cX0_otherwise 82 = .ok (.getfield 80, 3) := dk_180 0 80 (dk_at dksX0_otherwise_3 12 rfl rfl)
theorem dX0_otherwise_85 : decode cX0_otherwise 85 = .ok (.istore 5, 2) := dk_54 5 (dk_at dksX0_otherwise_3 15 rfl rfl)
theorem dX0_otherwise_87 : decode cX0_otherwise 87 = .ok (.aload_n 0, 1) := dk_42 (dk_at dksX0_otherwise_3 17 rfl rfl)
theorem dX0_otherwise_88 : decode cX0_otherwise 88 = .ok (.iload 4, 2) := dk_21 4 (dk_at dksX0_otherwise_3 18 rfl rfl)
theorem dX0_otherwise_90 : decode cX0_otherwise 90 = .ok (.invokevirtual 400, 3) := dk_182 1 144 (dk_at dksX0_otherwise_3 20 rfl rfl)
theorem dX0_otherwise_93 : decode cX0_otherwise 93 = .ok (.iload 5, 2) := dk_21 5 (dk_at dksX0_otherwise_4 0 rfl rfl)
theorem dX0_otherwise_95 : decode cX0_otherwise 95 = .ok (.ireturn, 1) := dk_172 (dk_at dksX0_otherwise_4 2 rfl rfl)
theorem dX0_otherwise_96 : decode cX0_otherwise 96 = .ok (.astore 6, 2) := dk_58 6 (dk_at dksX0_otherwise_4 3 rfl rfl)
theorem dX0_otherwise_98 : decode cX0_otherwise 98 = .ok (.aload_n 0, 1) := dk_42 (dk_at dksX0_otherwise_4 5 rfl rfl)
theorem dX0_otherwise_99 : decode cX0_otherwise 99 = .ok (.iload 4, 2) := dk_21 4 (dk_at dksX0_otherwise_4 6 rfl rfl)
theorem dX0_otherwise_101 : decode cX0_otherwise 101 = .ok (.invokevirtual 400, 3) := dk_182 1 144 (dk_at dksX0_otherwise_4 8 rfl rfl)
theorem dX0_otherwise_104 : decode cX0_otherwise 104 = .ok (.aload 6, 2) := dk_25 6 (dk_at dksX0_otherwise_4 11 rfl rfl)
theorem dX0_otherwise_106 : decode cX0_otherwise 106 = .ok (.athrow, 1) := dk_191 (dk_at dksX0_otherwise_4 13 rfl rfl)
abbrev cX0_turns : ByteArray := prog_1_method_58_code
def yX0_turns : MethodName := ⟨RX0, "turns", "(III)J"⟩
def dkwX0_turns_0 : List UInt8 := [27, 28, 29, 184, 1, 165, 153, 0, 13, 42, 27, 28, 29, 182, 1, 169, 167, 0, 6, 20, 1, 173, 173]
abbrev dktX0_turns_0 : List UInt8 := dkwX0_turns_0 ++ []
theorem dksX0_turns_0 : cX0_turns.data.toList.drop 0 = dktX0_turns_0 := by decide +kernel
theorem dX0_turns_0 : decode cX0_turns 0 = .ok (.iload_n 1, 1) := dk_27 (dk_at dksX0_turns_0 0 rfl rfl)
theorem dX0_turns_1 : decode cX0_turns 1 = .ok (.iload_n 2, 1) := dk_28 (dk_at dksX0_turns_0 1 rfl rfl)
theorem dX0_turns_2 : decode cX0_turns 2 = .ok (.iload_n 3, 1) := dk_29 (dk_at dksX0_turns_0 2 rfl rfl)
theorem dX0_turns_3 : decode cX0_turns 3 = .ok (.invokestatic 421, 3) := dk_184 1 165 (dk_at dksX0_turns_0 3 rfl rfl)
theorem dX0_turns_6 : decode cX0_turns 6 = .ok (.ifCond .eq 13, 3) := dk_153 0 13 (dk_at dksX0_turns_0 6 rfl rfl)
theorem dX0_turns_9 : decode cX0_turns 9 = .ok (.aload_n 0, 1) := dk_42 (dk_at dksX0_turns_0 9 rfl rfl)
theorem dX0_turns_10 : decode cX0_turns 10 = .ok (.iload_n 1, 1) := dk_27 (dk_at dksX0_turns_0 10 rfl rfl)
theorem dX0_turns_11 : decode cX0_turns 11 = .ok (.iload_n 2, 1) := dk_28 (dk_at dksX0_turns_0 11 rfl rfl)
theorem dX0_turns_12 : decode cX0_turns 12 = .ok (.iload_n 3, 1) := dk_29 (dk_at dksX0_turns_0 12 rfl rfl)
theorem dX0_turns_13 : decode cX0_turns 13 = .ok (.invokevirtual 425, 3) := dk_182 1 169 (dk_at dksX0_turns_0 13 rfl rfl)
theorem dX0_turns_16 : decode cX0_turns 16 = .ok (.goto 6, 3) := dk_167 0 6 (dk_at dksX0_turns_0 16 rfl rfl)
theorem dX0_turns_19 : decode cX0_turns 19 = .ok (.ldc2_w 429, 3) := dk_20 1 173 (dk_at dksX0_turns_0 19 rfl rfl)
theorem dX0_turns_22 : decode cX0_turns 22 = .ok (.lreturn, 1) := dk_173 (dk_at dksX0_turns_0 22 rfl rfl)
abbrev cX0_areWays : ByteArray := prog_1_method_57_code
def yX0_areWays : MethodName := ⟨RX0, "areWays", "(III)Z"⟩
def dkwX0_areWays_1 : List UInt8 := [153, 0, 7, 4, 167, 0, 4, 3, 172]
abbrev dktX0_areWays_1 : List UInt8 := dkwX0_areWays_1 ++ []
def dkwX0_areWays_0 : List UInt8 := [26, 184, 0, 49, 153, 0, 26, 27, 184, 0, 49, 153, 0, 19, 28, 133, 9, 20, 1, 163, 184, 0, 14]
abbrev dktX0_areWays_0 : List UInt8 := dkwX0_areWays_0 ++ dktX0_areWays_1
theorem dksX0_areWays_0 : cX0_areWays.data.toList.drop 0 = dktX0_areWays_0 := by decide +kernel
theorem dksX0_areWays_1 : cX0_areWays.data.toList.drop 23 = dktX0_areWays_1 := dk_seg dksX0_areWays_0 23 rfl rfl
theorem dX0_areWays_0 : decode cX0_areWays 0 = .ok (.iload_n 0, 1) := dk_26 (dk_at dksX0_areWays_0 0 rfl rfl)
theorem dX0_areWays_1 : decode cX0_areWays 1 = .ok (.invokestatic 49, 3) := dk_184 0 49 (dk_at dksX0_areWays_0 1 rfl rfl)
theorem dX0_areWays_4 : decode cX0_areWays 4 = .ok (.ifCond .eq 26, 3) := dk_153 0 26 (dk_at dksX0_areWays_0 4 rfl rfl)
theorem dX0_areWays_7 : decode cX0_areWays 7 = .ok (.iload_n 1, 1) := dk_27 (dk_at dksX0_areWays_0 7 rfl rfl)
theorem dX0_areWays_8 : decode cX0_areWays 8 = .ok (.invokestatic 49, 3) := dk_184 0 49 (dk_at dksX0_areWays_0 8 rfl rfl)
theorem dX0_areWays_11 : decode cX0_areWays 11 = .ok (.ifCond .eq 19, 3) := dk_153 0 19 (dk_at dksX0_areWays_0 11 rfl rfl)
theorem dX0_areWays_14 : decode cX0_areWays 14 = .ok (.iload_n 2, 1) := dk_28 (dk_at dksX0_areWays_0 14 rfl rfl)
theorem dX0_areWays_15 : decode cX0_areWays 15 = .ok (.i2l, 1) := dk_133 (dk_at dksX0_areWays_0 15 rfl rfl)
theorem dX0_areWays_16 : decode cX0_areWays 16 = .ok (.lconst 0, 1) := dk_9 (dk_at dksX0_areWays_0 16 rfl rfl)
theorem dX0_areWays_17 : decode cX0_areWays 17 = .ok (.ldc2_w 419, 3) := dk_20 1 163 (dk_at dksX0_areWays_0 17 rfl rfl)
theorem dX0_areWays_20 : decode cX0_areWays 20 = .ok (.invokestatic 14, 3) := dk_184 0 14 (dk_at dksX0_areWays_0 20 rfl rfl)
theorem dX0_areWays_23 : decode cX0_areWays 23 = .ok (.ifCond .eq 7, 3) := dk_153 0 7 (dk_at dksX0_areWays_1 0 rfl rfl)
theorem dX0_areWays_26 : decode cX0_areWays 26 = .ok (.iconst 1, 1) := dk_4 (dk_at dksX0_areWays_1 3 rfl rfl)
theorem dX0_areWays_27 : decode cX0_areWays 27 = .ok (.goto 4, 3) := dk_167 0 4 (dk_at dksX0_areWays_1 4 rfl rfl)
theorem dX0_areWays_30 : decode cX0_areWays 30 = .ok (.iconst 0, 1) := dk_3 (dk_at dksX0_areWays_1 7 rfl rfl)
theorem dX0_areWays_31 : decode cX0_areWays 31 = .ok (.ireturn, 1) := dk_172 (dk_at dksX0_areWays_1 8 rfl rfl)
abbrev cX0_waysTo : ByteArray := prog_1_method_56_code
def yX0_waysTo : MethodName := ⟨RX0, "waysTo", "(III)J"⟩
def dkwX0_waysTo_2 : List UInt8 := [132, 4, 1, 167, 255, 243, 42, 180, 1, 47, 28, 47, 173]
abbrev dktX0_waysTo_2 : List UInt8 := dkwX0_waysTo_2 ++ []
def dkwX0_waysTo_1 : List UInt8 := [167, 0, 4, 9, 80, 132, 4, 1, 167, 255, 228, 3, 54, 4, 21, 4, 29, 162, 0, 13, 42, 182, 1, 160]
abbrev dktX0_waysTo_1 : List UInt8 := dkwX0_waysTo_1 ++ dktX0_waysTo_2
def dkwX0_waysTo_0 : List UInt8 := [3, 54, 4, 21, 4, 16, 12, 162, 0, 27, 42, 180, 1, 47, 21, 4, 21, 4, 27, 160, 0, 7, 10]
abbrev dktX0_waysTo_0 : List UInt8 := dkwX0_waysTo_0 ++ dktX0_waysTo_1
theorem dksX0_waysTo_0 : cX0_waysTo.data.toList.drop 0 = dktX0_waysTo_0 := by decide +kernel
theorem dksX0_waysTo_1 : cX0_waysTo.data.toList.drop 23 = dktX0_waysTo_1 := dk_seg dksX0_waysTo_0 23 rfl rfl
theorem dksX0_waysTo_2 : cX0_waysTo.data.toList.drop 47 = dktX0_waysTo_2 := dk_seg dksX0_waysTo_1 24 rfl rfl
theorem dX0_waysTo_0 : decode cX0_waysTo 0 = .ok (.iconst 0, 1) := dk_3 (dk_at dksX0_waysTo_0 0 rfl rfl)
theorem dX0_waysTo_1 : decode cX0_waysTo 1 = .ok (.istore 4, 2) := dk_54 4 (dk_at dksX0_waysTo_0 1 rfl rfl)
theorem dX0_waysTo_3 : decode cX0_waysTo 3 = .ok (.iload 4, 2) := dk_21 4 (dk_at dksX0_waysTo_0 3 rfl rfl)
theorem dX0_waysTo_5 : decode cX0_waysTo 5 = .ok (.bipush 12, 2) := dk_16 12 (dk_at dksX0_waysTo_0 5 rfl rfl)
theorem dX0_waysTo_7 : decode cX0_waysTo 7 = .ok (.if_icmp .ge 27, 3) := dk_162 0 27 (dk_at dksX0_waysTo_0 7 rfl rfl)
theorem dX0_waysTo_10 : decode cX0_waysTo 10 = .ok (.aload_n 0, 1) := dk_42 (dk_at dksX0_waysTo_0 10 rfl rfl)
theorem dX0_waysTo_11 : decode cX0_waysTo 11 = .ok (.getfield 303, 3) := dk_180 1 47 (dk_at dksX0_waysTo_0 11 rfl rfl)
theorem dX0_waysTo_14 : decode cX0_waysTo 14 = .ok (.iload 4, 2) := dk_21 4 (dk_at dksX0_waysTo_0 14 rfl rfl)
theorem dX0_waysTo_16 : decode cX0_waysTo 16 = .ok (.iload 4, 2) := dk_21 4 (dk_at dksX0_waysTo_0 16 rfl rfl)
theorem dX0_waysTo_18 : decode cX0_waysTo 18 = .ok (.iload_n 1, 1) := dk_27 (dk_at dksX0_waysTo_0 18 rfl rfl)
theorem dX0_waysTo_19 : decode cX0_waysTo 19 = .ok (.if_icmp .ne 7, 3) := dk_160 0 7 (dk_at dksX0_waysTo_0 19 rfl rfl)
theorem dX0_waysTo_22 : decode cX0_waysTo 22 = .ok (.lconst 1, 1) := dk_10 (dk_at dksX0_waysTo_0 22 rfl rfl)
theorem dX0_waysTo_23 : decode cX0_waysTo 23 = .ok (.goto 4, 3) := dk_167 0 4 (dk_at dksX0_waysTo_1 0 rfl rfl)
theorem dX0_waysTo_26 : decode cX0_waysTo 26 = .ok (.lconst 0, 1) := dk_9 (dk_at dksX0_waysTo_1 3 rfl rfl)
theorem dX0_waysTo_27 : decode cX0_waysTo 27 = .ok (.lastore, 1) := dk_80 (dk_at dksX0_waysTo_1 4 rfl rfl)
theorem dX0_waysTo_28 : decode cX0_waysTo 28 = .ok (.iinc 4 1, 3) := dk_132 4 1 (dk_at dksX0_waysTo_1 5 rfl rfl)
theorem dX0_waysTo_31 : decode cX0_waysTo 31 = .ok (.goto (-28), 3) := dk_167 255 228 (dk_at dksX0_waysTo_1 8 rfl rfl)
theorem dX0_waysTo_34 : decode cX0_waysTo 34 = .ok (.iconst 0, 1) := dk_3 (dk_at dksX0_waysTo_1 11 rfl rfl)
theorem dX0_waysTo_35 : decode cX0_waysTo 35 = .ok (.istore 4, 2) := dk_54 4 (dk_at dksX0_waysTo_1 12 rfl rfl)
theorem dX0_waysTo_37 : decode cX0_waysTo 37 = .ok (.iload 4, 2) := dk_21 4 (dk_at dksX0_waysTo_1 14 rfl rfl)
theorem dX0_waysTo_39 : decode cX0_waysTo 39 = .ok (.iload_n 3, 1) := dk_29 (dk_at dksX0_waysTo_1 16 rfl rfl)
theorem dX0_waysTo_40 : decode cX0_waysTo 40 = .ok (.if_icmp .ge 13, 3) := dk_162 0 13 (dk_at dksX0_waysTo_1 17 rfl rfl)
theorem dX0_waysTo_43 : decode cX0_waysTo 43 = .ok (.aload_n 0, 1) := dk_42 (dk_at dksX0_waysTo_1 20 rfl rfl)
theorem dX0_waysTo_44 : decode cX0_waysTo 44 = .ok (.invokevirtual 416, 3) := dk_182 1 160 (dk_at dksX0_waysTo_1 21 rfl rfl)
theorem dX0_waysTo_47 : decode cX0_waysTo 47 = .ok (.iinc 4 1, 3) := dk_132 4 1 (dk_at dksX0_waysTo_2 0 rfl rfl)
theorem dX0_waysTo_50 : decode cX0_waysTo 50 = .ok (.goto (-13), 3) := dk_167 255 243 (dk_at dksX0_waysTo_2 3 rfl rfl)
theorem dX0_waysTo_53 : decode cX0_waysTo 53 = .ok (.aload_n 0, 1) := dk_42 (dk_at dksX0_waysTo_2 6 rfl rfl)
theorem dX0_waysTo_54 : decode cX0_waysTo 54 = .ok (.getfield 303, 3) := dk_180 1 47 (dk_at dksX0_waysTo_2 7 rfl rfl)
theorem dX0_waysTo_57 : decode cX0_waysTo 57 = .ok (.iload_n 2, 1) := dk_28 (dk_at dksX0_waysTo_2 10 rfl rfl)
theorem dX0_waysTo_58 : decode cX0_waysTo 58 = .ok (.laload, 1) := dk_47 (dk_at dksX0_waysTo_2 11 rfl rfl)
theorem dX0_waysTo_59 : decode cX0_waysTo 59 = .ok (.lreturn, 1) := dk_173 (dk_at dksX0_waysTo_2 12 rfl rfl)
abbrev cX0_stepsOn : ByteArray := prog_1_method_55_code
def yX0_stepsOn : MethodName := ⟨RX0, "stepsOn", "()V"⟩
def dkwX0_stepsOn_3 : List UInt8 := [181, 1, 51, 177]
abbrev dktX0_stepsOn_3 : List UInt8 := dkwX0_stepsOn_3 ++ []
def dkwX0_stepsOn_2 : List UInt8 := [47, 97, 80, 132, 1, 1, 167, 255, 225, 42, 180, 1, 47, 76, 42, 42, 180, 1, 51, 181, 1, 47, 42, 43]
abbrev dktX0_stepsOn_2 : List UInt8 := dkwX0_stepsOn_2 ++ dktX0_stepsOn_3
def dkwX0_stepsOn_1 : List UInt8 := [16, 24, 162, 0, 31, 42, 180, 1, 51, 42, 180, 0, 67, 27, 46, 92, 47, 42, 180, 1, 47, 27, 5, 108]
abbrev dktX0_stepsOn_1 : List UInt8 := dkwX0_stepsOn_1 ++ dktX0_stepsOn_2
def dkwX0_stepsOn_0 : List UInt8 := [3, 60, 27, 16, 12, 162, 0, 16, 42, 180, 1, 51, 27, 9, 80, 132, 1, 1, 167, 255, 240, 3, 60, 27]
abbrev dktX0_stepsOn_0 : List UInt8 := dkwX0_stepsOn_0 ++ dktX0_stepsOn_1
theorem dksX0_stepsOn_0 : cX0_stepsOn.data.toList.drop 0 = dktX0_stepsOn_0 := by decide +kernel
theorem dksX0_stepsOn_1 : cX0_stepsOn.data.toList.drop 24 = dktX0_stepsOn_1 := dk_seg dksX0_stepsOn_0 24 rfl rfl
theorem dksX0_stepsOn_2 : cX0_stepsOn.data.toList.drop 48 = dktX0_stepsOn_2 := dk_seg dksX0_stepsOn_1 24 rfl rfl
theorem dksX0_stepsOn_3 : cX0_stepsOn.data.toList.drop 72 = dktX0_stepsOn_3 := dk_seg dksX0_stepsOn_2 24 rfl rfl
theorem dX0_stepsOn_0 : decode cX0_stepsOn 0 = .ok (.iconst 0, 1) := dk_3 (dk_at dksX0_stepsOn_0 0 rfl rfl)
theorem dX0_stepsOn_1 : decode cX0_stepsOn 1 = .ok (.istore_n 1, 1) := dk_60 (dk_at dksX0_stepsOn_0 1 rfl rfl)
theorem dX0_stepsOn_2 : decode cX0_stepsOn 2 = .ok (.iload_n 1, 1) := dk_27 (dk_at dksX0_stepsOn_0 2 rfl rfl)
theorem dX0_stepsOn_3 : decode cX0_stepsOn 3 = .ok (.bipush 12, 2) := dk_16 12 (dk_at dksX0_stepsOn_0 3 rfl rfl)
theorem dX0_stepsOn_5 : decode cX0_stepsOn 5 = .ok (.if_icmp .ge 16, 3) := dk_162 0 16 (dk_at dksX0_stepsOn_0 5 rfl rfl)
theorem dX0_stepsOn_8 : decode cX0_stepsOn 8 = .ok (.aload_n 0, 1) := dk_42 (dk_at dksX0_stepsOn_0 8 rfl rfl)
theorem dX0_stepsOn_9 : decode cX0_stepsOn 9 = .ok (.getfield 307, 3) := dk_180 1 51 (dk_at dksX0_stepsOn_0 9 rfl rfl)
theorem dX0_stepsOn_12 : decode cX0_stepsOn 12 = .ok (.iload_n 1, 1) := dk_27 (dk_at dksX0_stepsOn_0 12 rfl rfl)
theorem dX0_stepsOn_13 : decode cX0_stepsOn 13 = .ok (.lconst 0, 1) := dk_9 (dk_at dksX0_stepsOn_0 13 rfl rfl)
theorem dX0_stepsOn_14 : decode cX0_stepsOn 14 = .ok (.lastore, 1) := dk_80 (dk_at dksX0_stepsOn_0 14 rfl rfl)
theorem dX0_stepsOn_15 : decode cX0_stepsOn 15 = .ok (.iinc 1 1, 3) := dk_132 1 1 (dk_at dksX0_stepsOn_0 15 rfl rfl)
theorem dX0_stepsOn_18 : decode cX0_stepsOn 18 = .ok (.goto (-16), 3) := dk_167 255 240 (dk_at dksX0_stepsOn_0 18 rfl rfl)
theorem dX0_stepsOn_21 : decode cX0_stepsOn 21 = .ok (.iconst 0, 1) := dk_3 (dk_at dksX0_stepsOn_0 21 rfl rfl)
theorem dX0_stepsOn_22 : decode cX0_stepsOn 22 = .ok (.istore_n 1, 1) := dk_60 (dk_at dksX0_stepsOn_0 22 rfl rfl)
theorem dX0_stepsOn_23 : decode cX0_stepsOn 23 = .ok (.iload_n 1, 1) := dk_27 (dk_at dksX0_stepsOn_0 23 rfl rfl)
theorem dX0_stepsOn_24 : decode cX0_stepsOn 24 = .ok (.bipush 24, 2) := dk_16 24 (dk_at dksX0_stepsOn_1 0 rfl rfl)
theorem dX0_stepsOn_26 : decode cX0_stepsOn 26 = .ok (.if_icmp .ge 31, 3) := dk_162 0 31 (dk_at dksX0_stepsOn_1 2 rfl rfl)
theorem dX0_stepsOn_29 : decode cX0_stepsOn 29 = .ok (.aload_n 0, 1) := dk_42 (dk_at dksX0_stepsOn_1 5 rfl rfl)
theorem dX0_stepsOn_30 : decode cX0_stepsOn 30 = .ok (.getfield 307, 3) := dk_180 1 51 (dk_at dksX0_stepsOn_1 6 rfl rfl)
theorem dX0_stepsOn_33 : decode cX0_stepsOn 33 = .ok (.aload_n 0, 1) := dk_42 (dk_at dksX0_stepsOn_1 9 rfl rfl)
theorem dX0_stepsOn_34 : decode cX0_stepsOn 34 = .ok (.getfield 67, 3) := dk_180 0 67 (dk_at dksX0_stepsOn_1 10 rfl rfl)
theorem dX0_stepsOn_37 : decode cX0_stepsOn 37 = .ok (.iload_n 1, 1) := dk_27 (dk_at dksX0_stepsOn_1 13 rfl rfl)
theorem dX0_stepsOn_38 : decode cX0_stepsOn 38 = .ok (.iaload, 1) := dk_46 (dk_at dksX0_stepsOn_1 14 rfl rfl)
theorem dX0_stepsOn_39 : decode cX0_stepsOn 39 = .ok (.dup2, 1) := dk_92 (dk_at dksX0_stepsOn_1 15 rfl rfl)
theorem dX0_stepsOn_40 : decode cX0_stepsOn 40 = .ok (.laload, 1) := dk_47 (dk_at dksX0_stepsOn_1 16 rfl rfl)
theorem dX0_stepsOn_41 : decode cX0_stepsOn 41 = .ok (.aload_n 0, 1) := dk_42 (dk_at dksX0_stepsOn_1 17 rfl rfl)
theorem dX0_stepsOn_42 : decode cX0_stepsOn 42 = .ok (.getfield 303, 3) := dk_180 1 47 (dk_at dksX0_stepsOn_1 18 rfl rfl)
theorem dX0_stepsOn_45 : decode cX0_stepsOn 45 = .ok (.iload_n 1, 1) := dk_27 (dk_at dksX0_stepsOn_1 21 rfl rfl)
theorem dX0_stepsOn_46 : decode cX0_stepsOn 46 = .ok (.iconst 2, 1) := dk_5 (dk_at dksX0_stepsOn_1 22 rfl rfl)
theorem dX0_stepsOn_47 : decode cX0_stepsOn 47 = .ok (.idiv, 1) := dk_108 (dk_at dksX0_stepsOn_1 23 rfl rfl)
theorem dX0_stepsOn_48 : decode cX0_stepsOn 48 = .ok (.laload, 1) := dk_47 (dk_at dksX0_stepsOn_2 0 rfl rfl)
theorem dX0_stepsOn_49 : decode cX0_stepsOn 49 = .ok (.ladd, 1) := dk_97 (dk_at dksX0_stepsOn_2 1 rfl rfl)
theorem dX0_stepsOn_50 : decode cX0_stepsOn 50 = .ok (.lastore, 1) := dk_80 (dk_at dksX0_stepsOn_2 2 rfl rfl)
theorem dX0_stepsOn_51 : decode cX0_stepsOn 51 = .ok (.iinc 1 1, 3) := dk_132 1 1 (dk_at dksX0_stepsOn_2 3 rfl rfl)
theorem dX0_stepsOn_54 : decode cX0_stepsOn 54 = .ok (.goto (-31), 3) := dk_167 255 225 (dk_at dksX0_stepsOn_2 6 rfl rfl)
theorem dX0_stepsOn_57 : decode cX0_stepsOn 57 = .ok (.aload_n 0, 1) := dk_42 (dk_at dksX0_stepsOn_2 9 rfl rfl)
theorem dX0_stepsOn_58 : decode cX0_stepsOn 58 = .ok (.getfield 303, 3) := dk_180 1 47 (dk_at dksX0_stepsOn_2 10 rfl rfl)
theorem dX0_stepsOn_61 : decode cX0_stepsOn 61 = .ok (.astore_n 1, 1) := dk_76 (dk_at dksX0_stepsOn_2 13 rfl rfl)
theorem dX0_stepsOn_62 : decode cX0_stepsOn 62 = .ok (.aload_n 0, 1) := dk_42 (dk_at dksX0_stepsOn_2 14 rfl rfl)
theorem dX0_stepsOn_63 : decode cX0_stepsOn 63 = .ok (.aload_n 0, 1) := dk_42 (dk_at dksX0_stepsOn_2 15 rfl rfl)
theorem dX0_stepsOn_64 : decode cX0_stepsOn 64 = .ok (.getfield 307, 3) := dk_180 1 51 (dk_at dksX0_stepsOn_2 16 rfl rfl)
theorem dX0_stepsOn_67 : decode cX0_stepsOn 67 = .ok (.putfield 303, 3) := dk_181 1 47 (dk_at dksX0_stepsOn_2 19 rfl rfl)
theorem dX0_stepsOn_70 : decode cX0_stepsOn 70 = .ok (.aload_n 0, 1) := dk_42 (dk_at dksX0_stepsOn_2 22 rfl rfl)
theorem dX0_stepsOn_71 : decode cX0_stepsOn 71 = .ok (.aload_n 1, 1) := dk_43 (dk_at dksX0_stepsOn_2 23 rfl rfl)
theorem dX0_stepsOn_72 : decode cX0_stepsOn 72 = .ok (.putfield 307, 3) := dk_181 1 51 (dk_at dksX0_stepsOn_3 0 rfl rfl)
theorem dX0_stepsOn_75 : decode cX0_stepsOn 75 = .ok (.return_, 1) := dk_177 (dk_at dksX0_stepsOn_3 3 rfl rfl)
abbrev cX0_likely : ByteArray := prog_1_method_60_code
def yX0_likely : MethodName := ⟨RX0, "likely", "(IIII)J"⟩
def dkwX0_likely_1 : List UInt8 := [182, 1, 169, 10, 29, 121, 21, 4, 184, 1, 175, 167, 0, 6, 20, 1, 173, 173]
abbrev dktX0_likely_1 : List UInt8 := dkwX0_likely_1 ++ []
def dkwX0_likely_0 : List UInt8 := [27, 28, 29, 184, 1, 165, 153, 0, 32, 21, 4, 133, 9, 10, 184, 0, 14, 153, 0, 21, 42, 27, 28, 29]
abbrev dktX0_likely_0 : List UInt8 := dkwX0_likely_0 ++ dktX0_likely_1
theorem dksX0_likely_0 : cX0_likely.data.toList.drop 0 = dktX0_likely_0 := by decide +kernel
theorem dksX0_likely_1 : cX0_likely.data.toList.drop 24 = dktX0_likely_1 := dk_seg dksX0_likely_0 24 rfl rfl
theorem dX0_likely_0 : decode cX0_likely 0 = .ok (.iload_n 1, 1) := dk_27 (dk_at dksX0_likely_0 0 rfl rfl)
theorem dX0_likely_1 : decode cX0_likely 1 = .ok (.iload_n 2, 1) := dk_28 (dk_at dksX0_likely_0 1 rfl rfl)
theorem dX0_likely_2 : decode cX0_likely 2 = .ok (.iload_n 3, 1) := dk_29 (dk_at dksX0_likely_0 2 rfl rfl)
theorem dX0_likely_3 : decode cX0_likely 3 = .ok (.invokestatic 421, 3) := dk_184 1 165 (dk_at dksX0_likely_0 3 rfl rfl)
theorem dX0_likely_6 : decode cX0_likely 6 = .ok (.ifCond .eq 32, 3) := dk_153 0 32 (dk_at dksX0_likely_0 6 rfl rfl)
theorem dX0_likely_9 : decode cX0_likely 9 = .ok (.iload 4, 2) := dk_21 4 (dk_at dksX0_likely_0 9 rfl rfl)
theorem dX0_likely_11 : decode cX0_likely 11 = .ok (.i2l, 1) := dk_133 (dk_at dksX0_likely_0 11 rfl rfl)
theorem dX0_likely_12 : decode cX0_likely 12 = .ok (.lconst 0, 1) := dk_9 (dk_at dksX0_likely_0 12 rfl rfl)
theorem dX0_likely_13 : decode cX0_likely 13 = .ok (.lconst 1, 1) := dk_10 (dk_at dksX0_likely_0 13 rfl rfl)
theorem dX0_likely_14 : decode cX0_likely 14 = .ok (.invokestatic 14, 3) := dk_184 0 14 (dk_at dksX0_likely_0 14 rfl rfl)
theorem dX0_likely_17 : decode cX0_likely 17 = .ok (.ifCond .eq 21, 3) := dk_153 0 21 (dk_at dksX0_likely_0 17 rfl rfl)
theorem dX0_likely_20 : decode cX0_likely 20 = .ok (.aload_n 0, 1) := dk_42 (dk_at dksX0_likely_0 20 rfl rfl)
theorem dX0_likely_21 : decode cX0_likely 21 = .ok (.iload_n 1, 1) := dk_27 (dk_at dksX0_likely_0 21 rfl rfl)
theorem dX0_likely_22 : decode cX0_likely 22 = .ok (.iload_n 2, 1) := dk_28 (dk_at dksX0_likely_0 22 rfl rfl)
theorem dX0_likely_23 : decode cX0_likely 23 = .ok (.iload_n 3, 1) := dk_29 (dk_at dksX0_likely_0 23 rfl rfl)
theorem dX0_likely_24 : decode cX0_likely 24 = .ok (.invokevirtual 425, 3) := dk_182 1 169 (dk_at dksX0_likely_1 0 rfl rfl)
theorem dX0_likely_27 : decode cX0_likely 27 = .ok (.lconst 1, 1) := dk_10 (dk_at dksX0_likely_1 3 rfl rfl)
theorem dX0_likely_28 : decode cX0_likely 28 = .ok (.iload_n 3, 1) := dk_29 (dk_at dksX0_likely_1 4 rfl rfl)
theorem dX0_likely_29 : decode cX0_likely 29 = .ok (.lshl, 1) := dk_121 (dk_at dksX0_likely_1 5 rfl rfl)
theorem dX0_likely_30 : decode cX0_likely 30 = .ok (.iload 4, 2) := dk_21 4 (dk_at dksX0_likely_1 6 rfl rfl)
theorem dX0_likely_32 : decode cX0_likely 32 = .ok (.invokestatic 431, 3) := dk_184 1 175 (dk_at dksX0_likely_1 8 rfl rfl)
theorem dX0_likely_35 : decode cX0_likely 35 = .ok (.goto 6, 3) := dk_167 0 6 (dk_at dksX0_likely_1 11 rfl rfl)
theorem dX0_likely_38 : decode cX0_likely 38 = .ok (.ldc2_w 429, 3) := dk_20 1 173 (dk_at dksX0_likely_1 14 rfl rfl)
theorem dX0_likely_41 : decode cX0_likely 41 = .ok (.lreturn, 1) := dk_173 (dk_at dksX0_likely_1 17 rfl rfl)
abbrev cX0_lowest : ByteArray := prog_1_method_59_code
def yX0_lowest : MethodName := ⟨RX0, "lowest", "(JJI)J"⟩
def dkwX0_lowest_1 : List UInt8 := [22, 9, 55, 7, 167, 255, 234, 21, 4, 154, 0, 7, 30, 167, 0, 4, 32, 22, 5, 109, 173]
abbrev dktX0_lowest_1 : List UInt8 := dkwX0_lowest_1 ++ []
def dkwX0_lowest_0 : List UInt8 := [30, 55, 5, 32, 55, 7, 22, 7, 9, 148, 153, 0, 21, 22, 5, 22, 7, 113, 55, 9, 22, 7, 55, 5]
abbrev dktX0_lowest_0 : List UInt8 := dkwX0_lowest_0 ++ dktX0_lowest_1
theorem dksX0_lowest_0 : cX0_lowest.data.toList.drop 0 = dktX0_lowest_0 := by decide +kernel
theorem dksX0_lowest_1 : cX0_lowest.data.toList.drop 24 = dktX0_lowest_1 := dk_seg dksX0_lowest_0 24 rfl rfl
theorem dX0_lowest_0 : decode cX0_lowest 0 = .ok (.lload_n 0, 1) := dk_30 (dk_at dksX0_lowest_0 0 rfl rfl)
theorem dX0_lowest_1 : decode cX0_lowest 1 = .ok (.lstore 5, 2) := dk_55 5 (dk_at dksX0_lowest_0 1 rfl rfl)
theorem dX0_lowest_3 : decode cX0_lowest 3 = .ok (.lload_n 2, 1) := dk_32 (dk_at dksX0_lowest_0 3 rfl rfl)
theorem dX0_lowest_4 : decode cX0_lowest 4 = .ok (.lstore 7, 2) := dk_55 7 (dk_at dksX0_lowest_0 4 rfl rfl)
theorem dX0_lowest_6 : decode cX0_lowest 6 = .ok (.lload 7, 2) := dk_22 7 (dk_at dksX0_lowest_0 6 rfl rfl)
theorem dX0_lowest_8 : decode cX0_lowest 8 = .ok (.lconst 0, 1) := dk_9 (dk_at dksX0_lowest_0 8 rfl rfl)
theorem dX0_lowest_9 : decode cX0_lowest 9 = .ok (.lcmp, 1) := dk_148 (dk_at dksX0_lowest_0 9 rfl rfl)
theorem dX0_lowest_10 : decode cX0_lowest 10 = .ok (.ifCond .eq 21, 3) := dk_153 0 21 (dk_at dksX0_lowest_0 10 rfl rfl)
theorem dX0_lowest_13 : decode cX0_lowest 13 = .ok (.lload 5, 2) := dk_22 5 (dk_at dksX0_lowest_0 13 rfl rfl)
theorem dX0_lowest_15 : decode cX0_lowest 15 = .ok (.lload 7, 2) := dk_22 7 (dk_at dksX0_lowest_0 15 rfl rfl)
theorem dX0_lowest_17 : decode cX0_lowest 17 = .ok (.lrem, 1) := dk_113 (dk_at dksX0_lowest_0 17 rfl rfl)
theorem dX0_lowest_18 : decode cX0_lowest 18 = .ok (.lstore 9, 2) := dk_55 9 (dk_at dksX0_lowest_0 18 rfl rfl)
theorem dX0_lowest_20 : decode cX0_lowest 20 = .ok (.lload 7, 2) := dk_22 7 (dk_at dksX0_lowest_0 20 rfl rfl)
theorem dX0_lowest_22 : decode cX0_lowest 22 = .ok (.lstore 5, 2) := dk_55 5 (dk_at dksX0_lowest_0 22 rfl rfl)
theorem dX0_lowest_24 : decode cX0_lowest 24 = .ok (.lload 9, 2) := dk_22 9 (dk_at dksX0_lowest_1 0 rfl rfl)
theorem dX0_lowest_26 : decode cX0_lowest 26 = .ok (.lstore 7, 2) := dk_55 7 (dk_at dksX0_lowest_1 2 rfl rfl)
theorem dX0_lowest_28 : decode cX0_lowest 28 = .ok (.goto (-22), 3) := dk_167 255 234 (dk_at dksX0_lowest_1 4 rfl rfl)
theorem dX0_lowest_31 : decode cX0_lowest 31 = .ok (.iload 4, 2) := dk_21 4 (dk_at dksX0_lowest_1 7 rfl rfl)
theorem dX0_lowest_33 : decode cX0_lowest 33 = .ok (.ifCond .ne 7, 3) := dk_154 0 7 (dk_at dksX0_lowest_1 9 rfl rfl)
theorem dX0_lowest_36 : decode cX0_lowest 36 = .ok (.lload_n 0, 1) := dk_30 (dk_at dksX0_lowest_1 12 rfl rfl)
theorem dX0_lowest_37 : decode cX0_lowest 37 = .ok (.goto 4, 3) := dk_167 0 4 (dk_at dksX0_lowest_1 13 rfl rfl)
theorem dX0_lowest_40 : decode cX0_lowest 40 = .ok (.lload_n 2, 1) := dk_32 (dk_at dksX0_lowest_1 16 rfl rfl)
theorem dX0_lowest_41 : decode cX0_lowest 41 = .ok (.lload 5, 2) := dk_22 5 (dk_at dksX0_lowest_1 17 rfl rfl)
theorem dX0_lowest_43 : decode cX0_lowest 43 = .ok (.ldiv, 1) := dk_109 (dk_at dksX0_lowest_1 19 rfl rfl)
theorem dX0_lowest_44 : decode cX0_lowest 44 = .ok (.lreturn, 1) := dk_173 (dk_at dksX0_lowest_1 20 rfl rfl)
abbrev cX0_fewest : ByteArray := prog_1_method_63_code
def yX0_fewest : MethodName := ⟨RX0, "fewest", "(III)I"⟩
def dkwX0_fewest_1 : List UInt8 := [153, 0, 13, 42, 27, 28, 29, 182, 1, 182, 167, 0, 5, 16, 254, 172]
abbrev dktX0_fewest_1 : List UInt8 := dkwX0_fewest_1 ++ []
def dkwX0_fewest_0 : List UInt8 := [42, 27, 182, 0, 64, 153, 0, 32, 28, 184, 0, 49, 153, 0, 25, 29, 133, 9, 20, 1, 163, 184, 0, 14]
abbrev dktX0_fewest_0 : List UInt8 := dkwX0_fewest_0 ++ dktX0_fewest_1
theorem dksX0_fewest_0 : cX0_fewest.data.toList.drop 0 = dktX0_fewest_0 := by decide +kernel
theorem dksX0_fewest_1 : cX0_fewest.data.toList.drop 24 = dktX0_fewest_1 := dk_seg dksX0_fewest_0 24 rfl rfl
theorem dX0_fewest_0 : decode cX0_fewest 0 = .ok (.aload_n 0, 1) := dk_42 (dk_at dksX0_fewest_0 0 rfl rfl)
theorem dX0_fewest_1 : decode cX0_fewest 1 = .ok (.iload_n 1, 1) := dk_27 (dk_at dksX0_fewest_0 1 rfl rfl)
theorem dX0_fewest_2 : decode cX0_fewest 2 = .ok (.invokevirtual 64, 3) := dk_182 0 64 (dk_at dksX0_fewest_0 2 rfl rfl)
theorem dX0_fewest_5 : decode cX0_fewest 5 = .ok (.ifCond .eq 32, 3) := dk_153 0 32 (dk_at dksX0_fewest_0 5 rfl rfl)
theorem dX0_fewest_8 : decode cX0_fewest 8 = .ok (.iload_n 2, 1) := dk_28 (dk_at dksX0_fewest_0 8 rfl rfl)
theorem dX0_fewest_9 : decode cX0_fewest 9 = .ok (.invokestatic 49, 3) := dk_184 0 49 (dk_at dksX0_fewest_0 9 rfl rfl)
theorem dX0_fewest_12 : decode cX0_fewest 12 = .ok (.ifCond .eq 25, 3) := dk_153 0 25 (dk_at dksX0_fewest_0 12 rfl rfl)
theorem dX0_fewest_15 : decode cX0_fewest 15 = .ok (.iload_n 3, 1) := dk_29 (dk_at dksX0_fewest_0 15 rfl rfl)
theorem dX0_fewest_16 : decode cX0_fewest 16 = .ok (.i2l, 1) := dk_133 (dk_at dksX0_fewest_0 16 rfl rfl)
theorem dX0_fewest_17 : decode cX0_fewest 17 = .ok (.lconst 0, 1) := dk_9 (dk_at dksX0_fewest_0 17 rfl rfl)
theorem dX0_fewest_18 : decode cX0_fewest 18 = .ok (.ldc2_w 419, 3) := dk_20 1 163 (dk_at dksX0_fewest_0 18 rfl rfl)
theorem dX0_fewest_21 : decode cX0_fewest 21 = .ok (.invokestatic 14, 3) := dk_184 0 14 (dk_at dksX0_fewest_0 21 rfl rfl)
theorem dX0_fewest_24 : decode cX0_fewest 24 = .ok (.ifCond .eq 13, 3) := dk_153 0 13 (dk_at dksX0_fewest_1 0 rfl rfl)
theorem dX0_fewest_27 : decode cX0_fewest 27 = .ok (.aload_n 0, 1) := dk_42 (dk_at dksX0_fewest_1 3 rfl rfl)
theorem dX0_fewest_28 : decode cX0_fewest 28 = .ok (.iload_n 1, 1) := dk_27 (dk_at dksX0_fewest_1 4 rfl rfl)
theorem dX0_fewest_29 : decode cX0_fewest 29 = .ok (.iload_n 2, 1) := dk_28 (dk_at dksX0_fewest_1 5 rfl rfl)
theorem dX0_fewest_30 : decode cX0_fewest 30 = .ok (.iload_n 3, 1) := dk_29 (dk_at dksX0_fewest_1 6 rfl rfl)
theorem dX0_fewest_31 : decode cX0_fewest 31 = .ok (.invokevirtual 438, 3) := dk_182 1 182 (dk_at dksX0_fewest_1 7 rfl rfl)
theorem dX0_fewest_34 : decode cX0_fewest 34 = .ok (.goto 5, 3) := dk_167 0 5 (dk_at dksX0_fewest_1 10 rfl rfl)
theorem dX0_fewest_37 : decode cX0_fewest 37 = .ok (.bipush (-2), 2) := dk_16 254 (dk_at dksX0_fewest_1 13 rfl rfl)
theorem dX0_fewest_39 : decode cX0_fewest 39 = .ok (.ireturn, 1) := dk_172 (dk_at dksX0_fewest_1 15 rfl rfl)
abbrev cX0_fewestTo : ByteArray := prog_1_method_62_code
def yX0_fewestTo : MethodName := ⟨RX0, "fewestTo", "(III)I"⟩
def dkwX0_fewestTo_4 : List UInt8 := [21, 4, 182, 1, 144, 21, 5, 172, 58, 6, 42, 21, 4, 182, 1, 144, 25, 6, 191]
abbrev dktX0_fewestTo_4 : List UInt8 := dkwX0_fewestTo_4 ++ []
def dkwX0_fewestTo_3 : List UInt8 := [180, 0, 74, 4, 96, 181, 0, 74, 132, 5, 1, 167, 255, 232, 42, 180, 1, 54, 28, 46, 54, 5, 42]
abbrev dktX0_fewestTo_3 : List UInt8 := dkwX0_fewestTo_3 ++ dktX0_fewestTo_4
def dkwX0_fewestTo_2 : List UInt8 := [132, 5, 1, 167, 255, 220, 3, 54, 5, 21, 5, 29, 162, 0, 24, 42, 27, 182, 1, 179, 42, 89]
abbrev dktX0_fewestTo_2 : List UInt8 := dkwX0_fewestTo_2 ++ dktX0_fewestTo_3
def dkwX0_fewestTo_1 : List UInt8 := [21, 5, 21, 5, 42, 180, 0, 53, 27, 50, 180, 0, 80, 160, 0, 7, 3, 167, 0, 4, 2, 79]
abbrev dktX0_fewestTo_1 : List UInt8 := dkwX0_fewestTo_1 ++ dktX0_fewestTo_2
def dkwX0_fewestTo_0 : List UInt8 := [42, 180, 0, 74, 54, 4, 42, 182, 1, 138, 3, 54, 5, 21, 5, 16, 12, 162, 0, 35, 42, 180, 1, 54]
abbrev dktX0_fewestTo_0 : List UInt8 := dkwX0_fewestTo_0 ++ dktX0_fewestTo_1
theorem dksX0_fewestTo_0 : cX0_fewestTo.data.toList.drop 0 = dktX0_fewestTo_0 := by decide +kernel
theorem dksX0_fewestTo_1 : cX0_fewestTo.data.toList.drop 24 = dktX0_fewestTo_1 := dk_seg dksX0_fewestTo_0 24 rfl rfl
theorem dksX0_fewestTo_2 : cX0_fewestTo.data.toList.drop 46 = dktX0_fewestTo_2 := dk_seg dksX0_fewestTo_1 22 rfl rfl
theorem dksX0_fewestTo_3 : cX0_fewestTo.data.toList.drop 68 = dktX0_fewestTo_3 := dk_seg dksX0_fewestTo_2 22 rfl rfl
theorem dksX0_fewestTo_4 : cX0_fewestTo.data.toList.drop 91 = dktX0_fewestTo_4 := dk_seg dksX0_fewestTo_3 23 rfl rfl
theorem dX0_fewestTo_0 : decode cX0_fewestTo 0 = .ok (.aload_n 0, 1) := dk_42 (dk_at dksX0_fewestTo_0 0 rfl rfl)
theorem dX0_fewestTo_1 : decode cX0_fewestTo 1 = .ok (.getfield 74, 3) := dk_180 0 74 (dk_at dksX0_fewestTo_0 1 rfl rfl)
theorem dX0_fewestTo_4 : decode cX0_fewestTo 4 = .ok (.istore 4, 2) := dk_54 4 (dk_at dksX0_fewestTo_0 4 rfl rfl)
theorem dX0_fewestTo_6 : decode cX0_fewestTo 6 = .ok (.aload_n 0, 1) := dk_42 (dk_at dksX0_fewestTo_0 6 rfl rfl)
theorem dX0_fewestTo_7 : decode cX0_fewestTo 7 = .ok (.invokevirtual 394, 3) := dk_182 1 138 (dk_at dksX0_fewestTo_0 7 rfl rfl)
theorem dX0_fewestTo_10 : decode cX0_fewestTo 10 = .ok (.iconst 0, 1) := dk_3 (dk_at dksX0_fewestTo_0 10 rfl rfl)
theorem dX0_fewestTo_11 : decode cX0_fewestTo 11 = .ok (.istore 5, 2) := dk_54 5 (dk_at dksX0_fewestTo_0 11 rfl rfl)
theorem dX0_fewestTo_13 : decode cX0_fewestTo 13 = .ok (.iload 5, 2) := dk_21 5 (dk_at dksX0_fewestTo_0 13 rfl rfl)
theorem dX0_fewestTo_15 : decode cX0_fewestTo 15 = .ok (.bipush 12, 2) := dk_16 12 (dk_at dksX0_fewestTo_0 15 rfl rfl)
theorem dX0_fewestTo_17 : decode cX0_fewestTo 17 = .ok (.if_icmp .ge 35, 3) := dk_162 0 35 (dk_at dksX0_fewestTo_0 17 rfl rfl)
theorem dX0_fewestTo_20 : decode cX0_fewestTo 20 = .ok (.aload_n 0, 1) := dk_42 (dk_at dksX0_fewestTo_0 20 rfl rfl)
theorem dX0_fewestTo_21 : decode cX0_fewestTo 21 = .ok (.getfield 310, 3) := dk_180 1 54 (dk_at dksX0_fewestTo_0 21 rfl rfl)
theorem dX0_fewestTo_24 : decode cX0_fewestTo 24 = .ok (.iload 5, 2) := dk_21 5 (dk_at dksX0_fewestTo_1 0 rfl rfl)
theorem dX0_fewestTo_26 : decode cX0_fewestTo 26 = .ok (.iload 5, 2) := dk_21 5 (dk_at dksX0_fewestTo_1 2 rfl rfl)
theorem dX0_fewestTo_28 : decode cX0_fewestTo 28 = .ok (.aload_n 0, 1) := dk_42 (dk_at dksX0_fewestTo_1 4 rfl rfl)
theorem dX0_fewestTo_29 : decode cX0_fewestTo 29 = .ok (.getfield 53, 3) := dk_180 0 53 (dk_at dksX0_fewestTo_1 5 rfl rfl)
theorem dX0_fewestTo_32 : decode cX0_fewestTo 32 = .ok (.iload_n 1, 1) := dk_27 (dk_at dksX0_fewestTo_1 8 rfl rfl)
theorem dX0_fewestTo_33 : decode cX0_fewestTo 33 = .ok (.aaload, 1) := dk_50 (dk_at dksX0_fewestTo_1 9 rfl rfl)
theorem dX0_fewestTo_34 : decode cX0_fewestTo 34 = .ok (.getfield 80, 3) := dk_180 0 80 (dk_at dksX0_fewestTo_1 10 rfl rfl)
theorem dX0_fewestTo_37 : decode cX0_fewestTo 37 = .ok (.if_icmp .ne 7, 3) := dk_160 0 7 (dk_at dksX0_fewestTo_1 13 rfl rfl)
theorem dX0_fewestTo_40 : decode cX0_fewestTo 40 = .ok (.iconst 0, 1) := dk_3 (dk_at dksX0_fewestTo_1 16 rfl rfl)
theorem dX0_fewestTo_41 : decode cX0_fewestTo 41 = .ok (.goto 4, 3) := dk_167 0 4 (dk_at dksX0_fewestTo_1 17 rfl rfl)
theorem dX0_fewestTo_44 : decode cX0_fewestTo 44 = .ok (.iconst (-1), 1) := dk_2 (dk_at dksX0_fewestTo_1 20 rfl rfl)
theorem dX0_fewestTo_45 : decode cX0_fewestTo 45 = .ok (.iastore, 1) := dk_79 (dk_at dksX0_fewestTo_1 21 rfl rfl)
theorem dX0_fewestTo_46 : decode cX0_fewestTo 46 = .ok (.iinc 5 1, 3) := dk_132 5 1 (dk_at dksX0_fewestTo_2 0 rfl rfl)
theorem dX0_fewestTo_49 : decode cX0_fewestTo 49 = .ok (.goto (-36), 3) := dk_167 255 220 (dk_at dksX0_fewestTo_2 3 rfl rfl)
theorem dX0_fewestTo_52 : decode cX0_fewestTo 52 = .ok (.iconst 0, 1) := dk_3 (dk_at dksX0_fewestTo_2 6 rfl rfl)
theorem dX0_fewestTo_53 : decode cX0_fewestTo 53 = .ok (.istore 5, 2) := dk_54 5 (dk_at dksX0_fewestTo_2 7 rfl rfl)
theorem dX0_fewestTo_55 : decode cX0_fewestTo 55 = .ok (.iload 5, 2) := dk_21 5 (dk_at dksX0_fewestTo_2 9 rfl rfl)
theorem dX0_fewestTo_57 : decode cX0_fewestTo 57 = .ok (.iload_n 3, 1) := dk_29 (dk_at dksX0_fewestTo_2 11 rfl rfl)
theorem dX0_fewestTo_58 : decode cX0_fewestTo 58 = .ok (.if_icmp .ge 24, 3) := dk_162 0 24 (dk_at dksX0_fewestTo_2 12 rfl rfl)
theorem dX0_fewestTo_61 : decode cX0_fewestTo 61 = .ok (.aload_n 0, 1) := dk_42 (dk_at dksX0_fewestTo_2 15 rfl rfl)
theorem dX0_fewestTo_62 : decode cX0_fewestTo 62 = .ok (.iload_n 1, 1) := dk_27 (dk_at dksX0_fewestTo_2 16 rfl rfl)
theorem dX0_fewestTo_63 : decode cX0_fewestTo 63 = .ok (.invokevirtual 435, 3) := dk_182 1 179 (dk_at dksX0_fewestTo_2 17 rfl rfl)
theorem dX0_fewestTo_66 : decode cX0_fewestTo 66 = .ok (.aload_n 0, 1) := dk_42 (dk_at dksX0_fewestTo_2 20 rfl rfl)
theorem dX0_fewestTo_67 : decode cX0_fewestTo 67 = .ok (.dup, 1) := dk_89 (dk_at dksX0_fewestTo_2 21 rfl rfl)
theorem dX0_fewestTo_68 : decode cX0_fewestTo 68 = .ok (.getfield 74, 3) := dk_180 0 74 (dk_at dksX0_fewestTo_3 0 rfl rfl)
theorem dX0_fewestTo_71 : decode cX0_fewestTo 71 = .ok (.iconst 1, 1) := dk_4 (dk_at dksX0_fewestTo_3 3 rfl rfl)
theorem dX0_fewestTo_72 : decode cX0_fewestTo 72 = .ok (.iadd, 1) := dk_96 (dk_at dksX0_fewestTo_3 4 rfl rfl)
theorem dX0_fewestTo_73 : decode cX0_fewestTo 73 = .ok (.putfield 74, 3) := dk_181 0 74 (dk_at dksX0_fewestTo_3 5 rfl rfl)
theorem dX0_fewestTo_76 : decode cX0_fewestTo 76 = .ok (.iinc 5 1, 3) := dk_132 5 1 (dk_at dksX0_fewestTo_3 8 rfl rfl)
theorem dX0_fewestTo_79 : decode cX0_fewestTo 79 = .ok (.goto (-24), 3) := dk_167 255 232 (dk_at dksX0_fewestTo_3 11 rfl rfl)
theorem dX0_fewestTo_82 : decode cX0_fewestTo 82 = .ok (.aload_n 0, 1) := dk_42 (dk_at dksX0_fewestTo_3 14 rfl rfl)
theorem dX0_fewestTo_83 : decode cX0_fewestTo 83 = .ok (.getfield 310, 3) := dk_180 1 54 (dk_at dksX0_fewestTo_3 15 rfl rfl)
theorem dX0_fewestTo_86 : decode cX0_fewestTo 86 = .ok (.iload_n 2, 1) := dk_28 (dk_at dksX0_fewestTo_3 18 rfl rfl)
theorem dX0_fewestTo_87 : decode cX0_fewestTo 87 = .ok (.iaload, 1) := dk_46 (dk_at dksX0_fewestTo_3 19 rfl rfl)
theorem dX0_fewestTo_88 : decode cX0_fewestTo 88 = .ok (.istore 5, 2) := dk_54 5 (dk_at dksX0_fewestTo_3 20 rfl rfl)
theorem dX0_fewestTo_90 : decode cX0_fewestTo 90 = .ok (.aload_n 0, 1) := dk_42 (dk_at dksX0_fewestTo_3 22 rfl rfl)
theorem dX0_fewestTo_91 : decode cX0_fewestTo 91 = .ok (.iload 4, 2) := dk_21 4 (dk_at dksX0_fewestTo_4 0 rfl rfl)
theorem dX0_fewestTo_93 : decode cX0_fewestTo 93 = .ok (.invokevirtual 400, 3) := dk_182 1 144 (dk_at dksX0_fewestTo_4 2 rfl rfl)
theorem dX0_fewestTo_96 : decode cX0_fewestTo 96 = .ok (.iload 5, 2) := dk_21 5 (dk_at dksX0_fewestTo_4 5 rfl rfl)
theorem dX0_fewestTo_98 : decode cX0_fewestTo 98 = .ok (.ireturn, 1) := dk_172 (dk_at dksX0_fewestTo_4 7 rfl rfl)
theorem dX0_fewestTo_99 : decode cX0_fewestTo 99 = .ok (.astore 6, 2) := dk_58 6 (dk_at dksX0_fewestTo_4 8 rfl rfl)
theorem dX0_fewestTo_101 : decode cX0_fewestTo 101 = .ok (.aload_n 0, 1) := dk_42 (dk_at dksX0_fewestTo_4 10 rfl rfl)
theorem dX0_fewestTo_102 : decode cX0_fewestTo 102 = .ok (.iload 4, 2) := dk_21 4 (dk_at dksX0_fewestTo_4 11 rfl rfl)
theorem dX0_fewestTo_104 : decode cX0_fewestTo 104 = .ok (.invokevirtual 400, 3) := dk_182 1 144 (dk_at dksX0_fewestTo_4 13 rfl rfl)
theorem dX0_fewestTo_107 : decode cX0_fewestTo 107 = .ok (.aload 6, 2) := dk_25 6 (dk_at dksX0_fewestTo_4 16 rfl rfl)
theorem dX0_fewestTo_109 : decode cX0_fewestTo 109 = .ok (.athrow, 1) := dk_191 (dk_at dksX0_fewestTo_4 18 rfl rfl)
abbrev cX0_turnsOn : ByteArray := prog_1_method_61_code
def yX0_turnsOn : MethodName := ⟨RX0, "turnsOn", "(I)V"⟩
def dkwX0_turnsOn_7 : List UInt8 := [177]
abbrev dktX0_turnsOn_7 : List UInt8 := dkwX0_turnsOn_7 ++ []
def dkwX0_turnsOn_6 : List UInt8 := [132, 2, 1, 167, 255, 135, 42, 180, 1, 54, 77, 42, 42, 180, 1, 57, 181, 1, 54, 42, 44, 181, 1, 57]
abbrev dktX0_turnsOn_6 : List UInt8 := dkwX0_turnsOn_6 ++ dktX0_turnsOn_7
def dkwX0_turnsOn_5 : List UInt8 := [167, 0, 15, 42, 180, 1, 57, 21, 5, 46, 21, 6, 184, 0, 1, 79, 132, 4, 1, 167, 255, 179]
abbrev dktX0_turnsOn_5 : List UInt8 := dkwX0_turnsOn_5 ++ dktX0_turnsOn_6
def dkwX0_turnsOn_4 : List UInt8 := [4, 96, 54, 6, 42, 180, 1, 57, 21, 5, 42, 180, 1, 57, 21, 5, 46, 2, 160, 0, 8, 21, 6]
abbrev dktX0_turnsOn_4 : List UInt8 := dkwX0_turnsOn_4 ++ dktX0_turnsOn_5
def dkwX0_turnsOn_3 : List UInt8 := [28, 104, 21, 4, 96, 46, 54, 5, 42, 180, 1, 54, 28, 46, 21, 4, 29, 160, 0, 7, 3, 167, 0, 4]
abbrev dktX0_turnsOn_3 : List UInt8 := dkwX0_turnsOn_3 ++ dktX0_turnsOn_4
def dkwX0_turnsOn_2 : List UInt8 := [28, 181, 0, 80, 42, 27, 182, 0, 117, 62, 3, 54, 4, 21, 4, 5, 162, 0, 77, 42, 180, 0, 67, 5]
abbrev dktX0_turnsOn_2 : List UInt8 := dkwX0_turnsOn_2 ++ dktX0_turnsOn_3
def dkwX0_turnsOn_1 : List UInt8 := [16, 12, 162, 0, 121, 42, 180, 1, 54, 28, 46, 2, 160, 0, 6, 167, 0, 102, 42, 180, 0, 53, 27, 50]
abbrev dktX0_turnsOn_1 : List UInt8 := dkwX0_turnsOn_1 ++ dktX0_turnsOn_2
def dkwX0_turnsOn_0 : List UInt8 := [3, 61, 28, 16, 12, 162, 0, 16, 42, 180, 1, 57, 28, 2, 79, 132, 2, 1, 167, 255, 240, 3, 61, 28]
abbrev dktX0_turnsOn_0 : List UInt8 := dkwX0_turnsOn_0 ++ dktX0_turnsOn_1
theorem dksX0_turnsOn_0 : cX0_turnsOn.data.toList.drop 0 = dktX0_turnsOn_0 := by decide +kernel
theorem dksX0_turnsOn_1 : cX0_turnsOn.data.toList.drop 24 = dktX0_turnsOn_1 := dk_seg dksX0_turnsOn_0 24 rfl rfl
theorem dksX0_turnsOn_2 : cX0_turnsOn.data.toList.drop 48 = dktX0_turnsOn_2 := dk_seg dksX0_turnsOn_1 24 rfl rfl
theorem dksX0_turnsOn_3 : cX0_turnsOn.data.toList.drop 72 = dktX0_turnsOn_3 := dk_seg dksX0_turnsOn_2 24 rfl rfl
theorem dksX0_turnsOn_4 : cX0_turnsOn.data.toList.drop 96 = dktX0_turnsOn_4 := dk_seg dksX0_turnsOn_3 24 rfl rfl
theorem dksX0_turnsOn_5 : cX0_turnsOn.data.toList.drop 119 = dktX0_turnsOn_5 := dk_seg dksX0_turnsOn_4 23 rfl rfl
theorem dksX0_turnsOn_6 : cX0_turnsOn.data.toList.drop 141 = dktX0_turnsOn_6 := dk_seg dksX0_turnsOn_5 22 rfl rfl
theorem dksX0_turnsOn_7 : cX0_turnsOn.data.toList.drop 165 = dktX0_turnsOn_7 := dk_seg dksX0_turnsOn_6 24 rfl rfl
theorem dX0_turnsOn_0 : decode cX0_turnsOn 0 = .ok (.iconst 0, 1) := dk_3 (dk_at dksX0_turnsOn_0 0 rfl rfl)
theorem dX0_turnsOn_1 : decode cX0_turnsOn 1 = .ok (.istore_n 2, 1) := dk_61 (dk_at dksX0_turnsOn_0 1 rfl rfl)
theorem dX0_turnsOn_2 : decode cX0_turnsOn 2 = .ok (.iload_n 2, 1) := dk_28 (dk_at dksX0_turnsOn_0 2 rfl rfl)
theorem dX0_turnsOn_3 : decode cX0_turnsOn 3 = .ok (.bipush 12, 2) := dk_16 12 (dk_at dksX0_turnsOn_0 3 rfl rfl)
theorem dX0_turnsOn_5 : decode cX0_turnsOn 5 = .ok (.if_icmp .ge 16, 3) := dk_162 0 16 (dk_at dksX0_turnsOn_0 5 rfl rfl)
theorem dX0_turnsOn_8 : decode cX0_turnsOn 8 = .ok (.aload_n 0, 1) := dk_42 (dk_at dksX0_turnsOn_0 8 rfl rfl)
theorem dX0_turnsOn_9 : decode cX0_turnsOn 9 = .ok (.getfield 313, 3) := dk_180 1 57 (dk_at dksX0_turnsOn_0 9 rfl rfl)
theorem dX0_turnsOn_12 : decode cX0_turnsOn 12 = .ok (.iload_n 2, 1) := dk_28 (dk_at dksX0_turnsOn_0 12 rfl rfl)
theorem dX0_turnsOn_13 : decode cX0_turnsOn 13 = .ok (.iconst (-1), 1) := dk_2 (dk_at dksX0_turnsOn_0 13 rfl rfl)
theorem dX0_turnsOn_14 : decode cX0_turnsOn 14 = .ok (.iastore, 1) := dk_79 (dk_at dksX0_turnsOn_0 14 rfl rfl)
theorem dX0_turnsOn_15 : decode cX0_turnsOn 15 = .ok (.iinc 2 1, 3) := dk_132 2 1 (dk_at dksX0_turnsOn_0 15 rfl rfl)
theorem dX0_turnsOn_18 : decode cX0_turnsOn 18 = .ok (.goto (-16), 3) := dk_167 255 240 (dk_at dksX0_turnsOn_0 18 rfl rfl)
theorem dX0_turnsOn_21 : decode cX0_turnsOn 21 = .ok (.iconst 0, 1) := dk_3 (dk_at dksX0_turnsOn_0 21 rfl rfl)
theorem dX0_turnsOn_22 : decode cX0_turnsOn 22 = .ok (.istore_n 2, 1) := dk_61 (dk_at dksX0_turnsOn_0 22 rfl rfl)
theorem dX0_turnsOn_23 : decode cX0_turnsOn 23 = .ok (.iload_n 2, 1) := dk_28 (dk_at dksX0_turnsOn_0 23 rfl rfl)
theorem dX0_turnsOn_24 : decode cX0_turnsOn 24 = .ok (.bipush 12, 2) := dk_16 12 (dk_at dksX0_turnsOn_1 0 rfl rfl)
theorem dX0_turnsOn_26 : decode cX0_turnsOn 26 = .ok (.if_icmp .ge 121, 3) := dk_162 0 121 (dk_at dksX0_turnsOn_1 2 rfl rfl)
theorem dX0_turnsOn_29 : decode cX0_turnsOn 29 = .ok (.aload_n 0, 1) := dk_42 (dk_at dksX0_turnsOn_1 5 rfl rfl)
theorem dX0_turnsOn_30 : decode cX0_turnsOn 30 = .ok (.getfield 310, 3) := dk_180 1 54 (dk_at dksX0_turnsOn_1 6 rfl rfl)
theorem dX0_turnsOn_33 : decode cX0_turnsOn 33 = .ok (.iload_n 2, 1) := dk_28 (dk_at dksX0_turnsOn_1 9 rfl rfl)
theorem dX0_turnsOn_34 : decode cX0_turnsOn 34 = .ok (.iaload, 1) := dk_46 (dk_at dksX0_turnsOn_1 10 rfl rfl)
theorem dX0_turnsOn_35 : decode cX0_turnsOn 35 = .ok (.iconst (-1), 1) := dk_2 (dk_at dksX0_turnsOn_1 11 rfl rfl)
theorem dX0_turnsOn_36 : decode cX0_turnsOn 36 = .ok (.if_icmp .ne 6, 3) := dk_160 0 6 (dk_at dksX0_turnsOn_1 12 rfl rfl)
theorem dX0_turnsOn_39 : decode cX0_turnsOn 39 = .ok (.goto 102, 3) := dk_167 0 102 (dk_at dksX0_turnsOn_1 15 rfl rfl)
theorem dX0_turnsOn_42 : decode cX0_turnsOn 42 = .ok (.aload_n 0, 1) := dk_42 (dk_at dksX0_turnsOn_1 18 rfl rfl)
theorem dX0_turnsOn_43 : decode cX0_turnsOn 43 = .ok (.getfield 53, 3) := dk_180 0 53 (dk_at dksX0_turnsOn_1 19 rfl rfl)
theorem dX0_turnsOn_46 : decode cX0_turnsOn 46 = .ok (.iload_n 1, 1) := dk_27 (dk_at dksX0_turnsOn_1 22 rfl rfl)
theorem dX0_turnsOn_47 : decode cX0_turnsOn 47 = .ok (.aaload, 1) := dk_50 (dk_at dksX0_turnsOn_1 23 rfl rfl)
theorem dX0_turnsOn_48 : decode cX0_turnsOn 48 = .ok (.iload_n 2, 1) := dk_28 (dk_at dksX0_turnsOn_2 0 rfl rfl)
theorem dX0_turnsOn_49 : decode cX0_turnsOn 49 = .ok (.putfield 80, 3) := dk_181 0 80 (dk_at dksX0_turnsOn_2 1 rfl rfl)
theorem dX0_turnsOn_52 : decode cX0_turnsOn 52 = .ok (.aload_n 0, 1) := dk_42 (dk_at dksX0_turnsOn_2 4 rfl rfl)
theorem dX0_turnsOn_53 : decode cX0_turnsOn 53 = .ok (.iload_n 1, 1) := dk_27 (dk_at dksX0_turnsOn_2 5 rfl rfl)
theorem dX0_turnsOn_54 : decode cX0_turnsOn 54 = .ok (.invokevirtual 117, 3) := dk_182 0 117 (dk_at dksX0_turnsOn_2 6 rfl rfl)
theorem dX0_turnsOn_57 : decode cX0_turnsOn 57 = .ok (.istore_n 3, 1) := dk_62 (dk_at dksX0_turnsOn_2 9 rfl rfl)
theorem dX0_turnsOn_58 : decode cX0_turnsOn 58 = .ok (.iconst 0, 1) := dk_3 (dk_at dksX0_turnsOn_2 10 rfl rfl)
theorem dX0_turnsOn_59 : decode cX0_turnsOn 59 = .ok (.istore 4, 2) := dk_54 4 (dk_at dksX0_turnsOn_2 11 rfl rfl)
theorem dX0_turnsOn_61 : decode cX0_turnsOn 61 = .ok (.iload 4, 2) := dk_21 4 (dk_at dksX0_turnsOn_2 13 rfl rfl)
theorem dX0_turnsOn_63 : decode cX0_turnsOn 63 = .ok (.iconst 2, 1) := dk_5 (dk_at dksX0_turnsOn_2 15 rfl rfl)
theorem dX0_turnsOn_64 : decode cX0_turnsOn 64 = .ok (.if_icmp .ge 77, 3) := dk_162 0 77 (dk_at dksX0_turnsOn_2 16 rfl rfl)
theorem dX0_turnsOn_67 : decode cX0_turnsOn 67 = .ok (.aload_n 0, 1) := dk_42 (dk_at dksX0_turnsOn_2 19 rfl rfl)
theorem dX0_turnsOn_68 : decode cX0_turnsOn 68 = .ok (.getfield 67, 3) := dk_180 0 67 (dk_at dksX0_turnsOn_2 20 rfl rfl)
theorem dX0_turnsOn_71 : decode cX0_turnsOn 71 = .ok (.iconst 2, 1) := dk_5 (dk_at dksX0_turnsOn_2 23 rfl rfl)
theorem dX0_turnsOn_72 : decode cX0_turnsOn 72 = .ok (.iload_n 2, 1) := dk_28 (dk_at dksX0_turnsOn_3 0 rfl rfl)
theorem dX0_turnsOn_73 : decode cX0_turnsOn 73 = .ok (.imul, 1) := dk_104 (dk_at dksX0_turnsOn_3 1 rfl rfl)
theorem dX0_turnsOn_74 : decode cX0_turnsOn 74 = .ok (.iload 4, 2) := dk_21 4 (dk_at dksX0_turnsOn_3 2 rfl rfl)
theorem dX0_turnsOn_76 : decode cX0_turnsOn 76 = .ok (.iadd, 1) := dk_96 (dk_at dksX0_turnsOn_3 4 rfl rfl)
theorem dX0_turnsOn_77 : decode cX0_turnsOn 77 = .ok (.iaload, 1) := dk_46 (dk_at dksX0_turnsOn_3 5 rfl rfl)
theorem dX0_turnsOn_78 : decode cX0_turnsOn 78 = .ok (.istore 5, 2) := dk_54 5 (dk_at dksX0_turnsOn_3 6 rfl rfl)
theorem dX0_turnsOn_80 : decode cX0_turnsOn 80 = .ok (.aload_n 0, 1) := dk_42 (dk_at dksX0_turnsOn_3 8 rfl rfl)
theorem dX0_turnsOn_81 : decode cX0_turnsOn 81 = .ok (.getfield 310, 3) := dk_180 1 54 (dk_at dksX0_turnsOn_3 9 rfl rfl)
theorem dX0_turnsOn_84 : decode cX0_turnsOn 84 = .ok (.iload_n 2, 1) := dk_28 (dk_at dksX0_turnsOn_3 12 rfl rfl)
theorem dX0_turnsOn_85 : decode cX0_turnsOn 85 = .ok (.iaload, 1) := dk_46 (dk_at dksX0_turnsOn_3 13 rfl rfl)
theorem dX0_turnsOn_86 : decode cX0_turnsOn 86 = .ok (.iload 4, 2) := dk_21 4 (dk_at dksX0_turnsOn_3 14 rfl rfl)
theorem dX0_turnsOn_88 : decode cX0_turnsOn 88 = .ok (.iload_n 3, 1) := dk_29 (dk_at dksX0_turnsOn_3 16 rfl rfl)
theorem dX0_turnsOn_89 : decode cX0_turnsOn 89 = .ok (.if_icmp .ne 7, 3) := dk_160 0 7 (dk_at dksX0_turnsOn_3 17 rfl rfl)
theorem dX0_turnsOn_92 : decode cX0_turnsOn 92 = .ok (.iconst 0, 1) := dk_3 (dk_at dksX0_turnsOn_3 20 rfl rfl)
theorem dX0_turnsOn_93 : decode cX0_turnsOn 93 = .ok (.goto 4, 3) := dk_167 0 4 (dk_at dksX0_turnsOn_3 21 rfl rfl)
theorem dX0_turnsOn_96 : decode cX0_turnsOn 96 = .ok (.iconst 1, 1) := dk_4 (dk_at dksX0_turnsOn_4 0 rfl rfl)
theorem dX0_turnsOn_97 : decode cX0_turnsOn 97 = .ok (.iadd, 1) := dk_96 (dk_at dksX0_turnsOn_4 1 rfl rfl)
theorem dX0_turnsOn_98 : decode cX0_turnsOn 98 = .ok (.istore 6, 2) := dk_54 6 (dk_at dksX0_turnsOn_4 2 rfl rfl)
theorem dX0_turnsOn_100 : decode cX0_turnsOn 100 = .ok (.aload_n 0, 1) := dk_42 (dk_at dksX0_turnsOn_4 4 rfl rfl)
theorem dX0_turnsOn_101 : decode cX0_turnsOn 101 = .ok (.getfield 313, 3) := dk_180 1 57 (dk_at dksX0_turnsOn_4 5 rfl rfl)
theorem dX0_turnsOn_104 : decode cX0_turnsOn 104 = .ok (.iload 5, 2) := dk_21 5 (dk_at dksX0_turnsOn_4 8 rfl rfl)
theorem dX0_turnsOn_106 : decode cX0_turnsOn 106 = .ok (.aload_n 0, 1) := dk_42 (dk_at dksX0_turnsOn_4 10 rfl rfl)
theorem dX0_turnsOn_107 : decode cX0_turnsOn 107 = .ok (.getfield 313, 3) := dk_180 1 57 (dk_at dksX0_turnsOn_4 11 rfl rfl)
theorem dX0_turnsOn_110 : decode cX0_turnsOn 110 = .ok (.iload 5, 2) := dk_21 5 (dk_at dksX0_turnsOn_4 14 rfl rfl)
theorem dX0_turnsOn_112 : decode cX0_turnsOn 112 = .ok (.iaload, 1) := dk_46 (dk_at dksX0_turnsOn_4 16 rfl rfl)
theorem dX0_turnsOn_113 : decode cX0_turnsOn 113 = .ok (.iconst (-1), 1) := dk_2 (dk_at dksX0_turnsOn_4 17 rfl rfl)
theorem dX0_turnsOn_114 : decode cX0_turnsOn 114 = .ok (.if_icmp .ne 8, 3) := dk_160 0 8 (dk_at dksX0_turnsOn_4 18 rfl rfl)
theorem dX0_turnsOn_117 : decode cX0_turnsOn 117 = .ok (.iload 6, 2) := dk_21 6 (dk_at dksX0_turnsOn_4 21 rfl rfl)
theorem dX0_turnsOn_119 : decode cX0_turnsOn 119 = .ok (.goto 15, 3) := dk_167 0 15 (dk_at dksX0_turnsOn_5 0 rfl rfl)
theorem dX0_turnsOn_122 : decode cX0_turnsOn 122 = .ok (.aload_n 0, 1) := dk_42 (dk_at dksX0_turnsOn_5 3 rfl rfl)
theorem dX0_turnsOn_123 : decode cX0_turnsOn 123 = .ok (.getfield 313, 3) := dk_180 1 57 (dk_at dksX0_turnsOn_5 4 rfl rfl)
theorem dX0_turnsOn_126 : decode cX0_turnsOn 126 = .ok (.iload 5, 2) := dk_21 5 (dk_at dksX0_turnsOn_5 7 rfl rfl)
theorem dX0_turnsOn_128 : decode cX0_turnsOn 128 = .ok (.iaload, 1) := dk_46 (dk_at dksX0_turnsOn_5 9 rfl rfl)
theorem dX0_turnsOn_129 : decode cX0_turnsOn 129 = .ok (.iload 6, 2) := dk_21 6 (dk_at dksX0_turnsOn_5 10 rfl rfl)
theorem dX0_turnsOn_131 : decode cX0_turnsOn 131 = .ok (.invokestatic 1, 3) := dk_184 0 1 (dk_at dksX0_turnsOn_5 12 rfl rfl)
theorem dX0_turnsOn_134 : decode cX0_turnsOn 134 = .ok (.iastore, 1) := dk_79 (dk_at dksX0_turnsOn_5 15 rfl rfl)
theorem dX0_turnsOn_135 : decode cX0_turnsOn 135 = .ok (.iinc 4 1, 3) := dk_132 4 1 (dk_at dksX0_turnsOn_5 16 rfl rfl)
theorem dX0_turnsOn_138 : decode cX0_turnsOn 138 = .ok (.goto (-77), 3) := dk_167 255 179 (dk_at dksX0_turnsOn_5 19 rfl rfl)
theorem dX0_turnsOn_141 : decode cX0_turnsOn 141 = .ok (.iinc 2 1, 3) := dk_132 2 1 (dk_at dksX0_turnsOn_6 0 rfl rfl)
theorem dX0_turnsOn_144 : decode cX0_turnsOn 144 = .ok (.goto (-121), 3) := dk_167 255 135 (dk_at dksX0_turnsOn_6 3 rfl rfl)
theorem dX0_turnsOn_147 : decode cX0_turnsOn 147 = .ok (.aload_n 0, 1) := dk_42 (dk_at dksX0_turnsOn_6 6 rfl rfl)
theorem dX0_turnsOn_148 : decode cX0_turnsOn 148 = .ok (.getfield 310, 3) := dk_180 1 54 (dk_at dksX0_turnsOn_6 7 rfl rfl)
theorem dX0_turnsOn_151 : decode cX0_turnsOn 151 = .ok (.astore_n 2, 1) := dk_77 (dk_at dksX0_turnsOn_6 10 rfl rfl)
theorem dX0_turnsOn_152 : decode cX0_turnsOn 152 = .ok (.aload_n 0, 1) := dk_42 (dk_at dksX0_turnsOn_6 11 rfl rfl)
theorem dX0_turnsOn_153 : decode cX0_turnsOn 153 = .ok (.aload_n 0, 1) := dk_42 (dk_at dksX0_turnsOn_6 12 rfl rfl)
theorem dX0_turnsOn_154 : decode cX0_turnsOn 154 = .ok (.getfield 313, 3) := dk_180 1 57 (dk_at dksX0_turnsOn_6 13 rfl rfl)
theorem dX0_turnsOn_157 : decode cX0_turnsOn 157 = .ok (.putfield 310, 3) := dk_181 1 54 (dk_at dksX0_turnsOn_6 16 rfl rfl)
theorem dX0_turnsOn_160 : decode cX0_turnsOn 160 = .ok (.aload_n 0, 1) := dk_42 (dk_at dksX0_turnsOn_6 19 rfl rfl)
theorem dX0_turnsOn_161 : decode cX0_turnsOn 161 = .ok (.aload_n 2, 1) := dk_44 (dk_at dksX0_turnsOn_6 20 rfl rfl)
theorem dX0_turnsOn_162 : decode cX0_turnsOn 162 = .ok (.putfield 313, 3) := dk_181 1 57 (dk_at dksX0_turnsOn_6 21 rfl rfl)
theorem dX0_turnsOn_165 : decode cX0_turnsOn 165 = .ok (.return_, 1) := dk_177 (dk_at dksX0_turnsOn_7 0 rfl rfl)
abbrev cX0_meet : ByteArray := prog_1_method_65_code
def yX0_meet : MethodName := ⟨RX0, "meet", "(II)I"⟩
def dkwX0_meet_1 : List UInt8 := [182, 1, 185, 167, 0, 5, 16, 254, 172]
abbrev dktX0_meet_1 : List UInt8 := dkwX0_meet_1 ++ []
def dkwX0_meet_0 : List UInt8 := [42, 27, 182, 0, 64, 153, 0, 25, 42, 28, 182, 0, 64, 153, 0, 17, 27, 28, 159, 0, 12, 42, 27, 28]
abbrev dktX0_meet_0 : List UInt8 := dkwX0_meet_0 ++ dktX0_meet_1
theorem dksX0_meet_0 : cX0_meet.data.toList.drop 0 = dktX0_meet_0 := by decide +kernel
theorem dksX0_meet_1 : cX0_meet.data.toList.drop 24 = dktX0_meet_1 := dk_seg dksX0_meet_0 24 rfl rfl
theorem dX0_meet_0 : decode cX0_meet 0 = .ok (.aload_n 0, 1) := dk_42 (dk_at dksX0_meet_0 0 rfl rfl)
theorem dX0_meet_1 : decode cX0_meet 1 = .ok (.iload_n 1, 1) := dk_27 (dk_at dksX0_meet_0 1 rfl rfl)
theorem dX0_meet_2 : decode cX0_meet 2 = .ok (.invokevirtual 64, 3) := dk_182 0 64 (dk_at dksX0_meet_0 2 rfl rfl)
theorem dX0_meet_5 : decode cX0_meet 5 = .ok (.ifCond .eq 25, 3) := dk_153 0 25 (dk_at dksX0_meet_0 5 rfl rfl)
theorem dX0_meet_8 : decode cX0_meet 8 = .ok (.aload_n 0, 1) := dk_42 (dk_at dksX0_meet_0 8 rfl rfl)
theorem dX0_meet_9 : decode cX0_meet 9 = .ok (.iload_n 2, 1) := dk_28 (dk_at dksX0_meet_0 9 rfl rfl)
theorem dX0_meet_10 : decode cX0_meet 10 = .ok (.invokevirtual 64, 3) := dk_182 0 64 (dk_at dksX0_meet_0 10 rfl rfl)
theorem dX0_meet_13 : decode cX0_meet 13 = .ok (.ifCond .eq 17, 3) := dk_153 0 17 (dk_at dksX0_meet_0 13 rfl rfl)
theorem dX0_meet_16 : decode cX0_meet 16 = .ok (.iload_n 1, 1) := dk_27 (dk_at dksX0_meet_0 16 rfl rfl)
theorem dX0_meet_17 : decode cX0_meet 17 = .ok (.iload_n 2, 1) := dk_28 (dk_at dksX0_meet_0 17 rfl rfl)
theorem dX0_meet_18 : decode cX0_meet 18 = .ok (.if_icmp .eq 12, 3) := dk_159 0 12 (dk_at dksX0_meet_0 18 rfl rfl)
theorem dX0_meet_21 : decode cX0_meet 21 = .ok (.aload_n 0, 1) := dk_42 (dk_at dksX0_meet_0 21 rfl rfl)
theorem dX0_meet_22 : decode cX0_meet 22 = .ok (.iload_n 1, 1) := dk_27 (dk_at dksX0_meet_0 22 rfl rfl)
theorem dX0_meet_23 : decode cX0_meet 23 = .ok (.iload_n 2, 1) := dk_28 (dk_at dksX0_meet_0 23 rfl rfl)
theorem dX0_meet_24 : decode cX0_meet 24 = .ok (.invokevirtual 441, 3) := dk_182 1 185 (dk_at dksX0_meet_1 0 rfl rfl)
theorem dX0_meet_27 : decode cX0_meet 27 = .ok (.goto 5, 3) := dk_167 0 5 (dk_at dksX0_meet_1 3 rfl rfl)
theorem dX0_meet_30 : decode cX0_meet 30 = .ok (.bipush (-2), 2) := dk_16 254 (dk_at dksX0_meet_1 6 rfl rfl)
theorem dX0_meet_32 : decode cX0_meet 32 = .ok (.ireturn, 1) := dk_172 (dk_at dksX0_meet_1 8 rfl rfl)
abbrev cX0_meets : ByteArray := prog_1_method_64_code
def yX0_meets : MethodName := ⟨RX0, "meets", "(II)I"⟩
def dkwX0_meets_3 : List UInt8 := [182, 1, 144, 21, 4, 172, 58, 6, 42, 29, 182, 1, 144, 25, 6, 191]
abbrev dktX0_meets_3 : List UInt8 := dkwX0_meets_3 ++ []
def dkwX0_meets_2 : List UInt8 := [182, 1, 144, 21, 5, 172, 42, 2, 182, 1, 123, 132, 4, 1, 167, 255, 208, 2, 54, 4, 42, 29]
abbrev dktX0_meets_2 : List UInt8 := dkwX0_meets_2 ++ dktX0_meets_3
def dkwX0_meets_1 : List UInt8 := [50, 180, 0, 80, 42, 180, 0, 53, 28, 50, 180, 0, 80, 160, 0, 15, 21, 4, 54, 5, 42, 29]
abbrev dktX0_meets_1 : List UInt8 := dkwX0_meets_1 ++ dktX0_meets_2
def dkwX0_meets_0 : List UInt8 := [42, 180, 0, 74, 62, 42, 182, 1, 138, 3, 54, 4, 21, 4, 16, 60, 163, 0, 47, 42, 180, 0, 53, 27]
abbrev dktX0_meets_0 : List UInt8 := dkwX0_meets_0 ++ dktX0_meets_1
theorem dksX0_meets_0 : cX0_meets.data.toList.drop 0 = dktX0_meets_0 := by decide +kernel
theorem dksX0_meets_1 : cX0_meets.data.toList.drop 24 = dktX0_meets_1 := dk_seg dksX0_meets_0 24 rfl rfl
theorem dksX0_meets_2 : cX0_meets.data.toList.drop 46 = dktX0_meets_2 := dk_seg dksX0_meets_1 22 rfl rfl
theorem dksX0_meets_3 : cX0_meets.data.toList.drop 68 = dktX0_meets_3 := dk_seg dksX0_meets_2 22 rfl rfl
theorem dX0_meets_0 : decode cX0_meets 0 = .ok (.aload_n 0, 1) := dk_42 (dk_at dksX0_meets_0 0 rfl rfl)
theorem dX0_meets_1 : decode cX0_meets 1 = .ok (.getfield 74, 3) := dk_180 0 74 (dk_at dksX0_meets_0 1 rfl rfl)
theorem dX0_meets_4 : decode cX0_meets 4 = .ok (.istore_n 3, 1) := dk_62 (dk_at dksX0_meets_0 4 rfl rfl)
theorem dX0_meets_5 : decode cX0_meets 5 = .ok (.aload_n 0, 1) := dk_42 (dk_at dksX0_meets_0 5 rfl rfl)
theorem dX0_meets_6 : decode cX0_meets 6 = .ok (.invokevirtual 394, 3) := dk_182 1 138 (dk_at dksX0_meets_0 6 rfl rfl)
theorem dX0_meets_9 : decode cX0_meets 9 = .ok (.iconst 0, 1) := dk_3 (dk_at dksX0_meets_0 9 rfl rfl)
theorem dX0_meets_10 : decode cX0_meets 10 = .ok (.istore 4, 2) := dk_54 4 (dk_at dksX0_meets_0 10 rfl rfl)
theorem dX0_meets_12 : decode cX0_meets 12 = .ok (.iload 4, 2) := dk_21 4 (dk_at dksX0_meets_0 12 rfl rfl)
theorem dX0_meets_14 : decode cX0_meets 14 = .ok (.bipush 60, 2) := dk_16 60 (dk_at dksX0_meets_0 14 rfl rfl)
theorem dX0_meets_16 : decode cX0_meets 16 = .ok (.if_icmp .gt 47, 3) := dk_163 0 47 (dk_at dksX0_meets_0 16 rfl rfl)
theorem dX0_meets_19 : decode cX0_meets 19 = .ok (.aload_n 0, 1) := dk_42 (dk_at dksX0_meets_0 19 rfl rfl)
theorem dX0_meets_20 : decode cX0_meets 20 = .ok (.getfield 53, 3) := dk_180 0 53 (dk_at dksX0_meets_0 20 rfl rfl)
theorem dX0_meets_23 : decode cX0_meets 23 = .ok (.iload_n 1, 1) := dk_27 (dk_at dksX0_meets_0 23 rfl rfl)
theorem dX0_meets_24 : decode cX0_meets 24 = .ok (.aaload, 1) := dk_50 (dk_at dksX0_meets_1 0 rfl rfl)
theorem dX0_meets_25 : decode cX0_meets 25 = .ok (.getfield 80, 3) := dk_180 0 80 (dk_at dksX0_meets_1 1 rfl rfl)
theorem dX0_meets_28 : decode cX0_meets 28 = .ok (.aload_n 0, 1) := dk_42 (dk_at dksX0_meets_1 4 rfl rfl)
theorem dX0_meets_29 : decode cX0_meets 29 = .ok (.getfield 53, 3) := dk_180 0 53 (dk_at dksX0_meets_1 5 rfl rfl)
theorem dX0_meets_32 : decode cX0_meets 32 = .ok (.iload_n 2, 1) := dk_28 (dk_at dksX0_meets_1 8 rfl rfl)
theorem dX0_meets_33 : decode cX0_meets 33 = .ok (.aaload, 1) := dk_50 (dk_at dksX0_meets_1 9 rfl rfl)
theorem dX0_meets_34 : decode cX0_meets 34 = .ok (.getfield 80, 3) := dk_180 0 80 (dk_at dksX0_meets_1 10 rfl rfl)
theorem dX0_meets_37 : decode cX0_meets 37 = .ok (.if_icmp .ne 15, 3) := dk_160 0 15 (dk_at dksX0_meets_1 13 rfl rfl)
theorem dX0_meets_40 : decode cX0_meets 40 = .ok (.iload 4, 2) := dk_21 4 (dk_at dksX0_meets_1 16 rfl rfl)
theorem dX0_meets_42 : decode cX0_meets 42 = .ok (.istore 5, 2) := dk_54 5 (dk_at dksX0_meets_1 18 rfl rfl)
theorem dX0_meets_44 : decode cX0_meets 44 = .ok (.aload_n 0, 1) := dk_42 (dk_at dksX0_meets_1 20 rfl rfl)
theorem dX0_meets_45 : decode cX0_meets 45 = .ok (.iload_n 3, 1) := dk_29 (dk_at dksX0_meets_1 21 rfl rfl)
theorem dX0_meets_46 : decode cX0_meets 46 = .ok (.invokevirtual 400, 3) := dk_182 1 144 (dk_at dksX0_meets_2 0 rfl rfl)
theorem dX0_meets_49 : decode cX0_meets 49 = .ok (.iload 5, 2) := dk_21 5 (dk_at dksX0_meets_2 3 rfl rfl)
theorem dX0_meets_51 : decode cX0_meets 51 = .ok (.ireturn, 1) := dk_172 (dk_at dksX0_meets_2 5 rfl rfl)
theorem dX0_meets_52 : decode cX0_meets 52 = .ok (.aload_n 0, 1) := dk_42 (dk_at dksX0_meets_2 6 rfl rfl)
theorem dX0_meets_53 : decode cX0_meets 53 = .ok (.iconst (-1), 1) := dk_2 (dk_at dksX0_meets_2 7 rfl rfl)
theorem dX0_meets_54 : decode cX0_meets 54 = .ok (.invokevirtual 379, 3) := dk_182 1 123 (dk_at dksX0_meets_2 8 rfl rfl)
theorem dX0_meets_57 : decode cX0_meets 57 = .ok (.iinc 4 1, 3) := dk_132 4 1 (dk_at dksX0_meets_2 11 rfl rfl)
theorem dX0_meets_60 : decode cX0_meets 60 = .ok (.goto (-48), 3) := dk_167 255 208 (dk_at dksX0_meets_2 14 rfl rfl)
theorem dX0_meets_63 : decode cX0_meets 63 = .ok (.iconst (-1), 1) := dk_2 (dk_at dksX0_meets_2 17 rfl rfl)
theorem dX0_meets_64 : decode cX0_meets 64 = .ok (.istore 4, 2) := dk_54 4 (dk_at dksX0_meets_2 18 rfl rfl)
theorem dX0_meets_66 : decode cX0_meets 66 = .ok (.aload_n 0, 1) := dk_42 (dk_at dksX0_meets_2 20 rfl rfl)
theorem dX0_meets_67 : decode cX0_meets 67 = .ok (.iload_n 3, 1) := dk_29 (dk_at dksX0_meets_2 21 rfl rfl)
theorem dX0_meets_68 : decode cX0_meets 68 = .ok (.invokevirtual 400, 3) := dk_182 1 144 (dk_at dksX0_meets_3 0 rfl rfl)
theorem dX0_meets_71 : decode cX0_meets 71 = .ok (.iload 4, 2) := dk_21 4 (dk_at dksX0_meets_3 3 rfl rfl)
theorem dX0_meets_73 : decode cX0_meets 73 = .ok (.ireturn, 1) := dk_172 (dk_at dksX0_meets_3 5 rfl rfl)
theorem dX0_meets_74 : decode cX0_meets 74 = .ok (.astore 6, 2) := dk_58 6 (dk_at dksX0_meets_3 6 rfl rfl)
theorem dX0_meets_76 : decode cX0_meets 76 = .ok (.aload_n 0, 1) := dk_42 (dk_at dksX0_meets_3 8 rfl rfl)
theorem dX0_meets_77 : decode cX0_meets 77 = .ok (.iload_n 3, 1) := dk_29 (dk_at dksX0_meets_3 9 rfl rfl)
theorem dX0_meets_78 : decode cX0_meets 78 = .ok (.invokevirtual 400, 3) := dk_182 1 144 (dk_at dksX0_meets_3 10 rfl rfl)
theorem dX0_meets_81 : decode cX0_meets 81 = .ok (.aload 6, 2) := dk_25 6 (dk_at dksX0_meets_3 13 rfl rfl)
theorem dX0_meets_83 : decode cX0_meets 83 = .ok (.athrow, 1) := dk_191 (dk_at dksX0_meets_3 15 rfl rfl)
abbrev cX0_shut : ByteArray := prog_1_method_68_code
def yX0_shut : MethodName := ⟨RX0, "shut", "(II)I"⟩
def dkwX0_shut_3 : List UInt8 := [184, 0, 7, 54, 4, 132, 5, 1, 167, 255, 214, 28, 154, 0, 7, 29, 167, 0, 5, 21, 4, 172]
abbrev dktX0_shut_3 : List UInt8 := dkwX0_shut_3 ++ []
def dkwX0_shut_2 : List UInt8 := [182, 1, 191, 54, 6, 21, 6, 21, 4, 164, 0, 8, 21, 5, 167, 0, 4, 29, 62, 21, 4, 21, 6]
abbrev dktX0_shut_2 : List UInt8 := dkwX0_shut_2 ++ dktX0_shut_3
def dkwX0_shut_1 : List UInt8 := [172, 2, 62, 42, 27, 182, 1, 188, 54, 4, 3, 54, 5, 21, 5, 16, 12, 162, 0, 41, 42, 21, 5, 27]
abbrev dktX0_shut_1 : List UInt8 := dkwX0_shut_1 ++ dktX0_shut_2
def dkwX0_shut_0 : List UInt8 := [27, 133, 9, 20, 1, 158, 184, 0, 14, 153, 0, 13, 28, 133, 9, 10, 184, 0, 14, 154, 0, 6, 16, 254]
abbrev dktX0_shut_0 : List UInt8 := dkwX0_shut_0 ++ dktX0_shut_1
theorem dksX0_shut_0 : cX0_shut.data.toList.drop 0 = dktX0_shut_0 := by decide +kernel
theorem dksX0_shut_1 : cX0_shut.data.toList.drop 24 = dktX0_shut_1 := dk_seg dksX0_shut_0 24 rfl rfl
theorem dksX0_shut_2 : cX0_shut.data.toList.drop 48 = dktX0_shut_2 := dk_seg dksX0_shut_1 24 rfl rfl
theorem dksX0_shut_3 : cX0_shut.data.toList.drop 71 = dktX0_shut_3 := dk_seg dksX0_shut_2 23 rfl rfl
theorem dX0_shut_0 : decode cX0_shut 0 = .ok (.iload_n 1, 1) := dk_27 (dk_at dksX0_shut_0 0 rfl rfl)
theorem dX0_shut_1 : decode cX0_shut 1 = .ok (.i2l, 1) := dk_133 (dk_at dksX0_shut_0 1 rfl rfl)
theorem dX0_shut_2 : decode cX0_shut 2 = .ok (.lconst 0, 1) := dk_9 (dk_at dksX0_shut_0 2 rfl rfl)
theorem dX0_shut_3 : decode cX0_shut 3 = .ok (.ldc2_w 414, 3) := dk_20 1 158 (dk_at dksX0_shut_0 3 rfl rfl)
theorem dX0_shut_6 : decode cX0_shut 6 = .ok (.invokestatic 14, 3) := dk_184 0 14 (dk_at dksX0_shut_0 6 rfl rfl)
theorem dX0_shut_9 : decode cX0_shut 9 = .ok (.ifCond .eq 13, 3) := dk_153 0 13 (dk_at dksX0_shut_0 9 rfl rfl)
theorem dX0_shut_12 : decode cX0_shut 12 = .ok (.iload_n 2, 1) := dk_28 (dk_at dksX0_shut_0 12 rfl rfl)
theorem dX0_shut_13 : decode cX0_shut 13 = .ok (.i2l, 1) := dk_133 (dk_at dksX0_shut_0 13 rfl rfl)
theorem dX0_shut_14 : decode cX0_shut 14 = .ok (.lconst 0, 1) := dk_9 (dk_at dksX0_shut_0 14 rfl rfl)
theorem dX0_shut_15 : decode cX0_shut 15 = .ok (.lconst 1, 1) := dk_10 (dk_at dksX0_shut_0 15 rfl rfl)
theorem dX0_shut_16 : decode cX0_shut 16 = .ok (.invokestatic 14, 3) := dk_184 0 14 (dk_at dksX0_shut_0 16 rfl rfl)
theorem dX0_shut_19 : decode cX0_shut 19 = .ok (.ifCond .ne 6, 3) := dk_154 0 6 (dk_at dksX0_shut_0 19 rfl rfl)
theorem dX0_shut_22 : decode cX0_shut 22 = .ok (.bipush (-2), 2) := dk_16 254 (dk_at dksX0_shut_0 22 rfl rfl)
theorem dX0_shut_24 : decode cX0_shut 24 = .ok (.ireturn, 1) := dk_172 (dk_at dksX0_shut_1 0 rfl rfl)
theorem dX0_shut_25 : decode cX0_shut 25 = .ok (.iconst (-1), 1) := dk_2 (dk_at dksX0_shut_1 1 rfl rfl)
theorem dX0_shut_26 : decode cX0_shut 26 = .ok (.istore_n 3, 1) := dk_62 (dk_at dksX0_shut_1 2 rfl rfl)
theorem dX0_shut_27 : decode cX0_shut 27 = .ok (.aload_n 0, 1) := dk_42 (dk_at dksX0_shut_1 3 rfl rfl)
theorem dX0_shut_28 : decode cX0_shut 28 = .ok (.iload_n 1, 1) := dk_27 (dk_at dksX0_shut_1 4 rfl rfl)
theorem dX0_shut_29 : decode cX0_shut 29 = .ok (.invokevirtual 444, 3) := dk_182 1 188 (dk_at dksX0_shut_1 5 rfl rfl)
theorem dX0_shut_32 : decode cX0_shut 32 = .ok (.istore 4, 2) := dk_54 4 (dk_at dksX0_shut_1 8 rfl rfl)
theorem dX0_shut_34 : decode cX0_shut 34 = .ok (.iconst 0, 1) := dk_3 (dk_at dksX0_shut_1 10 rfl rfl)
theorem dX0_shut_35 : decode cX0_shut 35 = .ok (.istore 5, 2) := dk_54 5 (dk_at dksX0_shut_1 11 rfl rfl)
theorem dX0_shut_37 : decode cX0_shut 37 = .ok (.iload 5, 2) := dk_21 5 (dk_at dksX0_shut_1 13 rfl rfl)
theorem dX0_shut_39 : decode cX0_shut 39 = .ok (.bipush 12, 2) := dk_16 12 (dk_at dksX0_shut_1 15 rfl rfl)
theorem dX0_shut_41 : decode cX0_shut 41 = .ok (.if_icmp .ge 41, 3) := dk_162 0 41 (dk_at dksX0_shut_1 17 rfl rfl)
theorem dX0_shut_44 : decode cX0_shut 44 = .ok (.aload_n 0, 1) := dk_42 (dk_at dksX0_shut_1 20 rfl rfl)
theorem dX0_shut_45 : decode cX0_shut 45 = .ok (.iload 5, 2) := dk_21 5 (dk_at dksX0_shut_1 21 rfl rfl)
theorem dX0_shut_47 : decode cX0_shut 47 = .ok (.iload_n 1, 1) := dk_27 (dk_at dksX0_shut_1 23 rfl rfl)
theorem dX0_shut_48 : decode cX0_shut 48 = .ok (.invokevirtual 447, 3) := dk_182 1 191 (dk_at dksX0_shut_2 0 rfl rfl)
theorem dX0_shut_51 : decode cX0_shut 51 = .ok (.istore 6, 2) := dk_54 6 (dk_at dksX0_shut_2 3 rfl rfl)
theorem dX0_shut_53 : decode cX0_shut 53 = .ok (.iload 6, 2) := dk_21 6 (dk_at dksX0_shut_2 5 rfl rfl)
theorem dX0_shut_55 : decode cX0_shut 55 = .ok (.iload 4, 2) := dk_21 4 (dk_at dksX0_shut_2 7 rfl rfl)
theorem dX0_shut_57 : decode cX0_shut 57 = .ok (.if_icmp .le 8, 3) := dk_164 0 8 (dk_at dksX0_shut_2 9 rfl rfl)
theorem dX0_shut_60 : decode cX0_shut 60 = .ok (.iload 5, 2) := dk_21 5 (dk_at dksX0_shut_2 12 rfl rfl)
theorem dX0_shut_62 : decode cX0_shut 62 = .ok (.goto 4, 3) := dk_167 0 4 (dk_at dksX0_shut_2 14 rfl rfl)
theorem dX0_shut_65 : decode cX0_shut 65 = .ok (.iload_n 3, 1) := dk_29 (dk_at dksX0_shut_2 17 rfl rfl)
theorem dX0_shut_66 : decode cX0_shut 66 = .ok (.istore_n 3, 1) := dk_62 (dk_at dksX0_shut_2 18 rfl rfl)
theorem dX0_shut_67 : decode cX0_shut 67 = .ok (.iload 4, 2) := dk_21 4 (dk_at dksX0_shut_2 19 rfl rfl)
theorem dX0_shut_69 : decode cX0_shut 69 = .ok (.iload 6, 2) := dk_21 6 (dk_at dksX0_shut_2 21 rfl rfl)
theorem dX0_shut_71 : decode cX0_shut 71 = .ok (.invokestatic 7, 3) := dk_184 0 7 (dk_at dksX0_shut_3 0 rfl rfl)
theorem dX0_shut_74 : decode cX0_shut 74 = .ok (.istore 4, 2) := dk_54 4 (dk_at dksX0_shut_3 3 rfl rfl)
theorem dX0_shut_76 : decode cX0_shut 76 = .ok (.iinc 5 1, 3) := dk_132 5 1 (dk_at dksX0_shut_3 5 rfl rfl)
theorem dX0_shut_79 : decode cX0_shut 79 = .ok (.goto (-42), 3) := dk_167 255 214 (dk_at dksX0_shut_3 8 rfl rfl)
theorem dX0_shut_82 : decode cX0_shut 82 = .ok (.iload_n 2, 1) := dk_28 (dk_at dksX0_shut_3 11 rfl rfl)
theorem dX0_shut_83 : decode cX0_shut 83 = .ok (.ifCond .ne 7, 3) := dk_154 0 7 (dk_at dksX0_shut_3 12 rfl rfl)
theorem dX0_shut_86 : decode cX0_shut 86 = .ok (.iload_n 3, 1) := dk_29 (dk_at dksX0_shut_3 15 rfl rfl)
theorem dX0_shut_87 : decode cX0_shut 87 = .ok (.goto 5, 3) := dk_167 0 5 (dk_at dksX0_shut_3 16 rfl rfl)
theorem dX0_shut_90 : decode cX0_shut 90 = .ok (.iload 4, 2) := dk_21 4 (dk_at dksX0_shut_3 19 rfl rfl)
theorem dX0_shut_92 : decode cX0_shut 92 = .ok (.ireturn, 1) := dk_172 (dk_at dksX0_shut_3 21 rfl rfl)
abbrev cX0_jarsBehind : ByteArray := prog_1_method_66_code
def yX0_jarsBehind : MethodName := ⟨RX0, "jarsBehind", "(I)I"⟩
def dkwX0_jarsBehind_2 : List UInt8 := [191]
abbrev dktX0_jarsBehind_2 : List UInt8 := dkwX0_jarsBehind_2 ++ []
def dkwX0_jarsBehind_1 : List UInt8 := [167, 255, 243, 42, 182, 1, 126, 62, 42, 28, 182, 1, 144, 29, 172, 58, 4, 42, 28, 182, 1, 144, 25, 4]
abbrev dktX0_jarsBehind_1 : List UInt8 := dkwX0_jarsBehind_1 ++ dktX0_jarsBehind_2
def dkwX0_jarsBehind_0 : List UInt8 := [42, 180, 0, 74, 61, 42, 182, 1, 138, 3, 62, 29, 27, 162, 0, 14, 42, 2, 182, 1, 123, 132, 3, 1]
abbrev dktX0_jarsBehind_0 : List UInt8 := dkwX0_jarsBehind_0 ++ dktX0_jarsBehind_1
theorem dksX0_jarsBehind_0 : cX0_jarsBehind.data.toList.drop 0 = dktX0_jarsBehind_0 := by decide +kernel
theorem dksX0_jarsBehind_1 : cX0_jarsBehind.data.toList.drop 24 = dktX0_jarsBehind_1 := dk_seg dksX0_jarsBehind_0 24 rfl rfl
theorem dksX0_jarsBehind_2 : cX0_jarsBehind.data.toList.drop 48 = dktX0_jarsBehind_2 := dk_seg dksX0_jarsBehind_1 24 rfl rfl
theorem dX0_jarsBehind_0 : decode cX0_jarsBehind 0 = .ok (.aload_n 0, 1) := dk_42 (dk_at dksX0_jarsBehind_0 0 rfl rfl)
theorem dX0_jarsBehind_1 : decode cX0_jarsBehind 1 = .ok (.getfield 74, 3) := dk_180 0 74 (dk_at dksX0_jarsBehind_0 1 rfl rfl)
theorem dX0_jarsBehind_4 : decode cX0_jarsBehind 4 = .ok (.istore_n 2, 1) := dk_61 (dk_at dksX0_jarsBehind_0 4 rfl rfl)
theorem dX0_jarsBehind_5 : decode cX0_jarsBehind 5 = .ok (.aload_n 0, 1) := dk_42 (dk_at dksX0_jarsBehind_0 5 rfl rfl)
theorem dX0_jarsBehind_6 : decode cX0_jarsBehind 6 = .ok (.invokevirtual 394, 3) := dk_182 1 138 (dk_at dksX0_jarsBehind_0 6 rfl rfl)
theorem dX0_jarsBehind_9 : decode cX0_jarsBehind 9 = .ok (.iconst 0, 1) := dk_3 (dk_at dksX0_jarsBehind_0 9 rfl rfl)
theorem dX0_jarsBehind_10 : decode cX0_jarsBehind 10 = .ok (.istore_n 3, 1) := dk_62 (dk_at dksX0_jarsBehind_0 10 rfl rfl)
theorem dX0_jarsBehind_11 : decode cX0_jarsBehind 11 = .ok (.iload_n 3, 1) := dk_29 (dk_at dksX0_jarsBehind_0 11 rfl rfl)
theorem dX0_jarsBehind_12 : decode cX0_jarsBehind 12 = .ok (.iload_n 1, 1) := dk_27 (dk_at dksX0_jarsBehind_0 12 rfl rfl)
theorem dX0_jarsBehind_13 : decode cX0_jarsBehind 13 = .ok (.if_icmp .ge 14, 3) := dk_162 0 14 (dk_at dksX0_jarsBehind_0 13 rfl rfl)
theorem dX0_jarsBehind_16 : decode cX0_jarsBehind 16 = .ok (.aload_n 0, 1) := dk_42 (dk_at dksX0_jarsBehind_0 16 rfl rfl)
theorem dX0_jarsBehind_17 : decode cX0_jarsBehind 17 = .ok (.iconst (-1), 1) := dk_2 (dk_at dksX0_jarsBehind_0 17 rfl rfl)
theorem dX0_jarsBehind_18 : decode cX0_jarsBehind 18 = .ok (.invokevirtual 379, 3) := dk_182 1 123 (dk_at dksX0_jarsBehind_0 18 rfl rfl)
theorem dX0_jarsBehind_21 : decode cX0_jarsBehind 21 = .ok (.iinc 3 1, 3) := dk_132 3 1 (dk_at dksX0_jarsBehind_0 21 rfl rfl)
theorem dX0_jarsBehind_24 : decode cX0_jarsBehind 24 = .ok (.goto (-13), 3) := dk_167 255 243 (dk_at dksX0_jarsBehind_1 0 rfl rfl)
theorem dX0_jarsBehind_27 : decode cX0_jarsBehind 27 = .ok (.aload_n 0, 1) := dk_42 (dk_at dksX0_jarsBehind_1 3 rfl rfl)
theorem dX0_jarsBehind_28 : decode cX0_jarsBehind 28 = .ok (.invokevirtual 382, 3) := dk_182 1 126 (dk_at dksX0_jarsBehind_1 4 rfl rfl)
theorem dX0_jarsBehind_31 : decode cX0_jarsBehind 31 = .ok (.istore_n 3, 1) := dk_62 (dk_at dksX0_jarsBehind_1 7 rfl rfl)
theorem dX0_jarsBehind_32 : decode cX0_jarsBehind 32 = .ok (.aload_n 0, 1) := dk_42 (dk_at dksX0_jarsBehind_1 8 rfl rfl)
theorem dX0_jarsBehind_33 : decode cX0_jarsBehind 33 = .ok (.iload_n 2, 1) := dk_28 (dk_at dksX0_jarsBehind_1 9 rfl rfl)
theorem dX0_jarsBehind_34 : decode cX0_jarsBehind 34 = .ok (.invokevirtual 400, 3) := dk_182 1 144 (dk_at dksX0_jarsBehind_1 10 rfl rfl)
theorem dX0_jarsBehind_37 : decode cX0_jarsBehind 37 = .ok (.iload_n 3, 1) := dk_29 (dk_at dksX0_jarsBehind_1 13 rfl rfl)
theorem dX0_jarsBehind_38 : decode cX0_jarsBehind 38 = .ok (.ireturn, 1) := dk_172 (dk_at dksX0_jarsBehind_1 14 rfl rfl)
theorem dX0_jarsBehind_39 : decode cX0_jarsBehind 39 = .ok (.astore 4, 2) := dk_58 4 (dk_at dksX0_jarsBehind_1 15 rfl rfl)
theorem dX0_jarsBehind_41 : decode cX0_jarsBehind 41 = .ok (.aload_n 0, 1) := dk_42 (dk_at dksX0_jarsBehind_1 17 rfl rfl)
theorem dX0_jarsBehind_42 : decode cX0_jarsBehind 42 = .ok (.iload_n 2, 1) := dk_28 (dk_at dksX0_jarsBehind_1 18 rfl rfl)
theorem dX0_jarsBehind_43 : decode cX0_jarsBehind 43 = .ok (.invokevirtual 400, 3) := dk_182 1 144 (dk_at dksX0_jarsBehind_1 19 rfl rfl)
theorem dX0_jarsBehind_46 : decode cX0_jarsBehind 46 = .ok (.aload 4, 2) := dk_25 4 (dk_at dksX0_jarsBehind_1 22 rfl rfl)
theorem dX0_jarsBehind_48 : decode cX0_jarsBehind 48 = .ok (.athrow, 1) := dk_191 (dk_at dksX0_jarsBehind_2 0 rfl rfl)
abbrev cX0_jarsShutting : ByteArray := prog_1_method_67_code
def yX0_jarsShutting : MethodName := ⟨RX0, "jarsShutting", "(II)I"⟩
def dkwX0_jarsShutting_4 : List UInt8 := [16, 24, 184, 1, 129, 25, 4, 191]
abbrev dktX0_jarsShutting_4 : List UInt8 := dkwX0_jarsShutting_4 ++ []
def dkwX0_jarsShutting_3 : List UInt8 := [180, 0, 67, 3, 16, 24, 184, 1, 129, 29, 172, 58, 4, 42, 180, 1, 60, 3, 42, 180, 0, 67, 3]
abbrev dktX0_jarsShutting_3 : List UInt8 := dkwX0_jarsShutting_3 ++ dktX0_jarsShutting_4
def dkwX0_jarsShutting_2 : List UInt8 := [180, 0, 67, 29, 46, 79, 132, 3, 1, 167, 255, 216, 42, 28, 182, 1, 188, 62, 42, 180, 1, 60, 3, 42]
abbrev dktX0_jarsShutting_2 : List UInt8 := dkwX0_jarsShutting_2 ++ dktX0_jarsShutting_3
def dkwX0_jarsShutting_1 : List UInt8 := [180, 0, 67, 29, 42, 180, 0, 67, 29, 46, 27, 160, 0, 12, 27, 4, 96, 16, 12, 112, 167, 0, 9, 42]
abbrev dktX0_jarsShutting_1 : List UInt8 := dkwX0_jarsShutting_1 ++ dktX0_jarsShutting_2
def dkwX0_jarsShutting_0 : List UInt8 := [42, 180, 0, 67, 3, 42, 180, 1, 60, 3, 16, 24, 184, 1, 129, 3, 62, 29, 16, 24, 162, 0, 40, 42]
abbrev dktX0_jarsShutting_0 : List UInt8 := dkwX0_jarsShutting_0 ++ dktX0_jarsShutting_1
theorem dksX0_jarsShutting_0 : cX0_jarsShutting.data.toList.drop 0 = dktX0_jarsShutting_0 := by decide +kernel
theorem dksX0_jarsShutting_1 : cX0_jarsShutting.data.toList.drop 24 = dktX0_jarsShutting_1 := dk_seg dksX0_jarsShutting_0 24 rfl rfl
theorem dksX0_jarsShutting_2 : cX0_jarsShutting.data.toList.drop 48 = dktX0_jarsShutting_2 := dk_seg dksX0_jarsShutting_1 24 rfl rfl
theorem dksX0_jarsShutting_3 : cX0_jarsShutting.data.toList.drop 72 = dktX0_jarsShutting_3 := dk_seg dksX0_jarsShutting_2 24 rfl rfl
theorem dksX0_jarsShutting_4 : cX0_jarsShutting.data.toList.drop 95 = dktX0_jarsShutting_4 := dk_seg dksX0_jarsShutting_3 23 rfl rfl
theorem dX0_jarsShutting_0 : decode cX0_jarsShutting 0 = .ok (.aload_n 0, 1) := dk_42 (dk_at dksX0_jarsShutting_0 0 rfl rfl)
theorem dX0_jarsShutting_1 : decode cX0_jarsShutting 1 = .ok (.getfield 67, 3) := dk_180 0 67 (dk_at dksX0_jarsShutting_0 1 rfl rfl)
theorem dX0_jarsShutting_4 : decode cX0_jarsShutting 4 = .ok (.iconst 0, 1) := dk_3 (dk_at dksX0_jarsShutting_0 4 rfl rfl)
theorem dX0_jarsShutting_5 : decode cX0_jarsShutting 5 = .ok (.aload_n 0, 1) := dk_42 (dk_at dksX0_jarsShutting_0 5 rfl rfl)
theorem dX0_jarsShutting_6 : decode cX0_jarsShutting 6 = .ok (.getfield 316, 3) := dk_180 1 60 (dk_at dksX0_jarsShutting_0 6 rfl rfl)
theorem dX0_jarsShutting_9 : decode cX0_jarsShutting 9 = .ok (.iconst 0, 1) := dk_3 (dk_at dksX0_jarsShutting_0 9 rfl rfl)
theorem dX0_jarsShutting_10 : decode cX0_jarsShutting 10 = .ok (.bipush 24, 2) := dk_16 24 (dk_at dksX0_jarsShutting_0 10 rfl rfl)
theorem dX0_jarsShutting_12 : decode cX0_jarsShutting 12 = .ok (.invokestatic 385, 3) := dk_184 1 129 (dk_at dksX0_jarsShutting_0 12 rfl rfl)
theorem dX0_jarsShutting_15 : decode cX0_jarsShutting 15 = .ok (.iconst 0, 1) := dk_3 (dk_at dksX0_jarsShutting_0 15 rfl rfl)
theorem dX0_jarsShutting_16 : decode cX0_jarsShutting 16 = .ok (.istore_n 3, 1) := dk_62 (dk_at dksX0_jarsShutting_0 16 rfl rfl)
theorem dX0_jarsShutting_17 : decode cX0_jarsShutting 17 = .ok (.iload_n 3, 1) := dk_29 (dk_at dksX0_jarsShutting_0 17 rfl rfl)
theorem dX0_jarsShutting_18 : decode cX0_jarsShutting 18 = .ok (.bipush 24, 2) := dk_16 24 (dk_at dksX0_jarsShutting_0 18 rfl rfl)
theorem dX0_jarsShutting_20 : decode cX0_jarsShutting 20 = .ok (.if_icmp .ge 40, 3) := dk_162 0 40 (dk_at dksX0_jarsShutting_0 20 rfl rfl)
theorem dX0_jarsShutting_23 : decode cX0_jarsShutting 23 = .ok (.aload_n 0, 1) := dk_42 (dk_at dksX0_jarsShutting_0 23 rfl rfl)
theorem dX0_jarsShutting_24 : decode cX0_jarsShutting 24 = .ok (.getfield 67, 3) := dk_180 0 67 (dk_at dksX0_jarsShutting_1 0 rfl rfl)
theorem dX0_jarsShutting_27 : decode cX0_jarsShutting 27 = .ok (.iload_n 3, 1) := dk_29 (dk_at dksX0_jarsShutting_1 3 rfl rfl)
theorem dX0_jarsShutting_28 : decode cX0_jarsShutting 28 = .ok (.aload_n 0, 1) := dk_42 (dk_at dksX0_jarsShutting_1 4 rfl rfl)
theorem dX0_jarsShutting_29 : decode cX0_jarsShutting 29 = .ok (.getfield 67, 3) := dk_180 0 67 (dk_at dksX0_jarsShutting_1 5 rfl rfl)
theorem dX0_jarsShutting_32 : decode cX0_jarsShutting 32 = .ok (.iload_n 3, 1) := dk_29 (dk_at dksX0_jarsShutting_1 8 rfl rfl)
theorem dX0_jarsShutting_33 : decode cX0_jarsShutting 33 = .ok (.iaload, 1) := dk_46 (dk_at dksX0_jarsShutting_1 9 rfl rfl)
theorem dX0_jarsShutting_34 : decode cX0_jarsShutting 34 = .ok (.iload_n 1, 1) := dk_27 (dk_at dksX0_jarsShutting_1 10 rfl rfl)
theorem dX0_jarsShutting_35 : decode cX0_jarsShutting 35 = .ok (.if_icmp .ne 12, 3) := dk_160 0 12 (dk_at dksX0_jarsShutting_1 11 rfl rfl)
theorem dX0_jarsShutting_38 : decode cX0_jarsShutting 38 = .ok (.iload_n 1, 1) := dk_27 (dk_at dksX0_jarsShutting_1 14 rfl rfl)
theorem dX0_jarsShutting_39 : decode cX0_jarsShutting 39 = .ok (.iconst 1, 1) := dk_4 (dk_at dksX0_jarsShutting_1 15 rfl rfl)
theorem dX0_jarsShutting_40 : decode cX0_jarsShutting 40 = .ok (.iadd, 1) := dk_96 (dk_at dksX0_jarsShutting_1 16 rfl rfl)
theorem dX0_jarsShutting_41 : decode cX0_jarsShutting 41 = .ok (.bipush 12, 2) := dk_16 12 (dk_at dksX0_jarsShutting_1 17 rfl rfl)
theorem dX0_jarsShutting_43 : decode cX0_jarsShutting 43 = .ok (.irem, 1) := dk_112 (dk_at dksX0_jarsShutting_1 19 rfl rfl)
theorem dX0_jarsShutting_44 : decode cX0_jarsShutting 44 = .ok (.goto 9, 3) := dk_167 0 9 (dk_at dksX0_jarsShutting_1 20 rfl rfl)
theorem dX0_jarsShutting_47 : decode cX0_jarsShutting 47 = .ok (.aload_n 0, 1) := dk_42 (dk_at dksX0_jarsShutting_1 23 rfl rfl)
theorem dX0_jarsShutting_48 : decode cX0_jarsShutting 48 = .ok (.getfield 67, 3) := dk_180 0 67 (dk_at dksX0_jarsShutting_2 0 rfl rfl)
theorem dX0_jarsShutting_51 : decode cX0_jarsShutting 51 = .ok (.iload_n 3, 1) := dk_29 (dk_at dksX0_jarsShutting_2 3 rfl rfl)
theorem dX0_jarsShutting_52 : decode cX0_jarsShutting 52 = .ok (.iaload, 1) := dk_46 (dk_at dksX0_jarsShutting_2 4 rfl rfl)
theorem dX0_jarsShutting_53 : decode cX0_jarsShutting 53 = .ok (.iastore, 1) := dk_79 (dk_at dksX0_jarsShutting_2 5 rfl rfl)
theorem dX0_jarsShutting_54 : decode cX0_jarsShutting 54 = .ok (.iinc 3 1, 3) := dk_132 3 1 (dk_at dksX0_jarsShutting_2 6 rfl rfl)
theorem dX0_jarsShutting_57 : decode cX0_jarsShutting 57 = .ok (.goto (-40), 3) := dk_167 255 216 (dk_at dksX0_jarsShutting_2 9 rfl rfl)
theorem dX0_jarsShutting_60 : decode cX0_jarsShutting 60 = .ok (.aload_n 0, 1) := dk_42 (dk_at dksX0_jarsShutting_2 12 rfl rfl)
theorem dX0_jarsShutting_61 : decode cX0_jarsShutting 61 = .ok (.iload_n 2, 1) := dk_28 (dk_at dksX0_jarsShutting_2 13 rfl rfl)
theorem dX0_jarsShutting_62 : decode cX0_jarsShutting 62 = .ok (.invokevirtual 444, 3) := dk_182 1 188 (dk_at dksX0_jarsShutting_2 14 rfl rfl)
theorem dX0_jarsShutting_65 : decode cX0_jarsShutting 65 = .ok (.istore_n 3, 1) := dk_62 (dk_at dksX0_jarsShutting_2 17 rfl rfl)
theorem dX0_jarsShutting_66 : decode cX0_jarsShutting 66 = .ok (.aload_n 0, 1) := dk_42 (dk_at dksX0_jarsShutting_2 18 rfl rfl)
theorem dX0_jarsShutting_67 : decode cX0_jarsShutting 67 = .ok (.getfield 316, 3) := dk_180 1 60 (dk_at dksX0_jarsShutting_2 19 rfl rfl)
theorem dX0_jarsShutting_70 : decode cX0_jarsShutting 70 = .ok (.iconst 0, 1) := dk_3 (dk_at dksX0_jarsShutting_2 22 rfl rfl)
theorem dX0_jarsShutting_71 : decode cX0_jarsShutting 71 = .ok (.aload_n 0, 1) := dk_42 (dk_at dksX0_jarsShutting_2 23 rfl rfl)
theorem dX0_jarsShutting_72 : decode cX0_jarsShutting 72 = .ok (.getfield 67, 3) := dk_180 0 67 (dk_at dksX0_jarsShutting_3 0 rfl rfl)
theorem dX0_jarsShutting_75 : decode cX0_jarsShutting 75 = .ok (.iconst 0, 1) := dk_3 (dk_at dksX0_jarsShutting_3 3 rfl rfl)
theorem dX0_jarsShutting_76 : decode cX0_jarsShutting 76 = .ok (.bipush 24, 2) := dk_16 24 (dk_at dksX0_jarsShutting_3 4 rfl rfl)
theorem dX0_jarsShutting_78 : decode cX0_jarsShutting 78 = .ok (.invokestatic 385, 3) := dk_184 1 129 (dk_at dksX0_jarsShutting_3 6 rfl rfl)
theorem dX0_jarsShutting_81 : decode cX0_jarsShutting 81 = .ok (.iload_n 3, 1) := dk_29 (dk_at dksX0_jarsShutting_3 9 rfl rfl)
theorem dX0_jarsShutting_82 : decode cX0_jarsShutting 82 = .ok (.ireturn, 1) := dk_172 (dk_at dksX0_jarsShutting_3 10 rfl rfl)
theorem dX0_jarsShutting_83 : decode cX0_jarsShutting 83 = .ok (.astore 4, 2) := dk_58 4 (dk_at dksX0_jarsShutting_3 11 rfl rfl)
theorem dX0_jarsShutting_85 : decode cX0_jarsShutting 85 = .ok (.aload_n 0, 1) := dk_42 (dk_at dksX0_jarsShutting_3 13 rfl rfl)
theorem dX0_jarsShutting_86 : decode cX0_jarsShutting 86 = .ok (.getfield 316, 3) := dk_180 1 60 (dk_at dksX0_jarsShutting_3 14 rfl rfl)
theorem dX0_jarsShutting_89 : decode cX0_jarsShutting 89 = .ok (.iconst 0, 1) := dk_3 (dk_at dksX0_jarsShutting_3 17 rfl rfl)
theorem dX0_jarsShutting_90 : decode cX0_jarsShutting 90 = .ok (.aload_n 0, 1) := dk_42 (dk_at dksX0_jarsShutting_3 18 rfl rfl)
theorem dX0_jarsShutting_91 : decode cX0_jarsShutting 91 = .ok (.getfield 67, 3) := dk_180 0 67 (dk_at dksX0_jarsShutting_3 19 rfl rfl)
theorem dX0_jarsShutting_94 : decode cX0_jarsShutting 94 = .ok (.iconst 0, 1) := dk_3 (dk_at dksX0_jarsShutting_3 22 rfl rfl)
theorem dX0_jarsShutting_95 : decode cX0_jarsShutting 95 = .ok (.bipush 24, 2) := dk_16 24 (dk_at dksX0_jarsShutting_4 0 rfl rfl)
theorem dX0_jarsShutting_97 : decode cX0_jarsShutting 97 = .ok (.invokestatic 385, 3) := dk_184 1 129 (dk_at dksX0_jarsShutting_4 2 rfl rfl)
theorem dX0_jarsShutting_100 : decode cX0_jarsShutting 100 = .ok (.aload 4, 2) := dk_25 4 (dk_at dksX0_jarsShutting_4 5 rfl rfl)
theorem dX0_jarsShutting_102 : decode cX0_jarsShutting 102 = .ok (.athrow, 1) := dk_191 (dk_at dksX0_jarsShutting_4 7 rfl rfl)
abbrev cX0_best : ByteArray := prog_1_method_71_code
def yX0_best : MethodName := ⟨RX0, "best", "(II)I"⟩
def dkwX0_best_2 : List UInt8 := [182, 1, 197, 172]
abbrev dktX0_best_2 : List UInt8 := dkwX0_best_2 ++ []
def dkwX0_best_1 : List UInt8 := [28, 5, 160, 0, 10, 42, 182, 1, 194, 167, 0, 17, 42, 27, 28, 154, 0, 7, 4, 167, 0, 4, 3]
abbrev dktX0_best_1 : List UInt8 := dkwX0_best_1 ++ dktX0_best_2
def dkwX0_best_0 : List UInt8 := [42, 27, 182, 0, 64, 153, 0, 15, 28, 133, 9, 20, 1, 147, 184, 0, 14, 154, 0, 7, 17, 252, 24, 172]
abbrev dktX0_best_0 : List UInt8 := dkwX0_best_0 ++ dktX0_best_1
theorem dksX0_best_0 : cX0_best.data.toList.drop 0 = dktX0_best_0 := by decide +kernel
theorem dksX0_best_1 : cX0_best.data.toList.drop 24 = dktX0_best_1 := dk_seg dksX0_best_0 24 rfl rfl
theorem dksX0_best_2 : cX0_best.data.toList.drop 47 = dktX0_best_2 := dk_seg dksX0_best_1 23 rfl rfl
theorem dX0_best_0 : decode cX0_best 0 = .ok (.aload_n 0, 1) := dk_42 (dk_at dksX0_best_0 0 rfl rfl)
theorem dX0_best_1 : decode cX0_best 1 = .ok (.iload_n 1, 1) := dk_27 (dk_at dksX0_best_0 1 rfl rfl)
theorem dX0_best_2 : decode cX0_best 2 = .ok (.invokevirtual 64, 3) := dk_182 0 64 (dk_at dksX0_best_0 2 rfl rfl)
theorem dX0_best_5 : decode cX0_best 5 = .ok (.ifCond .eq 15, 3) := dk_153 0 15 (dk_at dksX0_best_0 5 rfl rfl)
theorem dX0_best_8 : decode cX0_best 8 = .ok (.iload_n 2, 1) := dk_28 (dk_at dksX0_best_0 8 rfl rfl)
theorem dX0_best_9 : decode cX0_best 9 = .ok (.i2l, 1) := dk_133 (dk_at dksX0_best_0 9 rfl rfl)
theorem dX0_best_10 : decode cX0_best 10 = .ok (.lconst 0, 1) := dk_9 (dk_at dksX0_best_0 10 rfl rfl)
theorem dX0_best_11 : decode cX0_best 11 = .ok (.ldc2_w 403, 3) := dk_20 1 147 (dk_at dksX0_best_0 11 rfl rfl)
theorem dX0_best_14 : decode cX0_best 14 = .ok (.invokestatic 14, 3) := dk_184 0 14 (dk_at dksX0_best_0 14 rfl rfl)
theorem dX0_best_17 : decode cX0_best 17 = .ok (.ifCond .ne 7, 3) := dk_154 0 7 (dk_at dksX0_best_0 17 rfl rfl)
theorem dX0_best_20 : decode cX0_best 20 = .ok (.sipush (-1000), 3) := dk_17 252 24 (dk_at dksX0_best_0 20 rfl rfl)
theorem dX0_best_23 : decode cX0_best 23 = .ok (.ireturn, 1) := dk_172 (dk_at dksX0_best_0 23 rfl rfl)
theorem dX0_best_24 : decode cX0_best 24 = .ok (.iload_n 2, 1) := dk_28 (dk_at dksX0_best_1 0 rfl rfl)
theorem dX0_best_25 : decode cX0_best 25 = .ok (.iconst 2, 1) := dk_5 (dk_at dksX0_best_1 1 rfl rfl)
theorem dX0_best_26 : decode cX0_best 26 = .ok (.if_icmp .ne 10, 3) := dk_160 0 10 (dk_at dksX0_best_1 2 rfl rfl)
theorem dX0_best_29 : decode cX0_best 29 = .ok (.aload_n 0, 1) := dk_42 (dk_at dksX0_best_1 5 rfl rfl)
theorem dX0_best_30 : decode cX0_best 30 = .ok (.invokevirtual 450, 3) := dk_182 1 194 (dk_at dksX0_best_1 6 rfl rfl)
theorem dX0_best_33 : decode cX0_best 33 = .ok (.goto 17, 3) := dk_167 0 17 (dk_at dksX0_best_1 9 rfl rfl)
theorem dX0_best_36 : decode cX0_best 36 = .ok (.aload_n 0, 1) := dk_42 (dk_at dksX0_best_1 12 rfl rfl)
theorem dX0_best_37 : decode cX0_best 37 = .ok (.iload_n 1, 1) := dk_27 (dk_at dksX0_best_1 13 rfl rfl)
theorem dX0_best_38 : decode cX0_best 38 = .ok (.iload_n 2, 1) := dk_28 (dk_at dksX0_best_1 14 rfl rfl)
theorem dX0_best_39 : decode cX0_best 39 = .ok (.ifCond .ne 7, 3) := dk_154 0 7 (dk_at dksX0_best_1 15 rfl rfl)
theorem dX0_best_42 : decode cX0_best 42 = .ok (.iconst 1, 1) := dk_4 (dk_at dksX0_best_1 18 rfl rfl)
theorem dX0_best_43 : decode cX0_best 43 = .ok (.goto 4, 3) := dk_167 0 4 (dk_at dksX0_best_1 19 rfl rfl)
theorem dX0_best_46 : decode cX0_best 46 = .ok (.iconst 0, 1) := dk_3 (dk_at dksX0_best_1 22 rfl rfl)
theorem dX0_best_47 : decode cX0_best 47 = .ok (.invokevirtual 453, 3) := dk_182 1 197 (dk_at dksX0_best_2 0 rfl rfl)
theorem dX0_best_50 : decode cX0_best 50 = .ok (.ireturn, 1) := dk_172 (dk_at dksX0_best_2 3 rfl rfl)
abbrev cX0_shelf : ByteArray := prog_1_method_70_code
def yX0_shelf : MethodName := ⟨RX0, "shelf", "()I"⟩
def dkwX0_shelf_1 : List UInt8 := [167, 0, 4, 27, 60, 28, 42, 180, 0, 71, 29, 46, 184, 0, 7, 61, 132, 3, 1, 167, 255, 220, 27, 172]
abbrev dktX0_shelf_1 : List UInt8 := dkwX0_shelf_1 ++ []
def dkwX0_shelf_0 : List UInt8 := [2, 60, 3, 61, 3, 62, 29, 16, 24, 162, 0, 36, 42, 180, 0, 71, 29, 46, 28, 164, 0, 7, 29]
abbrev dktX0_shelf_0 : List UInt8 := dkwX0_shelf_0 ++ dktX0_shelf_1
theorem dksX0_shelf_0 : cX0_shelf.data.toList.drop 0 = dktX0_shelf_0 := by decide +kernel
theorem dksX0_shelf_1 : cX0_shelf.data.toList.drop 23 = dktX0_shelf_1 := dk_seg dksX0_shelf_0 23 rfl rfl
theorem dX0_shelf_0 : decode cX0_shelf 0 = .ok (.iconst (-1), 1) := dk_2 (dk_at dksX0_shelf_0 0 rfl rfl)
theorem dX0_shelf_1 : decode cX0_shelf 1 = .ok (.istore_n 1, 1) := dk_60 (dk_at dksX0_shelf_0 1 rfl rfl)
theorem dX0_shelf_2 : decode cX0_shelf 2 = .ok (.iconst 0, 1) := dk_3 (dk_at dksX0_shelf_0 2 rfl rfl)
theorem dX0_shelf_3 : decode cX0_shelf 3 = .ok (.istore_n 2, 1) := dk_61 (dk_at dksX0_shelf_0 3 rfl rfl)
theorem dX0_shelf_4 : decode cX0_shelf 4 = .ok (.iconst 0, 1) := dk_3 (dk_at dksX0_shelf_0 4 rfl rfl)
theorem dX0_shelf_5 : decode cX0_shelf 5 = .ok (.istore_n 3, 1) := dk_62 (dk_at dksX0_shelf_0 5 rfl rfl)
theorem dX0_shelf_6 : decode cX0_shelf 6 = .ok (.iload_n 3, 1) := dk_29 (dk_at dksX0_shelf_0 6 rfl rfl)
theorem dX0_shelf_7 : decode cX0_shelf 7 = .ok (.bipush 24, 2) := dk_16 24 (dk_at dksX0_shelf_0 7 rfl rfl)
theorem dX0_shelf_9 : decode cX0_shelf 9 = .ok (.if_icmp .ge 36, 3) := dk_162 0 36 (dk_at dksX0_shelf_0 9 rfl rfl)
theorem dX0_shelf_12 : decode cX0_shelf 12 = .ok (.aload_n 0, 1) := dk_42 (dk_at dksX0_shelf_0 12 rfl rfl)
theorem dX0_shelf_13 : decode cX0_shelf 13 = .ok (.getfield 71, 3) := dk_180 0 71 (dk_at dksX0_shelf_0 13 rfl rfl)
theorem dX0_shelf_16 : decode cX0_shelf 16 = .ok (.iload_n 3, 1) := dk_29 (dk_at dksX0_shelf_0 16 rfl rfl)
theorem dX0_shelf_17 : decode cX0_shelf 17 = .ok (.iaload, 1) := dk_46 (dk_at dksX0_shelf_0 17 rfl rfl)
theorem dX0_shelf_18 : decode cX0_shelf 18 = .ok (.iload_n 2, 1) := dk_28 (dk_at dksX0_shelf_0 18 rfl rfl)
theorem dX0_shelf_19 : decode cX0_shelf 19 = .ok (.if_icmp .le 7, 3) := dk_164 0 7 (dk_at dksX0_shelf_0 19 rfl rfl)
theorem dX0_shelf_22 : decode cX0_shelf 22 = .ok (.iload_n 3, 1) := dk_29 (dk_at dksX0_shelf_0 22 rfl rfl)
theorem dX0_shelf_23 : decode cX0_shelf 23 = .ok (.goto 4, 3) := dk_167 0 4 (dk_at dksX0_shelf_1 0 rfl rfl)
theorem dX0_shelf_26 : decode cX0_shelf 26 = .ok (.iload_n 1, 1) := dk_27 (dk_at dksX0_shelf_1 3 rfl rfl)
theorem dX0_shelf_27 : decode cX0_shelf 27 = .ok (.istore_n 1, 1) := dk_60 (dk_at dksX0_shelf_1 4 rfl rfl)
theorem dX0_shelf_28 : decode cX0_shelf 28 = .ok (.iload_n 2, 1) := dk_28 (dk_at dksX0_shelf_1 5 rfl rfl)
theorem dX0_shelf_29 : decode cX0_shelf 29 = .ok (.aload_n 0, 1) := dk_42 (dk_at dksX0_shelf_1 6 rfl rfl)
theorem dX0_shelf_30 : decode cX0_shelf 30 = .ok (.getfield 71, 3) := dk_180 0 71 (dk_at dksX0_shelf_1 7 rfl rfl)
theorem dX0_shelf_33 : decode cX0_shelf 33 = .ok (.iload_n 3, 1) := dk_29 (dk_at dksX0_shelf_1 10 rfl rfl)
theorem dX0_shelf_34 : decode cX0_shelf 34 = .ok (.iaload, 1) := dk_46 (dk_at dksX0_shelf_1 11 rfl rfl)
theorem dX0_shelf_35 : decode cX0_shelf 35 = .ok (.invokestatic 7, 3) := dk_184 0 7 (dk_at dksX0_shelf_1 12 rfl rfl)
theorem dX0_shelf_38 : decode cX0_shelf 38 = .ok (.istore_n 2, 1) := dk_61 (dk_at dksX0_shelf_1 15 rfl rfl)
theorem dX0_shelf_39 : decode cX0_shelf 39 = .ok (.iinc 3 1, 3) := dk_132 3 1 (dk_at dksX0_shelf_1 16 rfl rfl)
theorem dX0_shelf_42 : decode cX0_shelf 42 = .ok (.goto (-36), 3) := dk_167 255 220 (dk_at dksX0_shelf_1 19 rfl rfl)
theorem dX0_shelf_45 : decode cX0_shelf 45 = .ok (.iload_n 1, 1) := dk_27 (dk_at dksX0_shelf_1 22 rfl rfl)
theorem dX0_shelf_46 : decode cX0_shelf 46 = .ok (.ireturn, 1) := dk_172 (dk_at dksX0_shelf_1 23 rfl rfl)
abbrev cX0_bestSpoon : ByteArray := prog_1_method_69_code
def yX0_bestSpoon : MethodName := ⟨RX0, "bestSpoon", "(IZ)I"⟩
def dkwX0_bestSpoon_4 : List UInt8 := [132, 5, 1, 167, 255, 168, 28, 153, 0, 7, 29, 167, 0, 5, 21, 4, 172]
abbrev dktX0_bestSpoon_4 : List UInt8 := dkwX0_bestSpoon_4 ++ []
def dkwX0_bestSpoon_3 : List UInt8 := [153, 0, 8, 21, 5, 167, 0, 4, 29, 62, 21, 7, 153, 0, 8, 21, 6, 167, 0, 5, 21, 4, 54, 4]
abbrev dktX0_bestSpoon_3 : List UInt8 := dkwX0_bestSpoon_3 ++ dktX0_bestSpoon_4
def dkwX0_bestSpoon_2 : List UInt8 := [158, 0, 19, 29, 2, 159, 0, 10, 21, 6, 21, 4, 164, 0, 7, 4, 167, 0, 4, 3, 54, 7, 21, 7]
abbrev dktX0_bestSpoon_2 : List UInt8 := dkwX0_bestSpoon_2 ++ dktX0_bestSpoon_3
def dkwX0_bestSpoon_1 : List UInt8 := [158, 0, 13, 42, 27, 21, 5, 182, 1, 117, 167, 0, 4, 3, 54, 6, 42, 180, 0, 71, 21, 5, 46]
abbrev dktX0_bestSpoon_1 : List UInt8 := dkwX0_bestSpoon_1 ++ dktX0_bestSpoon_2
def dkwX0_bestSpoon_0 : List UInt8 := [2, 62, 3, 54, 4, 3, 54, 5, 21, 5, 16, 24, 162, 0, 87, 42, 180, 0, 71, 21, 5, 46]
abbrev dktX0_bestSpoon_0 : List UInt8 := dkwX0_bestSpoon_0 ++ dktX0_bestSpoon_1
theorem dksX0_bestSpoon_0 : cX0_bestSpoon.data.toList.drop 0 = dktX0_bestSpoon_0 := by decide +kernel
theorem dksX0_bestSpoon_1 : cX0_bestSpoon.data.toList.drop 22 = dktX0_bestSpoon_1 := dk_seg dksX0_bestSpoon_0 22 rfl rfl
theorem dksX0_bestSpoon_2 : cX0_bestSpoon.data.toList.drop 45 = dktX0_bestSpoon_2 := dk_seg dksX0_bestSpoon_1 23 rfl rfl
theorem dksX0_bestSpoon_3 : cX0_bestSpoon.data.toList.drop 69 = dktX0_bestSpoon_3 := dk_seg dksX0_bestSpoon_2 24 rfl rfl
theorem dksX0_bestSpoon_4 : cX0_bestSpoon.data.toList.drop 93 = dktX0_bestSpoon_4 := dk_seg dksX0_bestSpoon_3 24 rfl rfl
theorem dX0_bestSpoon_0 : decode cX0_bestSpoon 0 = .ok (.iconst (-1), 1) := dk_2 (dk_at dksX0_bestSpoon_0 0 rfl rfl)
theorem dX0_bestSpoon_1 : decode cX0_bestSpoon 1 = .ok (.istore_n 3, 1) := dk_62 (dk_at dksX0_bestSpoon_0 1 rfl rfl)
theorem dX0_bestSpoon_2 : decode cX0_bestSpoon 2 = .ok (.iconst 0, 1) := dk_3 (dk_at dksX0_bestSpoon_0 2 rfl rfl)
theorem dX0_bestSpoon_3 : decode cX0_bestSpoon 3 = .ok (.istore 4, 2) := dk_54 4 (dk_at dksX0_bestSpoon_0 3 rfl rfl)
theorem dX0_bestSpoon_5 : decode cX0_bestSpoon 5 = .ok (.iconst 0, 1) := dk_3 (dk_at dksX0_bestSpoon_0 5 rfl rfl)
theorem dX0_bestSpoon_6 : decode cX0_bestSpoon 6 = .ok (.istore 5, 2) := dk_54 5 (dk_at dksX0_bestSpoon_0 6 rfl rfl)
theorem dX0_bestSpoon_8 : decode cX0_bestSpoon 8 = .ok (.iload 5, 2) := dk_21 5 (dk_at dksX0_bestSpoon_0 8 rfl rfl)
theorem dX0_bestSpoon_10 : decode cX0_bestSpoon 10 = .ok (.bipush 24, 2) := dk_16 24 (dk_at dksX0_bestSpoon_0 10 rfl rfl)
theorem dX0_bestSpoon_12 : decode cX0_bestSpoon 12 = .ok (.if_icmp .ge 87, 3) := dk_162 0 87 (dk_at dksX0_bestSpoon_0 12 rfl rfl)
theorem dX0_bestSpoon_15 : decode cX0_bestSpoon 15 = .ok (.aload_n 0, 1) := dk_42 (dk_at dksX0_bestSpoon_0 15 rfl rfl)
theorem dX0_bestSpoon_16 : decode cX0_bestSpoon 16 = .ok (.getfield 71, 3) := dk_180 0 71 (dk_at dksX0_bestSpoon_0 16 rfl rfl)
theorem dX0_bestSpoon_19 : decode cX0_bestSpoon 19 = .ok (.iload 5, 2) := dk_21 5 (dk_at dksX0_bestSpoon_0 19 rfl rfl)
theorem dX0_bestSpoon_21 : decode cX0_bestSpoon 21 = .ok (.iaload, 1) := dk_46 (dk_at dksX0_bestSpoon_0 21 rfl rfl)
theorem dX0_bestSpoon_22 : decode cX0_bestSpoon 22 = .ok (.ifCond .le 13, 3) := dk_158 0 13 (dk_at dksX0_bestSpoon_1 0 rfl rfl)
theorem dX0_bestSpoon_25 : decode cX0_bestSpoon 25 = .ok (.aload_n 0, 1) := dk_42 (dk_at dksX0_bestSpoon_1 3 rfl rfl)
theorem dX0_bestSpoon_26 : decode cX0_bestSpoon 26 = .ok (.iload_n 1, 1) := dk_27 (dk_at dksX0_bestSpoon_1 4 rfl rfl)
theorem dX0_bestSpoon_27 : decode cX0_bestSpoon 27 = .ok (.iload 5, 2) := dk_21 5 (dk_at dksX0_bestSpoon_1 5 rfl rfl)
theorem dX0_bestSpoon_29 : decode cX0_bestSpoon 29 = .ok (.invokevirtual 373, 3) := dk_182 1 117 (dk_at dksX0_bestSpoon_1 7 rfl rfl)
theorem dX0_bestSpoon_32 : decode cX0_bestSpoon 32 = .ok (.goto 4, 3) := dk_167 0 4 (dk_at dksX0_bestSpoon_1 10 rfl rfl)
theorem dX0_bestSpoon_35 : decode cX0_bestSpoon 35 = .ok (.iconst 0, 1) := dk_3 (dk_at dksX0_bestSpoon_1 13 rfl rfl)
theorem dX0_bestSpoon_36 : decode cX0_bestSpoon 36 = .ok (.istore 6, 2) := dk_54 6 (dk_at dksX0_bestSpoon_1 14 rfl rfl)
theorem dX0_bestSpoon_38 : decode cX0_bestSpoon 38 = .ok (.aload_n 0, 1) := dk_42 (dk_at dksX0_bestSpoon_1 16 rfl rfl)
theorem dX0_bestSpoon_39 : decode cX0_bestSpoon 39 = .ok (.getfield 71, 3) := dk_180 0 71 (dk_at dksX0_bestSpoon_1 17 rfl rfl)
theorem dX0_bestSpoon_42 : decode cX0_bestSpoon 42 = .ok (.iload 5, 2) := dk_21 5 (dk_at dksX0_bestSpoon_1 20 rfl rfl)
theorem dX0_bestSpoon_44 : decode cX0_bestSpoon 44 = .ok (.iaload, 1) := dk_46 (dk_at dksX0_bestSpoon_1 22 rfl rfl)
theorem dX0_bestSpoon_45 : decode cX0_bestSpoon 45 = .ok (.ifCond .le 19, 3) := dk_158 0 19 (dk_at dksX0_bestSpoon_2 0 rfl rfl)
theorem dX0_bestSpoon_48 : decode cX0_bestSpoon 48 = .ok (.iload_n 3, 1) := dk_29 (dk_at dksX0_bestSpoon_2 3 rfl rfl)
theorem dX0_bestSpoon_49 : decode cX0_bestSpoon 49 = .ok (.iconst (-1), 1) := dk_2 (dk_at dksX0_bestSpoon_2 4 rfl rfl)
theorem dX0_bestSpoon_50 : decode cX0_bestSpoon 50 = .ok (.if_icmp .eq 10, 3) := dk_159 0 10 (dk_at dksX0_bestSpoon_2 5 rfl rfl)
theorem dX0_bestSpoon_53 : decode cX0_bestSpoon 53 = .ok (.iload 6, 2) := dk_21 6 (dk_at dksX0_bestSpoon_2 8 rfl rfl)
theorem dX0_bestSpoon_55 : decode cX0_bestSpoon 55 = .ok (.iload 4, 2) := dk_21 4 (dk_at dksX0_bestSpoon_2 10 rfl rfl)
theorem dX0_bestSpoon_57 : decode cX0_bestSpoon 57 = .ok (.if_icmp .le 7, 3) := dk_164 0 7 (dk_at dksX0_bestSpoon_2 12 rfl rfl)
theorem dX0_bestSpoon_60 : decode cX0_bestSpoon 60 = .ok (.iconst 1, 1) := dk_4 (dk_at dksX0_bestSpoon_2 15 rfl rfl)
theorem dX0_bestSpoon_61 : decode cX0_bestSpoon 61 = .ok (.goto 4, 3) := dk_167 0 4 (dk_at dksX0_bestSpoon_2 16 rfl rfl)
theorem dX0_bestSpoon_64 : decode cX0_bestSpoon 64 = .ok (.iconst 0, 1) := dk_3 (dk_at dksX0_bestSpoon_2 19 rfl rfl)
theorem dX0_bestSpoon_65 : decode cX0_bestSpoon 65 = .ok (.istore 7, 2) := dk_54 7 (dk_at dksX0_bestSpoon_2 20 rfl rfl)
theorem dX0_bestSpoon_67 : decode cX0_bestSpoon 67 = .ok (.iload 7, 2) := dk_21 7 (dk_at dksX0_bestSpoon_2 22 rfl rfl)
theorem dX0_bestSpoon_69 : decode cX0_bestSpoon 69 = .ok (.ifCond .eq 8, 3) := dk_153 0 8 (dk_at dksX0_bestSpoon_3 0 rfl rfl)
theorem dX0_bestSpoon_72 : decode cX0_bestSpoon 72 = .ok (.iload 5, 2) := dk_21 5 (dk_at dksX0_bestSpoon_3 3 rfl rfl)
theorem dX0_bestSpoon_74 : decode cX0_bestSpoon 74 = .ok (.goto 4, 3) := dk_167 0 4 (dk_at dksX0_bestSpoon_3 5 rfl rfl)
theorem dX0_bestSpoon_77 : decode cX0_bestSpoon 77 = .ok (.iload_n 3, 1) := dk_29 (dk_at dksX0_bestSpoon_3 8 rfl rfl)
theorem dX0_bestSpoon_78 : decode cX0_bestSpoon 78 = .ok (.istore_n 3, 1) := dk_62 (dk_at dksX0_bestSpoon_3 9 rfl rfl)
theorem dX0_bestSpoon_79 : decode cX0_bestSpoon 79 = .ok (.iload 7, 2) := dk_21 7 (dk_at dksX0_bestSpoon_3 10 rfl rfl)
theorem dX0_bestSpoon_81 : decode cX0_bestSpoon 81 = .ok (.ifCond .eq 8, 3) := dk_153 0 8 (dk_at dksX0_bestSpoon_3 12 rfl rfl)
theorem dX0_bestSpoon_84 : decode cX0_bestSpoon 84 = .ok (.iload 6, 2) := dk_21 6 (dk_at dksX0_bestSpoon_3 15 rfl rfl)
theorem dX0_bestSpoon_86 : decode cX0_bestSpoon 86 = .ok (.goto 5, 3) := dk_167 0 5 (dk_at dksX0_bestSpoon_3 17 rfl rfl)
theorem dX0_bestSpoon_89 : decode cX0_bestSpoon 89 = .ok (.iload 4, 2) := dk_21 4 (dk_at dksX0_bestSpoon_3 20 rfl rfl)
theorem dX0_bestSpoon_91 : decode cX0_bestSpoon 91 = .ok (.istore 4, 2) := dk_54 4 (dk_at dksX0_bestSpoon_3 22 rfl rfl)
theorem dX0_bestSpoon_93 : decode cX0_bestSpoon 93 = .ok (.iinc 5 1, 3) := dk_132 5 1 (dk_at dksX0_bestSpoon_4 0 rfl rfl)
theorem dX0_bestSpoon_96 : decode cX0_bestSpoon 96 = .ok (.goto (-88), 3) := dk_167 255 168 (dk_at dksX0_bestSpoon_4 3 rfl rfl)
theorem dX0_bestSpoon_99 : decode cX0_bestSpoon 99 = .ok (.iload_n 2, 1) := dk_28 (dk_at dksX0_bestSpoon_4 6 rfl rfl)
theorem dX0_bestSpoon_100 : decode cX0_bestSpoon 100 = .ok (.ifCond .eq 7, 3) := dk_153 0 7 (dk_at dksX0_bestSpoon_4 7 rfl rfl)
theorem dX0_bestSpoon_103 : decode cX0_bestSpoon 103 = .ok (.iload_n 3, 1) := dk_29 (dk_at dksX0_bestSpoon_4 10 rfl rfl)
theorem dX0_bestSpoon_104 : decode cX0_bestSpoon 104 = .ok (.goto 5, 3) := dk_167 0 5 (dk_at dksX0_bestSpoon_4 11 rfl rfl)
theorem dX0_bestSpoon_107 : decode cX0_bestSpoon 107 = .ok (.iload 4, 2) := dk_21 4 (dk_at dksX0_bestSpoon_4 14 rfl rfl)
theorem dX0_bestSpoon_109 : decode cX0_bestSpoon 109 = .ok (.ireturn, 1) := dk_172 (dk_at dksX0_bestSpoon_4 16 rfl rfl)
abbrev cX0_tells : ByteArray := prog_1_method_80_code
def yX0_tells : MethodName := ⟨RX0, "tells", "(III)I"⟩
def dkwX0_tells_6 : List UInt8 := [4, 167, 0, 4, 3, 182, 1, 242, 172, 42, 25, 4, 28, 182, 1, 246, 172, 42, 25, 4, 182, 1, 249, 172]
abbrev dktX0_tells_6 : List UInt8 := dkwX0_tells_6 ++ []
def dkwX0_tells_5 : List UInt8 := [182, 1, 238, 172, 42, 25, 4, 28, 7, 16, 11, 182, 1, 238, 172, 42, 25, 4, 28, 29, 8, 160, 0, 7]
abbrev dktX0_tells_5 : List UInt8 := dkwX0_tells_5 ++ dktX0_tells_6
def dkwX0_tells_4 : List UInt8 := [42, 25, 4, 28, 182, 1, 217, 172, 42, 25, 4, 28, 182, 1, 235, 172, 42, 25, 4, 28, 6, 16, 9]
abbrev dktX0_tells_4 : List UInt8 := dkwX0_tells_4 ++ dktX0_tells_5
def dkwX0_tells_3 : List UInt8 := [170, 0, 0, 0, 105, 0, 0, 0, 0, 0, 0, 0, 6, 0, 0, 0, 41, 0, 0, 0, 49, 0, 0, 0, 57, 0, 0, 0, 68, 0, 0, 0, 79, 0, 0, 0, 79, 0, 0, 0, 97]
abbrev dktX0_tells_3 : List UInt8 := dkwX0_tells_3 ++ dktX0_tells_4
def dkwX0_tells_2 : List UInt8 := [17, 252, 13, 172, 25, 4, 25, 4, 184, 1, 201, 184, 1, 205, 16, 30, 164, 0, 7, 17, 252, 21, 172, 29]
abbrev dktX0_tells_2 : List UInt8 := dkwX0_tells_2 ++ dktX0_tells_3
def dkwX0_tells_1 : List UInt8 := [154, 0, 7, 17, 252, 22, 172, 42, 180, 1, 77, 27, 50, 180, 1, 231, 58, 4, 25, 4, 199, 0, 7]
abbrev dktX0_tells_1 : List UInt8 := dkwX0_tells_1 ++ dktX0_tells_2
def dkwX0_tells_0 : List UInt8 := [27, 184, 1, 228, 153, 0, 23, 42, 28, 182, 0, 64, 153, 0, 15, 29, 133, 9, 20, 0, 111, 184, 0, 14]
abbrev dktX0_tells_0 : List UInt8 := dkwX0_tells_0 ++ dktX0_tells_1
theorem dksX0_tells_0 : cX0_tells.data.toList.drop 0 = dktX0_tells_0 := by decide +kernel
theorem dksX0_tells_1 : cX0_tells.data.toList.drop 24 = dktX0_tells_1 := dk_seg dksX0_tells_0 24 rfl rfl
theorem dksX0_tells_2 : cX0_tells.data.toList.drop 47 = dktX0_tells_2 := dk_seg dksX0_tells_1 23 rfl rfl
theorem dksX0_tells_3 : cX0_tells.data.toList.drop 71 = dktX0_tells_3 := dk_seg dksX0_tells_2 24 rfl rfl
theorem dksX0_tells_4 : cX0_tells.data.toList.drop 112 = dktX0_tells_4 := dk_seg dksX0_tells_3 41 rfl rfl
theorem dksX0_tells_5 : cX0_tells.data.toList.drop 135 = dktX0_tells_5 := dk_seg dksX0_tells_4 23 rfl rfl
theorem dksX0_tells_6 : cX0_tells.data.toList.drop 159 = dktX0_tells_6 := dk_seg dksX0_tells_5 24 rfl rfl
theorem dX0_tells_0 : decode cX0_tells 0 = .ok (.iload_n 1, 1) := dk_27 (dk_at dksX0_tells_0 0 rfl rfl)
theorem dX0_tells_1 : decode cX0_tells 1 = .ok (.invokestatic 484, 3) := dk_184 1 228 (dk_at dksX0_tells_0 1 rfl rfl)
theorem dX0_tells_4 : decode cX0_tells 4 = .ok (.ifCond .eq 23, 3) := dk_153 0 23 (dk_at dksX0_tells_0 4 rfl rfl)
theorem dX0_tells_7 : decode cX0_tells 7 = .ok (.aload_n 0, 1) := dk_42 (dk_at dksX0_tells_0 7 rfl rfl)
theorem dX0_tells_8 : decode cX0_tells 8 = .ok (.iload_n 2, 1) := dk_28 (dk_at dksX0_tells_0 8 rfl rfl)
theorem dX0_tells_9 : decode cX0_tells 9 = .ok (.invokevirtual 64, 3) := dk_182 0 64 (dk_at dksX0_tells_0 9 rfl rfl)
theorem dX0_tells_12 : decode cX0_tells 12 = .ok (.ifCond .eq 15, 3) := dk_153 0 15 (dk_at dksX0_tells_0 12 rfl rfl)
theorem dX0_tells_15 : decode cX0_tells 15 = .ok (.iload_n 3, 1) := dk_29 (dk_at dksX0_tells_0 15 rfl rfl)
theorem dX0_tells_16 : decode cX0_tells 16 = .ok (.i2l, 1) := dk_133 (dk_at dksX0_tells_0 16 rfl rfl)
theorem dX0_tells_17 : decode cX0_tells 17 = .ok (.lconst 0, 1) := dk_9 (dk_at dksX0_tells_0 17 rfl rfl)
theorem dX0_tells_18 : decode cX0_tells 18 = .ok (.ldc2_w 111, 3) := dk_20 0 111 (dk_at dksX0_tells_0 18 rfl rfl)
theorem dX0_tells_21 : decode cX0_tells 21 = .ok (.invokestatic 14, 3) := dk_184 0 14 (dk_at dksX0_tells_0 21 rfl rfl)
theorem dX0_tells_24 : decode cX0_tells 24 = .ok (.ifCond .ne 7, 3) := dk_154 0 7 (dk_at dksX0_tells_1 0 rfl rfl)
theorem dX0_tells_27 : decode cX0_tells 27 = .ok (.sipush (-1002), 3) := dk_17 252 22 (dk_at dksX0_tells_1 3 rfl rfl)
theorem dX0_tells_30 : decode cX0_tells 30 = .ok (.ireturn, 1) := dk_172 (dk_at dksX0_tells_1 6 rfl rfl)
theorem dX0_tells_31 : decode cX0_tells 31 = .ok (.aload_n 0, 1) := dk_42 (dk_at dksX0_tells_1 7 rfl rfl)
theorem dX0_tells_32 : decode cX0_tells 32 = .ok (.getfield 333, 3) := dk_180 1 77 (dk_at dksX0_tells_1 8 rfl rfl)
theorem dX0_tells_35 : decode cX0_tells 35 = .ok (.iload_n 1, 1) := dk_27 (dk_at dksX0_tells_1 11 rfl rfl)
theorem dX0_tells_36 : decode cX0_tells 36 = .ok (.aaload, 1) := dk_50 (dk_at dksX0_tells_1 12 rfl rfl)
theorem dX0_tells_37 : decode cX0_tells 37 = .ok (.getfield 487, 3) := dk_180 1 231 (dk_at dksX0_tells_1 13 rfl rfl)
theorem dX0_tells_40 : decode cX0_tells 40 = .ok (.astore 4, 2) := dk_58 4 (dk_at dksX0_tells_1 16 rfl rfl)
theorem dX0_tells_42 : decode cX0_tells 42 = .ok (.aload 4, 2) := dk_25 4 (dk_at dksX0_tells_1 18 rfl rfl)
theorem dX0_tells_44 : decode cX0_tells 44 = .ok (.ifnonnull 7, 3) := dk_199 0 7 (dk_at dksX0_tells_1 20 rfl rfl)
theorem dX0_tells_47 : decode cX0_tells 47 = .ok (.sipush (-1011), 3) := dk_17 252 13 (dk_at dksX0_tells_2 0 rfl rfl)
theorem dX0_tells_50 : decode cX0_tells 50 = .ok (.ireturn, 1) := dk_172 (dk_at dksX0_tells_2 3 rfl rfl)
theorem dX0_tells_51 : decode cX0_tells 51 = .ok (.aload 4, 2) := dk_25 4 (dk_at dksX0_tells_2 4 rfl rfl)
theorem dX0_tells_53 : decode cX0_tells 53 = .ok (.aload 4, 2) := dk_25 4 (dk_at dksX0_tells_2 6 rfl rfl)
theorem dX0_tells_55 : decode cX0_tells 55 = .ok (.invokestatic 457, 3) := dk_184 1 201 (dk_at dksX0_tells_2 8 rfl rfl)
theorem dX0_tells_58 : decode cX0_tells 58 = .ok (.invokestatic 461, 3) := dk_184 1 205 (dk_at dksX0_tells_2 11 rfl rfl)
theorem dX0_tells_61 : decode cX0_tells 61 = .ok (.bipush 30, 2) := dk_16 30 (dk_at dksX0_tells_2 14 rfl rfl)
theorem dX0_tells_63 : decode cX0_tells 63 = .ok (.if_icmp .le 7, 3) := dk_164 0 7 (dk_at dksX0_tells_2 16 rfl rfl)
theorem dX0_tells_66 : decode cX0_tells 66 = .ok (.sipush (-1003), 3) := dk_17 252 21 (dk_at dksX0_tells_2 19 rfl rfl)
theorem dX0_tells_69 : decode cX0_tells 69 = .ok (.ireturn, 1) := dk_172 (dk_at dksX0_tells_2 22 rfl rfl)
theorem dX0_tells_70 : decode cX0_tells 70 = .ok (.iload_n 3, 1) := dk_29 (dk_at dksX0_tells_2 23 rfl rfl)
theorem dX0_tells_71 : decode cX0_tells 71 = .ok (.tableswitch 105 0 6 #[41, 49, 57, 68, 79, 79, 97], 41) := by decide +kernel
theorem dX0_tells_112 : decode cX0_tells 112 = .ok (.aload_n 0, 1) := dk_42 (dk_at dksX0_tells_4 0 rfl rfl)
theorem dX0_tells_113 : decode cX0_tells 113 = .ok (.aload 4, 2) := dk_25 4 (dk_at dksX0_tells_4 1 rfl rfl)
theorem dX0_tells_115 : decode cX0_tells 115 = .ok (.iload_n 2, 1) := dk_28 (dk_at dksX0_tells_4 3 rfl rfl)
theorem dX0_tells_116 : decode cX0_tells 116 = .ok (.invokevirtual 473, 3) := dk_182 1 217 (dk_at dksX0_tells_4 4 rfl rfl)
theorem dX0_tells_119 : decode cX0_tells 119 = .ok (.ireturn, 1) := dk_172 (dk_at dksX0_tells_4 7 rfl rfl)
theorem dX0_tells_120 : decode cX0_tells 120 = .ok (.aload_n 0, 1) := dk_42 (dk_at dksX0_tells_4 8 rfl rfl)
theorem dX0_tells_121 : decode cX0_tells 121 = .ok (.aload 4, 2) := dk_25 4 (dk_at dksX0_tells_4 9 rfl rfl)
theorem dX0_tells_123 : decode cX0_tells 123 = .ok (.iload_n 2, 1) := dk_28 (dk_at dksX0_tells_4 11 rfl rfl)
theorem dX0_tells_124 : decode cX0_tells 124 = .ok (.invokevirtual 491, 3) := dk_182 1 235 (dk_at dksX0_tells_4 12 rfl rfl)
theorem dX0_tells_127 : decode cX0_tells 127 = .ok (.ireturn, 1) := dk_172 (dk_at dksX0_tells_4 15 rfl rfl)
theorem dX0_tells_128 : decode cX0_tells 128 = .ok (.aload_n 0, 1) := dk_42 (dk_at dksX0_tells_4 16 rfl rfl)
theorem dX0_tells_129 : decode cX0_tells 129 = .ok (.aload 4, 2) := dk_25 4 (dk_at dksX0_tells_4 17 rfl rfl)
theorem dX0_tells_131 : decode cX0_tells 131 = .ok (.iload_n 2, 1) := dk_28 (dk_at dksX0_tells_4 19 rfl rfl)
theorem dX0_tells_132 : decode cX0_tells 132 = .ok (.iconst 3, 1) := dk_6 (dk_at dksX0_tells_4 20 rfl rfl)
theorem dX0_tells_133 : decode cX0_tells 133 = .ok (.bipush 9, 2) := dk_16 9 (dk_at dksX0_tells_4 21 rfl rfl)
theorem dX0_tells_135 : decode cX0_tells 135 = .ok (.invokevirtual 494, 3) := dk_182 1 238 (dk_at dksX0_tells_5 0 rfl rfl)
theorem dX0_tells_138 : decode cX0_tells 138 = .ok (.ireturn, 1) := dk_172 (dk_at dksX0_tells_5 3 rfl rfl)
theorem dX0_tells_139 : decode cX0_tells 139 = .ok (.aload_n 0, 1) := dk_42 (dk_at dksX0_tells_5 4 rfl rfl)
theorem dX0_tells_140 : decode cX0_tells 140 = .ok (.aload 4, 2) := dk_25 4 (dk_at dksX0_tells_5 5 rfl rfl)
theorem dX0_tells_142 : decode cX0_tells 142 = .ok (.iload_n 2, 1) := dk_28 (dk_at dksX0_tells_5 7 rfl rfl)
theorem dX0_tells_143 : decode cX0_tells 143 = .ok (.iconst 4, 1) := dk_7 (dk_at dksX0_tells_5 8 rfl rfl)
theorem dX0_tells_144 : decode cX0_tells 144 = .ok (.bipush 11, 2) := dk_16 11 (dk_at dksX0_tells_5 9 rfl rfl)
theorem dX0_tells_146 : decode cX0_tells 146 = .ok (.invokevirtual 494, 3) := dk_182 1 238 (dk_at dksX0_tells_5 11 rfl rfl)
theorem dX0_tells_149 : decode cX0_tells 149 = .ok (.ireturn, 1) := dk_172 (dk_at dksX0_tells_5 14 rfl rfl)
theorem dX0_tells_150 : decode cX0_tells 150 = .ok (.aload_n 0, 1) := dk_42 (dk_at dksX0_tells_5 15 rfl rfl)
theorem dX0_tells_151 : decode cX0_tells 151 = .ok (.aload 4, 2) := dk_25 4 (dk_at dksX0_tells_5 16 rfl rfl)
theorem dX0_tells_153 : decode cX0_tells 153 = .ok (.iload_n 2, 1) := dk_28 (dk_at dksX0_tells_5 18 rfl rfl)
theorem dX0_tells_154 : decode cX0_tells 154 = .ok (.iload_n 3, 1) := dk_29 (dk_at dksX0_tells_5 19 rfl rfl)
theorem dX0_tells_155 : decode cX0_tells 155 = .ok (.iconst 5, 1) := dk_8 (dk_at dksX0_tells_5 20 rfl rfl)
theorem dX0_tells_156 : decode cX0_tells 156 = .ok (.if_icmp .ne 7, 3) := dk_160 0 7 (dk_at dksX0_tells_5 21 rfl rfl)
theorem dX0_tells_159 : decode cX0_tells 159 = .ok (.iconst 1, 1) := dk_4 (dk_at dksX0_tells_6 0 rfl rfl)
theorem dX0_tells_160 : decode cX0_tells 160 = .ok (.goto 4, 3) := dk_167 0 4 (dk_at dksX0_tells_6 1 rfl rfl)
theorem dX0_tells_163 : decode cX0_tells 163 = .ok (.iconst 0, 1) := dk_3 (dk_at dksX0_tells_6 4 rfl rfl)
theorem dX0_tells_164 : decode cX0_tells 164 = .ok (.invokevirtual 498, 3) := dk_182 1 242 (dk_at dksX0_tells_6 5 rfl rfl)
theorem dX0_tells_167 : decode cX0_tells 167 = .ok (.ireturn, 1) := dk_172 (dk_at dksX0_tells_6 8 rfl rfl)
theorem dX0_tells_168 : decode cX0_tells 168 = .ok (.aload_n 0, 1) := dk_42 (dk_at dksX0_tells_6 9 rfl rfl)
theorem dX0_tells_169 : decode cX0_tells 169 = .ok (.aload 4, 2) := dk_25 4 (dk_at dksX0_tells_6 10 rfl rfl)
theorem dX0_tells_171 : decode cX0_tells 171 = .ok (.iload_n 2, 1) := dk_28 (dk_at dksX0_tells_6 12 rfl rfl)
theorem dX0_tells_172 : decode cX0_tells 172 = .ok (.invokevirtual 502, 3) := dk_182 1 246 (dk_at dksX0_tells_6 13 rfl rfl)
theorem dX0_tells_175 : decode cX0_tells 175 = .ok (.ireturn, 1) := dk_172 (dk_at dksX0_tells_6 16 rfl rfl)
theorem dX0_tells_176 : decode cX0_tells 176 = .ok (.aload_n 0, 1) := dk_42 (dk_at dksX0_tells_6 17 rfl rfl)
theorem dX0_tells_177 : decode cX0_tells 177 = .ok (.aload 4, 2) := dk_25 4 (dk_at dksX0_tells_6 18 rfl rfl)
theorem dX0_tells_179 : decode cX0_tells 179 = .ok (.invokevirtual 505, 3) := dk_182 1 249 (dk_at dksX0_tells_6 20 rfl rfl)
theorem dX0_tells_182 : decode cX0_tells 182 = .ok (.ireturn, 1) := dk_172 (dk_at dksX0_tells_6 23 rfl rfl)
abbrev cX0_isSheet : ByteArray := prog_1_method_88_code
def yX0_isSheet : MethodName := ⟨RX0, "isSheet", "(I)Z"⟩
def dkwX0_isSheet_0 : List UInt8 := [26, 133, 9, 20, 2, 10, 184, 0, 14, 172]
abbrev dktX0_isSheet_0 : List UInt8 := dkwX0_isSheet_0 ++ []
theorem dksX0_isSheet_0 : cX0_isSheet.data.toList.drop 0 = dktX0_isSheet_0 := by decide +kernel
theorem dX0_isSheet_0 : decode cX0_isSheet 0 = .ok (.iload_n 0, 1) := dk_26 (dk_at dksX0_isSheet_0 0 rfl rfl)
theorem dX0_isSheet_1 : decode cX0_isSheet 1 = .ok (.i2l, 1) := dk_133 (dk_at dksX0_isSheet_0 1 rfl rfl)
theorem dX0_isSheet_2 : decode cX0_isSheet 2 = .ok (.lconst 0, 1) := dk_9 (dk_at dksX0_isSheet_0 2 rfl rfl)
theorem dX0_isSheet_3 : decode cX0_isSheet 3 = .ok (.ldc2_w 522, 3) := dk_20 2 10 (dk_at dksX0_isSheet_0 3 rfl rfl)
theorem dX0_isSheet_6 : decode cX0_isSheet 6 = .ok (.invokestatic 14, 3) := dk_184 0 14 (dk_at dksX0_isSheet_0 6 rfl rfl)
theorem dX0_isSheet_9 : decode cX0_isSheet 9 = .ok (.ireturn, 1) := dk_172 (dk_at dksX0_isSheet_0 9 rfl rfl)
abbrev cX0_sortOf : ByteArray := prog_1_method_96_code
def yX0_sortOf : MethodName := ⟨RX0, "sortOf", "(Ljava/lang/Object;)I"⟩
def dkwX0_sortOf_0 : List UInt8 := [42, 193, 2, 20, 153, 0, 7, 3, 167, 0, 15, 42, 193, 2, 24, 153, 0, 7, 4, 167, 0, 4, 5, 172]
abbrev dktX0_sortOf_0 : List UInt8 := dkwX0_sortOf_0 ++ []
theorem dksX0_sortOf_0 : cX0_sortOf.data.toList.drop 0 = dktX0_sortOf_0 := by decide +kernel
theorem dX0_sortOf_0 : decode cX0_sortOf 0 = .ok (.aload_n 0, 1) := dk_42 (dk_at dksX0_sortOf_0 0 rfl rfl)
theorem dX0_sortOf_1 : decode cX0_sortOf 1 = .ok (.instanceof 532, 3) := dk_193 2 20 (dk_at dksX0_sortOf_0 1 rfl rfl)
theorem dX0_sortOf_4 : decode cX0_sortOf 4 = .ok (.ifCond .eq 7, 3) := dk_153 0 7 (dk_at dksX0_sortOf_0 4 rfl rfl)
theorem dX0_sortOf_7 : decode cX0_sortOf 7 = .ok (.iconst 0, 1) := dk_3 (dk_at dksX0_sortOf_0 7 rfl rfl)
theorem dX0_sortOf_8 : decode cX0_sortOf 8 = .ok (.goto 15, 3) := dk_167 0 15 (dk_at dksX0_sortOf_0 8 rfl rfl)
theorem dX0_sortOf_11 : decode cX0_sortOf 11 = .ok (.aload_n 0, 1) := dk_42 (dk_at dksX0_sortOf_0 11 rfl rfl)
theorem dX0_sortOf_12 : decode cX0_sortOf 12 = .ok (.instanceof 536, 3) := dk_193 2 24 (dk_at dksX0_sortOf_0 12 rfl rfl)
theorem dX0_sortOf_15 : decode cX0_sortOf 15 = .ok (.ifCond .eq 7, 3) := dk_153 0 7 (dk_at dksX0_sortOf_0 15 rfl rfl)
theorem dX0_sortOf_18 : decode cX0_sortOf 18 = .ok (.iconst 1, 1) := dk_4 (dk_at dksX0_sortOf_0 18 rfl rfl)
theorem dX0_sortOf_19 : decode cX0_sortOf 19 = .ok (.goto 4, 3) := dk_167 0 4 (dk_at dksX0_sortOf_0 19 rfl rfl)
theorem dX0_sortOf_22 : decode cX0_sortOf 22 = .ok (.iconst 2, 1) := dk_5 (dk_at dksX0_sortOf_0 22 rfl rfl)
theorem dX0_sortOf_23 : decode cX0_sortOf 23 = .ok (.ireturn, 1) := dk_172 (dk_at dksX0_sortOf_0 23 rfl rfl)
abbrev cX0_lengthOf : ByteArray := prog_1_method_94_code
def yX0_lengthOf : MethodName := ⟨RX0, "lengthOf", "(Ljava/lang/Object;I)I"⟩
def dkwX0_lengthOf_2 : List UInt8 := [42, 192, 2, 20, 190, 172, 42, 192, 2, 24, 190, 172, 42, 192, 2, 26, 190, 172]
abbrev dktX0_lengthOf_2 : List UInt8 := dkwX0_lengthOf_2 ++ []
def dkwX0_lengthOf_1 : List UInt8 := [171, 0, 0, 0, 0, 0, 39, 0, 0, 0, 2, 0, 0, 0, 0, 0, 0, 0, 27, 0, 0, 0, 1, 0, 0, 0, 33]
abbrev dktX0_lengthOf_1 : List UInt8 := dkwX0_lengthOf_1 ++ dktX0_lengthOf_2
def dkwX0_lengthOf_0 : List UInt8 := [27]
abbrev dktX0_lengthOf_0 : List UInt8 := dkwX0_lengthOf_0 ++ dktX0_lengthOf_1
theorem dksX0_lengthOf_0 : cX0_lengthOf.data.toList.drop 0 = dktX0_lengthOf_0 := by decide +kernel
theorem dksX0_lengthOf_1 : cX0_lengthOf.data.toList.drop 1 = dktX0_lengthOf_1 := dk_seg dksX0_lengthOf_0 1 rfl rfl
theorem dksX0_lengthOf_2 : cX0_lengthOf.data.toList.drop 28 = dktX0_lengthOf_2 := dk_seg dksX0_lengthOf_1 27 rfl rfl
theorem dX0_lengthOf_0 : decode cX0_lengthOf 0 = .ok (.iload_n 1, 1) := dk_27 (dk_at dksX0_lengthOf_0 0 rfl rfl)
theorem dX0_lengthOf_1 : decode cX0_lengthOf 1 = .ok (.lookupswitch 39 #[(0, 27), (1, 33)], 27) := by decide +kernel
theorem dX0_lengthOf_28 : decode cX0_lengthOf 28 = .ok (.aload_n 0, 1) := dk_42 (dk_at dksX0_lengthOf_2 0 rfl rfl)
theorem dX0_lengthOf_29 : decode cX0_lengthOf 29 = .ok (.checkcast 532, 3) := dk_192 2 20 (dk_at dksX0_lengthOf_2 1 rfl rfl)
theorem dX0_lengthOf_32 : decode cX0_lengthOf 32 = .ok (.arraylength, 1) := dk_190 (dk_at dksX0_lengthOf_2 4 rfl rfl)
theorem dX0_lengthOf_33 : decode cX0_lengthOf 33 = .ok (.ireturn, 1) := dk_172 (dk_at dksX0_lengthOf_2 5 rfl rfl)
theorem dX0_lengthOf_34 : decode cX0_lengthOf 34 = .ok (.aload_n 0, 1) := dk_42 (dk_at dksX0_lengthOf_2 6 rfl rfl)
theorem dX0_lengthOf_35 : decode cX0_lengthOf 35 = .ok (.checkcast 536, 3) := dk_192 2 24 (dk_at dksX0_lengthOf_2 7 rfl rfl)
theorem dX0_lengthOf_38 : decode cX0_lengthOf 38 = .ok (.arraylength, 1) := dk_190 (dk_at dksX0_lengthOf_2 10 rfl rfl)
theorem dX0_lengthOf_39 : decode cX0_lengthOf 39 = .ok (.ireturn, 1) := dk_172 (dk_at dksX0_lengthOf_2 11 rfl rfl)
theorem dX0_lengthOf_40 : decode cX0_lengthOf 40 = .ok (.aload_n 0, 1) := dk_42 (dk_at dksX0_lengthOf_2 12 rfl rfl)
theorem dX0_lengthOf_41 : decode cX0_lengthOf 41 = .ok (.checkcast 538, 3) := dk_192 2 26 (dk_at dksX0_lengthOf_2 13 rfl rfl)
theorem dX0_lengthOf_44 : decode cX0_lengthOf 44 = .ok (.arraylength, 1) := dk_190 (dk_at dksX0_lengthOf_2 16 rfl rfl)
theorem dX0_lengthOf_45 : decode cX0_lengthOf 45 = .ok (.ireturn, 1) := dk_172 (dk_at dksX0_lengthOf_2 17 rfl rfl)
abbrev cX0_unlike : ByteArray := prog_1_method_72_code
def yX0_unlike : MethodName := ⟨RX0, "unlike", "(Ljava/lang/Object;I)I"⟩
def dkwX0_unlike_3 : List UInt8 := [2, 54, 4, 42, 29, 182, 1, 144, 21, 4, 172, 58, 6, 42, 29, 182, 1, 144, 25, 6, 191]
abbrev dktX0_unlike_3 : List UInt8 := dkwX0_unlike_3 ++ []
def dkwX0_unlike_2 : List UInt8 := [180, 0, 80, 159, 0, 15, 21, 4, 54, 5, 42, 29, 182, 1, 144, 21, 5, 172, 132, 4, 1, 167, 255, 201]
abbrev dktX0_unlike_2 : List UInt8 := dkwX0_unlike_2 ++ dktX0_unlike_3
def dkwX0_unlike_1 : List UInt8 := [162, 0, 48, 42, 2, 182, 1, 123, 43, 43, 184, 1, 201, 21, 4, 184, 1, 209, 42, 180, 0, 53, 28, 50]
abbrev dktX0_unlike_1 : List UInt8 := dkwX0_unlike_1 ++ dktX0_unlike_2
def dkwX0_unlike_0 : List UInt8 := [42, 180, 0, 74, 62, 42, 182, 1, 138, 3, 54, 4, 21, 4, 43, 43, 184, 1, 201, 184, 1, 205]
abbrev dktX0_unlike_0 : List UInt8 := dkwX0_unlike_0 ++ dktX0_unlike_1
theorem dksX0_unlike_0 : cX0_unlike.data.toList.drop 0 = dktX0_unlike_0 := by decide +kernel
theorem dksX0_unlike_1 : cX0_unlike.data.toList.drop 22 = dktX0_unlike_1 := dk_seg dksX0_unlike_0 22 rfl rfl
theorem dksX0_unlike_2 : cX0_unlike.data.toList.drop 46 = dktX0_unlike_2 := dk_seg dksX0_unlike_1 24 rfl rfl
theorem dksX0_unlike_3 : cX0_unlike.data.toList.drop 70 = dktX0_unlike_3 := dk_seg dksX0_unlike_2 24 rfl rfl
theorem dX0_unlike_0 : decode cX0_unlike 0 = .ok (.aload_n 0, 1) := dk_42 (dk_at dksX0_unlike_0 0 rfl rfl)
theorem dX0_unlike_1 : decode cX0_unlike 1 = .ok (.getfield 74, 3) := dk_180 0 74 (dk_at dksX0_unlike_0 1 rfl rfl)
theorem dX0_unlike_4 : decode cX0_unlike 4 = .ok (.istore_n 3, 1) := dk_62 (dk_at dksX0_unlike_0 4 rfl rfl)
theorem dX0_unlike_5 : decode cX0_unlike 5 = .ok (.aload_n 0, 1) := dk_42 (dk_at dksX0_unlike_0 5 rfl rfl)
theorem dX0_unlike_6 : decode cX0_unlike 6 = .ok (.invokevirtual 394, 3) := dk_182 1 138 (dk_at dksX0_unlike_0 6 rfl rfl)
theorem dX0_unlike_9 : decode cX0_unlike 9 = .ok (.iconst 0, 1) := dk_3 (dk_at dksX0_unlike_0 9 rfl rfl)
theorem dX0_unlike_10 : decode cX0_unlike 10 = .ok (.istore 4, 2) := dk_54 4 (dk_at dksX0_unlike_0 10 rfl rfl)
theorem dX0_unlike_12 : decode cX0_unlike 12 = .ok (.iload 4, 2) := dk_21 4 (dk_at dksX0_unlike_0 12 rfl rfl)
theorem dX0_unlike_14 : decode cX0_unlike 14 = .ok (.aload_n 1, 1) := dk_43 (dk_at dksX0_unlike_0 14 rfl rfl)
theorem dX0_unlike_15 : decode cX0_unlike 15 = .ok (.aload_n 1, 1) := dk_43 (dk_at dksX0_unlike_0 15 rfl rfl)
theorem dX0_unlike_16 : decode cX0_unlike 16 = .ok (.invokestatic 457, 3) := dk_184 1 201 (dk_at dksX0_unlike_0 16 rfl rfl)
theorem dX0_unlike_19 : decode cX0_unlike 19 = .ok (.invokestatic 461, 3) := dk_184 1 205 (dk_at dksX0_unlike_0 19 rfl rfl)
theorem dX0_unlike_22 : decode cX0_unlike 22 = .ok (.if_icmp .ge 48, 3) := dk_162 0 48 (dk_at dksX0_unlike_1 0 rfl rfl)
theorem dX0_unlike_25 : decode cX0_unlike 25 = .ok (.aload_n 0, 1) := dk_42 (dk_at dksX0_unlike_1 3 rfl rfl)
theorem dX0_unlike_26 : decode cX0_unlike 26 = .ok (.iconst (-1), 1) := dk_2 (dk_at dksX0_unlike_1 4 rfl rfl)
theorem dX0_unlike_27 : decode cX0_unlike 27 = .ok (.invokevirtual 379, 3) := dk_182 1 123 (dk_at dksX0_unlike_1 5 rfl rfl)
theorem dX0_unlike_30 : decode cX0_unlike 30 = .ok (.aload_n 1, 1) := dk_43 (dk_at dksX0_unlike_1 8 rfl rfl)
theorem dX0_unlike_31 : decode cX0_unlike 31 = .ok (.aload_n 1, 1) := dk_43 (dk_at dksX0_unlike_1 9 rfl rfl)
theorem dX0_unlike_32 : decode cX0_unlike 32 = .ok (.invokestatic 457, 3) := dk_184 1 201 (dk_at dksX0_unlike_1 10 rfl rfl)
theorem dX0_unlike_35 : decode cX0_unlike 35 = .ok (.iload 4, 2) := dk_21 4 (dk_at dksX0_unlike_1 13 rfl rfl)
theorem dX0_unlike_37 : decode cX0_unlike 37 = .ok (.invokestatic 465, 3) := dk_184 1 209 (dk_at dksX0_unlike_1 15 rfl rfl)
theorem dX0_unlike_40 : decode cX0_unlike 40 = .ok (.aload_n 0, 1) := dk_42 (dk_at dksX0_unlike_1 18 rfl rfl)
theorem dX0_unlike_41 : decode cX0_unlike 41 = .ok (.getfield 53, 3) := dk_180 0 53 (dk_at dksX0_unlike_1 19 rfl rfl)
theorem dX0_unlike_44 : decode cX0_unlike 44 = .ok (.iload_n 2, 1) := dk_28 (dk_at dksX0_unlike_1 22 rfl rfl)
theorem dX0_unlike_45 : decode cX0_unlike 45 = .ok (.aaload, 1) := dk_50 (dk_at dksX0_unlike_1 23 rfl rfl)
theorem dX0_unlike_46 : decode cX0_unlike 46 = .ok (.getfield 80, 3) := dk_180 0 80 (dk_at dksX0_unlike_2 0 rfl rfl)
theorem dX0_unlike_49 : decode cX0_unlike 49 = .ok (.if_icmp .eq 15, 3) := dk_159 0 15 (dk_at dksX0_unlike_2 3 rfl rfl)
theorem dX0_unlike_52 : decode cX0_unlike 52 = .ok (.iload 4, 2) := dk_21 4 (dk_at dksX0_unlike_2 6 rfl rfl)
theorem dX0_unlike_54 : decode cX0_unlike 54 = .ok (.istore 5, 2) := dk_54 5 (dk_at dksX0_unlike_2 8 rfl rfl)
theorem dX0_unlike_56 : decode cX0_unlike 56 = .ok (.aload_n 0, 1) := dk_42 (dk_at dksX0_unlike_2 10 rfl rfl)
theorem dX0_unlike_57 : decode cX0_unlike 57 = .ok (.iload_n 3, 1) := dk_29 (dk_at dksX0_unlike_2 11 rfl rfl)
theorem dX0_unlike_58 : decode cX0_unlike 58 = .ok (.invokevirtual 400, 3) := dk_182 1 144 (dk_at dksX0_unlike_2 12 rfl rfl)
theorem dX0_unlike_61 : decode cX0_unlike 61 = .ok (.iload 5, 2) := dk_21 5 (dk_at dksX0_unlike_2 15 rfl rfl)
theorem dX0_unlike_63 : decode cX0_unlike 63 = .ok (.ireturn, 1) := dk_172 (dk_at dksX0_unlike_2 17 rfl rfl)
theorem dX0_unlike_64 : decode cX0_unlike 64 = .ok (.iinc 4 1, 3) := dk_132 4 1 (dk_at dksX0_unlike_2 18 rfl rfl)
theorem dX0_unlike_67 : decode cX0_unlike 67 = .ok (.goto (-55), 3) := dk_167 255 201 (dk_at dksX0_unlike_2 21 rfl rfl)
theorem dX0_unlike_70 : decode cX0_unlike 70 = .ok (.iconst (-1), 1) := dk_2 (dk_at dksX0_unlike_3 0 rfl rfl)
theorem dX0_unlike_71 : decode cX0_unlike 71 = .ok (.istore 4, 2) := dk_54 4 (dk_at dksX0_unlike_3 1 rfl rfl)
theorem dX0_unlike_73 : decode cX0_unlike 73 = .ok (.aload_n 0, 1) := dk_42 (dk_at dksX0_unlike_3 3 rfl rfl)
theorem dX0_unlike_74 : decode cX0_unlike 74 = .ok (.iload_n 3, 1) := dk_29 (dk_at dksX0_unlike_3 4 rfl rfl)
theorem dX0_unlike_75 : decode cX0_unlike 75 = .ok (.invokevirtual 400, 3) := dk_182 1 144 (dk_at dksX0_unlike_3 5 rfl rfl)
theorem dX0_unlike_78 : decode cX0_unlike 78 = .ok (.iload 4, 2) := dk_21 4 (dk_at dksX0_unlike_3 8 rfl rfl)
theorem dX0_unlike_80 : decode cX0_unlike 80 = .ok (.ireturn, 1) := dk_172 (dk_at dksX0_unlike_3 10 rfl rfl)
theorem dX0_unlike_81 : decode cX0_unlike 81 = .ok (.astore 6, 2) := dk_58 6 (dk_at dksX0_unlike_3 11 rfl rfl)
theorem dX0_unlike_83 : decode cX0_unlike 83 = .ok (.aload_n 0, 1) := dk_42 (dk_at dksX0_unlike_3 13 rfl rfl)
theorem dX0_unlike_84 : decode cX0_unlike 84 = .ok (.iload_n 3, 1) := dk_29 (dk_at dksX0_unlike_3 14 rfl rfl)
theorem dX0_unlike_85 : decode cX0_unlike 85 = .ok (.invokevirtual 400, 3) := dk_182 1 144 (dk_at dksX0_unlike_3 15 rfl rfl)
theorem dX0_unlike_88 : decode cX0_unlike 88 = .ok (.aload 6, 2) := dk_25 6 (dk_at dksX0_unlike_3 18 rfl rfl)
theorem dX0_unlike_90 : decode cX0_unlike 90 = .ok (.athrow, 1) := dk_191 (dk_at dksX0_unlike_3 20 rfl rfl)
abbrev cX0_item : ByteArray := prog_1_method_93_code
def yX0_item : MethodName := ⟨RX0, "item", "(Ljava/lang/Object;II)I"⟩
def dkwX0_item_4 : List UInt8 := [46, 172]
abbrev dktX0_item_4 : List UInt8 := dkwX0_item_4 ++ []
def dkwX0_item_3 : List UInt8 := [184, 2, 21, 42, 192, 2, 24, 28, 53, 172, 28, 42, 192, 2, 26, 190, 184, 2, 21, 42, 192, 2, 26, 28]
abbrev dktX0_item_3 : List UInt8 := dkwX0_item_3 ++ dktX0_item_4
def dkwX0_item_2 : List UInt8 := [28, 42, 192, 2, 20, 190, 184, 2, 21, 42, 192, 2, 20, 28, 51, 172, 28, 42, 192, 2, 24, 190]
abbrev dktX0_item_2 : List UInt8 := dkwX0_item_2 ++ dktX0_item_3
def dkwX0_item_1 : List UInt8 := [171, 0, 0, 0, 0, 0, 59, 0, 0, 0, 2, 0, 0, 0, 0, 0, 0, 0, 27, 0, 0, 0, 1, 0, 0, 0, 43]
abbrev dktX0_item_1 : List UInt8 := dkwX0_item_1 ++ dktX0_item_2
def dkwX0_item_0 : List UInt8 := [27]
abbrev dktX0_item_0 : List UInt8 := dkwX0_item_0 ++ dktX0_item_1
theorem dksX0_item_0 : cX0_item.data.toList.drop 0 = dktX0_item_0 := by decide +kernel
theorem dksX0_item_1 : cX0_item.data.toList.drop 1 = dktX0_item_1 := dk_seg dksX0_item_0 1 rfl rfl
theorem dksX0_item_2 : cX0_item.data.toList.drop 28 = dktX0_item_2 := dk_seg dksX0_item_1 27 rfl rfl
theorem dksX0_item_3 : cX0_item.data.toList.drop 50 = dktX0_item_3 := dk_seg dksX0_item_2 22 rfl rfl
theorem dksX0_item_4 : cX0_item.data.toList.drop 74 = dktX0_item_4 := dk_seg dksX0_item_3 24 rfl rfl
theorem dX0_item_0 : decode cX0_item 0 = .ok (.iload_n 1, 1) := dk_27 (dk_at dksX0_item_0 0 rfl rfl)
theorem dX0_item_1 : decode cX0_item 1 = .ok (.lookupswitch 59 #[(0, 27), (1, 43)], 27) := by decide +kernel
theorem dX0_item_28 : decode cX0_item 28 = .ok (.iload_n 2, 1) := dk_28 (dk_at dksX0_item_2 0 rfl rfl)
theorem dX0_item_29 : decode cX0_item 29 = .ok (.aload_n 0, 1) := dk_42 (dk_at dksX0_item_2 1 rfl rfl)
theorem dX0_item_30 : decode cX0_item 30 = .ok (.checkcast 532, 3) := dk_192 2 20 (dk_at dksX0_item_2 2 rfl rfl)
theorem dX0_item_33 : decode cX0_item 33 = .ok (.arraylength, 1) := dk_190 (dk_at dksX0_item_2 5 rfl rfl)
theorem dX0_item_34 : decode cX0_item 34 = .ok (.invokestatic 533, 3) := dk_184 2 21 (dk_at dksX0_item_2 6 rfl rfl)
theorem dX0_item_37 : decode cX0_item 37 = .ok (.aload_n 0, 1) := dk_42 (dk_at dksX0_item_2 9 rfl rfl)
theorem dX0_item_38 : decode cX0_item 38 = .ok (.checkcast 532, 3) := dk_192 2 20 (dk_at dksX0_item_2 10 rfl rfl)
theorem dX0_item_41 : decode cX0_item 41 = .ok (.iload_n 2, 1) := dk_28 (dk_at dksX0_item_2 13 rfl rfl)
theorem dX0_item_42 : decode cX0_item 42 = .ok (.baload, 1) := dk_51 (dk_at dksX0_item_2 14 rfl rfl)
theorem dX0_item_43 : decode cX0_item 43 = .ok (.ireturn, 1) := dk_172 (dk_at dksX0_item_2 15 rfl rfl)
theorem dX0_item_44 : decode cX0_item 44 = .ok (.iload_n 2, 1) := dk_28 (dk_at dksX0_item_2 16 rfl rfl)
theorem dX0_item_45 : decode cX0_item 45 = .ok (.aload_n 0, 1) := dk_42 (dk_at dksX0_item_2 17 rfl rfl)
theorem dX0_item_46 : decode cX0_item 46 = .ok (.checkcast 536, 3) := dk_192 2 24 (dk_at dksX0_item_2 18 rfl rfl)
theorem dX0_item_49 : decode cX0_item 49 = .ok (.arraylength, 1) := dk_190 (dk_at dksX0_item_2 21 rfl rfl)
theorem dX0_item_50 : decode cX0_item 50 = .ok (.invokestatic 533, 3) := dk_184 2 21 (dk_at dksX0_item_3 0 rfl rfl)
theorem dX0_item_53 : decode cX0_item 53 = .ok (.aload_n 0, 1) := dk_42 (dk_at dksX0_item_3 3 rfl rfl)
theorem dX0_item_54 : decode cX0_item 54 = .ok (.checkcast 536, 3) := dk_192 2 24 (dk_at dksX0_item_3 4 rfl rfl)
theorem dX0_item_57 : decode cX0_item 57 = .ok (.iload_n 2, 1) := dk_28 (dk_at dksX0_item_3 7 rfl rfl)
theorem dX0_item_58 : decode cX0_item 58 = .ok (.saload, 1) := dk_53 (dk_at dksX0_item_3 8 rfl rfl)
theorem dX0_item_59 : decode cX0_item 59 = .ok (.ireturn, 1) := dk_172 (dk_at dksX0_item_3 9 rfl rfl)
theorem dX0_item_60 : decode cX0_item 60 = .ok (.iload_n 2, 1) := dk_28 (dk_at dksX0_item_3 10 rfl rfl)
theorem dX0_item_61 : decode cX0_item 61 = .ok (.aload_n 0, 1) := dk_42 (dk_at dksX0_item_3 11 rfl rfl)
theorem dX0_item_62 : decode cX0_item 62 = .ok (.checkcast 538, 3) := dk_192 2 26 (dk_at dksX0_item_3 12 rfl rfl)
theorem dX0_item_65 : decode cX0_item 65 = .ok (.arraylength, 1) := dk_190 (dk_at dksX0_item_3 15 rfl rfl)
theorem dX0_item_66 : decode cX0_item 66 = .ok (.invokestatic 533, 3) := dk_184 2 21 (dk_at dksX0_item_3 16 rfl rfl)
theorem dX0_item_69 : decode cX0_item 69 = .ok (.aload_n 0, 1) := dk_42 (dk_at dksX0_item_3 19 rfl rfl)
theorem dX0_item_70 : decode cX0_item 70 = .ok (.checkcast 538, 3) := dk_192 2 26 (dk_at dksX0_item_3 20 rfl rfl)
theorem dX0_item_73 : decode cX0_item 73 = .ok (.iload_n 2, 1) := dk_28 (dk_at dksX0_item_3 23 rfl rfl)
theorem dX0_item_74 : decode cX0_item 74 = .ok (.iaload, 1) := dk_46 (dk_at dksX0_item_4 0 rfl rfl)
theorem dX0_item_75 : decode cX0_item 75 = .ok (.ireturn, 1) := dk_172 (dk_at dksX0_item_4 1 rfl rfl)
abbrev cX0_asksPlace : ByteArray := prog_1_method_95_code
def yX0_asksPlace : MethodName := ⟨RX0, "asksPlace", "(II)V"⟩
def dkwX0_asksPlace_0 : List UInt8 := [26, 155, 0, 8, 26, 27, 161, 0, 11, 187, 2, 32, 89, 183, 2, 34, 191, 177]
abbrev dktX0_asksPlace_0 : List UInt8 := dkwX0_asksPlace_0 ++ []
theorem dksX0_asksPlace_0 : cX0_asksPlace.data.toList.drop 0 = dktX0_asksPlace_0 := by decide +kernel
theorem dX0_asksPlace_0 : decode cX0_asksPlace 0 = .ok (.iload_n 0, 1) := dk_26 (dk_at dksX0_asksPlace_0 0 rfl rfl)
theorem dX0_asksPlace_1 : decode cX0_asksPlace 1 = .ok (.ifCond .lt 8, 3) := dk_155 0 8 (dk_at dksX0_asksPlace_0 1 rfl rfl)
theorem dX0_asksPlace_4 : decode cX0_asksPlace 4 = .ok (.iload_n 0, 1) := dk_26 (dk_at dksX0_asksPlace_0 4 rfl rfl)
theorem dX0_asksPlace_5 : decode cX0_asksPlace 5 = .ok (.iload_n 1, 1) := dk_27 (dk_at dksX0_asksPlace_0 5 rfl rfl)
theorem dX0_asksPlace_6 : decode cX0_asksPlace 6 = .ok (.if_icmp .lt 11, 3) := dk_161 0 11 (dk_at dksX0_asksPlace_0 6 rfl rfl)
theorem dX0_asksPlace_9 : decode cX0_asksPlace 9 = .ok (.new 544, 3) := dk_187 2 32 (dk_at dksX0_asksPlace_0 9 rfl rfl)
theorem dX0_asksPlace_12 : decode cX0_asksPlace 12 = .ok (.dup, 1) := dk_89 (dk_at dksX0_asksPlace_0 12 rfl rfl)
theorem dX0_asksPlace_13 : decode cX0_asksPlace 13 = .ok (.invokespecial 546, 3) := dk_183 2 34 (dk_at dksX0_asksPlace_0 13 rfl rfl)
theorem dX0_asksPlace_16 : decode cX0_asksPlace 16 = .ok (.athrow, 1) := dk_191 (dk_at dksX0_asksPlace_0 16 rfl rfl)
theorem dX0_asksPlace_17 : decode cX0_asksPlace 17 = .ok (.return_, 1) := dk_177 (dk_at dksX0_asksPlace_0 17 rfl rfl)
abbrev cX0_kindsOf : ByteArray := prog_1_method_74_code
def yX0_kindsOf : MethodName := ⟨RX0, "kindsOf", "(Ljava/lang/Object;I)I"⟩
def dkwX0_kindsOf_1 : List UInt8 := [4, 21, 4, 120, 167, 0, 4, 3, 128, 62, 132, 4, 1, 167, 255, 224, 29, 172]
abbrev dktX0_kindsOf_1 : List UInt8 := dkwX0_kindsOf_1 ++ []
def dkwX0_kindsOf_0 : List UInt8 := [3, 62, 3, 54, 4, 21, 4, 16, 6, 162, 0, 31, 29, 42, 43, 28, 21, 4, 182, 1, 220, 153, 0, 10]
abbrev dktX0_kindsOf_0 : List UInt8 := dkwX0_kindsOf_0 ++ dktX0_kindsOf_1
theorem dksX0_kindsOf_0 : cX0_kindsOf.data.toList.drop 0 = dktX0_kindsOf_0 := by decide +kernel
theorem dksX0_kindsOf_1 : cX0_kindsOf.data.toList.drop 24 = dktX0_kindsOf_1 := dk_seg dksX0_kindsOf_0 24 rfl rfl
theorem dX0_kindsOf_0 : decode cX0_kindsOf 0 = .ok (.iconst 0, 1) := dk_3 (dk_at dksX0_kindsOf_0 0 rfl rfl)
theorem dX0_kindsOf_1 : decode cX0_kindsOf 1 = .ok (.istore_n 3, 1) := dk_62 (dk_at dksX0_kindsOf_0 1 rfl rfl)
theorem dX0_kindsOf_2 : decode cX0_kindsOf 2 = .ok (.iconst 0, 1) := dk_3 (dk_at dksX0_kindsOf_0 2 rfl rfl)
theorem dX0_kindsOf_3 : decode cX0_kindsOf 3 = .ok (.istore 4, 2) := dk_54 4 (dk_at dksX0_kindsOf_0 3 rfl rfl)
theorem dX0_kindsOf_5 : decode cX0_kindsOf 5 = .ok (.iload 4, 2) := dk_21 4 (dk_at dksX0_kindsOf_0 5 rfl rfl)
theorem dX0_kindsOf_7 : decode cX0_kindsOf 7 = .ok (.bipush 6, 2) := dk_16 6 (dk_at dksX0_kindsOf_0 7 rfl rfl)
theorem dX0_kindsOf_9 : decode cX0_kindsOf 9 = .ok (.if_icmp .ge 31, 3) := dk_162 0 31 (dk_at dksX0_kindsOf_0 9 rfl rfl)
theorem dX0_kindsOf_12 : decode cX0_kindsOf 12 = .ok (.iload_n 3, 1) := dk_29 (dk_at dksX0_kindsOf_0 12 rfl rfl)
theorem dX0_kindsOf_13 : decode cX0_kindsOf 13 = .ok (.aload_n 0, 1) := dk_42 (dk_at dksX0_kindsOf_0 13 rfl rfl)
theorem dX0_kindsOf_14 : decode cX0_kindsOf 14 = .ok (.aload_n 1, 1) := dk_43 (dk_at dksX0_kindsOf_0 14 rfl rfl)
theorem dX0_kindsOf_15 : decode cX0_kindsOf 15 = .ok (.iload_n 2, 1) := dk_28 (dk_at dksX0_kindsOf_0 15 rfl rfl)
theorem dX0_kindsOf_16 : decode cX0_kindsOf 16 = .ok (.iload 4, 2) := dk_21 4 (dk_at dksX0_kindsOf_0 16 rfl rfl)
theorem dX0_kindsOf_18 : decode cX0_kindsOf 18 = .ok (.invokevirtual 476, 3) := dk_182 1 220 (dk_at dksX0_kindsOf_0 18 rfl rfl)
theorem dX0_kindsOf_21 : decode cX0_kindsOf 21 = .ok (.ifCond .eq 10, 3) := dk_153 0 10 (dk_at dksX0_kindsOf_0 21 rfl rfl)
theorem dX0_kindsOf_24 : decode cX0_kindsOf 24 = .ok (.iconst 1, 1) := dk_4 (dk_at dksX0_kindsOf_1 0 rfl rfl)
theorem dX0_kindsOf_25 : decode cX0_kindsOf 25 = .ok (.iload 4, 2) := dk_21 4 (dk_at dksX0_kindsOf_1 1 rfl rfl)
theorem dX0_kindsOf_27 : decode cX0_kindsOf 27 = .ok (.ishl, 1) := dk_120 (dk_at dksX0_kindsOf_1 3 rfl rfl)
theorem dX0_kindsOf_28 : decode cX0_kindsOf 28 = .ok (.goto 4, 3) := dk_167 0 4 (dk_at dksX0_kindsOf_1 4 rfl rfl)
theorem dX0_kindsOf_31 : decode cX0_kindsOf 31 = .ok (.iconst 0, 1) := dk_3 (dk_at dksX0_kindsOf_1 7 rfl rfl)
theorem dX0_kindsOf_32 : decode cX0_kindsOf 32 = .ok (.ior, 1) := dk_128 (dk_at dksX0_kindsOf_1 8 rfl rfl)
theorem dX0_kindsOf_33 : decode cX0_kindsOf 33 = .ok (.istore_n 3, 1) := dk_62 (dk_at dksX0_kindsOf_1 9 rfl rfl)
theorem dX0_kindsOf_34 : decode cX0_kindsOf 34 = .ok (.iinc 4 1, 3) := dk_132 4 1 (dk_at dksX0_kindsOf_1 10 rfl rfl)
theorem dX0_kindsOf_37 : decode cX0_kindsOf 37 = .ok (.goto (-32), 3) := dk_167 255 224 (dk_at dksX0_kindsOf_1 13 rfl rfl)
theorem dX0_kindsOf_40 : decode cX0_kindsOf 40 = .ok (.iload_n 3, 1) := dk_29 (dk_at dksX0_kindsOf_1 16 rfl rfl)
theorem dX0_kindsOf_41 : decode cX0_kindsOf 41 = .ok (.ireturn, 1) := dk_172 (dk_at dksX0_kindsOf_1 17 rfl rfl)
abbrev cX0_isSoAs : ByteArray := prog_1_method_73_code
def yX0_isSoAs : MethodName := ⟨RX0, "isSoAs", "(Ljava/lang/Object;II)Z"⟩
def dkwX0_isSoAs_3 : List UInt8 := [25, 6, 191]
abbrev dktX0_isSoAs_3 : List UInt8 := dkwX0_isSoAs_3 ++ []
def dkwX0_isSoAs_2 : List UInt8 := [54, 5, 42, 180, 0, 53, 28, 25, 4, 83, 21, 5, 172, 58, 6, 42, 180, 0, 53, 28, 25, 4, 83]
abbrev dktX0_isSoAs_2 : List UInt8 := dkwX0_isSoAs_2 ++ dktX0_isSoAs_3
def dkwX0_isSoAs_1 : List UInt8 := [184, 0, 57, 25, 4, 182, 1, 213, 83, 42, 43, 28, 182, 1, 217, 2, 160, 0, 7, 4, 167, 0, 4, 3]
abbrev dktX0_isSoAs_1 : List UInt8 := dkwX0_isSoAs_1 ++ dktX0_isSoAs_2
def dkwX0_isSoAs_0 : List UInt8 := [42, 180, 0, 53, 28, 50, 58, 4, 42, 180, 0, 53, 28, 29, 25, 4, 180, 0, 77, 25, 4, 180, 0, 80]
abbrev dktX0_isSoAs_0 : List UInt8 := dkwX0_isSoAs_0 ++ dktX0_isSoAs_1
theorem dksX0_isSoAs_0 : cX0_isSoAs.data.toList.drop 0 = dktX0_isSoAs_0 := by decide +kernel
theorem dksX0_isSoAs_1 : cX0_isSoAs.data.toList.drop 24 = dktX0_isSoAs_1 := dk_seg dksX0_isSoAs_0 24 rfl rfl
theorem dksX0_isSoAs_2 : cX0_isSoAs.data.toList.drop 48 = dktX0_isSoAs_2 := dk_seg dksX0_isSoAs_1 24 rfl rfl
theorem dksX0_isSoAs_3 : cX0_isSoAs.data.toList.drop 71 = dktX0_isSoAs_3 := dk_seg dksX0_isSoAs_2 23 rfl rfl
theorem dX0_isSoAs_0 : decode cX0_isSoAs 0 = .ok (.aload_n 0, 1) := dk_42 (dk_at dksX0_isSoAs_0 0 rfl rfl)
theorem dX0_isSoAs_1 : decode cX0_isSoAs 1 = .ok (.getfield 53, 3) := dk_180 0 53 (dk_at dksX0_isSoAs_0 1 rfl rfl)
theorem dX0_isSoAs_4 : decode cX0_isSoAs 4 = .ok (.iload_n 2, 1) := dk_28 (dk_at dksX0_isSoAs_0 4 rfl rfl)
theorem dX0_isSoAs_5 : decode cX0_isSoAs 5 = .ok (.aaload, 1) := dk_50 (dk_at dksX0_isSoAs_0 5 rfl rfl)
theorem dX0_isSoAs_6 : decode cX0_isSoAs 6 = .ok (.astore 4, 2) := dk_58 4 (dk_at dksX0_isSoAs_0 6 rfl rfl)
theorem dX0_isSoAs_8 : decode cX0_isSoAs 8 = .ok (.aload_n 0, 1) := dk_42 (dk_at dksX0_isSoAs_0 8 rfl rfl)
theorem dX0_isSoAs_9 : decode cX0_isSoAs 9 = .ok (.getfield 53, 3) := dk_180 0 53 (dk_at dksX0_isSoAs_0 9 rfl rfl)
theorem dX0_isSoAs_12 : decode cX0_isSoAs 12 = .ok (.iload_n 2, 1) := dk_28 (dk_at dksX0_isSoAs_0 12 rfl rfl)
theorem dX0_isSoAs_13 : decode cX0_isSoAs 13 = .ok (.iload_n 3, 1) := dk_29 (dk_at dksX0_isSoAs_0 13 rfl rfl)
theorem dX0_isSoAs_14 : decode cX0_isSoAs 14 = .ok (.aload 4, 2) := dk_25 4 (dk_at dksX0_isSoAs_0 14 rfl rfl)
theorem dX0_isSoAs_16 : decode cX0_isSoAs 16 = .ok (.getfield 77, 3) := dk_180 0 77 (dk_at dksX0_isSoAs_0 16 rfl rfl)
theorem dX0_isSoAs_19 : decode cX0_isSoAs 19 = .ok (.aload 4, 2) := dk_25 4 (dk_at dksX0_isSoAs_0 19 rfl rfl)
theorem dX0_isSoAs_21 : decode cX0_isSoAs 21 = .ok (.getfield 80, 3) := dk_180 0 80 (dk_at dksX0_isSoAs_0 21 rfl rfl)
theorem dX0_isSoAs_24 : decode cX0_isSoAs 24 = .ok (.invokestatic 57, 3) := dk_184 0 57 (dk_at dksX0_isSoAs_1 0 rfl rfl)
theorem dX0_isSoAs_27 : decode cX0_isSoAs 27 = .ok (.aload 4, 2) := dk_25 4 (dk_at dksX0_isSoAs_1 3 rfl rfl)
theorem dX0_isSoAs_29 : decode cX0_isSoAs 29 = .ok (.invokevirtual 469, 3) := dk_182 1 213 (dk_at dksX0_isSoAs_1 5 rfl rfl)
theorem dX0_isSoAs_32 : decode cX0_isSoAs 32 = .ok (.aastore, 1) := dk_83 (dk_at dksX0_isSoAs_1 8 rfl rfl)
theorem dX0_isSoAs_33 : decode cX0_isSoAs 33 = .ok (.aload_n 0, 1) := dk_42 (dk_at dksX0_isSoAs_1 9 rfl rfl)
theorem dX0_isSoAs_34 : decode cX0_isSoAs 34 = .ok (.aload_n 1, 1) := dk_43 (dk_at dksX0_isSoAs_1 10 rfl rfl)
theorem dX0_isSoAs_35 : decode cX0_isSoAs 35 = .ok (.iload_n 2, 1) := dk_28 (dk_at dksX0_isSoAs_1 11 rfl rfl)
theorem dX0_isSoAs_36 : decode cX0_isSoAs 36 = .ok (.invokevirtual 473, 3) := dk_182 1 217 (dk_at dksX0_isSoAs_1 12 rfl rfl)
theorem dX0_isSoAs_39 : decode cX0_isSoAs 39 = .ok (.iconst (-1), 1) := dk_2 (dk_at dksX0_isSoAs_1 15 rfl rfl)
theorem dX0_isSoAs_40 : decode cX0_isSoAs 40 = .ok (.if_icmp .ne 7, 3) := dk_160 0 7 (dk_at dksX0_isSoAs_1 16 rfl rfl)
theorem dX0_isSoAs_43 : decode cX0_isSoAs 43 = .ok (.iconst 1, 1) := dk_4 (dk_at dksX0_isSoAs_1 19 rfl rfl)
theorem dX0_isSoAs_44 : decode cX0_isSoAs 44 = .ok (.goto 4, 3) := dk_167 0 4 (dk_at dksX0_isSoAs_1 20 rfl rfl)
theorem dX0_isSoAs_47 : decode cX0_isSoAs 47 = .ok (.iconst 0, 1) := dk_3 (dk_at dksX0_isSoAs_1 23 rfl rfl)
theorem dX0_isSoAs_48 : decode cX0_isSoAs 48 = .ok (.istore 5, 2) := dk_54 5 (dk_at dksX0_isSoAs_2 0 rfl rfl)
theorem dX0_isSoAs_50 : decode cX0_isSoAs 50 = .ok (.aload_n 0, 1) := dk_42 (dk_at dksX0_isSoAs_2 2 rfl rfl)
theorem dX0_isSoAs_51 : decode cX0_isSoAs 51 = .ok (.getfield 53, 3) := dk_180 0 53 (dk_at dksX0_isSoAs_2 3 rfl rfl)
theorem dX0_isSoAs_54 : decode cX0_isSoAs 54 = .ok (.iload_n 2, 1) := dk_28 (dk_at dksX0_isSoAs_2 6 rfl rfl)
theorem dX0_isSoAs_55 : decode cX0_isSoAs 55 = .ok (.aload 4, 2) := dk_25 4 (dk_at dksX0_isSoAs_2 7 rfl rfl)
theorem dX0_isSoAs_57 : decode cX0_isSoAs 57 = .ok (.aastore, 1) := dk_83 (dk_at dksX0_isSoAs_2 9 rfl rfl)
theorem dX0_isSoAs_58 : decode cX0_isSoAs 58 = .ok (.iload 5, 2) := dk_21 5 (dk_at dksX0_isSoAs_2 10 rfl rfl)
theorem dX0_isSoAs_60 : decode cX0_isSoAs 60 = .ok (.ireturn, 1) := dk_172 (dk_at dksX0_isSoAs_2 12 rfl rfl)
theorem dX0_isSoAs_61 : decode cX0_isSoAs 61 = .ok (.astore 6, 2) := dk_58 6 (dk_at dksX0_isSoAs_2 13 rfl rfl)
theorem dX0_isSoAs_63 : decode cX0_isSoAs 63 = .ok (.aload_n 0, 1) := dk_42 (dk_at dksX0_isSoAs_2 15 rfl rfl)
theorem dX0_isSoAs_64 : decode cX0_isSoAs 64 = .ok (.getfield 53, 3) := dk_180 0 53 (dk_at dksX0_isSoAs_2 16 rfl rfl)
theorem dX0_isSoAs_67 : decode cX0_isSoAs 67 = .ok (.iload_n 2, 1) := dk_28 (dk_at dksX0_isSoAs_2 19 rfl rfl)
theorem dX0_isSoAs_68 : decode cX0_isSoAs 68 = .ok (.aload 4, 2) := dk_25 4 (dk_at dksX0_isSoAs_2 20 rfl rfl)
theorem dX0_isSoAs_70 : decode cX0_isSoAs 70 = .ok (.aastore, 1) := dk_83 (dk_at dksX0_isSoAs_2 22 rfl rfl)
theorem dX0_isSoAs_71 : decode cX0_isSoAs 71 = .ok (.aload 6, 2) := dk_25 6 (dk_at dksX0_isSoAs_3 0 rfl rfl)
theorem dX0_isSoAs_73 : decode cX0_isSoAs 73 = .ok (.athrow, 1) := dk_191 (dk_at dksX0_isSoAs_3 2 rfl rfl)
abbrev cX0_setBy : ByteArray := prog_1_method_76_code
def yX0_setBy : MethodName := ⟨RX0, "setBy", "(Ljava/lang/Object;III)I"⟩
def dkwX0_setBy_1 : List UInt8 := [153, 0, 10, 4, 21, 6, 120, 167, 0, 4, 3, 128, 54, 5, 132, 6, 1, 167, 255, 221, 21, 5, 172]
abbrev dktX0_setBy_1 : List UInt8 := dkwX0_setBy_1 ++ []
def dkwX0_setBy_0 : List UInt8 := [3, 54, 5, 3, 54, 6, 21, 6, 21, 4, 163, 0, 34, 21, 5, 42, 43, 28, 29, 21, 6, 182, 1, 224]
abbrev dktX0_setBy_0 : List UInt8 := dkwX0_setBy_0 ++ dktX0_setBy_1
theorem dksX0_setBy_0 : cX0_setBy.data.toList.drop 0 = dktX0_setBy_0 := by decide +kernel
theorem dksX0_setBy_1 : cX0_setBy.data.toList.drop 24 = dktX0_setBy_1 := dk_seg dksX0_setBy_0 24 rfl rfl
theorem dX0_setBy_0 : decode cX0_setBy 0 = .ok (.iconst 0, 1) := dk_3 (dk_at dksX0_setBy_0 0 rfl rfl)
theorem dX0_setBy_1 : decode cX0_setBy 1 = .ok (.istore 5, 2) := dk_54 5 (dk_at dksX0_setBy_0 1 rfl rfl)
theorem dX0_setBy_3 : decode cX0_setBy 3 = .ok (.iconst 0, 1) := dk_3 (dk_at dksX0_setBy_0 3 rfl rfl)
theorem dX0_setBy_4 : decode cX0_setBy 4 = .ok (.istore 6, 2) := dk_54 6 (dk_at dksX0_setBy_0 4 rfl rfl)
theorem dX0_setBy_6 : decode cX0_setBy 6 = .ok (.iload 6, 2) := dk_21 6 (dk_at dksX0_setBy_0 6 rfl rfl)
theorem dX0_setBy_8 : decode cX0_setBy 8 = .ok (.iload 4, 2) := dk_21 4 (dk_at dksX0_setBy_0 8 rfl rfl)
theorem dX0_setBy_10 : decode cX0_setBy 10 = .ok (.if_icmp .gt 34, 3) := dk_163 0 34 (dk_at dksX0_setBy_0 10 rfl rfl)
theorem dX0_setBy_13 : decode cX0_setBy 13 = .ok (.iload 5, 2) := dk_21 5 (dk_at dksX0_setBy_0 13 rfl rfl)
theorem dX0_setBy_15 : decode cX0_setBy 15 = .ok (.aload_n 0, 1) := dk_42 (dk_at dksX0_setBy_0 15 rfl rfl)
theorem dX0_setBy_16 : decode cX0_setBy 16 = .ok (.aload_n 1, 1) := dk_43 (dk_at dksX0_setBy_0 16 rfl rfl)
theorem dX0_setBy_17 : decode cX0_setBy 17 = .ok (.iload_n 2, 1) := dk_28 (dk_at dksX0_setBy_0 17 rfl rfl)
theorem dX0_setBy_18 : decode cX0_setBy 18 = .ok (.iload_n 3, 1) := dk_29 (dk_at dksX0_setBy_0 18 rfl rfl)
theorem dX0_setBy_19 : decode cX0_setBy 19 = .ok (.iload 6, 2) := dk_21 6 (dk_at dksX0_setBy_0 19 rfl rfl)
theorem dX0_setBy_21 : decode cX0_setBy 21 = .ok (.invokevirtual 480, 3) := dk_182 1 224 (dk_at dksX0_setBy_0 21 rfl rfl)
theorem dX0_setBy_24 : decode cX0_setBy 24 = .ok (.ifCond .eq 10, 3) := dk_153 0 10 (dk_at dksX0_setBy_1 0 rfl rfl)
theorem dX0_setBy_27 : decode cX0_setBy 27 = .ok (.iconst 1, 1) := dk_4 (dk_at dksX0_setBy_1 3 rfl rfl)
theorem dX0_setBy_28 : decode cX0_setBy 28 = .ok (.iload 6, 2) := dk_21 6 (dk_at dksX0_setBy_1 4 rfl rfl)
theorem dX0_setBy_30 : decode cX0_setBy 30 = .ok (.ishl, 1) := dk_120 (dk_at dksX0_setBy_1 6 rfl rfl)
theorem dX0_setBy_31 : decode cX0_setBy 31 = .ok (.goto 4, 3) := dk_167 0 4 (dk_at dksX0_setBy_1 7 rfl rfl)
theorem dX0_setBy_34 : decode cX0_setBy 34 = .ok (.iconst 0, 1) := dk_3 (dk_at dksX0_setBy_1 10 rfl rfl)
theorem dX0_setBy_35 : decode cX0_setBy 35 = .ok (.ior, 1) := dk_128 (dk_at dksX0_setBy_1 11 rfl rfl)
theorem dX0_setBy_36 : decode cX0_setBy 36 = .ok (.istore 5, 2) := dk_54 5 (dk_at dksX0_setBy_1 12 rfl rfl)
theorem dX0_setBy_38 : decode cX0_setBy 38 = .ok (.iinc 6 1, 3) := dk_132 6 1 (dk_at dksX0_setBy_1 14 rfl rfl)
theorem dX0_setBy_41 : decode cX0_setBy 41 = .ok (.goto (-35), 3) := dk_167 255 221 (dk_at dksX0_setBy_1 17 rfl rfl)
theorem dX0_setBy_44 : decode cX0_setBy 44 = .ok (.iload 5, 2) := dk_21 5 (dk_at dksX0_setBy_1 20 rfl rfl)
theorem dX0_setBy_46 : decode cX0_setBy 46 = .ok (.ireturn, 1) := dk_172 (dk_at dksX0_setBy_1 22 rfl rfl)
abbrev cX0_isSoBy : ByteArray := prog_1_method_75_code
def yX0_isSoBy : MethodName := ⟨RX0, "isSoBy", "(Ljava/lang/Object;III)Z"⟩
def dkwX0_isSoBy_2 : List UInt8 := [29, 28, 21, 5, 182, 0, 104, 25, 7, 191]
abbrev dktX0_isSoBy_2 : List UInt8 := dkwX0_isSoBy_2 ++ []
def dkwX0_isSoBy_1 : List UInt8 := [160, 0, 7, 4, 167, 0, 4, 3, 54, 6, 42, 29, 28, 21, 5, 182, 0, 104, 21, 6, 172, 58, 7, 42]
abbrev dktX0_isSoBy_1 : List UInt8 := dkwX0_isSoBy_1 ++ dktX0_isSoBy_2
def dkwX0_isSoBy_0 : List UInt8 := [42, 29, 28, 182, 0, 101, 54, 5, 42, 29, 28, 21, 4, 182, 0, 104, 42, 43, 28, 182, 1, 217, 2]
abbrev dktX0_isSoBy_0 : List UInt8 := dkwX0_isSoBy_0 ++ dktX0_isSoBy_1
theorem dksX0_isSoBy_0 : cX0_isSoBy.data.toList.drop 0 = dktX0_isSoBy_0 := by decide +kernel
theorem dksX0_isSoBy_1 : cX0_isSoBy.data.toList.drop 23 = dktX0_isSoBy_1 := dk_seg dksX0_isSoBy_0 23 rfl rfl
theorem dksX0_isSoBy_2 : cX0_isSoBy.data.toList.drop 47 = dktX0_isSoBy_2 := dk_seg dksX0_isSoBy_1 24 rfl rfl
theorem dX0_isSoBy_0 : decode cX0_isSoBy 0 = .ok (.aload_n 0, 1) := dk_42 (dk_at dksX0_isSoBy_0 0 rfl rfl)
theorem dX0_isSoBy_1 : decode cX0_isSoBy 1 = .ok (.iload_n 3, 1) := dk_29 (dk_at dksX0_isSoBy_0 1 rfl rfl)
theorem dX0_isSoBy_2 : decode cX0_isSoBy 2 = .ok (.iload_n 2, 1) := dk_28 (dk_at dksX0_isSoBy_0 2 rfl rfl)
theorem dX0_isSoBy_3 : decode cX0_isSoBy 3 = .ok (.invokevirtual 101, 3) := dk_182 0 101 (dk_at dksX0_isSoBy_0 3 rfl rfl)
theorem dX0_isSoBy_6 : decode cX0_isSoBy 6 = .ok (.istore 5, 2) := dk_54 5 (dk_at dksX0_isSoBy_0 6 rfl rfl)
theorem dX0_isSoBy_8 : decode cX0_isSoBy 8 = .ok (.aload_n 0, 1) := dk_42 (dk_at dksX0_isSoBy_0 8 rfl rfl)
theorem dX0_isSoBy_9 : decode cX0_isSoBy 9 = .ok (.iload_n 3, 1) := dk_29 (dk_at dksX0_isSoBy_0 9 rfl rfl)
theorem dX0_isSoBy_10 : decode cX0_isSoBy 10 = .ok (.iload_n 2, 1) := dk_28 (dk_at dksX0_isSoBy_0 10 rfl rfl)
theorem dX0_isSoBy_11 : decode cX0_isSoBy 11 = .ok (.iload 4, 2) := dk_21 4 (dk_at dksX0_isSoBy_0 11 rfl rfl)
theorem dX0_isSoBy_13 : decode cX0_isSoBy 13 = .ok (.invokevirtual 104, 3) := dk_182 0 104 (dk_at dksX0_isSoBy_0 13 rfl rfl)
theorem dX0_isSoBy_16 : decode cX0_isSoBy 16 = .ok (.aload_n 0, 1) := dk_42 (dk_at dksX0_isSoBy_0 16 rfl rfl)
theorem dX0_isSoBy_17 : decode cX0_isSoBy 17 = .ok (.aload_n 1, 1) := dk_43 (dk_at dksX0_isSoBy_0 17 rfl rfl)
theorem dX0_isSoBy_18 : decode cX0_isSoBy 18 = .ok (.iload_n 2, 1) := dk_28 (dk_at dksX0_isSoBy_0 18 rfl rfl)
theorem dX0_isSoBy_19 : decode cX0_isSoBy 19 = .ok (.invokevirtual 473, 3) := dk_182 1 217 (dk_at dksX0_isSoBy_0 19 rfl rfl)
theorem dX0_isSoBy_22 : decode cX0_isSoBy 22 = .ok (.iconst (-1), 1) := dk_2 (dk_at dksX0_isSoBy_0 22 rfl rfl)
theorem dX0_isSoBy_23 : decode cX0_isSoBy 23 = .ok (.if_icmp .ne 7, 3) := dk_160 0 7 (dk_at dksX0_isSoBy_1 0 rfl rfl)
theorem dX0_isSoBy_26 : decode cX0_isSoBy 26 = .ok (.iconst 1, 1) := dk_4 (dk_at dksX0_isSoBy_1 3 rfl rfl)
theorem dX0_isSoBy_27 : decode cX0_isSoBy 27 = .ok (.goto 4, 3) := dk_167 0 4 (dk_at dksX0_isSoBy_1 4 rfl rfl)
theorem dX0_isSoBy_30 : decode cX0_isSoBy 30 = .ok (.iconst 0, 1) := dk_3 (dk_at dksX0_isSoBy_1 7 rfl rfl)
theorem dX0_isSoBy_31 : decode cX0_isSoBy 31 = .ok (.istore 6, 2) := dk_54 6 (dk_at dksX0_isSoBy_1 8 rfl rfl)
theorem dX0_isSoBy_33 : decode cX0_isSoBy 33 = .ok (.aload_n 0, 1) := dk_42 (dk_at dksX0_isSoBy_1 10 rfl rfl)
theorem dX0_isSoBy_34 : decode cX0_isSoBy 34 = .ok (.iload_n 3, 1) := dk_29 (dk_at dksX0_isSoBy_1 11 rfl rfl)
theorem dX0_isSoBy_35 : decode cX0_isSoBy 35 = .ok (.iload_n 2, 1) := dk_28 (dk_at dksX0_isSoBy_1 12 rfl rfl)
theorem dX0_isSoBy_36 : decode cX0_isSoBy 36 = .ok (.iload 5, 2) := dk_21 5 (dk_at dksX0_isSoBy_1 13 rfl rfl)
theorem dX0_isSoBy_38 : decode cX0_isSoBy 38 = .ok (.invokevirtual 104, 3) := dk_182 0 104 (dk_at dksX0_isSoBy_1 15 rfl rfl)
theorem dX0_isSoBy_41 : decode cX0_isSoBy 41 = .ok (.iload 6, 2) := dk_21 6 (dk_at dksX0_isSoBy_1 18 rfl rfl)
theorem dX0_isSoBy_43 : decode cX0_isSoBy 43 = .ok (.ireturn, 1) := dk_172 (dk_at dksX0_isSoBy_1 20 rfl rfl)
theorem dX0_isSoBy_44 : decode cX0_isSoBy 44 = .ok (.astore 7, 2) := dk_58 7 (dk_at dksX0_isSoBy_1 21 rfl rfl)
theorem dX0_isSoBy_46 : decode cX0_isSoBy 46 = .ok (.aload_n 0, 1) := dk_42 (dk_at dksX0_isSoBy_1 23 rfl rfl)
theorem dX0_isSoBy_47 : decode cX0_isSoBy 47 = .ok (.iload_n 3, 1) := dk_29 (dk_at dksX0_isSoBy_2 0 rfl rfl)
theorem dX0_isSoBy_48 : decode cX0_isSoBy 48 = .ok (.iload_n 2, 1) := dk_28 (dk_at dksX0_isSoBy_2 1 rfl rfl)
theorem dX0_isSoBy_49 : decode cX0_isSoBy 49 = .ok (.iload 5, 2) := dk_21 5 (dk_at dksX0_isSoBy_2 2 rfl rfl)
theorem dX0_isSoBy_51 : decode cX0_isSoBy 51 = .ok (.invokevirtual 104, 3) := dk_182 0 104 (dk_at dksX0_isSoBy_2 4 rfl rfl)
theorem dX0_isSoBy_54 : decode cX0_isSoBy 54 = .ok (.aload 7, 2) := dk_25 7 (dk_at dksX0_isSoBy_2 7 rfl rfl)
theorem dX0_isSoBy_56 : decode cX0_isSoBy 56 = .ok (.athrow, 1) := dk_191 (dk_at dksX0_isSoBy_2 9 rfl rfl)
abbrev cX0_moodsOf : ByteArray := prog_1_method_77_code
def yX0_moodsOf : MethodName := ⟨RX0, "moodsOf", "(Ljava/lang/Object;IZ)I"⟩
def dkwX0_moodsOf_2 : List UInt8 := [16, 156, 167, 0, 5, 21, 4, 172]
abbrev dktX0_moodsOf_2 : List UInt8 := dkwX0_moodsOf_2 ++ []
def dkwX0_moodsOf_1 : List UInt8 := [153, 0, 13, 29, 153, 0, 6, 21, 5, 172, 132, 4, 1, 132, 5, 1, 167, 255, 224, 29, 153, 0, 8]
abbrev dktX0_moodsOf_1 : List UInt8 := dkwX0_moodsOf_1 ++ dktX0_moodsOf_2
def dkwX0_moodsOf_0 : List UInt8 := [3, 54, 4, 16, 157, 54, 5, 21, 5, 16, 99, 163, 0, 31, 42, 43, 28, 8, 21, 5, 182, 1, 224]
abbrev dktX0_moodsOf_0 : List UInt8 := dkwX0_moodsOf_0 ++ dktX0_moodsOf_1
theorem dksX0_moodsOf_0 : cX0_moodsOf.data.toList.drop 0 = dktX0_moodsOf_0 := by decide +kernel
theorem dksX0_moodsOf_1 : cX0_moodsOf.data.toList.drop 23 = dktX0_moodsOf_1 := dk_seg dksX0_moodsOf_0 23 rfl rfl
theorem dksX0_moodsOf_2 : cX0_moodsOf.data.toList.drop 46 = dktX0_moodsOf_2 := dk_seg dksX0_moodsOf_1 23 rfl rfl
theorem dX0_moodsOf_0 : decode cX0_moodsOf 0 = .ok (.iconst 0, 1) := dk_3 (dk_at dksX0_moodsOf_0 0 rfl rfl)
theorem dX0_moodsOf_1 : decode cX0_moodsOf 1 = .ok (.istore 4, 2) := dk_54 4 (dk_at dksX0_moodsOf_0 1 rfl rfl)
theorem dX0_moodsOf_3 : decode cX0_moodsOf 3 = .ok (.bipush (-99), 2) := dk_16 157 (dk_at dksX0_moodsOf_0 3 rfl rfl)
theorem dX0_moodsOf_5 : decode cX0_moodsOf 5 = .ok (.istore 5, 2) := dk_54 5 (dk_at dksX0_moodsOf_0 5 rfl rfl)
theorem dX0_moodsOf_7 : decode cX0_moodsOf 7 = .ok (.iload 5, 2) := dk_21 5 (dk_at dksX0_moodsOf_0 7 rfl rfl)
theorem dX0_moodsOf_9 : decode cX0_moodsOf 9 = .ok (.bipush 99, 2) := dk_16 99 (dk_at dksX0_moodsOf_0 9 rfl rfl)
theorem dX0_moodsOf_11 : decode cX0_moodsOf 11 = .ok (.if_icmp .gt 31, 3) := dk_163 0 31 (dk_at dksX0_moodsOf_0 11 rfl rfl)
theorem dX0_moodsOf_14 : decode cX0_moodsOf 14 = .ok (.aload_n 0, 1) := dk_42 (dk_at dksX0_moodsOf_0 14 rfl rfl)
theorem dX0_moodsOf_15 : decode cX0_moodsOf 15 = .ok (.aload_n 1, 1) := dk_43 (dk_at dksX0_moodsOf_0 15 rfl rfl)
theorem dX0_moodsOf_16 : decode cX0_moodsOf 16 = .ok (.iload_n 2, 1) := dk_28 (dk_at dksX0_moodsOf_0 16 rfl rfl)
theorem dX0_moodsOf_17 : decode cX0_moodsOf 17 = .ok (.iconst 5, 1) := dk_8 (dk_at dksX0_moodsOf_0 17 rfl rfl)
theorem dX0_moodsOf_18 : decode cX0_moodsOf 18 = .ok (.iload 5, 2) := dk_21 5 (dk_at dksX0_moodsOf_0 18 rfl rfl)
theorem dX0_moodsOf_20 : decode cX0_moodsOf 20 = .ok (.invokevirtual 480, 3) := dk_182 1 224 (dk_at dksX0_moodsOf_0 20 rfl rfl)
theorem dX0_moodsOf_23 : decode cX0_moodsOf 23 = .ok (.ifCond .eq 13, 3) := dk_153 0 13 (dk_at dksX0_moodsOf_1 0 rfl rfl)
theorem dX0_moodsOf_26 : decode cX0_moodsOf 26 = .ok (.iload_n 3, 1) := dk_29 (dk_at dksX0_moodsOf_1 3 rfl rfl)
theorem dX0_moodsOf_27 : decode cX0_moodsOf 27 = .ok (.ifCond .eq 6, 3) := dk_153 0 6 (dk_at dksX0_moodsOf_1 4 rfl rfl)
theorem dX0_moodsOf_30 : decode cX0_moodsOf 30 = .ok (.iload 5, 2) := dk_21 5 (dk_at dksX0_moodsOf_1 7 rfl rfl)
theorem dX0_moodsOf_32 : decode cX0_moodsOf 32 = .ok (.ireturn, 1) := dk_172 (dk_at dksX0_moodsOf_1 9 rfl rfl)
theorem dX0_moodsOf_33 : decode cX0_moodsOf 33 = .ok (.iinc 4 1, 3) := dk_132 4 1 (dk_at dksX0_moodsOf_1 10 rfl rfl)
theorem dX0_moodsOf_36 : decode cX0_moodsOf 36 = .ok (.iinc 5 1, 3) := dk_132 5 1 (dk_at dksX0_moodsOf_1 13 rfl rfl)
theorem dX0_moodsOf_39 : decode cX0_moodsOf 39 = .ok (.goto (-32), 3) := dk_167 255 224 (dk_at dksX0_moodsOf_1 16 rfl rfl)
theorem dX0_moodsOf_42 : decode cX0_moodsOf 42 = .ok (.iload_n 3, 1) := dk_29 (dk_at dksX0_moodsOf_1 19 rfl rfl)
theorem dX0_moodsOf_43 : decode cX0_moodsOf 43 = .ok (.ifCond .eq 8, 3) := dk_153 0 8 (dk_at dksX0_moodsOf_1 20 rfl rfl)
theorem dX0_moodsOf_46 : decode cX0_moodsOf 46 = .ok (.bipush (-100), 2) := dk_16 156 (dk_at dksX0_moodsOf_2 0 rfl rfl)
theorem dX0_moodsOf_48 : decode cX0_moodsOf 48 = .ok (.goto 5, 3) := dk_167 0 5 (dk_at dksX0_moodsOf_2 2 rfl rfl)
theorem dX0_moodsOf_51 : decode cX0_moodsOf 51 = .ok (.iload 4, 2) := dk_21 4 (dk_at dksX0_moodsOf_2 5 rfl rfl)
theorem dX0_moodsOf_53 : decode cX0_moodsOf 53 = .ok (.ireturn, 1) := dk_172 (dk_at dksX0_moodsOf_2 7 rfl rfl)
abbrev cX0_textsOf : ByteArray := prog_1_method_78_code
def yX0_textsOf : MethodName := ⟨RX0, "textsOf", "(Ljava/lang/Object;I)I"⟩
def dkwX0_textsOf_3 : List UInt8 := [25, 6, 191, 21, 4, 172]
abbrev dktX0_textsOf_3 : List UInt8 := dkwX0_textsOf_3 ++ []
def dkwX0_textsOf_2 : List UInt8 := [54, 4, 132, 5, 1, 167, 255, 215, 42, 29, 181, 1, 90, 167, 0, 13, 58, 6, 42, 29, 181, 1, 90]
abbrev dktX0_textsOf_2 : List UInt8 := dkwX0_textsOf_2 ++ dktX0_textsOf_3
def dkwX0_textsOf_1 : List UInt8 := [181, 1, 90, 21, 4, 42, 43, 28, 182, 1, 217, 2, 160, 0, 10, 4, 21, 5, 120, 167, 0, 4, 3, 128]
abbrev dktX0_textsOf_1 : List UInt8 := dkwX0_textsOf_1 ++ dktX0_textsOf_2
def dkwX0_textsOf_0 : List UInt8 := [42, 180, 1, 90, 62, 3, 54, 4, 3, 54, 5, 21, 5, 42, 180, 1, 7, 162, 0, 38, 42, 21, 5]
abbrev dktX0_textsOf_0 : List UInt8 := dkwX0_textsOf_0 ++ dktX0_textsOf_1
theorem dksX0_textsOf_0 : cX0_textsOf.data.toList.drop 0 = dktX0_textsOf_0 := by decide +kernel
theorem dksX0_textsOf_1 : cX0_textsOf.data.toList.drop 23 = dktX0_textsOf_1 := dk_seg dksX0_textsOf_0 23 rfl rfl
theorem dksX0_textsOf_2 : cX0_textsOf.data.toList.drop 47 = dktX0_textsOf_2 := dk_seg dksX0_textsOf_1 24 rfl rfl
theorem dksX0_textsOf_3 : cX0_textsOf.data.toList.drop 70 = dktX0_textsOf_3 := dk_seg dksX0_textsOf_2 23 rfl rfl
theorem dX0_textsOf_0 : decode cX0_textsOf 0 = .ok (.aload_n 0, 1) := dk_42 (dk_at dksX0_textsOf_0 0 rfl rfl)
theorem dX0_textsOf_1 : decode cX0_textsOf 1 = .ok (.getfield 346, 3) := dk_180 1 90 (dk_at dksX0_textsOf_0 1 rfl rfl)
theorem dX0_textsOf_4 : decode cX0_textsOf 4 = .ok (.istore_n 3, 1) := dk_62 (dk_at dksX0_textsOf_0 4 rfl rfl)
theorem dX0_textsOf_5 : decode cX0_textsOf 5 = .ok (.iconst 0, 1) := dk_3 (dk_at dksX0_textsOf_0 5 rfl rfl)
theorem dX0_textsOf_6 : decode cX0_textsOf 6 = .ok (.istore 4, 2) := dk_54 4 (dk_at dksX0_textsOf_0 6 rfl rfl)
theorem dX0_textsOf_8 : decode cX0_textsOf 8 = .ok (.iconst 0, 1) := dk_3 (dk_at dksX0_textsOf_0 8 rfl rfl)
theorem dX0_textsOf_9 : decode cX0_textsOf 9 = .ok (.istore 5, 2) := dk_54 5 (dk_at dksX0_textsOf_0 9 rfl rfl)
theorem dX0_textsOf_11 : decode cX0_textsOf 11 = .ok (.iload 5, 2) := dk_21 5 (dk_at dksX0_textsOf_0 11 rfl rfl)
theorem dX0_textsOf_13 : decode cX0_textsOf 13 = .ok (.aload_n 0, 1) := dk_42 (dk_at dksX0_textsOf_0 13 rfl rfl)
theorem dX0_textsOf_14 : decode cX0_textsOf 14 = .ok (.getfield 263, 3) := dk_180 1 7 (dk_at dksX0_textsOf_0 14 rfl rfl)
theorem dX0_textsOf_17 : decode cX0_textsOf 17 = .ok (.if_icmp .ge 38, 3) := dk_162 0 38 (dk_at dksX0_textsOf_0 17 rfl rfl)
theorem dX0_textsOf_20 : decode cX0_textsOf 20 = .ok (.aload_n 0, 1) := dk_42 (dk_at dksX0_textsOf_0 20 rfl rfl)
theorem dX0_textsOf_21 : decode cX0_textsOf 21 = .ok (.iload 5, 2) := dk_21 5 (dk_at dksX0_textsOf_0 21 rfl rfl)
theorem dX0_textsOf_23 : decode cX0_textsOf 23 = .ok (.putfield 346, 3) := dk_181 1 90 (dk_at dksX0_textsOf_1 0 rfl rfl)
theorem dX0_textsOf_26 : decode cX0_textsOf 26 = .ok (.iload 4, 2) := dk_21 4 (dk_at dksX0_textsOf_1 3 rfl rfl)
theorem dX0_textsOf_28 : decode cX0_textsOf 28 = .ok (.aload_n 0, 1) := dk_42 (dk_at dksX0_textsOf_1 5 rfl rfl)
theorem dX0_textsOf_29 : decode cX0_textsOf 29 = .ok (.aload_n 1, 1) := dk_43 (dk_at dksX0_textsOf_1 6 rfl rfl)
theorem dX0_textsOf_30 : decode cX0_textsOf 30 = .ok (.iload_n 2, 1) := dk_28 (dk_at dksX0_textsOf_1 7 rfl rfl)
theorem dX0_textsOf_31 : decode cX0_textsOf 31 = .ok (.invokevirtual 473, 3) := dk_182 1 217 (dk_at dksX0_textsOf_1 8 rfl rfl)
theorem dX0_textsOf_34 : decode cX0_textsOf 34 = .ok (.iconst (-1), 1) := dk_2 (dk_at dksX0_textsOf_1 11 rfl rfl)
theorem dX0_textsOf_35 : decode cX0_textsOf 35 = .ok (.if_icmp .ne 10, 3) := dk_160 0 10 (dk_at dksX0_textsOf_1 12 rfl rfl)
theorem dX0_textsOf_38 : decode cX0_textsOf 38 = .ok (.iconst 1, 1) := dk_4 (dk_at dksX0_textsOf_1 15 rfl rfl)
theorem dX0_textsOf_39 : decode cX0_textsOf 39 = .ok (.iload 5, 2) := dk_21 5 (dk_at dksX0_textsOf_1 16 rfl rfl)
theorem dX0_textsOf_41 : decode cX0_textsOf 41 = .ok (.ishl, 1) := dk_120 (dk_at dksX0_textsOf_1 18 rfl rfl)
theorem dX0_textsOf_42 : decode cX0_textsOf 42 = .ok (.goto 4, 3) := dk_167 0 4 (dk_at dksX0_textsOf_1 19 rfl rfl)
theorem dX0_textsOf_45 : decode cX0_textsOf 45 = .ok (.iconst 0, 1) := dk_3 (dk_at dksX0_textsOf_1 22 rfl rfl)
theorem dX0_textsOf_46 : decode cX0_textsOf 46 = .ok (.ior, 1) := dk_128 (dk_at dksX0_textsOf_1 23 rfl rfl)
theorem dX0_textsOf_47 : decode cX0_textsOf 47 = .ok (.istore 4, 2) := dk_54 4 (dk_at dksX0_textsOf_2 0 rfl rfl)
theorem dX0_textsOf_49 : decode cX0_textsOf 49 = .ok (.iinc 5 1, 3) := dk_132 5 1 (dk_at dksX0_textsOf_2 2 rfl rfl)
theorem dX0_textsOf_52 : decode cX0_textsOf 52 = .ok (.goto (-41), 3) := dk_167 255 215 (dk_at dksX0_textsOf_2 5 rfl rfl)
theorem dX0_textsOf_55 : decode cX0_textsOf 55 = .ok (.aload_n 0, 1) := dk_42 (dk_at dksX0_textsOf_2 8 rfl rfl)
theorem dX0_textsOf_56 : decode cX0_textsOf 56 = .ok (.iload_n 3, 1) := dk_29 (dk_at dksX0_textsOf_2 9 rfl rfl)
theorem dX0_textsOf_57 : decode cX0_textsOf 57 = .ok (.putfield 346, 3) := dk_181 1 90 (dk_at dksX0_textsOf_2 10 rfl rfl)
theorem dX0_textsOf_60 : decode cX0_textsOf 60 = .ok (.goto 13, 3) := dk_167 0 13 (dk_at dksX0_textsOf_2 13 rfl rfl)
theorem dX0_textsOf_63 : decode cX0_textsOf 63 = .ok (.astore 6, 2) := dk_58 6 (dk_at dksX0_textsOf_2 16 rfl rfl)
theorem dX0_textsOf_65 : decode cX0_textsOf 65 = .ok (.aload_n 0, 1) := dk_42 (dk_at dksX0_textsOf_2 18 rfl rfl)
theorem dX0_textsOf_66 : decode cX0_textsOf 66 = .ok (.iload_n 3, 1) := dk_29 (dk_at dksX0_textsOf_2 19 rfl rfl)
theorem dX0_textsOf_67 : decode cX0_textsOf 67 = .ok (.putfield 346, 3) := dk_181 1 90 (dk_at dksX0_textsOf_2 20 rfl rfl)
theorem dX0_textsOf_70 : decode cX0_textsOf 70 = .ok (.aload 6, 2) := dk_25 6 (dk_at dksX0_textsOf_3 0 rfl rfl)
theorem dX0_textsOf_72 : decode cX0_textsOf 72 = .ok (.athrow, 1) := dk_191 (dk_at dksX0_textsOf_3 2 rfl rfl)
theorem dX0_textsOf_73 : decode cX0_textsOf 73 = .ok (.iload 4, 2) := dk_21 4 (dk_at dksX0_textsOf_3 3 rfl rfl)
theorem dX0_textsOf_75 : decode cX0_textsOf 75 = .ok (.ireturn, 1) := dk_172 (dk_at dksX0_textsOf_3 5 rfl rfl)
abbrev cX0_livesOf : ByteArray := prog_1_method_79_code
def yX0_livesOf : MethodName := ⟨RX0, "livesOf", "(Ljava/lang/Object;)I"⟩
def dkwX0_livesOf_1 : List UInt8 := [29, 120, 167, 0, 4, 3, 128, 61, 132, 3, 1, 167, 255, 225, 28, 172]
abbrev dktX0_livesOf_1 : List UInt8 := dkwX0_livesOf_1 ++ []
def dkwX0_livesOf_0 : List UInt8 := [3, 61, 3, 62, 29, 42, 180, 0, 18, 162, 0, 29, 28, 42, 43, 29, 182, 1, 217, 2, 160, 0, 9, 4]
abbrev dktX0_livesOf_0 : List UInt8 := dkwX0_livesOf_0 ++ dktX0_livesOf_1
theorem dksX0_livesOf_0 : cX0_livesOf.data.toList.drop 0 = dktX0_livesOf_0 := by decide +kernel
theorem dksX0_livesOf_1 : cX0_livesOf.data.toList.drop 24 = dktX0_livesOf_1 := dk_seg dksX0_livesOf_0 24 rfl rfl
theorem dX0_livesOf_0 : decode cX0_livesOf 0 = .ok (.iconst 0, 1) := dk_3 (dk_at dksX0_livesOf_0 0 rfl rfl)
theorem dX0_livesOf_1 : decode cX0_livesOf 1 = .ok (.istore_n 2, 1) := dk_61 (dk_at dksX0_livesOf_0 1 rfl rfl)
theorem dX0_livesOf_2 : decode cX0_livesOf 2 = .ok (.iconst 0, 1) := dk_3 (dk_at dksX0_livesOf_0 2 rfl rfl)
theorem dX0_livesOf_3 : decode cX0_livesOf 3 = .ok (.istore_n 3, 1) := dk_62 (dk_at dksX0_livesOf_0 3 rfl rfl)
theorem dX0_livesOf_4 : decode cX0_livesOf 4 = .ok (.iload_n 3, 1) := dk_29 (dk_at dksX0_livesOf_0 4 rfl rfl)
theorem dX0_livesOf_5 : decode cX0_livesOf 5 = .ok (.aload_n 0, 1) := dk_42 (dk_at dksX0_livesOf_0 5 rfl rfl)
theorem dX0_livesOf_6 : decode cX0_livesOf 6 = .ok (.getfield 18, 3) := dk_180 0 18 (dk_at dksX0_livesOf_0 6 rfl rfl)
theorem dX0_livesOf_9 : decode cX0_livesOf 9 = .ok (.if_icmp .ge 29, 3) := dk_162 0 29 (dk_at dksX0_livesOf_0 9 rfl rfl)
theorem dX0_livesOf_12 : decode cX0_livesOf 12 = .ok (.iload_n 2, 1) := dk_28 (dk_at dksX0_livesOf_0 12 rfl rfl)
theorem dX0_livesOf_13 : decode cX0_livesOf 13 = .ok (.aload_n 0, 1) := dk_42 (dk_at dksX0_livesOf_0 13 rfl rfl)
theorem dX0_livesOf_14 : decode cX0_livesOf 14 = .ok (.aload_n 1, 1) := dk_43 (dk_at dksX0_livesOf_0 14 rfl rfl)
theorem dX0_livesOf_15 : decode cX0_livesOf 15 = .ok (.iload_n 3, 1) := dk_29 (dk_at dksX0_livesOf_0 15 rfl rfl)
theorem dX0_livesOf_16 : decode cX0_livesOf 16 = .ok (.invokevirtual 473, 3) := dk_182 1 217 (dk_at dksX0_livesOf_0 16 rfl rfl)
theorem dX0_livesOf_19 : decode cX0_livesOf 19 = .ok (.iconst (-1), 1) := dk_2 (dk_at dksX0_livesOf_0 19 rfl rfl)
theorem dX0_livesOf_20 : decode cX0_livesOf 20 = .ok (.if_icmp .ne 9, 3) := dk_160 0 9 (dk_at dksX0_livesOf_0 20 rfl rfl)
theorem dX0_livesOf_23 : decode cX0_livesOf 23 = .ok (.iconst 1, 1) := dk_4 (dk_at dksX0_livesOf_0 23 rfl rfl)
theorem dX0_livesOf_24 : decode cX0_livesOf 24 = .ok (.iload_n 3, 1) := dk_29 (dk_at dksX0_livesOf_1 0 rfl rfl)
theorem dX0_livesOf_25 : decode cX0_livesOf 25 = .ok (.ishl, 1) := dk_120 (dk_at dksX0_livesOf_1 1 rfl rfl)
theorem dX0_livesOf_26 : decode cX0_livesOf 26 = .ok (.goto 4, 3) := dk_167 0 4 (dk_at dksX0_livesOf_1 2 rfl rfl)
theorem dX0_livesOf_29 : decode cX0_livesOf 29 = .ok (.iconst 0, 1) := dk_3 (dk_at dksX0_livesOf_1 5 rfl rfl)
theorem dX0_livesOf_30 : decode cX0_livesOf 30 = .ok (.ior, 1) := dk_128 (dk_at dksX0_livesOf_1 6 rfl rfl)
theorem dX0_livesOf_31 : decode cX0_livesOf 31 = .ok (.istore_n 2, 1) := dk_61 (dk_at dksX0_livesOf_1 7 rfl rfl)
theorem dX0_livesOf_32 : decode cX0_livesOf 32 = .ok (.iinc 3 1, 3) := dk_132 3 1 (dk_at dksX0_livesOf_1 8 rfl rfl)
theorem dX0_livesOf_35 : decode cX0_livesOf 35 = .ok (.goto (-31), 3) := dk_167 255 225 (dk_at dksX0_livesOf_1 11 rfl rfl)
theorem dX0_livesOf_38 : decode cX0_livesOf 38 = .ok (.iload_n 2, 1) := dk_28 (dk_at dksX0_livesOf_1 14 rfl rfl)
theorem dX0_livesOf_39 : decode cX0_livesOf 39 = .ok (.ireturn, 1) := dk_172 (dk_at dksX0_livesOf_1 15 rfl rfl)
abbrev cX0_film : ByteArray := prog_1_method_81_code
def yX0_film : MethodName := ⟨RX0, "film", "(III)I"⟩
def dkwX0_film_4 : List UInt8 := [42, 21, 4, 182, 1, 144, 25, 6, 191, 29, 172]
abbrev dktX0_film_4 : List UInt8 := dkwX0_film_4 ++ []
def dkwX0_film_3 : List UInt8 := [180, 0, 80, 182, 1, 255, 87, 132, 5, 1, 167, 255, 225, 42, 21, 4, 182, 1, 144, 167, 0, 14, 58, 6]
abbrev dktX0_film_3 : List UInt8 := dkwX0_film_3 ++ dktX0_film_4
def dkwX0_film_2 : List UInt8 := [3, 54, 5, 21, 5, 29, 162, 0, 31, 42, 2, 182, 1, 123, 42, 27, 21, 5, 42, 180, 0, 53, 28, 50]
abbrev dktX0_film_2 : List UInt8 := dkwX0_film_2 ++ dktX0_film_3
def dkwX0_film_1 : List UInt8 := [154, 0, 6, 16, 254, 172, 42, 27, 3, 29, 182, 1, 252, 87, 42, 180, 0, 74, 54, 4, 42, 182, 1, 138]
abbrev dktX0_film_1 : List UInt8 := dkwX0_film_1 ++ dktX0_film_2
def dkwX0_film_0 : List UInt8 := [27, 184, 1, 228, 153, 0, 23, 42, 28, 182, 0, 64, 153, 0, 15, 29, 133, 9, 20, 1, 163, 184, 0, 14]
abbrev dktX0_film_0 : List UInt8 := dkwX0_film_0 ++ dktX0_film_1
theorem dksX0_film_0 : cX0_film.data.toList.drop 0 = dktX0_film_0 := by decide +kernel
theorem dksX0_film_1 : cX0_film.data.toList.drop 24 = dktX0_film_1 := dk_seg dksX0_film_0 24 rfl rfl
theorem dksX0_film_2 : cX0_film.data.toList.drop 48 = dktX0_film_2 := dk_seg dksX0_film_1 24 rfl rfl
theorem dksX0_film_3 : cX0_film.data.toList.drop 72 = dktX0_film_3 := dk_seg dksX0_film_2 24 rfl rfl
theorem dksX0_film_4 : cX0_film.data.toList.drop 96 = dktX0_film_4 := dk_seg dksX0_film_3 24 rfl rfl
theorem dX0_film_0 : decode cX0_film 0 = .ok (.iload_n 1, 1) := dk_27 (dk_at dksX0_film_0 0 rfl rfl)
theorem dX0_film_1 : decode cX0_film 1 = .ok (.invokestatic 484, 3) := dk_184 1 228 (dk_at dksX0_film_0 1 rfl rfl)
theorem dX0_film_4 : decode cX0_film 4 = .ok (.ifCond .eq 23, 3) := dk_153 0 23 (dk_at dksX0_film_0 4 rfl rfl)
theorem dX0_film_7 : decode cX0_film 7 = .ok (.aload_n 0, 1) := dk_42 (dk_at dksX0_film_0 7 rfl rfl)
theorem dX0_film_8 : decode cX0_film 8 = .ok (.iload_n 2, 1) := dk_28 (dk_at dksX0_film_0 8 rfl rfl)
theorem dX0_film_9 : decode cX0_film 9 = .ok (.invokevirtual 64, 3) := dk_182 0 64 (dk_at dksX0_film_0 9 rfl rfl)
theorem dX0_film_12 : decode cX0_film 12 = .ok (.ifCond .eq 15, 3) := dk_153 0 15 (dk_at dksX0_film_0 12 rfl rfl)
theorem dX0_film_15 : decode cX0_film 15 = .ok (.iload_n 3, 1) := dk_29 (dk_at dksX0_film_0 15 rfl rfl)
theorem dX0_film_16 : decode cX0_film 16 = .ok (.i2l, 1) := dk_133 (dk_at dksX0_film_0 16 rfl rfl)
theorem dX0_film_17 : decode cX0_film 17 = .ok (.lconst 0, 1) := dk_9 (dk_at dksX0_film_0 17 rfl rfl)
theorem dX0_film_18 : decode cX0_film 18 = .ok (.ldc2_w 419, 3) := dk_20 1 163 (dk_at dksX0_film_0 18 rfl rfl)
theorem dX0_film_21 : decode cX0_film 21 = .ok (.invokestatic 14, 3) := dk_184 0 14 (dk_at dksX0_film_0 21 rfl rfl)
theorem dX0_film_24 : decode cX0_film 24 = .ok (.ifCond .ne 6, 3) := dk_154 0 6 (dk_at dksX0_film_1 0 rfl rfl)
theorem dX0_film_27 : decode cX0_film 27 = .ok (.bipush (-2), 2) := dk_16 254 (dk_at dksX0_film_1 3 rfl rfl)
theorem dX0_film_29 : decode cX0_film 29 = .ok (.ireturn, 1) := dk_172 (dk_at dksX0_film_1 5 rfl rfl)
theorem dX0_film_30 : decode cX0_film 30 = .ok (.aload_n 0, 1) := dk_42 (dk_at dksX0_film_1 6 rfl rfl)
theorem dX0_film_31 : decode cX0_film 31 = .ok (.iload_n 1, 1) := dk_27 (dk_at dksX0_film_1 7 rfl rfl)
theorem dX0_film_32 : decode cX0_film 32 = .ok (.iconst 0, 1) := dk_3 (dk_at dksX0_film_1 8 rfl rfl)
theorem dX0_film_33 : decode cX0_film 33 = .ok (.iload_n 3, 1) := dk_29 (dk_at dksX0_film_1 9 rfl rfl)
theorem dX0_film_34 : decode cX0_film 34 = .ok (.invokevirtual 508, 3) := dk_182 1 252 (dk_at dksX0_film_1 10 rfl rfl)
theorem dX0_film_37 : decode cX0_film 37 = .ok (.pop, 1) := dk_87 (dk_at dksX0_film_1 13 rfl rfl)
theorem dX0_film_38 : decode cX0_film 38 = .ok (.aload_n 0, 1) := dk_42 (dk_at dksX0_film_1 14 rfl rfl)
theorem dX0_film_39 : decode cX0_film 39 = .ok (.getfield 74, 3) := dk_180 0 74 (dk_at dksX0_film_1 15 rfl rfl)
theorem dX0_film_42 : decode cX0_film 42 = .ok (.istore 4, 2) := dk_54 4 (dk_at dksX0_film_1 18 rfl rfl)
theorem dX0_film_44 : decode cX0_film 44 = .ok (.aload_n 0, 1) := dk_42 (dk_at dksX0_film_1 20 rfl rfl)
theorem dX0_film_45 : decode cX0_film 45 = .ok (.invokevirtual 394, 3) := dk_182 1 138 (dk_at dksX0_film_1 21 rfl rfl)
theorem dX0_film_48 : decode cX0_film 48 = .ok (.iconst 0, 1) := dk_3 (dk_at dksX0_film_2 0 rfl rfl)
theorem dX0_film_49 : decode cX0_film 49 = .ok (.istore 5, 2) := dk_54 5 (dk_at dksX0_film_2 1 rfl rfl)
theorem dX0_film_51 : decode cX0_film 51 = .ok (.iload 5, 2) := dk_21 5 (dk_at dksX0_film_2 3 rfl rfl)
theorem dX0_film_53 : decode cX0_film 53 = .ok (.iload_n 3, 1) := dk_29 (dk_at dksX0_film_2 5 rfl rfl)
theorem dX0_film_54 : decode cX0_film 54 = .ok (.if_icmp .ge 31, 3) := dk_162 0 31 (dk_at dksX0_film_2 6 rfl rfl)
theorem dX0_film_57 : decode cX0_film 57 = .ok (.aload_n 0, 1) := dk_42 (dk_at dksX0_film_2 9 rfl rfl)
theorem dX0_film_58 : decode cX0_film 58 = .ok (.iconst (-1), 1) := dk_2 (dk_at dksX0_film_2 10 rfl rfl)
theorem dX0_film_59 : decode cX0_film 59 = .ok (.invokevirtual 379, 3) := dk_182 1 123 (dk_at dksX0_film_2 11 rfl rfl)
theorem dX0_film_62 : decode cX0_film 62 = .ok (.aload_n 0, 1) := dk_42 (dk_at dksX0_film_2 14 rfl rfl)
theorem dX0_film_63 : decode cX0_film 63 = .ok (.iload_n 1, 1) := dk_27 (dk_at dksX0_film_2 15 rfl rfl)
theorem dX0_film_64 : decode cX0_film 64 = .ok (.iload 5, 2) := dk_21 5 (dk_at dksX0_film_2 16 rfl rfl)
theorem dX0_film_66 : decode cX0_film 66 = .ok (.aload_n 0, 1) := dk_42 (dk_at dksX0_film_2 18 rfl rfl)
theorem dX0_film_67 : decode cX0_film 67 = .ok (.getfield 53, 3) := dk_180 0 53 (dk_at dksX0_film_2 19 rfl rfl)
theorem dX0_film_70 : decode cX0_film 70 = .ok (.iload_n 2, 1) := dk_28 (dk_at dksX0_film_2 22 rfl rfl)
theorem dX0_film_71 : decode cX0_film 71 = .ok (.aaload, 1) := dk_50 (dk_at dksX0_film_2 23 rfl rfl)
theorem dX0_film_72 : decode cX0_film 72 = .ok (.getfield 80, 3) := dk_180 0 80 (dk_at dksX0_film_3 0 rfl rfl)
theorem dX0_film_75 : decode cX0_film 75 = .ok (.invokevirtual 511, 3) := dk_182 1 255 (dk_at dksX0_film_3 3 rfl rfl)
theorem dX0_film_78 : decode cX0_film 78 = .ok (.pop, 1) := dk_87 (dk_at dksX0_film_3 6 rfl rfl)
theorem dX0_film_79 : decode cX0_film 79 = .ok (.iinc 5 1, 3) := dk_132 5 1 (dk_at dksX0_film_3 7 rfl rfl)
theorem dX0_film_82 : decode cX0_film 82 = .ok (.goto (-31), 3) := dk_167 255 225 (dk_at dksX0_film_3 10 rfl rfl)
theorem dX0_film_85 : decode cX0_film 85 = .ok (.aload_n 0, 1) := dk_42 (dk_at dksX0_film_3 13 rfl rfl)
theorem dX0_film_86 : decode cX0_film 86 = .ok (.iload 4, 2) := dk_21 4 (dk_at dksX0_film_3 14 rfl rfl)
theorem dX0_film_88 : decode cX0_film 88 = .ok (.invokevirtual 400, 3) := dk_182 1 144 (dk_at dksX0_film_3 16 rfl rfl)
theorem dX0_film_91 : decode cX0_film 91 = .ok (.goto 14, 3) := dk_167 0 14 (dk_at dksX0_film_3 19 rfl rfl)
theorem dX0_film_94 : decode cX0_film 94 = .ok (.astore 6, 2) := dk_58 6 (dk_at dksX0_film_3 22 rfl rfl)
theorem dX0_film_96 : decode cX0_film 96 = .ok (.aload_n 0, 1) := dk_42 (dk_at dksX0_film_4 0 rfl rfl)
theorem dX0_film_97 : decode cX0_film 97 = .ok (.iload 4, 2) := dk_21 4 (dk_at dksX0_film_4 1 rfl rfl)
theorem dX0_film_99 : decode cX0_film 99 = .ok (.invokevirtual 400, 3) := dk_182 1 144 (dk_at dksX0_film_4 3 rfl rfl)
theorem dX0_film_102 : decode cX0_film 102 = .ok (.aload 6, 2) := dk_25 6 (dk_at dksX0_film_4 6 rfl rfl)
theorem dX0_film_104 : decode cX0_film 104 = .ok (.athrow, 1) := dk_191 (dk_at dksX0_film_4 8 rfl rfl)
theorem dX0_film_105 : decode cX0_film 105 = .ok (.iload_n 3, 1) := dk_29 (dk_at dksX0_film_4 9 rfl rfl)
theorem dX0_film_106 : decode cX0_film 106 = .ok (.ireturn, 1) := dk_172 (dk_at dksX0_film_4 10 rfl rfl)
abbrev cX0_sheet : ByteArray := prog_1_method_90_code
def yX0_sheet : MethodName := ⟨RX0, "sheet", "(III)I"⟩
def dkwX0_sheet_3 : List UInt8 := [16, 242, 172]
abbrev dktX0_sheet_3 : List UInt8 := dkwX0_sheet_3 ++ []
def dkwX0_sheet_2 : List UInt8 := [181, 1, 231, 4, 172, 42, 180, 1, 77, 27, 50, 28, 29, 184, 2, 14, 181, 1, 231, 4, 172, 58, 4]
abbrev dktX0_sheet_2 : List UInt8 := dkwX0_sheet_2 ++ dktX0_sheet_3
def dkwX0_sheet_1 : List UInt8 := [159, 0, 12, 29, 16, 40, 164, 0, 6, 16, 254, 172, 28, 2, 160, 0, 15, 42, 180, 1, 77, 27, 50, 1]
abbrev dktX0_sheet_1 : List UInt8 := dkwX0_sheet_1 ++ dktX0_sheet_2
def dkwX0_sheet_0 : List UInt8 := [27, 184, 1, 228, 153, 0, 28, 28, 133, 20, 2, 12, 20, 1, 147, 184, 0, 14, 153, 0, 14, 28, 2]
abbrev dktX0_sheet_0 : List UInt8 := dkwX0_sheet_0 ++ dktX0_sheet_1
theorem dksX0_sheet_0 : cX0_sheet.data.toList.drop 0 = dktX0_sheet_0 := by decide +kernel
theorem dksX0_sheet_1 : cX0_sheet.data.toList.drop 23 = dktX0_sheet_1 := dk_seg dksX0_sheet_0 23 rfl rfl
theorem dksX0_sheet_2 : cX0_sheet.data.toList.drop 47 = dktX0_sheet_2 := dk_seg dksX0_sheet_1 24 rfl rfl
theorem dksX0_sheet_3 : cX0_sheet.data.toList.drop 70 = dktX0_sheet_3 := dk_seg dksX0_sheet_2 23 rfl rfl
theorem dX0_sheet_0 : decode cX0_sheet 0 = .ok (.iload_n 1, 1) := dk_27 (dk_at dksX0_sheet_0 0 rfl rfl)
theorem dX0_sheet_1 : decode cX0_sheet 1 = .ok (.invokestatic 484, 3) := dk_184 1 228 (dk_at dksX0_sheet_0 1 rfl rfl)
theorem dX0_sheet_4 : decode cX0_sheet 4 = .ok (.ifCond .eq 28, 3) := dk_153 0 28 (dk_at dksX0_sheet_0 4 rfl rfl)
theorem dX0_sheet_7 : decode cX0_sheet 7 = .ok (.iload_n 2, 1) := dk_28 (dk_at dksX0_sheet_0 7 rfl rfl)
theorem dX0_sheet_8 : decode cX0_sheet 8 = .ok (.i2l, 1) := dk_133 (dk_at dksX0_sheet_0 8 rfl rfl)
theorem dX0_sheet_9 : decode cX0_sheet 9 = .ok (.ldc2_w 524, 3) := dk_20 2 12 (dk_at dksX0_sheet_0 9 rfl rfl)
theorem dX0_sheet_12 : decode cX0_sheet 12 = .ok (.ldc2_w 403, 3) := dk_20 1 147 (dk_at dksX0_sheet_0 12 rfl rfl)
theorem dX0_sheet_15 : decode cX0_sheet 15 = .ok (.invokestatic 14, 3) := dk_184 0 14 (dk_at dksX0_sheet_0 15 rfl rfl)
theorem dX0_sheet_18 : decode cX0_sheet 18 = .ok (.ifCond .eq 14, 3) := dk_153 0 14 (dk_at dksX0_sheet_0 18 rfl rfl)
theorem dX0_sheet_21 : decode cX0_sheet 21 = .ok (.iload_n 2, 1) := dk_28 (dk_at dksX0_sheet_0 21 rfl rfl)
theorem dX0_sheet_22 : decode cX0_sheet 22 = .ok (.iconst (-1), 1) := dk_2 (dk_at dksX0_sheet_0 22 rfl rfl)
theorem dX0_sheet_23 : decode cX0_sheet 23 = .ok (.if_icmp .eq 12, 3) := dk_159 0 12 (dk_at dksX0_sheet_1 0 rfl rfl)
theorem dX0_sheet_26 : decode cX0_sheet 26 = .ok (.iload_n 3, 1) := dk_29 (dk_at dksX0_sheet_1 3 rfl rfl)
theorem dX0_sheet_27 : decode cX0_sheet 27 = .ok (.bipush 40, 2) := dk_16 40 (dk_at dksX0_sheet_1 4 rfl rfl)
theorem dX0_sheet_29 : decode cX0_sheet 29 = .ok (.if_icmp .le 6, 3) := dk_164 0 6 (dk_at dksX0_sheet_1 6 rfl rfl)
theorem dX0_sheet_32 : decode cX0_sheet 32 = .ok (.bipush (-2), 2) := dk_16 254 (dk_at dksX0_sheet_1 9 rfl rfl)
theorem dX0_sheet_34 : decode cX0_sheet 34 = .ok (.ireturn, 1) := dk_172 (dk_at dksX0_sheet_1 11 rfl rfl)
theorem dX0_sheet_35 : decode cX0_sheet 35 = .ok (.iload_n 2, 1) := dk_28 (dk_at dksX0_sheet_1 12 rfl rfl)
theorem dX0_sheet_36 : decode cX0_sheet 36 = .ok (.iconst (-1), 1) := dk_2 (dk_at dksX0_sheet_1 13 rfl rfl)
theorem dX0_sheet_37 : decode cX0_sheet 37 = .ok (.if_icmp .ne 15, 3) := dk_160 0 15 (dk_at dksX0_sheet_1 14 rfl rfl)
theorem dX0_sheet_40 : decode cX0_sheet 40 = .ok (.aload_n 0, 1) := dk_42 (dk_at dksX0_sheet_1 17 rfl rfl)
theorem dX0_sheet_41 : decode cX0_sheet 41 = .ok (.getfield 333, 3) := dk_180 1 77 (dk_at dksX0_sheet_1 18 rfl rfl)
theorem dX0_sheet_44 : decode cX0_sheet 44 = .ok (.iload_n 1, 1) := dk_27 (dk_at dksX0_sheet_1 21 rfl rfl)
theorem dX0_sheet_45 : decode cX0_sheet 45 = .ok (.aaload, 1) := dk_50 (dk_at dksX0_sheet_1 22 rfl rfl)
theorem dX0_sheet_46 : decode cX0_sheet 46 = .ok (.aconst_null, 1) := dk_1 (dk_at dksX0_sheet_1 23 rfl rfl)
theorem dX0_sheet_47 : decode cX0_sheet 47 = .ok (.putfield 487, 3) := dk_181 1 231 (dk_at dksX0_sheet_2 0 rfl rfl)
theorem dX0_sheet_50 : decode cX0_sheet 50 = .ok (.iconst 1, 1) := dk_4 (dk_at dksX0_sheet_2 3 rfl rfl)
theorem dX0_sheet_51 : decode cX0_sheet 51 = .ok (.ireturn, 1) := dk_172 (dk_at dksX0_sheet_2 4 rfl rfl)
theorem dX0_sheet_52 : decode cX0_sheet 52 = .ok (.aload_n 0, 1) := dk_42 (dk_at dksX0_sheet_2 5 rfl rfl)
theorem dX0_sheet_53 : decode cX0_sheet 53 = .ok (.getfield 333, 3) := dk_180 1 77 (dk_at dksX0_sheet_2 6 rfl rfl)
theorem dX0_sheet_56 : decode cX0_sheet 56 = .ok (.iload_n 1, 1) := dk_27 (dk_at dksX0_sheet_2 9 rfl rfl)
theorem dX0_sheet_57 : decode cX0_sheet 57 = .ok (.aaload, 1) := dk_50 (dk_at dksX0_sheet_2 10 rfl rfl)
theorem dX0_sheet_58 : decode cX0_sheet 58 = .ok (.iload_n 2, 1) := dk_28 (dk_at dksX0_sheet_2 11 rfl rfl)
theorem dX0_sheet_59 : decode cX0_sheet 59 = .ok (.iload_n 3, 1) := dk_29 (dk_at dksX0_sheet_2 12 rfl rfl)
theorem dX0_sheet_60 : decode cX0_sheet 60 = .ok (.invokestatic 526, 3) := dk_184 2 14 (dk_at dksX0_sheet_2 13 rfl rfl)
theorem dX0_sheet_63 : decode cX0_sheet 63 = .ok (.putfield 487, 3) := dk_181 1 231 (dk_at dksX0_sheet_2 16 rfl rfl)
theorem dX0_sheet_66 : decode cX0_sheet 66 = .ok (.iconst 1, 1) := dk_4 (dk_at dksX0_sheet_2 19 rfl rfl)
theorem dX0_sheet_67 : decode cX0_sheet 67 = .ok (.ireturn, 1) := dk_172 (dk_at dksX0_sheet_2 20 rfl rfl)
theorem dX0_sheet_68 : decode cX0_sheet 68 = .ok (.astore 4, 2) := dk_58 4 (dk_at dksX0_sheet_2 21 rfl rfl)
theorem dX0_sheet_70 : decode cX0_sheet 70 = .ok (.bipush (-14), 2) := dk_16 242 (dk_at dksX0_sheet_3 0 rfl rfl)
theorem dX0_sheet_72 : decode cX0_sheet 72 = .ok (.ireturn, 1) := dk_172 (dk_at dksX0_sheet_3 2 rfl rfl)
abbrev cX0_rowOf : ByteArray := prog_1_method_89_code
def yX0_rowOf : MethodName := ⟨RX0, "rowOf", "(II)Ljava/lang/Object;"⟩
def dkwX0_rowOf_2 : List UInt8 := [27, 188, 8, 176, 27, 188, 9, 176, 27, 188, 10, 176]
abbrev dktX0_rowOf_2 : List UInt8 := dkwX0_rowOf_2 ++ []
def dkwX0_rowOf_1 : List UInt8 := [171, 0, 0, 0, 0, 0, 35, 0, 0, 0, 2, 0, 0, 0, 0, 0, 0, 0, 27, 0, 0, 0, 1, 0, 0, 0, 31]
abbrev dktX0_rowOf_1 : List UInt8 := dkwX0_rowOf_1 ++ dktX0_rowOf_2
def dkwX0_rowOf_0 : List UInt8 := [26]
abbrev dktX0_rowOf_0 : List UInt8 := dkwX0_rowOf_0 ++ dktX0_rowOf_1
theorem dksX0_rowOf_0 : cX0_rowOf.data.toList.drop 0 = dktX0_rowOf_0 := by decide +kernel
theorem dksX0_rowOf_1 : cX0_rowOf.data.toList.drop 1 = dktX0_rowOf_1 := dk_seg dksX0_rowOf_0 1 rfl rfl
theorem dksX0_rowOf_2 : cX0_rowOf.data.toList.drop 28 = dktX0_rowOf_2 := dk_seg dksX0_rowOf_1 27 rfl rfl
theorem dX0_rowOf_0 : decode cX0_rowOf 0 = .ok (.iload_n 0, 1) := dk_26 (dk_at dksX0_rowOf_0 0 rfl rfl)
theorem dX0_rowOf_1 : decode cX0_rowOf 1 = .ok (.lookupswitch 35 #[(0, 27), (1, 31)], 27) := by decide +kernel
theorem dX0_rowOf_28 : decode cX0_rowOf 28 = .ok (.iload_n 1, 1) := dk_27 (dk_at dksX0_rowOf_2 0 rfl rfl)
theorem dX0_rowOf_29 : decode cX0_rowOf 29 = .ok (.newarray .byte, 2) := dk_188_8 (dk_at dksX0_rowOf_2 1 rfl rfl)
theorem dX0_rowOf_31 : decode cX0_rowOf 31 = .ok (.areturn, 1) := dk_176 (dk_at dksX0_rowOf_2 3 rfl rfl)
theorem dX0_rowOf_32 : decode cX0_rowOf 32 = .ok (.iload_n 1, 1) := dk_27 (dk_at dksX0_rowOf_2 4 rfl rfl)
theorem dX0_rowOf_33 : decode cX0_rowOf 33 = .ok (.newarray .short, 2) := dk_188_9 (dk_at dksX0_rowOf_2 5 rfl rfl)
theorem dX0_rowOf_35 : decode cX0_rowOf 35 = .ok (.areturn, 1) := dk_176 (dk_at dksX0_rowOf_2 7 rfl rfl)
theorem dX0_rowOf_36 : decode cX0_rowOf 36 = .ok (.iload_n 1, 1) := dk_27 (dk_at dksX0_rowOf_2 8 rfl rfl)
theorem dX0_rowOf_37 : decode cX0_rowOf 37 = .ok (.newarray .int, 2) := dk_188_10 (dk_at dksX0_rowOf_2 9 rfl rfl)
theorem dX0_rowOf_39 : decode cX0_rowOf 39 = .ok (.areturn, 1) := dk_176 (dk_at dksX0_rowOf_2 11 rfl rfl)
abbrev cX0_cell : ByteArray := prog_1_method_92_code
def yX0_cell : MethodName := ⟨RX0, "cell", "(III)I"⟩
def dkwX0_cell_1 : List UInt8 := [172, 58, 4, 16, 245, 172, 58, 4, 16, 244, 172]
abbrev dktX0_cell_1 : List UInt8 := dkwX0_cell_1 ++ []
def dkwX0_cell_0 : List UInt8 := [27, 184, 1, 228, 154, 0, 6, 16, 254, 172, 42, 180, 1, 77, 27, 50, 180, 1, 231, 28, 29, 184, 2, 27]
abbrev dktX0_cell_0 : List UInt8 := dkwX0_cell_0 ++ dktX0_cell_1
theorem dksX0_cell_0 : cX0_cell.data.toList.drop 0 = dktX0_cell_0 := by decide +kernel
theorem dksX0_cell_1 : cX0_cell.data.toList.drop 24 = dktX0_cell_1 := dk_seg dksX0_cell_0 24 rfl rfl
theorem dX0_cell_0 : decode cX0_cell 0 = .ok (.iload_n 1, 1) := dk_27 (dk_at dksX0_cell_0 0 rfl rfl)
theorem dX0_cell_1 : decode cX0_cell 1 = .ok (.invokestatic 484, 3) := dk_184 1 228 (dk_at dksX0_cell_0 1 rfl rfl)
theorem dX0_cell_4 : decode cX0_cell 4 = .ok (.ifCond .ne 6, 3) := dk_154 0 6 (dk_at dksX0_cell_0 4 rfl rfl)
theorem dX0_cell_7 : decode cX0_cell 7 = .ok (.bipush (-2), 2) := dk_16 254 (dk_at dksX0_cell_0 7 rfl rfl)
theorem dX0_cell_9 : decode cX0_cell 9 = .ok (.ireturn, 1) := dk_172 (dk_at dksX0_cell_0 9 rfl rfl)
theorem dX0_cell_10 : decode cX0_cell 10 = .ok (.aload_n 0, 1) := dk_42 (dk_at dksX0_cell_0 10 rfl rfl)
theorem dX0_cell_11 : decode cX0_cell 11 = .ok (.getfield 333, 3) := dk_180 1 77 (dk_at dksX0_cell_0 11 rfl rfl)
theorem dX0_cell_14 : decode cX0_cell 14 = .ok (.iload_n 1, 1) := dk_27 (dk_at dksX0_cell_0 14 rfl rfl)
theorem dX0_cell_15 : decode cX0_cell 15 = .ok (.aaload, 1) := dk_50 (dk_at dksX0_cell_0 15 rfl rfl)
theorem dX0_cell_16 : decode cX0_cell 16 = .ok (.getfield 487, 3) := dk_180 1 231 (dk_at dksX0_cell_0 16 rfl rfl)
theorem dX0_cell_19 : decode cX0_cell 19 = .ok (.iload_n 2, 1) := dk_28 (dk_at dksX0_cell_0 19 rfl rfl)
theorem dX0_cell_20 : decode cX0_cell 20 = .ok (.iload_n 3, 1) := dk_29 (dk_at dksX0_cell_0 20 rfl rfl)
theorem dX0_cell_21 : decode cX0_cell 21 = .ok (.invokestatic 539, 3) := dk_184 2 27 (dk_at dksX0_cell_0 21 rfl rfl)
theorem dX0_cell_24 : decode cX0_cell 24 = .ok (.ireturn, 1) := dk_172 (dk_at dksX0_cell_1 0 rfl rfl)
theorem dX0_cell_25 : decode cX0_cell 25 = .ok (.astore 4, 2) := dk_58 4 (dk_at dksX0_cell_1 1 rfl rfl)
theorem dX0_cell_27 : decode cX0_cell 27 = .ok (.bipush (-11), 2) := dk_16 245 (dk_at dksX0_cell_1 3 rfl rfl)
theorem dX0_cell_29 : decode cX0_cell 29 = .ok (.ireturn, 1) := dk_172 (dk_at dksX0_cell_1 5 rfl rfl)
theorem dX0_cell_30 : decode cX0_cell 30 = .ok (.astore 4, 2) := dk_58 4 (dk_at dksX0_cell_1 6 rfl rfl)
theorem dX0_cell_32 : decode cX0_cell 32 = .ok (.bipush (-12), 2) := dk_16 244 (dk_at dksX0_cell_1 8 rfl rfl)
theorem dX0_cell_34 : decode cX0_cell 34 = .ok (.ireturn, 1) := dk_172 (dk_at dksX0_cell_1 10 rfl rfl)
abbrev cX0_put : ByteArray := prog_1_method_91_code
def yX0_put : MethodName := ⟨RX0, "put", "(Ljava/lang/Object;II)I"⟩
def dkwX0_put_2 : List UInt8 := [28, 147, 86, 167, 0, 19, 27, 42, 192, 2, 26, 190, 184, 2, 21, 42, 192, 2, 26, 27, 28, 79, 4, 172]
abbrev dktX0_put_2 : List UInt8 := dkwX0_put_2 ++ []
def dkwX0_put_1 : List UInt8 := [167, 0, 46, 42, 193, 2, 24, 153, 0, 23, 27, 42, 192, 2, 24, 190, 184, 2, 21, 42, 192, 2, 24, 27]
abbrev dktX0_put_1 : List UInt8 := dkwX0_put_1 ++ dktX0_put_2
def dkwX0_put_0 : List UInt8 := [42, 193, 2, 20, 153, 0, 23, 27, 42, 192, 2, 20, 190, 184, 2, 21, 42, 192, 2, 20, 27, 28, 145, 84]
abbrev dktX0_put_0 : List UInt8 := dkwX0_put_0 ++ dktX0_put_1
theorem dksX0_put_0 : cX0_put.data.toList.drop 0 = dktX0_put_0 := by decide +kernel
theorem dksX0_put_1 : cX0_put.data.toList.drop 24 = dktX0_put_1 := dk_seg dksX0_put_0 24 rfl rfl
theorem dksX0_put_2 : cX0_put.data.toList.drop 48 = dktX0_put_2 := dk_seg dksX0_put_1 24 rfl rfl
theorem dX0_put_0 : decode cX0_put 0 = .ok (.aload_n 0, 1) := dk_42 (dk_at dksX0_put_0 0 rfl rfl)
theorem dX0_put_1 : decode cX0_put 1 = .ok (.instanceof 532, 3) := dk_193 2 20 (dk_at dksX0_put_0 1 rfl rfl)
theorem dX0_put_4 : decode cX0_put 4 = .ok (.ifCond .eq 23, 3) := dk_153 0 23 (dk_at dksX0_put_0 4 rfl rfl)
theorem dX0_put_7 : decode cX0_put 7 = .ok (.iload_n 1, 1) := dk_27 (dk_at dksX0_put_0 7 rfl rfl)
theorem dX0_put_8 : decode cX0_put 8 = .ok (.aload_n 0, 1) := dk_42 (dk_at dksX0_put_0 8 rfl rfl)
theorem dX0_put_9 : decode cX0_put 9 = .ok (.checkcast 532, 3) := dk_192 2 20 (dk_at dksX0_put_0 9 rfl rfl)
theorem dX0_put_12 : decode cX0_put 12 = .ok (.arraylength, 1) := dk_190 (dk_at dksX0_put_0 12 rfl rfl)
theorem dX0_put_13 : decode cX0_put 13 = .ok (.invokestatic 533, 3) := dk_184 2 21 (dk_at dksX0_put_0 13 rfl rfl)
theorem dX0_put_16 : decode cX0_put 16 = .ok (.aload_n 0, 1) := dk_42 (dk_at dksX0_put_0 16 rfl rfl)
theorem dX0_put_17 : decode cX0_put 17 = .ok (.checkcast 532, 3) := dk_192 2 20 (dk_at dksX0_put_0 17 rfl rfl)
theorem dX0_put_20 : decode cX0_put 20 = .ok (.iload_n 1, 1) := dk_27 (dk_at dksX0_put_0 20 rfl rfl)
theorem dX0_put_21 : decode cX0_put 21 = .ok (.iload_n 2, 1) := dk_28 (dk_at dksX0_put_0 21 rfl rfl)
theorem dX0_put_22 : decode cX0_put 22 = .ok (.i2b, 1) := dk_145 (dk_at dksX0_put_0 22 rfl rfl)
theorem dX0_put_23 : decode cX0_put 23 = .ok (.bastore, 1) := dk_84 (dk_at dksX0_put_0 23 rfl rfl)
theorem dX0_put_24 : decode cX0_put 24 = .ok (.goto 46, 3) := dk_167 0 46 (dk_at dksX0_put_1 0 rfl rfl)
theorem dX0_put_27 : decode cX0_put 27 = .ok (.aload_n 0, 1) := dk_42 (dk_at dksX0_put_1 3 rfl rfl)
theorem dX0_put_28 : decode cX0_put 28 = .ok (.instanceof 536, 3) := dk_193 2 24 (dk_at dksX0_put_1 4 rfl rfl)
theorem dX0_put_31 : decode cX0_put 31 = .ok (.ifCond .eq 23, 3) := dk_153 0 23 (dk_at dksX0_put_1 7 rfl rfl)
theorem dX0_put_34 : decode cX0_put 34 = .ok (.iload_n 1, 1) := dk_27 (dk_at dksX0_put_1 10 rfl rfl)
theorem dX0_put_35 : decode cX0_put 35 = .ok (.aload_n 0, 1) := dk_42 (dk_at dksX0_put_1 11 rfl rfl)
theorem dX0_put_36 : decode cX0_put 36 = .ok (.checkcast 536, 3) := dk_192 2 24 (dk_at dksX0_put_1 12 rfl rfl)
theorem dX0_put_39 : decode cX0_put 39 = .ok (.arraylength, 1) := dk_190 (dk_at dksX0_put_1 15 rfl rfl)
theorem dX0_put_40 : decode cX0_put 40 = .ok (.invokestatic 533, 3) := dk_184 2 21 (dk_at dksX0_put_1 16 rfl rfl)
theorem dX0_put_43 : decode cX0_put 43 = .ok (.aload_n 0, 1) := dk_42 (dk_at dksX0_put_1 19 rfl rfl)
theorem dX0_put_44 : decode cX0_put 44 = .ok (.checkcast 536, 3) := dk_192 2 24 (dk_at dksX0_put_1 20 rfl rfl)
theorem dX0_put_47 : decode cX0_put 47 = .ok (.iload_n 1, 1) := dk_27 (dk_at dksX0_put_1 23 rfl rfl)
theorem dX0_put_48 : decode cX0_put 48 = .ok (.iload_n 2, 1) := dk_28 (dk_at dksX0_put_2 0 rfl rfl)
theorem dX0_put_49 : decode cX0_put 49 = .ok (.i2s, 1) := dk_147 (dk_at dksX0_put_2 1 rfl rfl)
theorem dX0_put_50 : decode cX0_put 50 = .ok (.sastore, 1) := dk_86 (dk_at dksX0_put_2 2 rfl rfl)
theorem dX0_put_51 : decode cX0_put 51 = .ok (.goto 19, 3) := dk_167 0 19 (dk_at dksX0_put_2 3 rfl rfl)
theorem dX0_put_54 : decode cX0_put 54 = .ok (.iload_n 1, 1) := dk_27 (dk_at dksX0_put_2 6 rfl rfl)
theorem dX0_put_55 : decode cX0_put 55 = .ok (.aload_n 0, 1) := dk_42 (dk_at dksX0_put_2 7 rfl rfl)
theorem dX0_put_56 : decode cX0_put 56 = .ok (.checkcast 538, 3) := dk_192 2 26 (dk_at dksX0_put_2 8 rfl rfl)
theorem dX0_put_59 : decode cX0_put 59 = .ok (.arraylength, 1) := dk_190 (dk_at dksX0_put_2 11 rfl rfl)
theorem dX0_put_60 : decode cX0_put 60 = .ok (.invokestatic 533, 3) := dk_184 2 21 (dk_at dksX0_put_2 12 rfl rfl)
theorem dX0_put_63 : decode cX0_put 63 = .ok (.aload_n 0, 1) := dk_42 (dk_at dksX0_put_2 15 rfl rfl)
theorem dX0_put_64 : decode cX0_put 64 = .ok (.checkcast 538, 3) := dk_192 2 26 (dk_at dksX0_put_2 16 rfl rfl)
theorem dX0_put_67 : decode cX0_put 67 = .ok (.iload_n 1, 1) := dk_27 (dk_at dksX0_put_2 19 rfl rfl)
theorem dX0_put_68 : decode cX0_put 68 = .ok (.iload_n 2, 1) := dk_28 (dk_at dksX0_put_2 20 rfl rfl)
theorem dX0_put_69 : decode cX0_put 69 = .ok (.iastore, 1) := dk_79 (dk_at dksX0_put_2 21 rfl rfl)
theorem dX0_put_70 : decode cX0_put 70 = .ok (.iconst 1, 1) := dk_4 (dk_at dksX0_put_2 22 rfl rfl)
theorem dX0_put_71 : decode cX0_put 71 = .ok (.ireturn, 1) := dk_172 (dk_at dksX0_put_2 23 rfl rfl)
abbrev cX0_drawn : ByteArray := prog_1_method_83_code
def yX0_drawn : MethodName := ⟨RX0, "drawn", "(III)I"⟩
def dkwX0_drawn_1 : List UInt8 := [182, 2, 3, 167, 0, 5, 16, 254, 172]
abbrev dktX0_drawn_1 : List UInt8 := dkwX0_drawn_1 ++ []
def dkwX0_drawn_0 : List UInt8 := [42, 28, 182, 0, 64, 153, 0, 25, 29, 133, 9, 20, 1, 158, 184, 0, 14, 153, 0, 13, 42, 27, 28, 29]
abbrev dktX0_drawn_0 : List UInt8 := dkwX0_drawn_0 ++ dktX0_drawn_1
theorem dksX0_drawn_0 : cX0_drawn.data.toList.drop 0 = dktX0_drawn_0 := by decide +kernel
theorem dksX0_drawn_1 : cX0_drawn.data.toList.drop 24 = dktX0_drawn_1 := dk_seg dksX0_drawn_0 24 rfl rfl
theorem dX0_drawn_0 : decode cX0_drawn 0 = .ok (.aload_n 0, 1) := dk_42 (dk_at dksX0_drawn_0 0 rfl rfl)
theorem dX0_drawn_1 : decode cX0_drawn 1 = .ok (.iload_n 2, 1) := dk_28 (dk_at dksX0_drawn_0 1 rfl rfl)
theorem dX0_drawn_2 : decode cX0_drawn 2 = .ok (.invokevirtual 64, 3) := dk_182 0 64 (dk_at dksX0_drawn_0 2 rfl rfl)
theorem dX0_drawn_5 : decode cX0_drawn 5 = .ok (.ifCond .eq 25, 3) := dk_153 0 25 (dk_at dksX0_drawn_0 5 rfl rfl)
theorem dX0_drawn_8 : decode cX0_drawn 8 = .ok (.iload_n 3, 1) := dk_29 (dk_at dksX0_drawn_0 8 rfl rfl)
theorem dX0_drawn_9 : decode cX0_drawn 9 = .ok (.i2l, 1) := dk_133 (dk_at dksX0_drawn_0 9 rfl rfl)
theorem dX0_drawn_10 : decode cX0_drawn 10 = .ok (.lconst 0, 1) := dk_9 (dk_at dksX0_drawn_0 10 rfl rfl)
theorem dX0_drawn_11 : decode cX0_drawn 11 = .ok (.ldc2_w 414, 3) := dk_20 1 158 (dk_at dksX0_drawn_0 11 rfl rfl)
theorem dX0_drawn_14 : decode cX0_drawn 14 = .ok (.invokestatic 14, 3) := dk_184 0 14 (dk_at dksX0_drawn_0 14 rfl rfl)
theorem dX0_drawn_17 : decode cX0_drawn 17 = .ok (.ifCond .eq 13, 3) := dk_153 0 13 (dk_at dksX0_drawn_0 17 rfl rfl)
theorem dX0_drawn_20 : decode cX0_drawn 20 = .ok (.aload_n 0, 1) := dk_42 (dk_at dksX0_drawn_0 20 rfl rfl)
theorem dX0_drawn_21 : decode cX0_drawn 21 = .ok (.iload_n 1, 1) := dk_27 (dk_at dksX0_drawn_0 21 rfl rfl)
theorem dX0_drawn_22 : decode cX0_drawn 22 = .ok (.iload_n 2, 1) := dk_28 (dk_at dksX0_drawn_0 22 rfl rfl)
theorem dX0_drawn_23 : decode cX0_drawn 23 = .ok (.iload_n 3, 1) := dk_29 (dk_at dksX0_drawn_0 23 rfl rfl)
theorem dX0_drawn_24 : decode cX0_drawn 24 = .ok (.invokevirtual 515, 3) := dk_182 2 3 (dk_at dksX0_drawn_1 0 rfl rfl)
theorem dX0_drawn_27 : decode cX0_drawn 27 = .ok (.goto 5, 3) := dk_167 0 5 (dk_at dksX0_drawn_1 3 rfl rfl)
theorem dX0_drawn_30 : decode cX0_drawn 30 = .ok (.bipush (-2), 2) := dk_16 254 (dk_at dksX0_drawn_1 6 rfl rfl)
theorem dX0_drawn_32 : decode cX0_drawn 32 = .ok (.ireturn, 1) := dk_172 (dk_at dksX0_drawn_1 8 rfl rfl)
abbrev cX0_comesDrawn : ByteArray := prog_1_method_82_code
def yX0_comesDrawn : MethodName := ⟨RX0, "comesDrawn", "(III)I"⟩
def dkwX0_comesDrawn_2 : List UInt8 := [124, 5, 112, 96, 46, 54, 5, 132, 6, 1, 167, 255, 216, 21, 5, 172]
abbrev dktX0_comesDrawn_2 : List UInt8 := dkwX0_comesDrawn_2 ++ []
def dkwX0_comesDrawn_1 : List UInt8 := [21, 4, 19, 2, 2, 104, 17, 48, 57, 96, 54, 4, 42, 180, 0, 67, 5, 21, 5, 104, 21, 4, 16, 9]
abbrev dktX0_comesDrawn_1 : List UInt8 := dkwX0_comesDrawn_1 ++ dktX0_comesDrawn_2
def dkwX0_comesDrawn_0 : List UInt8 := [27, 54, 4, 42, 180, 0, 53, 28, 50, 180, 0, 80, 54, 5, 3, 54, 6, 21, 6, 29, 162, 0, 40]
abbrev dktX0_comesDrawn_0 : List UInt8 := dkwX0_comesDrawn_0 ++ dktX0_comesDrawn_1
theorem dksX0_comesDrawn_0 : cX0_comesDrawn.data.toList.drop 0 = dktX0_comesDrawn_0 := by decide +kernel
theorem dksX0_comesDrawn_1 : cX0_comesDrawn.data.toList.drop 23 = dktX0_comesDrawn_1 := dk_seg dksX0_comesDrawn_0 23 rfl rfl
theorem dksX0_comesDrawn_2 : cX0_comesDrawn.data.toList.drop 47 = dktX0_comesDrawn_2 := dk_seg dksX0_comesDrawn_1 24 rfl rfl
theorem dX0_comesDrawn_0 : decode cX0_comesDrawn 0 = .ok (.iload_n 1, 1) := dk_27 (dk_at dksX0_comesDrawn_0 0 rfl rfl)
theorem dX0_comesDrawn_1 : decode cX0_comesDrawn 1 = .ok (.istore 4, 2) := dk_54 4 (dk_at dksX0_comesDrawn_0 1 rfl rfl)
theorem dX0_comesDrawn_3 : decode cX0_comesDrawn 3 = .ok (.aload_n 0, 1) := dk_42 (dk_at dksX0_comesDrawn_0 3 rfl rfl)
theorem dX0_comesDrawn_4 : decode cX0_comesDrawn 4 = .ok (.getfield 53, 3) := dk_180 0 53 (dk_at dksX0_comesDrawn_0 4 rfl rfl)
theorem dX0_comesDrawn_7 : decode cX0_comesDrawn 7 = .ok (.iload_n 2, 1) := dk_28 (dk_at dksX0_comesDrawn_0 7 rfl rfl)
theorem dX0_comesDrawn_8 : decode cX0_comesDrawn 8 = .ok (.aaload, 1) := dk_50 (dk_at dksX0_comesDrawn_0 8 rfl rfl)
theorem dX0_comesDrawn_9 : decode cX0_comesDrawn 9 = .ok (.getfield 80, 3) := dk_180 0 80 (dk_at dksX0_comesDrawn_0 9 rfl rfl)
theorem dX0_comesDrawn_12 : decode cX0_comesDrawn 12 = .ok (.istore 5, 2) := dk_54 5 (dk_at dksX0_comesDrawn_0 12 rfl rfl)
theorem dX0_comesDrawn_14 : decode cX0_comesDrawn 14 = .ok (.iconst 0, 1) := dk_3 (dk_at dksX0_comesDrawn_0 14 rfl rfl)
theorem dX0_comesDrawn_15 : decode cX0_comesDrawn 15 = .ok (.istore 6, 2) := dk_54 6 (dk_at dksX0_comesDrawn_0 15 rfl rfl)
theorem dX0_comesDrawn_17 : decode cX0_comesDrawn 17 = .ok (.iload 6, 2) := dk_21 6 (dk_at dksX0_comesDrawn_0 17 rfl rfl)
theorem dX0_comesDrawn_19 : decode cX0_comesDrawn 19 = .ok (.iload_n 3, 1) := dk_29 (dk_at dksX0_comesDrawn_0 19 rfl rfl)
theorem dX0_comesDrawn_20 : decode cX0_comesDrawn 20 = .ok (.if_icmp .ge 40, 3) := dk_162 0 40 (dk_at dksX0_comesDrawn_0 20 rfl rfl)
theorem dX0_comesDrawn_23 : decode cX0_comesDrawn 23 = .ok (.iload 4, 2) := dk_21 4 (dk_at dksX0_comesDrawn_1 0 rfl rfl)
theorem dX0_comesDrawn_25 : decode cX0_comesDrawn 25 = .ok (.ldc_w 514, 3) := dk_19 2 2 (dk_at dksX0_comesDrawn_1 2 rfl rfl)
theorem dX0_comesDrawn_28 : decode cX0_comesDrawn 28 = .ok (.imul, 1) := dk_104 (dk_at dksX0_comesDrawn_1 5 rfl rfl)
theorem dX0_comesDrawn_29 : decode cX0_comesDrawn 29 = .ok (.sipush 12345, 3) := dk_17 48 57 (dk_at dksX0_comesDrawn_1 6 rfl rfl)
theorem dX0_comesDrawn_32 : decode cX0_comesDrawn 32 = .ok (.iadd, 1) := dk_96 (dk_at dksX0_comesDrawn_1 9 rfl rfl)
theorem dX0_comesDrawn_33 : decode cX0_comesDrawn 33 = .ok (.istore 4, 2) := dk_54 4 (dk_at dksX0_comesDrawn_1 10 rfl rfl)
theorem dX0_comesDrawn_35 : decode cX0_comesDrawn 35 = .ok (.aload_n 0, 1) := dk_42 (dk_at dksX0_comesDrawn_1 12 rfl rfl)
theorem dX0_comesDrawn_36 : decode cX0_comesDrawn 36 = .ok (.getfield 67, 3) := dk_180 0 67 (dk_at dksX0_comesDrawn_1 13 rfl rfl)
theorem dX0_comesDrawn_39 : decode cX0_comesDrawn 39 = .ok (.iconst 2, 1) := dk_5 (dk_at dksX0_comesDrawn_1 16 rfl rfl)
theorem dX0_comesDrawn_40 : decode cX0_comesDrawn 40 = .ok (.iload 5, 2) := dk_21 5 (dk_at dksX0_comesDrawn_1 17 rfl rfl)
theorem dX0_comesDrawn_42 : decode cX0_comesDrawn 42 = .ok (.imul, 1) := dk_104 (dk_at dksX0_comesDrawn_1 19 rfl rfl)
theorem dX0_comesDrawn_43 : decode cX0_comesDrawn 43 = .ok (.iload 4, 2) := dk_21 4 (dk_at dksX0_comesDrawn_1 20 rfl rfl)
theorem dX0_comesDrawn_45 : decode cX0_comesDrawn 45 = .ok (.bipush 9, 2) := dk_16 9 (dk_at dksX0_comesDrawn_1 22 rfl rfl)
theorem dX0_comesDrawn_47 : decode cX0_comesDrawn 47 = .ok (.iushr, 1) := dk_124 (dk_at dksX0_comesDrawn_2 0 rfl rfl)
theorem dX0_comesDrawn_48 : decode cX0_comesDrawn 48 = .ok (.iconst 2, 1) := dk_5 (dk_at dksX0_comesDrawn_2 1 rfl rfl)
theorem dX0_comesDrawn_49 : decode cX0_comesDrawn 49 = .ok (.irem, 1) := dk_112 (dk_at dksX0_comesDrawn_2 2 rfl rfl)
theorem dX0_comesDrawn_50 : decode cX0_comesDrawn 50 = .ok (.iadd, 1) := dk_96 (dk_at dksX0_comesDrawn_2 3 rfl rfl)
theorem dX0_comesDrawn_51 : decode cX0_comesDrawn 51 = .ok (.iaload, 1) := dk_46 (dk_at dksX0_comesDrawn_2 4 rfl rfl)
theorem dX0_comesDrawn_52 : decode cX0_comesDrawn 52 = .ok (.istore 5, 2) := dk_54 5 (dk_at dksX0_comesDrawn_2 5 rfl rfl)
theorem dX0_comesDrawn_54 : decode cX0_comesDrawn 54 = .ok (.iinc 6 1, 3) := dk_132 6 1 (dk_at dksX0_comesDrawn_2 7 rfl rfl)
theorem dX0_comesDrawn_57 : decode cX0_comesDrawn 57 = .ok (.goto (-40), 3) := dk_167 255 216 (dk_at dksX0_comesDrawn_2 10 rfl rfl)
theorem dX0_comesDrawn_60 : decode cX0_comesDrawn 60 = .ok (.iload 5, 2) := dk_21 5 (dk_at dksX0_comesDrawn_2 13 rfl rfl)
theorem dX0_comesDrawn_62 : decode cX0_comesDrawn 62 = .ok (.ireturn, 1) := dk_172 (dk_at dksX0_comesDrawn_2 15 rfl rfl)
abbrev cX0_chance : ByteArray := prog_1_method_84_code
def yX0_chance : MethodName := ⟨RX0, "chance", "(IIIII)J"⟩
def dkwX0_chance_4 : List UInt8 := [184, 1, 175, 173]
abbrev dktX0_chance_4 : List UInt8 := dkwX0_chance_4 ++ []
def dkwX0_chance_3 : List UInt8 := [160, 0, 7, 10, 167, 0, 4, 9, 97, 55, 6, 132, 8, 1, 167, 255, 221, 22, 6, 28, 133, 21, 5]
abbrev dktX0_chance_3 : List UInt8 := dkwX0_chance_3 ++ dktX0_chance_4
def dkwX0_chance_2 : List UInt8 := [3, 54, 8, 21, 8, 28, 162, 0, 35, 22, 6, 42, 27, 21, 8, 96, 29, 16, 8, 182, 2, 3, 21, 4]
abbrev dktX0_chance_2 : List UInt8 := dkwX0_chance_2 ++ dktX0_chance_3
def dkwX0_chance_1 : List UInt8 := [184, 0, 49, 153, 0, 14, 21, 5, 133, 9, 10, 184, 0, 14, 154, 0, 7, 20, 1, 173, 173, 9, 55, 6]
abbrev dktX0_chance_1 : List UInt8 := dkwX0_chance_1 ++ dktX0_chance_2
def dkwX0_chance_0 : List UInt8 := [28, 133, 10, 20, 1, 158, 184, 0, 14, 153, 0, 30, 42, 29, 182, 0, 64, 153, 0, 22, 21, 4]
abbrev dktX0_chance_0 : List UInt8 := dkwX0_chance_0 ++ dktX0_chance_1
theorem dksX0_chance_0 : cX0_chance.data.toList.drop 0 = dktX0_chance_0 := by decide +kernel
theorem dksX0_chance_1 : cX0_chance.data.toList.drop 22 = dktX0_chance_1 := dk_seg dksX0_chance_0 22 rfl rfl
theorem dksX0_chance_2 : cX0_chance.data.toList.drop 46 = dktX0_chance_2 := dk_seg dksX0_chance_1 24 rfl rfl
theorem dksX0_chance_3 : cX0_chance.data.toList.drop 70 = dktX0_chance_3 := dk_seg dksX0_chance_2 24 rfl rfl
theorem dksX0_chance_4 : cX0_chance.data.toList.drop 93 = dktX0_chance_4 := dk_seg dksX0_chance_3 23 rfl rfl
theorem dX0_chance_0 : decode cX0_chance 0 = .ok (.iload_n 2, 1) := dk_28 (dk_at dksX0_chance_0 0 rfl rfl)
theorem dX0_chance_1 : decode cX0_chance 1 = .ok (.i2l, 1) := dk_133 (dk_at dksX0_chance_0 1 rfl rfl)
theorem dX0_chance_2 : decode cX0_chance 2 = .ok (.lconst 1, 1) := dk_10 (dk_at dksX0_chance_0 2 rfl rfl)
theorem dX0_chance_3 : decode cX0_chance 3 = .ok (.ldc2_w 414, 3) := dk_20 1 158 (dk_at dksX0_chance_0 3 rfl rfl)
theorem dX0_chance_6 : decode cX0_chance 6 = .ok (.invokestatic 14, 3) := dk_184 0 14 (dk_at dksX0_chance_0 6 rfl rfl)
theorem dX0_chance_9 : decode cX0_chance 9 = .ok (.ifCond .eq 30, 3) := dk_153 0 30 (dk_at dksX0_chance_0 9 rfl rfl)
theorem dX0_chance_12 : decode cX0_chance 12 = .ok (.aload_n 0, 1) := dk_42 (dk_at dksX0_chance_0 12 rfl rfl)
theorem dX0_chance_13 : decode cX0_chance 13 = .ok (.iload_n 3, 1) := dk_29 (dk_at dksX0_chance_0 13 rfl rfl)
theorem dX0_chance_14 : decode cX0_chance 14 = .ok (.invokevirtual 64, 3) := dk_182 0 64 (dk_at dksX0_chance_0 14 rfl rfl)
theorem dX0_chance_17 : decode cX0_chance 17 = .ok (.ifCond .eq 22, 3) := dk_153 0 22 (dk_at dksX0_chance_0 17 rfl rfl)
theorem dX0_chance_20 : decode cX0_chance 20 = .ok (.iload 4, 2) := dk_21 4 (dk_at dksX0_chance_0 20 rfl rfl)
theorem dX0_chance_22 : decode cX0_chance 22 = .ok (.invokestatic 49, 3) := dk_184 0 49 (dk_at dksX0_chance_1 0 rfl rfl)
theorem dX0_chance_25 : decode cX0_chance 25 = .ok (.ifCond .eq 14, 3) := dk_153 0 14 (dk_at dksX0_chance_1 3 rfl rfl)
theorem dX0_chance_28 : decode cX0_chance 28 = .ok (.iload 5, 2) := dk_21 5 (dk_at dksX0_chance_1 6 rfl rfl)
theorem dX0_chance_30 : decode cX0_chance 30 = .ok (.i2l, 1) := dk_133 (dk_at dksX0_chance_1 8 rfl rfl)
theorem dX0_chance_31 : decode cX0_chance 31 = .ok (.lconst 0, 1) := dk_9 (dk_at dksX0_chance_1 9 rfl rfl)
theorem dX0_chance_32 : decode cX0_chance 32 = .ok (.lconst 1, 1) := dk_10 (dk_at dksX0_chance_1 10 rfl rfl)
theorem dX0_chance_33 : decode cX0_chance 33 = .ok (.invokestatic 14, 3) := dk_184 0 14 (dk_at dksX0_chance_1 11 rfl rfl)
theorem dX0_chance_36 : decode cX0_chance 36 = .ok (.ifCond .ne 7, 3) := dk_154 0 7 (dk_at dksX0_chance_1 14 rfl rfl)
theorem dX0_chance_39 : decode cX0_chance 39 = .ok (.ldc2_w 429, 3) := dk_20 1 173 (dk_at dksX0_chance_1 17 rfl rfl)
theorem dX0_chance_42 : decode cX0_chance 42 = .ok (.lreturn, 1) := dk_173 (dk_at dksX0_chance_1 20 rfl rfl)
theorem dX0_chance_43 : decode cX0_chance 43 = .ok (.lconst 0, 1) := dk_9 (dk_at dksX0_chance_1 21 rfl rfl)
theorem dX0_chance_44 : decode cX0_chance 44 = .ok (.lstore 6, 2) := dk_55 6 (dk_at dksX0_chance_1 22 rfl rfl)
theorem dX0_chance_46 : decode cX0_chance 46 = .ok (.iconst 0, 1) := dk_3 (dk_at dksX0_chance_2 0 rfl rfl)
theorem dX0_chance_47 : decode cX0_chance 47 = .ok (.istore 8, 2) := dk_54 8 (dk_at dksX0_chance_2 1 rfl rfl)
theorem dX0_chance_49 : decode cX0_chance 49 = .ok (.iload 8, 2) := dk_21 8 (dk_at dksX0_chance_2 3 rfl rfl)
theorem dX0_chance_51 : decode cX0_chance 51 = .ok (.iload_n 2, 1) := dk_28 (dk_at dksX0_chance_2 5 rfl rfl)
theorem dX0_chance_52 : decode cX0_chance 52 = .ok (.if_icmp .ge 35, 3) := dk_162 0 35 (dk_at dksX0_chance_2 6 rfl rfl)
theorem dX0_chance_55 : decode cX0_chance 55 = .ok (.lload 6, 2) := dk_22 6 (dk_at dksX0_chance_2 9 rfl rfl)
theorem dX0_chance_57 : decode cX0_chance 57 = .ok (.aload_n 0, 1) := dk_42 (dk_at dksX0_chance_2 11 rfl rfl)
theorem dX0_chance_58 : decode cX0_chance 58 = .ok (.iload_n 1, 1) := dk_27 (dk_at dksX0_chance_2 12 rfl rfl)
theorem dX0_chance_59 : decode cX0_chance 59 = .ok (.iload 8, 2) := dk_21 8 (dk_at dksX0_chance_2 13 rfl rfl)
theorem dX0_chance_61 : decode cX0_chance 61 = .ok (.iadd, 1) := dk_96 (dk_at dksX0_chance_2 15 rfl rfl)
theorem dX0_chance_62 : decode cX0_chance 62 = .ok (.iload_n 3, 1) := dk_29 (dk_at dksX0_chance_2 16 rfl rfl)
theorem dX0_chance_63 : decode cX0_chance 63 = .ok (.bipush 8, 2) := dk_16 8 (dk_at dksX0_chance_2 17 rfl rfl)
theorem dX0_chance_65 : decode cX0_chance 65 = .ok (.invokevirtual 515, 3) := dk_182 2 3 (dk_at dksX0_chance_2 19 rfl rfl)
theorem dX0_chance_68 : decode cX0_chance 68 = .ok (.iload 4, 2) := dk_21 4 (dk_at dksX0_chance_2 22 rfl rfl)
theorem dX0_chance_70 : decode cX0_chance 70 = .ok (.if_icmp .ne 7, 3) := dk_160 0 7 (dk_at dksX0_chance_3 0 rfl rfl)
theorem dX0_chance_73 : decode cX0_chance 73 = .ok (.lconst 1, 1) := dk_10 (dk_at dksX0_chance_3 3 rfl rfl)
theorem dX0_chance_74 : decode cX0_chance 74 = .ok (.goto 4, 3) := dk_167 0 4 (dk_at dksX0_chance_3 4 rfl rfl)
theorem dX0_chance_77 : decode cX0_chance 77 = .ok (.lconst 0, 1) := dk_9 (dk_at dksX0_chance_3 7 rfl rfl)
theorem dX0_chance_78 : decode cX0_chance 78 = .ok (.ladd, 1) := dk_97 (dk_at dksX0_chance_3 8 rfl rfl)
theorem dX0_chance_79 : decode cX0_chance 79 = .ok (.lstore 6, 2) := dk_55 6 (dk_at dksX0_chance_3 9 rfl rfl)
theorem dX0_chance_81 : decode cX0_chance 81 = .ok (.iinc 8 1, 3) := dk_132 8 1 (dk_at dksX0_chance_3 11 rfl rfl)
theorem dX0_chance_84 : decode cX0_chance 84 = .ok (.goto (-35), 3) := dk_167 255 221 (dk_at dksX0_chance_3 14 rfl rfl)
theorem dX0_chance_87 : decode cX0_chance 87 = .ok (.lload 6, 2) := dk_22 6 (dk_at dksX0_chance_3 17 rfl rfl)
theorem dX0_chance_89 : decode cX0_chance 89 = .ok (.iload_n 2, 1) := dk_28 (dk_at dksX0_chance_3 19 rfl rfl)
theorem dX0_chance_90 : decode cX0_chance 90 = .ok (.i2l, 1) := dk_133 (dk_at dksX0_chance_3 20 rfl rfl)
theorem dX0_chance_91 : decode cX0_chance 91 = .ok (.iload 5, 2) := dk_21 5 (dk_at dksX0_chance_3 21 rfl rfl)
theorem dX0_chance_93 : decode cX0_chance 93 = .ok (.invokestatic 431, 3) := dk_184 1 175 (dk_at dksX0_chance_4 0 rfl rfl)
theorem dX0_chance_96 : decode cX0_chance 96 = .ok (.lreturn, 1) := dk_173 (dk_at dksX0_chance_4 3 rfl rfl)
abbrev cX0_image : ByteArray := prog_1_method_85_code
def yX0_image : MethodName := ⟨RX0, "image", "()I"⟩
def dkwX0_image_5 : List UInt8 := [172]
abbrev dktX0_image_5 : List UInt8 := dkwX0_image_5 ++ []
def dkwX0_image_4 : List UInt8 := [42, 180, 0, 74, 79, 42, 180, 1, 71, 5, 42, 180, 1, 90, 79, 42, 4, 181, 2, 6, 42, 180, 0, 18]
abbrev dktX0_image_4 : List UInt8 := dkwX0_image_4 ++ dktX0_image_5
def dkwX0_image_3 : List UInt8 := [167, 255, 232, 132, 1, 1, 167, 255, 216, 42, 180, 1, 71, 3, 42, 180, 0, 18, 79, 42, 180, 1, 71, 4]
abbrev dktX0_image_3 : List UInt8 := dkwX0_image_3 ++ dktX0_image_4
def dkwX0_image_2 : List UInt8 := [7, 162, 0, 25, 42, 180, 1, 68, 28, 50, 27, 42, 6, 28, 96, 27, 182, 0, 101, 79, 132, 2, 1]
abbrev dktX0_image_2 : List UInt8 := dkwX0_image_2 ++ dktX0_image_3
def dkwX0_image_1 : List UInt8 := [180, 1, 65, 4, 50, 3, 16, 24, 184, 1, 129, 3, 60, 27, 42, 180, 0, 18, 162, 0, 38, 3, 61, 28]
abbrev dktX0_image_1 : List UInt8 := dkwX0_image_1 ++ dktX0_image_2
def dkwX0_image_0 : List UInt8 := [42, 180, 0, 67, 3, 42, 180, 1, 65, 3, 50, 3, 16, 24, 184, 1, 129, 42, 180, 0, 71, 3, 42]
abbrev dktX0_image_0 : List UInt8 := dkwX0_image_0 ++ dktX0_image_1
theorem dksX0_image_0 : cX0_image.data.toList.drop 0 = dktX0_image_0 := by decide +kernel
theorem dksX0_image_1 : cX0_image.data.toList.drop 23 = dktX0_image_1 := dk_seg dksX0_image_0 23 rfl rfl
theorem dksX0_image_2 : cX0_image.data.toList.drop 47 = dktX0_image_2 := dk_seg dksX0_image_1 24 rfl rfl
theorem dksX0_image_3 : cX0_image.data.toList.drop 70 = dktX0_image_3 := dk_seg dksX0_image_2 23 rfl rfl
theorem dksX0_image_4 : cX0_image.data.toList.drop 94 = dktX0_image_4 := dk_seg dksX0_image_3 24 rfl rfl
theorem dksX0_image_5 : cX0_image.data.toList.drop 118 = dktX0_image_5 := dk_seg dksX0_image_4 24 rfl rfl
theorem dX0_image_0 : decode cX0_image 0 = .ok (.aload_n 0, 1) := dk_42 (dk_at dksX0_image_0 0 rfl rfl)
theorem dX0_image_1 : decode cX0_image 1 = .ok (.getfield 67, 3) := dk_180 0 67 (dk_at dksX0_image_0 1 rfl rfl)
theorem dX0_image_4 : decode cX0_image 4 = .ok (.iconst 0, 1) := dk_3 (dk_at dksX0_image_0 4 rfl rfl)
theorem dX0_image_5 : decode cX0_image 5 = .ok (.aload_n 0, 1) := dk_42 (dk_at dksX0_image_0 5 rfl rfl)
theorem dX0_image_6 : decode cX0_image 6 = .ok (.getfield 321, 3) := dk_180 1 65 (dk_at dksX0_image_0 6 rfl rfl)
theorem dX0_image_9 : decode cX0_image 9 = .ok (.iconst 0, 1) := dk_3 (dk_at dksX0_image_0 9 rfl rfl)
theorem dX0_image_10 : decode cX0_image 10 = .ok (.aaload, 1) := dk_50 (dk_at dksX0_image_0 10 rfl rfl)
theorem dX0_image_11 : decode cX0_image 11 = .ok (.iconst 0, 1) := dk_3 (dk_at dksX0_image_0 11 rfl rfl)
theorem dX0_image_12 : decode cX0_image 12 = .ok (.bipush 24, 2) := dk_16 24 (dk_at dksX0_image_0 12 rfl rfl)
theorem dX0_image_14 : decode cX0_image 14 = .ok (.invokestatic 385, 3) := dk_184 1 129 (dk_at dksX0_image_0 14 rfl rfl)
theorem dX0_image_17 : decode cX0_image 17 = .ok (.aload_n 0, 1) := dk_42 (dk_at dksX0_image_0 17 rfl rfl)
theorem dX0_image_18 : decode cX0_image 18 = .ok (.getfield 71, 3) := dk_180 0 71 (dk_at dksX0_image_0 18 rfl rfl)
theorem dX0_image_21 : decode cX0_image 21 = .ok (.iconst 0, 1) := dk_3 (dk_at dksX0_image_0 21 rfl rfl)
theorem dX0_image_22 : decode cX0_image 22 = .ok (.aload_n 0, 1) := dk_42 (dk_at dksX0_image_0 22 rfl rfl)
theorem dX0_image_23 : decode cX0_image 23 = .ok (.getfield 321, 3) := dk_180 1 65 (dk_at dksX0_image_1 0 rfl rfl)
theorem dX0_image_26 : decode cX0_image 26 = .ok (.iconst 1, 1) := dk_4 (dk_at dksX0_image_1 3 rfl rfl)
theorem dX0_image_27 : decode cX0_image 27 = .ok (.aaload, 1) := dk_50 (dk_at dksX0_image_1 4 rfl rfl)
theorem dX0_image_28 : decode cX0_image 28 = .ok (.iconst 0, 1) := dk_3 (dk_at dksX0_image_1 5 rfl rfl)
theorem dX0_image_29 : decode cX0_image 29 = .ok (.bipush 24, 2) := dk_16 24 (dk_at dksX0_image_1 6 rfl rfl)
theorem dX0_image_31 : decode cX0_image 31 = .ok (.invokestatic 385, 3) := dk_184 1 129 (dk_at dksX0_image_1 8 rfl rfl)
theorem dX0_image_34 : decode cX0_image 34 = .ok (.iconst 0, 1) := dk_3 (dk_at dksX0_image_1 11 rfl rfl)
theorem dX0_image_35 : decode cX0_image 35 = .ok (.istore_n 1, 1) := dk_60 (dk_at dksX0_image_1 12 rfl rfl)
theorem dX0_image_36 : decode cX0_image 36 = .ok (.iload_n 1, 1) := dk_27 (dk_at dksX0_image_1 13 rfl rfl)
theorem dX0_image_37 : decode cX0_image 37 = .ok (.aload_n 0, 1) := dk_42 (dk_at dksX0_image_1 14 rfl rfl)
theorem dX0_image_38 : decode cX0_image 38 = .ok (.getfield 18, 3) := dk_180 0 18 (dk_at dksX0_image_1 15 rfl rfl)
theorem dX0_image_41 : decode cX0_image 41 = .ok (.if_icmp .ge 38, 3) := dk_162 0 38 (dk_at dksX0_image_1 18 rfl rfl)
theorem dX0_image_44 : decode cX0_image 44 = .ok (.iconst 0, 1) := dk_3 (dk_at dksX0_image_1 21 rfl rfl)
theorem dX0_image_45 : decode cX0_image 45 = .ok (.istore_n 2, 1) := dk_61 (dk_at dksX0_image_1 22 rfl rfl)
theorem dX0_image_46 : decode cX0_image 46 = .ok (.iload_n 2, 1) := dk_28 (dk_at dksX0_image_1 23 rfl rfl)
theorem dX0_image_47 : decode cX0_image 47 = .ok (.iconst 4, 1) := dk_7 (dk_at dksX0_image_2 0 rfl rfl)
theorem dX0_image_48 : decode cX0_image 48 = .ok (.if_icmp .ge 25, 3) := dk_162 0 25 (dk_at dksX0_image_2 1 rfl rfl)
theorem dX0_image_51 : decode cX0_image 51 = .ok (.aload_n 0, 1) := dk_42 (dk_at dksX0_image_2 4 rfl rfl)
theorem dX0_image_52 : decode cX0_image 52 = .ok (.getfield 324, 3) := dk_180 1 68 (dk_at dksX0_image_2 5 rfl rfl)
theorem dX0_image_55 : decode cX0_image 55 = .ok (.iload_n 2, 1) := dk_28 (dk_at dksX0_image_2 8 rfl rfl)
theorem dX0_image_56 : decode cX0_image 56 = .ok (.aaload, 1) := dk_50 (dk_at dksX0_image_2 9 rfl rfl)
theorem dX0_image_57 : decode cX0_image 57 = .ok (.iload_n 1, 1) := dk_27 (dk_at dksX0_image_2 10 rfl rfl)
theorem dX0_image_58 : decode cX0_image 58 = .ok (.aload_n 0, 1) := dk_42 (dk_at dksX0_image_2 11 rfl rfl)
theorem dX0_image_59 : decode cX0_image 59 = .ok (.iconst 3, 1) := dk_6 (dk_at dksX0_image_2 12 rfl rfl)
theorem dX0_image_60 : decode cX0_image 60 = .ok (.iload_n 2, 1) := dk_28 (dk_at dksX0_image_2 13 rfl rfl)
theorem dX0_image_61 : decode cX0_image 61 = .ok (.iadd, 1) := dk_96 (dk_at dksX0_image_2 14 rfl rfl)
theorem dX0_image_62 : decode cX0_image 62 = .ok (.iload_n 1, 1) := dk_27 (dk_at dksX0_image_2 15 rfl rfl)
theorem dX0_image_63 : decode cX0_image 63 = .ok (.invokevirtual 101, 3) := dk_182 0 101 (dk_at dksX0_image_2 16 rfl rfl)
theorem dX0_image_66 : decode cX0_image 66 = .ok (.iastore, 1) := dk_79 (dk_at dksX0_image_2 19 rfl rfl)
theorem dX0_image_67 : decode cX0_image 67 = .ok (.iinc 2 1, 3) := dk_132 2 1 (dk_at dksX0_image_2 20 rfl rfl)
theorem dX0_image_70 : decode cX0_image 70 = .ok (.goto (-24), 3) := dk_167 255 232 (dk_at dksX0_image_3 0 rfl rfl)
theorem dX0_image_73 : decode cX0_image 73 = .ok (.iinc 1 1, 3) := dk_132 1 1 (dk_at dksX0_image_3 3 rfl rfl)
theorem dX0_image_76 : decode cX0_image 76 = .ok (.goto (-40), 3) := dk_167 255 216 (dk_at dksX0_image_3 6 rfl rfl)
theorem dX0_image_79 : decode cX0_image 79 = .ok (.aload_n 0, 1) := dk_42 (dk_at dksX0_image_3 9 rfl rfl)
theorem dX0_image_80 : decode cX0_image 80 = .ok (.getfield 327, 3) := dk_180 1 71 (dk_at dksX0_image_3 10 rfl rfl)
theorem dX0_image_83 : decode cX0_image 83 = .ok (.iconst 0, 1) := dk_3 (dk_at dksX0_image_3 13 rfl rfl)
theorem dX0_image_84 : decode cX0_image 84 = .ok (.aload_n 0, 1) := dk_42 (dk_at dksX0_image_3 14 rfl rfl)
theorem dX0_image_85 : decode cX0_image 85 = .ok (.getfield 18, 3) := dk_180 0 18 (dk_at dksX0_image_3 15 rfl rfl)
theorem dX0_image_88 : decode cX0_image 88 = .ok (.iastore, 1) := dk_79 (dk_at dksX0_image_3 18 rfl rfl)
theorem dX0_image_89 : decode cX0_image 89 = .ok (.aload_n 0, 1) := dk_42 (dk_at dksX0_image_3 19 rfl rfl)
theorem dX0_image_90 : decode cX0_image 90 = .ok (.getfield 327, 3) := dk_180 1 71 (dk_at dksX0_image_3 20 rfl rfl)
theorem dX0_image_93 : decode cX0_image 93 = .ok (.iconst 1, 1) := dk_4 (dk_at dksX0_image_3 23 rfl rfl)
theorem dX0_image_94 : decode cX0_image 94 = .ok (.aload_n 0, 1) := dk_42 (dk_at dksX0_image_4 0 rfl rfl)
theorem dX0_image_95 : decode cX0_image 95 = .ok (.getfield 74, 3) := dk_180 0 74 (dk_at dksX0_image_4 1 rfl rfl)
theorem dX0_image_98 : decode cX0_image 98 = .ok (.iastore, 1) := dk_79 (dk_at dksX0_image_4 4 rfl rfl)
theorem dX0_image_99 : decode cX0_image 99 = .ok (.aload_n 0, 1) := dk_42 (dk_at dksX0_image_4 5 rfl rfl)
theorem dX0_image_100 : decode cX0_image 100 = .ok (.getfield 327, 3) := dk_180 1 71 (dk_at dksX0_image_4 6 rfl rfl)
theorem dX0_image_103 : decode cX0_image 103 = .ok (.iconst 2, 1) := dk_5 (dk_at dksX0_image_4 9 rfl rfl)
theorem dX0_image_104 : decode cX0_image 104 = .ok (.aload_n 0, 1) := dk_42 (dk_at dksX0_image_4 10 rfl rfl)
theorem dX0_image_105 : decode cX0_image 105 = .ok (.getfield 346, 3) := dk_180 1 90 (dk_at dksX0_image_4 11 rfl rfl)
theorem dX0_image_108 : decode cX0_image 108 = .ok (.iastore, 1) := dk_79 (dk_at dksX0_image_4 14 rfl rfl)
theorem dX0_image_109 : decode cX0_image 109 = .ok (.aload_n 0, 1) := dk_42 (dk_at dksX0_image_4 15 rfl rfl)
theorem dX0_image_110 : decode cX0_image 110 = .ok (.iconst 1, 1) := dk_4 (dk_at dksX0_image_4 16 rfl rfl)
theorem dX0_image_111 : decode cX0_image 111 = .ok (.putfield 518, 3) := dk_181 2 6 (dk_at dksX0_image_4 17 rfl rfl)
theorem dX0_image_114 : decode cX0_image 114 = .ok (.aload_n 0, 1) := dk_42 (dk_at dksX0_image_4 20 rfl rfl)
theorem dX0_image_115 : decode cX0_image 115 = .ok (.getfield 18, 3) := dk_180 0 18 (dk_at dksX0_image_4 21 rfl rfl)
theorem dX0_image_118 : decode cX0_image 118 = .ok (.ireturn, 1) := dk_172 (dk_at dksX0_image_5 0 rfl rfl)
abbrev cX0_back : ByteArray := prog_1_method_86_code
def yX0_back : MethodName := ⟨RX0, "back", "()I"⟩
def dkwX0_back_5 : List UInt8 := [167, 255, 216, 42, 180, 0, 18, 172]
abbrev dktX0_back_5 : List UInt8 := dkwX0_back_5 ++ []
def dkwX0_back_4 : List UInt8 := [96, 27, 42, 180, 1, 68, 28, 50, 27, 46, 182, 0, 104, 132, 2, 1, 167, 255, 232, 132, 1, 1]
abbrev dktX0_back_4 : List UInt8 := dkwX0_back_4 ++ dktX0_back_5
def dkwX0_back_3 : List UInt8 := [46, 181, 1, 90, 3, 60, 27, 42, 180, 0, 18, 162, 0, 38, 3, 61, 28, 7, 162, 0, 25, 42, 6, 28]
abbrev dktX0_back_3 : List UInt8 := dkwX0_back_3 ++ dktX0_back_4
def dkwX0_back_2 : List UInt8 := [180, 1, 71, 3, 46, 181, 0, 18, 42, 42, 180, 1, 71, 4, 46, 181, 0, 74, 42, 42, 180, 1, 71, 5]
abbrev dktX0_back_2 : List UInt8 := dkwX0_back_2 ++ dktX0_back_3
def dkwX0_back_1 : List UInt8 := [184, 1, 129, 42, 180, 1, 65, 4, 50, 3, 42, 180, 0, 71, 3, 16, 24, 184, 1, 129, 42, 42]
abbrev dktX0_back_1 : List UInt8 := dkwX0_back_1 ++ dktX0_back_2
def dkwX0_back_0 : List UInt8 := [42, 180, 2, 6, 154, 0, 6, 16, 253, 172, 42, 180, 1, 65, 3, 50, 3, 42, 180, 0, 67, 3, 16, 24]
abbrev dktX0_back_0 : List UInt8 := dkwX0_back_0 ++ dktX0_back_1
theorem dksX0_back_0 : cX0_back.data.toList.drop 0 = dktX0_back_0 := by decide +kernel
theorem dksX0_back_1 : cX0_back.data.toList.drop 24 = dktX0_back_1 := dk_seg dksX0_back_0 24 rfl rfl
theorem dksX0_back_2 : cX0_back.data.toList.drop 46 = dktX0_back_2 := dk_seg dksX0_back_1 22 rfl rfl
theorem dksX0_back_3 : cX0_back.data.toList.drop 70 = dktX0_back_3 := dk_seg dksX0_back_2 24 rfl rfl
theorem dksX0_back_4 : cX0_back.data.toList.drop 94 = dktX0_back_4 := dk_seg dksX0_back_3 24 rfl rfl
theorem dksX0_back_5 : cX0_back.data.toList.drop 116 = dktX0_back_5 := dk_seg dksX0_back_4 22 rfl rfl
theorem dX0_back_0 : decode cX0_back 0 = .ok (.aload_n 0, 1) := dk_42 (dk_at dksX0_back_0 0 rfl rfl)
theorem dX0_back_1 : decode cX0_back 1 = .ok (.getfield 518, 3) := dk_180 2 6 (dk_at dksX0_back_0 1 rfl rfl)
theorem dX0_back_4 : decode cX0_back 4 = .ok (.ifCond .ne 6, 3) := dk_154 0 6 (dk_at dksX0_back_0 4 rfl rfl)
theorem dX0_back_7 : decode cX0_back 7 = .ok (.bipush (-3), 2) := dk_16 253 (dk_at dksX0_back_0 7 rfl rfl)
theorem dX0_back_9 : decode cX0_back 9 = .ok (.ireturn, 1) := dk_172 (dk_at dksX0_back_0 9 rfl rfl)
theorem dX0_back_10 : decode cX0_back 10 = .ok (.aload_n 0, 1) := dk_42 (dk_at dksX0_back_0 10 rfl rfl)
theorem dX0_back_11 : decode cX0_back 11 = .ok (.getfield 321, 3) := dk_180 1 65 (dk_at dksX0_back_0 11 rfl rfl)
theorem dX0_back_14 : decode cX0_back 14 = .ok (.iconst 0, 1) := dk_3 (dk_at dksX0_back_0 14 rfl rfl)
theorem dX0_back_15 : decode cX0_back 15 = .ok (.aaload, 1) := dk_50 (dk_at dksX0_back_0 15 rfl rfl)
theorem dX0_back_16 : decode cX0_back 16 = .ok (.iconst 0, 1) := dk_3 (dk_at dksX0_back_0 16 rfl rfl)
theorem dX0_back_17 : decode cX0_back 17 = .ok (.aload_n 0, 1) := dk_42 (dk_at dksX0_back_0 17 rfl rfl)
theorem dX0_back_18 : decode cX0_back 18 = .ok (.getfield 67, 3) := dk_180 0 67 (dk_at dksX0_back_0 18 rfl rfl)
theorem dX0_back_21 : decode cX0_back 21 = .ok (.iconst 0, 1) := dk_3 (dk_at dksX0_back_0 21 rfl rfl)
theorem dX0_back_22 : decode cX0_back 22 = .ok (.bipush 24, 2) := dk_16 24 (dk_at dksX0_back_0 22 rfl rfl)
theorem dX0_back_24 : decode cX0_back 24 = .ok (.invokestatic 385, 3) := dk_184 1 129 (dk_at dksX0_back_1 0 rfl rfl)
theorem dX0_back_27 : decode cX0_back 27 = .ok (.aload_n 0, 1) := dk_42 (dk_at dksX0_back_1 3 rfl rfl)
theorem dX0_back_28 : decode cX0_back 28 = .ok (.getfield 321, 3) := dk_180 1 65 (dk_at dksX0_back_1 4 rfl rfl)
theorem dX0_back_31 : decode cX0_back 31 = .ok (.iconst 1, 1) := dk_4 (dk_at dksX0_back_1 7 rfl rfl)
theorem dX0_back_32 : decode cX0_back 32 = .ok (.aaload, 1) := dk_50 (dk_at dksX0_back_1 8 rfl rfl)
theorem dX0_back_33 : decode cX0_back 33 = .ok (.iconst 0, 1) := dk_3 (dk_at dksX0_back_1 9 rfl rfl)
theorem dX0_back_34 : decode cX0_back 34 = .ok (.aload_n 0, 1) := dk_42 (dk_at dksX0_back_1 10 rfl rfl)
theorem dX0_back_35 : decode cX0_back 35 = .ok (.getfield 71, 3) := dk_180 0 71 (dk_at dksX0_back_1 11 rfl rfl)
theorem dX0_back_38 : decode cX0_back 38 = .ok (.iconst 0, 1) := dk_3 (dk_at dksX0_back_1 14 rfl rfl)
theorem dX0_back_39 : decode cX0_back 39 = .ok (.bipush 24, 2) := dk_16 24 (dk_at dksX0_back_1 15 rfl rfl)
theorem dX0_back_41 : decode cX0_back 41 = .ok (.invokestatic 385, 3) := dk_184 1 129 (dk_at dksX0_back_1 17 rfl rfl)
theorem dX0_back_44 : decode cX0_back 44 = .ok (.aload_n 0, 1) := dk_42 (dk_at dksX0_back_1 20 rfl rfl)
theorem dX0_back_45 : decode cX0_back 45 = .ok (.aload_n 0, 1) := dk_42 (dk_at dksX0_back_1 21 rfl rfl)
theorem dX0_back_46 : decode cX0_back 46 = .ok (.getfield 327, 3) := dk_180 1 71 (dk_at dksX0_back_2 0 rfl rfl)
theorem dX0_back_49 : decode cX0_back 49 = .ok (.iconst 0, 1) := dk_3 (dk_at dksX0_back_2 3 rfl rfl)
theorem dX0_back_50 : decode cX0_back 50 = .ok (.iaload, 1) := dk_46 (dk_at dksX0_back_2 4 rfl rfl)
theorem dX0_back_51 : decode cX0_back 51 = .ok (.putfield 18, 3) := dk_181 0 18 (dk_at dksX0_back_2 5 rfl rfl)
theorem dX0_back_54 : decode cX0_back 54 = .ok (.aload_n 0, 1) := dk_42 (dk_at dksX0_back_2 8 rfl rfl)
theorem dX0_back_55 : decode cX0_back 55 = .ok (.aload_n 0, 1) := dk_42 (dk_at dksX0_back_2 9 rfl rfl)
theorem dX0_back_56 : decode cX0_back 56 = .ok (.getfield 327, 3) := dk_180 1 71 (dk_at dksX0_back_2 10 rfl rfl)
theorem dX0_back_59 : decode cX0_back 59 = .ok (.iconst 1, 1) := dk_4 (dk_at dksX0_back_2 13 rfl rfl)
theorem dX0_back_60 : decode cX0_back 60 = .ok (.iaload, 1) := dk_46 (dk_at dksX0_back_2 14 rfl rfl)
theorem dX0_back_61 : decode cX0_back 61 = .ok (.putfield 74, 3) := dk_181 0 74 (dk_at dksX0_back_2 15 rfl rfl)
theorem dX0_back_64 : decode cX0_back 64 = .ok (.aload_n 0, 1) := dk_42 (dk_at dksX0_back_2 18 rfl rfl)
theorem dX0_back_65 : decode cX0_back 65 = .ok (.aload_n 0, 1) := dk_42 (dk_at dksX0_back_2 19 rfl rfl)
theorem dX0_back_66 : decode cX0_back 66 = .ok (.getfield 327, 3) := dk_180 1 71 (dk_at dksX0_back_2 20 rfl rfl)
theorem dX0_back_69 : decode cX0_back 69 = .ok (.iconst 2, 1) := dk_5 (dk_at dksX0_back_2 23 rfl rfl)
theorem dX0_back_70 : decode cX0_back 70 = .ok (.iaload, 1) := dk_46 (dk_at dksX0_back_3 0 rfl rfl)
theorem dX0_back_71 : decode cX0_back 71 = .ok (.putfield 346, 3) := dk_181 1 90 (dk_at dksX0_back_3 1 rfl rfl)
theorem dX0_back_74 : decode cX0_back 74 = .ok (.iconst 0, 1) := dk_3 (dk_at dksX0_back_3 4 rfl rfl)
theorem dX0_back_75 : decode cX0_back 75 = .ok (.istore_n 1, 1) := dk_60 (dk_at dksX0_back_3 5 rfl rfl)
theorem dX0_back_76 : decode cX0_back 76 = .ok (.iload_n 1, 1) := dk_27 (dk_at dksX0_back_3 6 rfl rfl)
theorem dX0_back_77 : decode cX0_back 77 = .ok (.aload_n 0, 1) := dk_42 (dk_at dksX0_back_3 7 rfl rfl)
theorem dX0_back_78 : decode cX0_back 78 = .ok (.getfield 18, 3) := dk_180 0 18 (dk_at dksX0_back_3 8 rfl rfl)
theorem dX0_back_81 : decode cX0_back 81 = .ok (.if_icmp .ge 38, 3) := dk_162 0 38 (dk_at dksX0_back_3 11 rfl rfl)
theorem dX0_back_84 : decode cX0_back 84 = .ok (.iconst 0, 1) := dk_3 (dk_at dksX0_back_3 14 rfl rfl)
theorem dX0_back_85 : decode cX0_back 85 = .ok (.istore_n 2, 1) := dk_61 (dk_at dksX0_back_3 15 rfl rfl)
theorem dX0_back_86 : decode cX0_back 86 = .ok (.iload_n 2, 1) := dk_28 (dk_at dksX0_back_3 16 rfl rfl)
theorem dX0_back_87 : decode cX0_back 87 = .ok (.iconst 4, 1) := dk_7 (dk_at dksX0_back_3 17 rfl rfl)
theorem dX0_back_88 : decode cX0_back 88 = .ok (.if_icmp .ge 25, 3) := dk_162 0 25 (dk_at dksX0_back_3 18 rfl rfl)
theorem dX0_back_91 : decode cX0_back 91 = .ok (.aload_n 0, 1) := dk_42 (dk_at dksX0_back_3 21 rfl rfl)
theorem dX0_back_92 : decode cX0_back 92 = .ok (.iconst 3, 1) := dk_6 (dk_at dksX0_back_3 22 rfl rfl)
theorem dX0_back_93 : decode cX0_back 93 = .ok (.iload_n 2, 1) := dk_28 (dk_at dksX0_back_3 23 rfl rfl)
theorem dX0_back_94 : decode cX0_back 94 = .ok (.iadd, 1) := dk_96 (dk_at dksX0_back_4 0 rfl rfl)
theorem dX0_back_95 : decode cX0_back 95 = .ok (.iload_n 1, 1) := dk_27 (dk_at dksX0_back_4 1 rfl rfl)
theorem dX0_back_96 : decode cX0_back 96 = .ok (.aload_n 0, 1) := dk_42 (dk_at dksX0_back_4 2 rfl rfl)
theorem dX0_back_97 : decode cX0_back 97 = .ok (.getfield 324, 3) := dk_180 1 68 (dk_at dksX0_back_4 3 rfl rfl)
theorem dX0_back_100 : decode cX0_back 100 = .ok (.iload_n 2, 1) := dk_28 (dk_at dksX0_back_4 6 rfl rfl)
theorem dX0_back_101 : decode cX0_back 101 = .ok (.aaload, 1) := dk_50 (dk_at dksX0_back_4 7 rfl rfl)
theorem dX0_back_102 : decode cX0_back 102 = .ok (.iload_n 1, 1) := dk_27 (dk_at dksX0_back_4 8 rfl rfl)
theorem dX0_back_103 : decode cX0_back 103 = .ok (.iaload, 1) := dk_46 (dk_at dksX0_back_4 9 rfl rfl)
theorem dX0_back_104 : decode cX0_back 104 = .ok (.invokevirtual 104, 3) := dk_182 0 104 (dk_at dksX0_back_4 10 rfl rfl)
theorem dX0_back_107 : decode cX0_back 107 = .ok (.iinc 2 1, 3) := dk_132 2 1 (dk_at dksX0_back_4 13 rfl rfl)
theorem dX0_back_110 : decode cX0_back 110 = .ok (.goto (-24), 3) := dk_167 255 232 (dk_at dksX0_back_4 16 rfl rfl)
theorem dX0_back_113 : decode cX0_back 113 = .ok (.iinc 1 1, 3) := dk_132 1 1 (dk_at dksX0_back_4 19 rfl rfl)
theorem dX0_back_116 : decode cX0_back 116 = .ok (.goto (-40), 3) := dk_167 255 216 (dk_at dksX0_back_5 0 rfl rfl)
theorem dX0_back_119 : decode cX0_back 119 = .ok (.aload_n 0, 1) := dk_42 (dk_at dksX0_back_5 3 rfl rfl)
theorem dX0_back_120 : decode cX0_back 120 = .ok (.getfield 18, 3) := dk_180 0 18 (dk_at dksX0_back_5 4 rfl rfl)
theorem dX0_back_123 : decode cX0_back 123 = .ok (.ireturn, 1) := dk_172 (dk_at dksX0_back_5 7 rfl rfl)
abbrev cX0_count : ByteArray := prog_1_method_87_code
def yX0_count : MethodName := ⟨RX0, "count", "(I)I"⟩
def dkwX0_count_3 : List UInt8 := [172, 42, 180, 1, 90, 172, 16, 254, 172]
abbrev dktX0_count_3 : List UInt8 := dkwX0_count_3 ++ []
def dkwX0_count_2 : List UInt8 := [42, 180, 0, 18, 172, 42, 182, 1, 126, 172, 42, 180, 0, 74, 172, 42, 180, 1, 7, 172, 42, 180, 0, 252]
abbrev dktX0_count_2 : List UInt8 := dkwX0_count_2 ++ dktX0_count_3
def dkwX0_count_1 : List UInt8 := [170, 0, 0, 0, 0, 0, 69, 0, 0, 0, 0, 0, 0, 0, 5, 0, 0, 0, 39, 0, 0, 0, 44, 0, 0, 0, 49, 0, 0, 0, 54, 0, 0, 0, 59, 0, 0, 0, 64]
abbrev dktX0_count_1 : List UInt8 := dkwX0_count_1 ++ dktX0_count_2
def dkwX0_count_0 : List UInt8 := [27]
abbrev dktX0_count_0 : List UInt8 := dkwX0_count_0 ++ dktX0_count_1
theorem dksX0_count_0 : cX0_count.data.toList.drop 0 = dktX0_count_0 := by decide +kernel
theorem dksX0_count_1 : cX0_count.data.toList.drop 1 = dktX0_count_1 := dk_seg dksX0_count_0 1 rfl rfl
theorem dksX0_count_2 : cX0_count.data.toList.drop 40 = dktX0_count_2 := dk_seg dksX0_count_1 39 rfl rfl
theorem dksX0_count_3 : cX0_count.data.toList.drop 64 = dktX0_count_3 := dk_seg dksX0_count_2 24 rfl rfl
theorem dX0_count_0 : decode cX0_count 0 = .ok (.iload_n 1, 1) := dk_27 (dk_at dksX0_count_0 0 rfl rfl)
theorem dX0_count_1 : decode cX0_count 1 = .ok (.tableswitch 69 0 5 #[39, 44, 49, 54, 59, 64], 39) := by decide +kernel
theorem dX0_count_40 : decode cX0_count 40 = .ok (.aload_n 0, 1) := dk_42 (dk_at dksX0_count_2 0 rfl rfl)
theorem dX0_count_41 : decode cX0_count 41 = .ok (.getfield 18, 3) := dk_180 0 18 (dk_at dksX0_count_2 1 rfl rfl)
theorem dX0_count_44 : decode cX0_count 44 = .ok (.ireturn, 1) := dk_172 (dk_at dksX0_count_2 4 rfl rfl)
theorem dX0_count_45 : decode cX0_count 45 = .ok (.aload_n 0, 1) := dk_42 (dk_at dksX0_count_2 5 rfl rfl)
theorem dX0_count_46 : decode cX0_count 46 = .ok (.invokevirtual 382, 3) := dk_182 1 126 (dk_at dksX0_count_2 6 rfl rfl)
theorem dX0_count_49 : decode cX0_count 49 = .ok (.ireturn, 1) := dk_172 (dk_at dksX0_count_2 9 rfl rfl)
theorem dX0_count_50 : decode cX0_count 50 = .ok (.aload_n 0, 1) := dk_42 (dk_at dksX0_count_2 10 rfl rfl)
theorem dX0_count_51 : decode cX0_count 51 = .ok (.getfield 74, 3) := dk_180 0 74 (dk_at dksX0_count_2 11 rfl rfl)
theorem dX0_count_54 : decode cX0_count 54 = .ok (.ireturn, 1) := dk_172 (dk_at dksX0_count_2 14 rfl rfl)
theorem dX0_count_55 : decode cX0_count 55 = .ok (.aload_n 0, 1) := dk_42 (dk_at dksX0_count_2 15 rfl rfl)
theorem dX0_count_56 : decode cX0_count 56 = .ok (.getfield 263, 3) := dk_180 1 7 (dk_at dksX0_count_2 16 rfl rfl)
theorem dX0_count_59 : decode cX0_count 59 = .ok (.ireturn, 1) := dk_172 (dk_at dksX0_count_2 19 rfl rfl)
theorem dX0_count_60 : decode cX0_count 60 = .ok (.aload_n 0, 1) := dk_42 (dk_at dksX0_count_2 20 rfl rfl)
theorem dX0_count_61 : decode cX0_count 61 = .ok (.getfield 252, 3) := dk_180 0 252 (dk_at dksX0_count_2 21 rfl rfl)
theorem dX0_count_64 : decode cX0_count 64 = .ok (.ireturn, 1) := dk_172 (dk_at dksX0_count_3 0 rfl rfl)
theorem dX0_count_65 : decode cX0_count 65 = .ok (.aload_n 0, 1) := dk_42 (dk_at dksX0_count_3 1 rfl rfl)
theorem dX0_count_66 : decode cX0_count 66 = .ok (.getfield 346, 3) := dk_180 1 90 (dk_at dksX0_count_3 2 rfl rfl)
theorem dX0_count_69 : decode cX0_count 69 = .ok (.ireturn, 1) := dk_172 (dk_at dksX0_count_3 5 rfl rfl)
theorem dX0_count_70 : decode cX0_count 70 = .ok (.bipush (-2), 2) := dk_16 254 (dk_at dksX0_count_3 6 rfl rfl)
theorem dX0_count_72 : decode cX0_count 72 = .ok (.ireturn, 1) := dk_172 (dk_at dksX0_count_3 8 rfl rfl)
abbrev cX0_copy : ByteArray := prog_1_method_97_code
def yX0_copy : MethodName := ⟨RX0, "copy", "(IIIII)I"⟩
def dkwX0_copy_6 : List UInt8 := [172, 25, 6, 28, 25, 7, 21, 4, 21, 5, 184, 1, 129, 21, 5, 172]
abbrev dktX0_copy_6 : List UInt8 := dkwX0_copy_6 ++ []
def dkwX0_copy_5 : List UInt8 := [163, 0, 22, 21, 5, 21, 8, 28, 100, 163, 0, 13, 21, 5, 21, 9, 21, 4, 100, 164, 0, 6, 16, 244]
abbrev dktX0_copy_5 : List UInt8 := dkwX0_copy_5 ++ dktX0_copy_6
def dkwX0_copy_4 : List UInt8 := [155, 0, 44, 28, 155, 0, 40, 21, 4, 155, 0, 35, 28, 21, 8, 163, 0, 29, 21, 4, 21, 9]
abbrev dktX0_copy_4 : List UInt8 := dkwX0_copy_4 ++ dktX0_copy_5
def dkwX0_copy_3 : List UInt8 := [25, 6, 184, 1, 201, 184, 1, 205, 54, 8, 25, 7, 25, 7, 184, 1, 201, 184, 1, 205, 54, 9, 21, 5]
abbrev dktX0_copy_3 : List UInt8 := dkwX0_copy_3 ++ dktX0_copy_4
def dkwX0_copy_2 : List UInt8 := [199, 0, 6, 16, 245, 172, 25, 6, 184, 1, 201, 25, 7, 184, 1, 201, 159, 0, 6, 16, 243, 172, 25, 6]
abbrev dktX0_copy_2 : List UInt8 := dkwX0_copy_2 ++ dktX0_copy_3
def dkwX0_copy_1 : List UInt8 := [180, 1, 231, 58, 6, 42, 180, 1, 77, 29, 50, 180, 1, 231, 58, 7, 25, 6, 198, 0, 8, 25, 7]
abbrev dktX0_copy_1 : List UInt8 := dkwX0_copy_1 ++ dktX0_copy_2
def dkwX0_copy_0 : List UInt8 := [27, 184, 1, 228, 153, 0, 10, 29, 184, 1, 228, 154, 0, 6, 16, 254, 172, 42, 180, 1, 77, 27, 50]
abbrev dktX0_copy_0 : List UInt8 := dkwX0_copy_0 ++ dktX0_copy_1
theorem dksX0_copy_0 : cX0_copy.data.toList.drop 0 = dktX0_copy_0 := by decide +kernel
theorem dksX0_copy_1 : cX0_copy.data.toList.drop 23 = dktX0_copy_1 := dk_seg dksX0_copy_0 23 rfl rfl
theorem dksX0_copy_2 : cX0_copy.data.toList.drop 46 = dktX0_copy_2 := dk_seg dksX0_copy_1 23 rfl rfl
theorem dksX0_copy_3 : cX0_copy.data.toList.drop 70 = dktX0_copy_3 := dk_seg dksX0_copy_2 24 rfl rfl
theorem dksX0_copy_4 : cX0_copy.data.toList.drop 94 = dktX0_copy_4 := dk_seg dksX0_copy_3 24 rfl rfl
theorem dksX0_copy_5 : cX0_copy.data.toList.drop 116 = dktX0_copy_5 := dk_seg dksX0_copy_4 22 rfl rfl
theorem dksX0_copy_6 : cX0_copy.data.toList.drop 140 = dktX0_copy_6 := dk_seg dksX0_copy_5 24 rfl rfl
theorem dX0_copy_0 : decode cX0_copy 0 = .ok (.iload_n 1, 1) := dk_27 (dk_at dksX0_copy_0 0 rfl rfl)
theorem dX0_copy_1 : decode cX0_copy 1 = .ok (.invokestatic 484, 3) := dk_184 1 228 (dk_at dksX0_copy_0 1 rfl rfl)
theorem dX0_copy_4 : decode cX0_copy 4 = .ok (.ifCond .eq 10, 3) := dk_153 0 10 (dk_at dksX0_copy_0 4 rfl rfl)
theorem dX0_copy_7 : decode cX0_copy 7 = .ok (.iload_n 3, 1) := dk_29 (dk_at dksX0_copy_0 7 rfl rfl)
theorem dX0_copy_8 : decode cX0_copy 8 = .ok (.invokestatic 484, 3) := dk_184 1 228 (dk_at dksX0_copy_0 8 rfl rfl)
theorem dX0_copy_11 : decode cX0_copy 11 = .ok (.ifCond .ne 6, 3) := dk_154 0 6 (dk_at dksX0_copy_0 11 rfl rfl)
theorem dX0_copy_14 : decode cX0_copy 14 = .ok (.bipush (-2), 2) := dk_16 254 (dk_at dksX0_copy_0 14 rfl rfl)
theorem dX0_copy_16 : decode cX0_copy 16 = .ok (.ireturn, 1) := dk_172 (dk_at dksX0_copy_0 16 rfl rfl)
theorem dX0_copy_17 : decode cX0_copy 17 = .ok (.aload_n 0, 1) := dk_42 (dk_at dksX0_copy_0 17 rfl rfl)
theorem dX0_copy_18 : decode cX0_copy 18 = .ok (.getfield 333, 3) := dk_180 1 77 (dk_at dksX0_copy_0 18 rfl rfl)
theorem dX0_copy_21 : decode cX0_copy 21 = .ok (.iload_n 1, 1) := dk_27 (dk_at dksX0_copy_0 21 rfl rfl)
theorem dX0_copy_22 : decode cX0_copy 22 = .ok (.aaload, 1) := dk_50 (dk_at dksX0_copy_0 22 rfl rfl)
theorem dX0_copy_23 : decode cX0_copy 23 = .ok (.getfield 487, 3) := dk_180 1 231 (dk_at dksX0_copy_1 0 rfl rfl)
theorem dX0_copy_26 : decode cX0_copy 26 = .ok (.astore 6, 2) := dk_58 6 (dk_at dksX0_copy_1 3 rfl rfl)
theorem dX0_copy_28 : decode cX0_copy 28 = .ok (.aload_n 0, 1) := dk_42 (dk_at dksX0_copy_1 5 rfl rfl)
theorem dX0_copy_29 : decode cX0_copy 29 = .ok (.getfield 333, 3) := dk_180 1 77 (dk_at dksX0_copy_1 6 rfl rfl)
theorem dX0_copy_32 : decode cX0_copy 32 = .ok (.iload_n 3, 1) := dk_29 (dk_at dksX0_copy_1 9 rfl rfl)
theorem dX0_copy_33 : decode cX0_copy 33 = .ok (.aaload, 1) := dk_50 (dk_at dksX0_copy_1 10 rfl rfl)
theorem dX0_copy_34 : decode cX0_copy 34 = .ok (.getfield 487, 3) := dk_180 1 231 (dk_at dksX0_copy_1 11 rfl rfl)
theorem dX0_copy_37 : decode cX0_copy 37 = .ok (.astore 7, 2) := dk_58 7 (dk_at dksX0_copy_1 14 rfl rfl)
theorem dX0_copy_39 : decode cX0_copy 39 = .ok (.aload 6, 2) := dk_25 6 (dk_at dksX0_copy_1 16 rfl rfl)
theorem dX0_copy_41 : decode cX0_copy 41 = .ok (.ifnull 8, 3) := dk_198 0 8 (dk_at dksX0_copy_1 18 rfl rfl)
theorem dX0_copy_44 : decode cX0_copy 44 = .ok (.aload 7, 2) := dk_25 7 (dk_at dksX0_copy_1 21 rfl rfl)
theorem dX0_copy_46 : decode cX0_copy 46 = .ok (.ifnonnull 6, 3) := dk_199 0 6 (dk_at dksX0_copy_2 0 rfl rfl)
theorem dX0_copy_49 : decode cX0_copy 49 = .ok (.bipush (-11), 2) := dk_16 245 (dk_at dksX0_copy_2 3 rfl rfl)
theorem dX0_copy_51 : decode cX0_copy 51 = .ok (.ireturn, 1) := dk_172 (dk_at dksX0_copy_2 5 rfl rfl)
theorem dX0_copy_52 : decode cX0_copy 52 = .ok (.aload 6, 2) := dk_25 6 (dk_at dksX0_copy_2 6 rfl rfl)
theorem dX0_copy_54 : decode cX0_copy 54 = .ok (.invokestatic 457, 3) := dk_184 1 201 (dk_at dksX0_copy_2 8 rfl rfl)
theorem dX0_copy_57 : decode cX0_copy 57 = .ok (.aload 7, 2) := dk_25 7 (dk_at dksX0_copy_2 11 rfl rfl)
theorem dX0_copy_59 : decode cX0_copy 59 = .ok (.invokestatic 457, 3) := dk_184 1 201 (dk_at dksX0_copy_2 13 rfl rfl)
theorem dX0_copy_62 : decode cX0_copy 62 = .ok (.if_icmp .eq 6, 3) := dk_159 0 6 (dk_at dksX0_copy_2 16 rfl rfl)
theorem dX0_copy_65 : decode cX0_copy 65 = .ok (.bipush (-13), 2) := dk_16 243 (dk_at dksX0_copy_2 19 rfl rfl)
theorem dX0_copy_67 : decode cX0_copy 67 = .ok (.ireturn, 1) := dk_172 (dk_at dksX0_copy_2 21 rfl rfl)
theorem dX0_copy_68 : decode cX0_copy 68 = .ok (.aload 6, 2) := dk_25 6 (dk_at dksX0_copy_2 22 rfl rfl)
theorem dX0_copy_70 : decode cX0_copy 70 = .ok (.aload 6, 2) := dk_25 6 (dk_at dksX0_copy_3 0 rfl rfl)
theorem dX0_copy_72 : decode cX0_copy 72 = .ok (.invokestatic 457, 3) := dk_184 1 201 (dk_at dksX0_copy_3 2 rfl rfl)
theorem dX0_copy_75 : decode cX0_copy 75 = .ok (.invokestatic 461, 3) := dk_184 1 205 (dk_at dksX0_copy_3 5 rfl rfl)
theorem dX0_copy_78 : decode cX0_copy 78 = .ok (.istore 8, 2) := dk_54 8 (dk_at dksX0_copy_3 8 rfl rfl)
theorem dX0_copy_80 : decode cX0_copy 80 = .ok (.aload 7, 2) := dk_25 7 (dk_at dksX0_copy_3 10 rfl rfl)
theorem dX0_copy_82 : decode cX0_copy 82 = .ok (.aload 7, 2) := dk_25 7 (dk_at dksX0_copy_3 12 rfl rfl)
theorem dX0_copy_84 : decode cX0_copy 84 = .ok (.invokestatic 457, 3) := dk_184 1 201 (dk_at dksX0_copy_3 14 rfl rfl)
theorem dX0_copy_87 : decode cX0_copy 87 = .ok (.invokestatic 461, 3) := dk_184 1 205 (dk_at dksX0_copy_3 17 rfl rfl)
theorem dX0_copy_90 : decode cX0_copy 90 = .ok (.istore 9, 2) := dk_54 9 (dk_at dksX0_copy_3 20 rfl rfl)
theorem dX0_copy_92 : decode cX0_copy 92 = .ok (.iload 5, 2) := dk_21 5 (dk_at dksX0_copy_3 22 rfl rfl)
theorem dX0_copy_94 : decode cX0_copy 94 = .ok (.ifCond .lt 44, 3) := dk_155 0 44 (dk_at dksX0_copy_4 0 rfl rfl)
theorem dX0_copy_97 : decode cX0_copy 97 = .ok (.iload_n 2, 1) := dk_28 (dk_at dksX0_copy_4 3 rfl rfl)
theorem dX0_copy_98 : decode cX0_copy 98 = .ok (.ifCond .lt 40, 3) := dk_155 0 40 (dk_at dksX0_copy_4 4 rfl rfl)
theorem dX0_copy_101 : decode cX0_copy 101 = .ok (.iload 4, 2) := dk_21 4 (dk_at dksX0_copy_4 7 rfl rfl)
theorem dX0_copy_103 : decode cX0_copy 103 = .ok (.ifCond .lt 35, 3) := dk_155 0 35 (dk_at dksX0_copy_4 9 rfl rfl)
theorem dX0_copy_106 : decode cX0_copy 106 = .ok (.iload_n 2, 1) := dk_28 (dk_at dksX0_copy_4 12 rfl rfl)
theorem dX0_copy_107 : decode cX0_copy 107 = .ok (.iload 8, 2) := dk_21 8 (dk_at dksX0_copy_4 13 rfl rfl)
theorem dX0_copy_109 : decode cX0_copy 109 = .ok (.if_icmp .gt 29, 3) := dk_163 0 29 (dk_at dksX0_copy_4 15 rfl rfl)
theorem dX0_copy_112 : decode cX0_copy 112 = .ok (.iload 4, 2) := dk_21 4 (dk_at dksX0_copy_4 18 rfl rfl)
theorem dX0_copy_114 : decode cX0_copy 114 = .ok (.iload 9, 2) := dk_21 9 (dk_at dksX0_copy_4 20 rfl rfl)
theorem dX0_copy_116 : decode cX0_copy 116 = .ok (.if_icmp .gt 22, 3) := dk_163 0 22 (dk_at dksX0_copy_5 0 rfl rfl)
theorem dX0_copy_119 : decode cX0_copy 119 = .ok (.iload 5, 2) := dk_21 5 (dk_at dksX0_copy_5 3 rfl rfl)
theorem dX0_copy_121 : decode cX0_copy 121 = .ok (.iload 8, 2) := dk_21 8 (dk_at dksX0_copy_5 5 rfl rfl)
theorem dX0_copy_123 : decode cX0_copy 123 = .ok (.iload_n 2, 1) := dk_28 (dk_at dksX0_copy_5 7 rfl rfl)
theorem dX0_copy_124 : decode cX0_copy 124 = .ok (.isub, 1) := dk_100 (dk_at dksX0_copy_5 8 rfl rfl)
theorem dX0_copy_125 : decode cX0_copy 125 = .ok (.if_icmp .gt 13, 3) := dk_163 0 13 (dk_at dksX0_copy_5 9 rfl rfl)
theorem dX0_copy_128 : decode cX0_copy 128 = .ok (.iload 5, 2) := dk_21 5 (dk_at dksX0_copy_5 12 rfl rfl)
theorem dX0_copy_130 : decode cX0_copy 130 = .ok (.iload 9, 2) := dk_21 9 (dk_at dksX0_copy_5 14 rfl rfl)
theorem dX0_copy_132 : decode cX0_copy 132 = .ok (.iload 4, 2) := dk_21 4 (dk_at dksX0_copy_5 16 rfl rfl)
theorem dX0_copy_134 : decode cX0_copy 134 = .ok (.isub, 1) := dk_100 (dk_at dksX0_copy_5 18 rfl rfl)
theorem dX0_copy_135 : decode cX0_copy 135 = .ok (.if_icmp .le 6, 3) := dk_164 0 6 (dk_at dksX0_copy_5 19 rfl rfl)
theorem dX0_copy_138 : decode cX0_copy 138 = .ok (.bipush (-12), 2) := dk_16 244 (dk_at dksX0_copy_5 22 rfl rfl)
theorem dX0_copy_140 : decode cX0_copy 140 = .ok (.ireturn, 1) := dk_172 (dk_at dksX0_copy_6 0 rfl rfl)
theorem dX0_copy_141 : decode cX0_copy 141 = .ok (.aload 6, 2) := dk_25 6 (dk_at dksX0_copy_6 1 rfl rfl)
theorem dX0_copy_143 : decode cX0_copy 143 = .ok (.iload_n 2, 1) := dk_28 (dk_at dksX0_copy_6 3 rfl rfl)
theorem dX0_copy_144 : decode cX0_copy 144 = .ok (.aload 7, 2) := dk_25 7 (dk_at dksX0_copy_6 4 rfl rfl)
theorem dX0_copy_146 : decode cX0_copy 146 = .ok (.iload 4, 2) := dk_21 4 (dk_at dksX0_copy_6 6 rfl rfl)
theorem dX0_copy_148 : decode cX0_copy 148 = .ok (.iload 5, 2) := dk_21 5 (dk_at dksX0_copy_6 8 rfl rfl)
theorem dX0_copy_150 : decode cX0_copy 150 = .ok (.invokestatic 385, 3) := dk_184 1 129 (dk_at dksX0_copy_6 10 rfl rfl)
theorem dX0_copy_153 : decode cX0_copy 153 = .ok (.iload 5, 2) := dk_21 5 (dk_at dksX0_copy_6 13 rfl rfl)
theorem dX0_copy_155 : decode cX0_copy 155 = .ok (.ireturn, 1) := dk_172 (dk_at dksX0_copy_6 15 rfl rfl)
abbrev cX0_lives : ByteArray := prog_1_method_99_code
def yX0_lives : MethodName := ⟨RX0, "lives", "(IIII)I"⟩
def dkwX0_lives_2 : List UInt8 := [21, 4, 182, 2, 38, 172, 58, 5, 16, 243, 172, 58, 5, 16, 245, 172, 58, 5, 16, 244, 172]
abbrev dktX0_lives_2 : List UInt8 := dkwX0_lives_2 ++ []
def dkwX0_lives_1 : List UInt8 := [20, 0, 45, 184, 0, 14, 154, 0, 6, 16, 254, 172, 42, 42, 180, 1, 77, 27, 50, 180, 1, 231, 28, 29]
abbrev dktX0_lives_1 : List UInt8 := dkwX0_lives_1 ++ dktX0_lives_2
def dkwX0_lives_0 : List UInt8 := [27, 184, 1, 228, 153, 0, 28, 28, 133, 9, 20, 1, 147, 184, 0, 14, 153, 0, 16, 21, 4, 133, 9]
abbrev dktX0_lives_0 : List UInt8 := dkwX0_lives_0 ++ dktX0_lives_1
theorem dksX0_lives_0 : cX0_lives.data.toList.drop 0 = dktX0_lives_0 := by decide +kernel
theorem dksX0_lives_1 : cX0_lives.data.toList.drop 23 = dktX0_lives_1 := dk_seg dksX0_lives_0 23 rfl rfl
theorem dksX0_lives_2 : cX0_lives.data.toList.drop 47 = dktX0_lives_2 := dk_seg dksX0_lives_1 24 rfl rfl
theorem dX0_lives_0 : decode cX0_lives 0 = .ok (.iload_n 1, 1) := dk_27 (dk_at dksX0_lives_0 0 rfl rfl)
theorem dX0_lives_1 : decode cX0_lives 1 = .ok (.invokestatic 484, 3) := dk_184 1 228 (dk_at dksX0_lives_0 1 rfl rfl)
theorem dX0_lives_4 : decode cX0_lives 4 = .ok (.ifCond .eq 28, 3) := dk_153 0 28 (dk_at dksX0_lives_0 4 rfl rfl)
theorem dX0_lives_7 : decode cX0_lives 7 = .ok (.iload_n 2, 1) := dk_28 (dk_at dksX0_lives_0 7 rfl rfl)
theorem dX0_lives_8 : decode cX0_lives 8 = .ok (.i2l, 1) := dk_133 (dk_at dksX0_lives_0 8 rfl rfl)
theorem dX0_lives_9 : decode cX0_lives 9 = .ok (.lconst 0, 1) := dk_9 (dk_at dksX0_lives_0 9 rfl rfl)
theorem dX0_lives_10 : decode cX0_lives 10 = .ok (.ldc2_w 403, 3) := dk_20 1 147 (dk_at dksX0_lives_0 10 rfl rfl)
theorem dX0_lives_13 : decode cX0_lives 13 = .ok (.invokestatic 14, 3) := dk_184 0 14 (dk_at dksX0_lives_0 13 rfl rfl)
theorem dX0_lives_16 : decode cX0_lives 16 = .ok (.ifCond .eq 16, 3) := dk_153 0 16 (dk_at dksX0_lives_0 16 rfl rfl)
theorem dX0_lives_19 : decode cX0_lives 19 = .ok (.iload 4, 2) := dk_21 4 (dk_at dksX0_lives_0 19 rfl rfl)
theorem dX0_lives_21 : decode cX0_lives 21 = .ok (.i2l, 1) := dk_133 (dk_at dksX0_lives_0 21 rfl rfl)
theorem dX0_lives_22 : decode cX0_lives 22 = .ok (.lconst 0, 1) := dk_9 (dk_at dksX0_lives_0 22 rfl rfl)
theorem dX0_lives_23 : decode cX0_lives 23 = .ok (.ldc2_w 45, 3) := dk_20 0 45 (dk_at dksX0_lives_1 0 rfl rfl)
theorem dX0_lives_26 : decode cX0_lives 26 = .ok (.invokestatic 14, 3) := dk_184 0 14 (dk_at dksX0_lives_1 3 rfl rfl)
theorem dX0_lives_29 : decode cX0_lives 29 = .ok (.ifCond .ne 6, 3) := dk_154 0 6 (dk_at dksX0_lives_1 6 rfl rfl)
theorem dX0_lives_32 : decode cX0_lives 32 = .ok (.bipush (-2), 2) := dk_16 254 (dk_at dksX0_lives_1 9 rfl rfl)
theorem dX0_lives_34 : decode cX0_lives 34 = .ok (.ireturn, 1) := dk_172 (dk_at dksX0_lives_1 11 rfl rfl)
theorem dX0_lives_35 : decode cX0_lives 35 = .ok (.aload_n 0, 1) := dk_42 (dk_at dksX0_lives_1 12 rfl rfl)
theorem dX0_lives_36 : decode cX0_lives 36 = .ok (.aload_n 0, 1) := dk_42 (dk_at dksX0_lives_1 13 rfl rfl)
theorem dX0_lives_37 : decode cX0_lives 37 = .ok (.getfield 333, 3) := dk_180 1 77 (dk_at dksX0_lives_1 14 rfl rfl)
theorem dX0_lives_40 : decode cX0_lives 40 = .ok (.iload_n 1, 1) := dk_27 (dk_at dksX0_lives_1 17 rfl rfl)
theorem dX0_lives_41 : decode cX0_lives 41 = .ok (.aaload, 1) := dk_50 (dk_at dksX0_lives_1 18 rfl rfl)
theorem dX0_lives_42 : decode cX0_lives 42 = .ok (.getfield 487, 3) := dk_180 1 231 (dk_at dksX0_lives_1 19 rfl rfl)
theorem dX0_lives_45 : decode cX0_lives 45 = .ok (.iload_n 2, 1) := dk_28 (dk_at dksX0_lives_1 22 rfl rfl)
theorem dX0_lives_46 : decode cX0_lives 46 = .ok (.iload_n 3, 1) := dk_29 (dk_at dksX0_lives_1 23 rfl rfl)
theorem dX0_lives_47 : decode cX0_lives 47 = .ok (.iload 4, 2) := dk_21 4 (dk_at dksX0_lives_2 0 rfl rfl)
theorem dX0_lives_49 : decode cX0_lives 49 = .ok (.invokevirtual 550, 3) := dk_182 2 38 (dk_at dksX0_lives_2 2 rfl rfl)
theorem dX0_lives_52 : decode cX0_lives 52 = .ok (.ireturn, 1) := dk_172 (dk_at dksX0_lives_2 5 rfl rfl)
theorem dX0_lives_53 : decode cX0_lives 53 = .ok (.astore 5, 2) := dk_58 5 (dk_at dksX0_lives_2 6 rfl rfl)
theorem dX0_lives_55 : decode cX0_lives 55 = .ok (.bipush (-13), 2) := dk_16 243 (dk_at dksX0_lives_2 8 rfl rfl)
theorem dX0_lives_57 : decode cX0_lives 57 = .ok (.ireturn, 1) := dk_172 (dk_at dksX0_lives_2 10 rfl rfl)
theorem dX0_lives_58 : decode cX0_lives 58 = .ok (.astore 5, 2) := dk_58 5 (dk_at dksX0_lives_2 11 rfl rfl)
theorem dX0_lives_60 : decode cX0_lives 60 = .ok (.bipush (-11), 2) := dk_16 245 (dk_at dksX0_lives_2 13 rfl rfl)
theorem dX0_lives_62 : decode cX0_lives 62 = .ok (.ireturn, 1) := dk_172 (dk_at dksX0_lives_2 15 rfl rfl)
theorem dX0_lives_63 : decode cX0_lives 63 = .ok (.astore 5, 2) := dk_58 5 (dk_at dksX0_lives_2 16 rfl rfl)
theorem dX0_lives_65 : decode cX0_lives 65 = .ok (.bipush (-12), 2) := dk_16 244 (dk_at dksX0_lives_2 18 rfl rfl)
theorem dX0_lives_67 : decode cX0_lives 67 = .ok (.ireturn, 1) := dk_172 (dk_at dksX0_lives_2 20 rfl rfl)
abbrev cX0_came : ByteArray := prog_1_method_98_code
def yX0_came : MethodName := ⟨RX0, "came", "(Ljava/lang/Object;III)I"⟩
def dkwX0_came_3 : List UInt8 := [155, 0, 7, 4, 167, 0, 4, 3, 96, 54, 6, 132, 7, 1, 167, 255, 184, 21, 6, 172]
abbrev dktX0_came_3 : List UInt8 := dkwX0_came_3 ++ []
def dkwX0_came_2 : List UInt8 := [21, 6, 42, 21, 8, 21, 9, 43, 28, 29, 6, 21, 7, 104, 96, 5, 96, 184, 1, 209, 182, 2, 35]
abbrev dktX0_came_2 : List UInt8 := dkwX0_came_2 ++ dktX0_came_3
def dkwX0_came_1 : List UInt8 := [21, 7, 104, 96, 184, 1, 209, 54, 8, 43, 28, 29, 6, 21, 7, 104, 96, 4, 96, 184, 1, 209, 54, 9]
abbrev dktX0_came_1 : List UInt8 := dkwX0_came_1 ++ dktX0_came_2
def dkwX0_came_0 : List UInt8 := [43, 28, 184, 1, 205, 54, 5, 3, 54, 6, 3, 54, 7, 21, 7, 21, 4, 162, 0, 71, 43, 28, 29, 6]
abbrev dktX0_came_0 : List UInt8 := dkwX0_came_0 ++ dktX0_came_1
theorem dksX0_came_0 : cX0_came.data.toList.drop 0 = dktX0_came_0 := by decide +kernel
theorem dksX0_came_1 : cX0_came.data.toList.drop 24 = dktX0_came_1 := dk_seg dksX0_came_0 24 rfl rfl
theorem dksX0_came_2 : cX0_came.data.toList.drop 48 = dktX0_came_2 := dk_seg dksX0_came_1 24 rfl rfl
theorem dksX0_came_3 : cX0_came.data.toList.drop 71 = dktX0_came_3 := dk_seg dksX0_came_2 23 rfl rfl
theorem dX0_came_0 : decode cX0_came 0 = .ok (.aload_n 1, 1) := dk_43 (dk_at dksX0_came_0 0 rfl rfl)
theorem dX0_came_1 : decode cX0_came 1 = .ok (.iload_n 2, 1) := dk_28 (dk_at dksX0_came_0 1 rfl rfl)
theorem dX0_came_2 : decode cX0_came 2 = .ok (.invokestatic 461, 3) := dk_184 1 205 (dk_at dksX0_came_0 2 rfl rfl)
theorem dX0_came_5 : decode cX0_came 5 = .ok (.istore 5, 2) := dk_54 5 (dk_at dksX0_came_0 5 rfl rfl)
theorem dX0_came_7 : decode cX0_came 7 = .ok (.iconst 0, 1) := dk_3 (dk_at dksX0_came_0 7 rfl rfl)
theorem dX0_came_8 : decode cX0_came 8 = .ok (.istore 6, 2) := dk_54 6 (dk_at dksX0_came_0 8 rfl rfl)
theorem dX0_came_10 : decode cX0_came 10 = .ok (.iconst 0, 1) := dk_3 (dk_at dksX0_came_0 10 rfl rfl)
theorem dX0_came_11 : decode cX0_came 11 = .ok (.istore 7, 2) := dk_54 7 (dk_at dksX0_came_0 11 rfl rfl)
theorem dX0_came_13 : decode cX0_came 13 = .ok (.iload 7, 2) := dk_21 7 (dk_at dksX0_came_0 13 rfl rfl)
theorem dX0_came_15 : decode cX0_came 15 = .ok (.iload 4, 2) := dk_21 4 (dk_at dksX0_came_0 15 rfl rfl)
theorem dX0_came_17 : decode cX0_came 17 = .ok (.if_icmp .ge 71, 3) := dk_162 0 71 (dk_at dksX0_came_0 17 rfl rfl)
theorem dX0_came_20 : decode cX0_came 20 = .ok (.aload_n 1, 1) := dk_43 (dk_at dksX0_came_0 20 rfl rfl)
theorem dX0_came_21 : decode cX0_came 21 = .ok (.iload_n 2, 1) := dk_28 (dk_at dksX0_came_0 21 rfl rfl)
theorem dX0_came_22 : decode cX0_came 22 = .ok (.iload_n 3, 1) := dk_29 (dk_at dksX0_came_0 22 rfl rfl)
theorem dX0_came_23 : decode cX0_came 23 = .ok (.iconst 3, 1) := dk_6 (dk_at dksX0_came_0 23 rfl rfl)
theorem dX0_came_24 : decode cX0_came 24 = .ok (.iload 7, 2) := dk_21 7 (dk_at dksX0_came_1 0 rfl rfl)
theorem dX0_came_26 : decode cX0_came 26 = .ok (.imul, 1) := dk_104 (dk_at dksX0_came_1 2 rfl rfl)
theorem dX0_came_27 : decode cX0_came 27 = .ok (.iadd, 1) := dk_96 (dk_at dksX0_came_1 3 rfl rfl)
theorem dX0_came_28 : decode cX0_came 28 = .ok (.invokestatic 465, 3) := dk_184 1 209 (dk_at dksX0_came_1 4 rfl rfl)
theorem dX0_came_31 : decode cX0_came 31 = .ok (.istore 8, 2) := dk_54 8 (dk_at dksX0_came_1 7 rfl rfl)
theorem dX0_came_33 : decode cX0_came 33 = .ok (.aload_n 1, 1) := dk_43 (dk_at dksX0_came_1 9 rfl rfl)
theorem dX0_came_34 : decode cX0_came 34 = .ok (.iload_n 2, 1) := dk_28 (dk_at dksX0_came_1 10 rfl rfl)
theorem dX0_came_35 : decode cX0_came 35 = .ok (.iload_n 3, 1) := dk_29 (dk_at dksX0_came_1 11 rfl rfl)
theorem dX0_came_36 : decode cX0_came 36 = .ok (.iconst 3, 1) := dk_6 (dk_at dksX0_came_1 12 rfl rfl)
theorem dX0_came_37 : decode cX0_came 37 = .ok (.iload 7, 2) := dk_21 7 (dk_at dksX0_came_1 13 rfl rfl)
theorem dX0_came_39 : decode cX0_came 39 = .ok (.imul, 1) := dk_104 (dk_at dksX0_came_1 15 rfl rfl)
theorem dX0_came_40 : decode cX0_came 40 = .ok (.iadd, 1) := dk_96 (dk_at dksX0_came_1 16 rfl rfl)
theorem dX0_came_41 : decode cX0_came 41 = .ok (.iconst 1, 1) := dk_4 (dk_at dksX0_came_1 17 rfl rfl)
theorem dX0_came_42 : decode cX0_came 42 = .ok (.iadd, 1) := dk_96 (dk_at dksX0_came_1 18 rfl rfl)
theorem dX0_came_43 : decode cX0_came 43 = .ok (.invokestatic 465, 3) := dk_184 1 209 (dk_at dksX0_came_1 19 rfl rfl)
theorem dX0_came_46 : decode cX0_came 46 = .ok (.istore 9, 2) := dk_54 9 (dk_at dksX0_came_1 22 rfl rfl)
theorem dX0_came_48 : decode cX0_came 48 = .ok (.iload 6, 2) := dk_21 6 (dk_at dksX0_came_2 0 rfl rfl)
theorem dX0_came_50 : decode cX0_came 50 = .ok (.aload_n 0, 1) := dk_42 (dk_at dksX0_came_2 2 rfl rfl)
theorem dX0_came_51 : decode cX0_came 51 = .ok (.iload 8, 2) := dk_21 8 (dk_at dksX0_came_2 3 rfl rfl)
theorem dX0_came_53 : decode cX0_came 53 = .ok (.iload 9, 2) := dk_21 9 (dk_at dksX0_came_2 5 rfl rfl)
theorem dX0_came_55 : decode cX0_came 55 = .ok (.aload_n 1, 1) := dk_43 (dk_at dksX0_came_2 7 rfl rfl)
theorem dX0_came_56 : decode cX0_came 56 = .ok (.iload_n 2, 1) := dk_28 (dk_at dksX0_came_2 8 rfl rfl)
theorem dX0_came_57 : decode cX0_came 57 = .ok (.iload_n 3, 1) := dk_29 (dk_at dksX0_came_2 9 rfl rfl)
theorem dX0_came_58 : decode cX0_came 58 = .ok (.iconst 3, 1) := dk_6 (dk_at dksX0_came_2 10 rfl rfl)
theorem dX0_came_59 : decode cX0_came 59 = .ok (.iload 7, 2) := dk_21 7 (dk_at dksX0_came_2 11 rfl rfl)
theorem dX0_came_61 : decode cX0_came 61 = .ok (.imul, 1) := dk_104 (dk_at dksX0_came_2 13 rfl rfl)
theorem dX0_came_62 : decode cX0_came 62 = .ok (.iadd, 1) := dk_96 (dk_at dksX0_came_2 14 rfl rfl)
theorem dX0_came_63 : decode cX0_came 63 = .ok (.iconst 2, 1) := dk_5 (dk_at dksX0_came_2 15 rfl rfl)
theorem dX0_came_64 : decode cX0_came 64 = .ok (.iadd, 1) := dk_96 (dk_at dksX0_came_2 16 rfl rfl)
theorem dX0_came_65 : decode cX0_came 65 = .ok (.invokestatic 465, 3) := dk_184 1 209 (dk_at dksX0_came_2 17 rfl rfl)
theorem dX0_came_68 : decode cX0_came 68 = .ok (.invokevirtual 547, 3) := dk_182 2 35 (dk_at dksX0_came_2 20 rfl rfl)
theorem dX0_came_71 : decode cX0_came 71 = .ok (.ifCond .lt 7, 3) := dk_155 0 7 (dk_at dksX0_came_3 0 rfl rfl)
theorem dX0_came_74 : decode cX0_came 74 = .ok (.iconst 1, 1) := dk_4 (dk_at dksX0_came_3 3 rfl rfl)
theorem dX0_came_75 : decode cX0_came 75 = .ok (.goto 4, 3) := dk_167 0 4 (dk_at dksX0_came_3 4 rfl rfl)
theorem dX0_came_78 : decode cX0_came 78 = .ok (.iconst 0, 1) := dk_3 (dk_at dksX0_came_3 7 rfl rfl)
theorem dX0_came_79 : decode cX0_came 79 = .ok (.iadd, 1) := dk_96 (dk_at dksX0_came_3 8 rfl rfl)
theorem dX0_came_80 : decode cX0_came 80 = .ok (.istore 6, 2) := dk_54 6 (dk_at dksX0_came_3 9 rfl rfl)
theorem dX0_came_82 : decode cX0_came 82 = .ok (.iinc 7 1, 3) := dk_132 7 1 (dk_at dksX0_came_3 11 rfl rfl)
theorem dX0_came_85 : decode cX0_came 85 = .ok (.goto (-72), 3) := dk_167 255 184 (dk_at dksX0_came_3 14 rfl rfl)
theorem dX0_came_88 : decode cX0_came 88 = .ok (.iload 6, 2) := dk_21 6 (dk_at dksX0_came_3 17 rfl rfl)
theorem dX0_came_90 : decode cX0_came 90 = .ok (.ireturn, 1) := dk_172 (dk_at dksX0_came_3 19 rfl rfl)
abbrev cX0_taken : ByteArray := prog_1_method_101_code
def yX0_taken : MethodName := ⟨RX0, "taken", "(II)I"⟩
def dkwX0_taken_2 : List UInt8 := [172]
abbrev dktX0_taken_2 : List UInt8 := dkwX0_taken_2 ++ []
def dkwX0_taken_1 : List UInt8 := [180, 0, 53, 27, 50, 167, 0, 4, 1, 28, 184, 2, 43, 180, 0, 77, 172, 78, 16, 245, 172, 78, 16, 243]
abbrev dktX0_taken_1 : List UInt8 := dkwX0_taken_1 ++ dktX0_taken_2
def dkwX0_taken_0 : List UInt8 := [28, 133, 9, 20, 0, 45, 184, 0, 14, 154, 0, 6, 16, 254, 172, 42, 27, 182, 0, 64, 153, 0, 12, 42]
abbrev dktX0_taken_0 : List UInt8 := dkwX0_taken_0 ++ dktX0_taken_1
theorem dksX0_taken_0 : cX0_taken.data.toList.drop 0 = dktX0_taken_0 := by decide +kernel
theorem dksX0_taken_1 : cX0_taken.data.toList.drop 24 = dktX0_taken_1 := dk_seg dksX0_taken_0 24 rfl rfl
theorem dksX0_taken_2 : cX0_taken.data.toList.drop 48 = dktX0_taken_2 := dk_seg dksX0_taken_1 24 rfl rfl
theorem dX0_taken_0 : decode cX0_taken 0 = .ok (.iload_n 2, 1) := dk_28 (dk_at dksX0_taken_0 0 rfl rfl)
theorem dX0_taken_1 : decode cX0_taken 1 = .ok (.i2l, 1) := dk_133 (dk_at dksX0_taken_0 1 rfl rfl)
theorem dX0_taken_2 : decode cX0_taken 2 = .ok (.lconst 0, 1) := dk_9 (dk_at dksX0_taken_0 2 rfl rfl)
theorem dX0_taken_3 : decode cX0_taken 3 = .ok (.ldc2_w 45, 3) := dk_20 0 45 (dk_at dksX0_taken_0 3 rfl rfl)
theorem dX0_taken_6 : decode cX0_taken 6 = .ok (.invokestatic 14, 3) := dk_184 0 14 (dk_at dksX0_taken_0 6 rfl rfl)
theorem dX0_taken_9 : decode cX0_taken 9 = .ok (.ifCond .ne 6, 3) := dk_154 0 6 (dk_at dksX0_taken_0 9 rfl rfl)
theorem dX0_taken_12 : decode cX0_taken 12 = .ok (.bipush (-2), 2) := dk_16 254 (dk_at dksX0_taken_0 12 rfl rfl)
theorem dX0_taken_14 : decode cX0_taken 14 = .ok (.ireturn, 1) := dk_172 (dk_at dksX0_taken_0 14 rfl rfl)
theorem dX0_taken_15 : decode cX0_taken 15 = .ok (.aload_n 0, 1) := dk_42 (dk_at dksX0_taken_0 15 rfl rfl)
theorem dX0_taken_16 : decode cX0_taken 16 = .ok (.iload_n 1, 1) := dk_27 (dk_at dksX0_taken_0 16 rfl rfl)
theorem dX0_taken_17 : decode cX0_taken 17 = .ok (.invokevirtual 64, 3) := dk_182 0 64 (dk_at dksX0_taken_0 17 rfl rfl)
theorem dX0_taken_20 : decode cX0_taken 20 = .ok (.ifCond .eq 12, 3) := dk_153 0 12 (dk_at dksX0_taken_0 20 rfl rfl)
theorem dX0_taken_23 : decode cX0_taken 23 = .ok (.aload_n 0, 1) := dk_42 (dk_at dksX0_taken_0 23 rfl rfl)
theorem dX0_taken_24 : decode cX0_taken 24 = .ok (.getfield 53, 3) := dk_180 0 53 (dk_at dksX0_taken_1 0 rfl rfl)
theorem dX0_taken_27 : decode cX0_taken 27 = .ok (.iload_n 1, 1) := dk_27 (dk_at dksX0_taken_1 3 rfl rfl)
theorem dX0_taken_28 : decode cX0_taken 28 = .ok (.aaload, 1) := dk_50 (dk_at dksX0_taken_1 4 rfl rfl)
theorem dX0_taken_29 : decode cX0_taken 29 = .ok (.goto 4, 3) := dk_167 0 4 (dk_at dksX0_taken_1 5 rfl rfl)
theorem dX0_taken_32 : decode cX0_taken 32 = .ok (.aconst_null, 1) := dk_1 (dk_at dksX0_taken_1 8 rfl rfl)
theorem dX0_taken_33 : decode cX0_taken 33 = .ok (.iload_n 2, 1) := dk_28 (dk_at dksX0_taken_1 9 rfl rfl)
theorem dX0_taken_34 : decode cX0_taken 34 = .ok (.invokestatic 555, 3) := dk_184 2 43 (dk_at dksX0_taken_1 10 rfl rfl)
theorem dX0_taken_37 : decode cX0_taken 37 = .ok (.getfield 77, 3) := dk_180 0 77 (dk_at dksX0_taken_1 13 rfl rfl)
theorem dX0_taken_40 : decode cX0_taken 40 = .ok (.ireturn, 1) := dk_172 (dk_at dksX0_taken_1 16 rfl rfl)
theorem dX0_taken_41 : decode cX0_taken 41 = .ok (.astore_n 3, 1) := dk_78 (dk_at dksX0_taken_1 17 rfl rfl)
theorem dX0_taken_42 : decode cX0_taken 42 = .ok (.bipush (-11), 2) := dk_16 245 (dk_at dksX0_taken_1 18 rfl rfl)
theorem dX0_taken_44 : decode cX0_taken 44 = .ok (.ireturn, 1) := dk_172 (dk_at dksX0_taken_1 20 rfl rfl)
theorem dX0_taken_45 : decode cX0_taken 45 = .ok (.astore_n 3, 1) := dk_78 (dk_at dksX0_taken_1 21 rfl rfl)
theorem dX0_taken_46 : decode cX0_taken 46 = .ok (.bipush (-13), 2) := dk_16 243 (dk_at dksX0_taken_1 22 rfl rfl)
theorem dX0_taken_48 : decode cX0_taken 48 = .ok (.ireturn, 1) := dk_172 (dk_at dksX0_taken_2 0 rfl rfl)
abbrev cX0_as : ByteArray := prog_1_method_100_code
def yX0_as : MethodName := ⟨RX0, "as", "(LRoadsNotGoneBy$Life;I)LRoadsNotGoneBy$Life;"⟩
def dkwX0_as_3 : List UInt8 := [176, 42, 176]
abbrev dktX0_as_3 : List UInt8 := dkwX0_as_3 ++ []
def dkwX0_as_2 : List UInt8 := [42, 192, 0, 24, 176, 42, 192, 0, 30, 176, 42, 192, 0, 33, 176, 42, 192, 0, 36, 176, 42, 192, 0, 39]
abbrev dktX0_as_2 : List UInt8 := dkwX0_as_2 ++ dktX0_as_3
def dkwX0_as_1 : List UInt8 := [170, 0, 0, 0, 0, 0, 60, 0, 0, 0, 1, 0, 0, 0, 5, 0, 0, 0, 35, 0, 0, 0, 40, 0, 0, 0, 45, 0, 0, 0, 50, 0, 0, 0, 55]
abbrev dktX0_as_1 : List UInt8 := dkwX0_as_1 ++ dktX0_as_2
def dkwX0_as_0 : List UInt8 := [27]
abbrev dktX0_as_0 : List UInt8 := dkwX0_as_0 ++ dktX0_as_1
theorem dksX0_as_0 : cX0_as.data.toList.drop 0 = dktX0_as_0 := by decide +kernel
theorem dksX0_as_1 : cX0_as.data.toList.drop 1 = dktX0_as_1 := dk_seg dksX0_as_0 1 rfl rfl
theorem dksX0_as_2 : cX0_as.data.toList.drop 36 = dktX0_as_2 := dk_seg dksX0_as_1 35 rfl rfl
theorem dksX0_as_3 : cX0_as.data.toList.drop 60 = dktX0_as_3 := dk_seg dksX0_as_2 24 rfl rfl
theorem dX0_as_0 : decode cX0_as 0 = .ok (.iload_n 1, 1) := dk_27 (dk_at dksX0_as_0 0 rfl rfl)
theorem dX0_as_1 : decode cX0_as 1 = .ok (.tableswitch 60 1 5 #[35, 40, 45, 50, 55], 35) := by decide +kernel
theorem dX0_as_36 : decode cX0_as 36 = .ok (.aload_n 0, 1) := dk_42 (dk_at dksX0_as_2 0 rfl rfl)
theorem dX0_as_37 : decode cX0_as 37 = .ok (.checkcast 24, 3) := dk_192 0 24 (dk_at dksX0_as_2 1 rfl rfl)
theorem dX0_as_40 : decode cX0_as 40 = .ok (.areturn, 1) := dk_176 (dk_at dksX0_as_2 4 rfl rfl)
theorem dX0_as_41 : decode cX0_as 41 = .ok (.aload_n 0, 1) := dk_42 (dk_at dksX0_as_2 5 rfl rfl)
theorem dX0_as_42 : decode cX0_as 42 = .ok (.checkcast 30, 3) := dk_192 0 30 (dk_at dksX0_as_2 6 rfl rfl)
theorem dX0_as_45 : decode cX0_as 45 = .ok (.areturn, 1) := dk_176 (dk_at dksX0_as_2 9 rfl rfl)
theorem dX0_as_46 : decode cX0_as 46 = .ok (.aload_n 0, 1) := dk_42 (dk_at dksX0_as_2 10 rfl rfl)
theorem dX0_as_47 : decode cX0_as 47 = .ok (.checkcast 33, 3) := dk_192 0 33 (dk_at dksX0_as_2 11 rfl rfl)
theorem dX0_as_50 : decode cX0_as 50 = .ok (.areturn, 1) := dk_176 (dk_at dksX0_as_2 14 rfl rfl)
theorem dX0_as_51 : decode cX0_as 51 = .ok (.aload_n 0, 1) := dk_42 (dk_at dksX0_as_2 15 rfl rfl)
theorem dX0_as_52 : decode cX0_as 52 = .ok (.checkcast 36, 3) := dk_192 0 36 (dk_at dksX0_as_2 16 rfl rfl)
theorem dX0_as_55 : decode cX0_as 55 = .ok (.areturn, 1) := dk_176 (dk_at dksX0_as_2 19 rfl rfl)
theorem dX0_as_56 : decode cX0_as 56 = .ok (.aload_n 0, 1) := dk_42 (dk_at dksX0_as_2 20 rfl rfl)
theorem dX0_as_57 : decode cX0_as 57 = .ok (.checkcast 39, 3) := dk_192 0 39 (dk_at dksX0_as_2 21 rfl rfl)
theorem dX0_as_60 : decode cX0_as 60 = .ok (.areturn, 1) := dk_176 (dk_at dksX0_as_3 0 rfl rfl)
theorem dX0_as_61 : decode cX0_as 61 = .ok (.aload_n 0, 1) := dk_42 (dk_at dksX0_as_3 1 rfl rfl)
theorem dX0_as_62 : decode cX0_as 62 = .ok (.areturn, 1) := dk_176 (dk_at dksX0_as_3 2 rfl rfl)
theorem q124 : (Jvm.Cond.initialized "RoadsNotGoneBy") ∈ lw_all := lw_g (lw_at lw_m1 1 rfl) rfl
theorem q155 : (Jvm.Cond.instanceMethod ({ cls := "RoadsNotGoneBy", name := "life", desc := "(III)I" } : Jvm.MethodName)) ∈ lw_all := lw_g (lw_at lw_m1 32 rfl) rfl
theorem q156 : (Jvm.Cond.selects "RoadsNotGoneBy" ({ cls := "RoadsNotGoneBy", name := "life", desc := "(III)I" } : Jvm.MethodName) ({ cls := "RoadsNotGoneBy", name := "life", desc := "(III)I" } : Jvm.MethodName)) ∈ lw_all := lw_g (lw_at lw_m1 33 rfl) rfl
theorem q157 : (Jvm.Cond.code ({ cls := "RoadsNotGoneBy", name := "life", desc := "(III)I" } : Jvm.MethodName) prog_1_method_7_code (4 : Nat) (Option.some Jvm.ClassFile.FieldType.int)) ∈ lw_all := lw_g (lw_at lw_m1 34 rfl) rfl
theorem q158 : (Jvm.Cond.constantLong "RoadsNotGoneBy" (45 : Nat) (5 : Int64)) ∈ lw_all := lw_g (lw_at lw_m1 35 rfl) rfl
theorem q159 : (Jvm.Cond.methodLink "RoadsNotGoneBy" (14 : Nat) ({ cls := "RoadsNotGoneBy", name := "in", desc := "(JJJ)Z" } : Jvm.MethodName)) ∈ lw_all := lw_g (lw_at lw_m1 36 rfl) rfl
theorem q160 : (Jvm.Cond.static ({ cls := "RoadsNotGoneBy", name := "in", desc := "(JJJ)Z" } : Jvm.MethodName)) ∈ lw_all := lw_g (lw_at lw_m1 37 rfl) rfl
theorem q161 : (Jvm.Cond.code ({ cls := "RoadsNotGoneBy", name := "in", desc := "(JJJ)Z" } : Jvm.MethodName) prog_1_method_1_code (6 : Nat) (Option.some Jvm.ClassFile.FieldType.boolean)) ∈ lw_all := lw_g (lw_at lw_m1 38 rfl) rfl
theorem q162 : (Jvm.Cond.constantLong "RoadsNotGoneBy" (47 : Nat) (9 : Int64)) ∈ lw_all := lw_g (lw_at lw_m1 39 rfl) rfl
theorem q163 : (Jvm.Cond.methodLink "RoadsNotGoneBy" (49 : Nat) ({ cls := "RoadsNotGoneBy", name := "isCrossing", desc := "(I)Z" } : Jvm.MethodName)) ∈ lw_all := lw_g (lw_at lw_m1 40 rfl) rfl
theorem q164 : (Jvm.Cond.static ({ cls := "RoadsNotGoneBy", name := "isCrossing", desc := "(I)Z" } : Jvm.MethodName)) ∈ lw_all := lw_g (lw_at lw_m1 41 rfl) rfl
theorem q165 : (Jvm.Cond.code ({ cls := "RoadsNotGoneBy", name := "isCrossing", desc := "(I)Z" } : Jvm.MethodName) prog_1_method_3_code (1 : Nat) (Option.some Jvm.ClassFile.FieldType.boolean)) ∈ lw_all := lw_g (lw_at lw_m1 42 rfl) rfl
theorem q166 : (Jvm.Cond.constantLong "RoadsNotGoneBy" (12 : Nat) (11 : Int64)) ∈ lw_all := lw_g (lw_at lw_m1 43 rfl) rfl
theorem q167 : (Jvm.Cond.methodLink "RoadsNotGoneBy" (57 : Nat) ({ cls := "RoadsNotGoneBy", name := "made", desc := "(III)LRoadsNotGoneBy$Life;" } : Jvm.MethodName)) ∈ lw_all := lw_g (lw_at lw_m1 44 rfl) rfl
theorem q168 : (Jvm.Cond.static ({ cls := "RoadsNotGoneBy", name := "made", desc := "(III)LRoadsNotGoneBy$Life;" } : Jvm.MethodName)) ∈ lw_all := lw_g (lw_at lw_m1 45 rfl) rfl
theorem q169 : (Jvm.Cond.code ({ cls := "RoadsNotGoneBy", name := "made", desc := "(III)LRoadsNotGoneBy$Life;" } : Jvm.MethodName) prog_1_method_6_code (3 : Nat) (Option.some (Jvm.ClassFile.FieldType.object "RoadsNotGoneBy$Life"))) ∈ lw_all := lw_g (lw_at lw_m1 46 rfl) rfl
theorem q170 : (Jvm.Cond.classLink "RoadsNotGoneBy" (24 : Nat) "RoadsNotGoneBy$Engineer") ∈ lw_all := lw_g (lw_at lw_m1 47 rfl) rfl
theorem q172 : (Jvm.Cond.methodLink "RoadsNotGoneBy" (26 : Nat) ({ cls := "RoadsNotGoneBy$Engineer", name := "<init>", desc := "(II)V" } : Jvm.MethodName)) ∈ lw_all := lw_g (lw_at lw_m1 49 rfl) rfl
theorem q191 : (Jvm.Cond.fieldLink "RoadsNotGoneBy" (77 : Nat) "RoadsNotGoneBy$Life" "number" "I") ∈ lw_all := lw_g (lw_at lw_m1 68 rfl) rfl
theorem q196 : (Jvm.Cond.fieldLink "RoadsNotGoneBy" (80 : Nat) "RoadsNotGoneBy$Life" "on" "I") ∈ lw_all := lw_g (lw_at lw_m1 73 rfl) rfl
theorem q201 : (Jvm.Cond.fieldLink "RoadsNotGoneBy" (83 : Nat) "RoadsNotGoneBy$Life" "mood" "I") ∈ lw_all := lw_g (lw_at lw_m1 78 rfl) rfl
theorem q206 : (Jvm.Cond.fieldLink "RoadsNotGoneBy" (86 : Nat) "RoadsNotGoneBy$Life" "eaten" "I") ∈ lw_all := lw_g (lw_at lw_m1 83 rfl) rfl
theorem q216 : (Jvm.Cond.classLink "RoadsNotGoneBy" (30 : Nat) "RoadsNotGoneBy$Clergyman") ∈ lw_all := lw_g (lw_at lw_m1 93 rfl) rfl
theorem q218 : (Jvm.Cond.methodLink "RoadsNotGoneBy" (32 : Nat) ({ cls := "RoadsNotGoneBy$Clergyman", name := "<init>", desc := "(II)V" } : Jvm.MethodName)) ∈ lw_all := lw_g (lw_at lw_m1 95 rfl) rfl
theorem q227 : (Jvm.Cond.classLink "RoadsNotGoneBy" (33 : Nat) "RoadsNotGoneBy$Girl") ∈ lw_all := lw_g (lw_at lw_m1 104 rfl) rfl
theorem q229 : (Jvm.Cond.methodLink "RoadsNotGoneBy" (35 : Nat) ({ cls := "RoadsNotGoneBy$Girl", name := "<init>", desc := "(II)V" } : Jvm.MethodName)) ∈ lw_all := lw_g (lw_at lw_m1 106 rfl) rfl
theorem q238 : (Jvm.Cond.classLink "RoadsNotGoneBy" (36 : Nat) "RoadsNotGoneBy$Bishop") ∈ lw_all := lw_g (lw_at lw_m1 115 rfl) rfl
theorem q240 : (Jvm.Cond.methodLink "RoadsNotGoneBy" (38 : Nat) ({ cls := "RoadsNotGoneBy$Bishop", name := "<init>", desc := "(II)V" } : Jvm.MethodName)) ∈ lw_all := lw_g (lw_at lw_m1 117 rfl) rfl
theorem q249 : (Jvm.Cond.classLink "RoadsNotGoneBy" (39 : Nat) "RoadsNotGoneBy$Woman") ∈ lw_all := lw_g (lw_at lw_m1 126 rfl) rfl
theorem q251 : (Jvm.Cond.methodLink "RoadsNotGoneBy" (41 : Nat) ({ cls := "RoadsNotGoneBy$Woman", name := "<init>", desc := "(II)V" } : Jvm.MethodName)) ∈ lw_all := lw_g (lw_at lw_m1 128 rfl) rfl
theorem q260 : (Jvm.Cond.classLink "RoadsNotGoneBy" (42 : Nat) "RoadsNotGoneBy$Life") ∈ lw_all := lw_g (lw_at lw_m1 137 rfl) rfl
theorem q262 : (Jvm.Cond.methodLink "RoadsNotGoneBy" (44 : Nat) ({ cls := "RoadsNotGoneBy$Life", name := "<init>", desc := "(II)V" } : Jvm.MethodName)) ∈ lw_all := lw_g (lw_at lw_m1 139 rfl) rfl
theorem q269 : (Jvm.Cond.instanceMethod ({ cls := "RoadsNotGoneBy", name := "set", desc := "(III)I" } : Jvm.MethodName)) ∈ lw_all := lw_g (lw_at lw_m1 146 rfl) rfl
theorem q270 : (Jvm.Cond.selects "RoadsNotGoneBy" ({ cls := "RoadsNotGoneBy", name := "set", desc := "(III)I" } : Jvm.MethodName) ({ cls := "RoadsNotGoneBy", name := "set", desc := "(III)I" } : Jvm.MethodName)) ∈ lw_all := lw_g (lw_at lw_m1 147 rfl) rfl
theorem q271 : (Jvm.Cond.code ({ cls := "RoadsNotGoneBy", name := "set", desc := "(III)I" } : Jvm.MethodName) prog_1_method_12_code (5 : Nat) (Option.some Jvm.ClassFile.FieldType.int)) ∈ lw_all := lw_g (lw_at lw_m1 148 rfl) rfl
theorem q272 : (Jvm.Cond.constantLong "RoadsNotGoneBy" (89 : Nat) (6 : Int64)) ∈ lw_all := lw_g (lw_at lw_m1 149 rfl) rfl
theorem q273 : (Jvm.Cond.methodLink "RoadsNotGoneBy" (91 : Nat) ({ cls := "RoadsNotGoneBy", name := "isThere", desc := "(II)Z" } : Jvm.MethodName)) ∈ lw_all := lw_g (lw_at lw_m1 150 rfl) rfl
theorem q274 : (Jvm.Cond.privateMethod ({ cls := "RoadsNotGoneBy", name := "isThere", desc := "(II)Z" } : Jvm.MethodName)) ∈ lw_tbl := lw_at lw_m1 151 rfl
theorem q275 : (Jvm.Cond.instanceMethod ({ cls := "RoadsNotGoneBy", name := "isThere", desc := "(II)Z" } : Jvm.MethodName)) ∈ lw_all := lw_g (lw_at lw_m1 152 rfl) rfl
theorem q276 : (Jvm.Cond.instantiable "RoadsNotGoneBy" (34 : Nat)) ∈ lw_all := lw_g (lw_at lw_m1 153 rfl) rfl
theorem q277 : (Jvm.Cond.code ({ cls := "RoadsNotGoneBy", name := "isThere", desc := "(II)Z" } : Jvm.MethodName) prog_1_method_8_code (3 : Nat) (Option.some Jvm.ClassFile.FieldType.boolean)) ∈ lw_all := lw_g (lw_at lw_m1 154 rfl) rfl
theorem q278 : (Jvm.Cond.methodLink "RoadsNotGoneBy" (61 : Nat) ({ cls := "RoadsNotGoneBy", name := "isRoad", desc := "(I)Z" } : Jvm.MethodName)) ∈ lw_all := lw_g (lw_at lw_m1 155 rfl) rfl
theorem q279 : (Jvm.Cond.static ({ cls := "RoadsNotGoneBy", name := "isRoad", desc := "(I)Z" } : Jvm.MethodName)) ∈ lw_all := lw_g (lw_at lw_m1 156 rfl) rfl
theorem q280 : (Jvm.Cond.code ({ cls := "RoadsNotGoneBy", name := "isRoad", desc := "(I)Z" } : Jvm.MethodName) prog_1_method_5_code (1 : Nat) (Option.some Jvm.ClassFile.FieldType.boolean)) ∈ lw_all := lw_g (lw_at lw_m1 157 rfl) rfl
theorem q281 : (Jvm.Cond.constantLong "RoadsNotGoneBy" (22 : Nat) (23 : Int64)) ∈ lw_all := lw_g (lw_at lw_m1 158 rfl) rfl
theorem q282 : (Jvm.Cond.methodLink "RoadsNotGoneBy" (64 : Nat) ({ cls := "RoadsNotGoneBy", name := "isOne", desc := "(I)Z" } : Jvm.MethodName)) ∈ lw_all := lw_g (lw_at lw_m1 159 rfl) rfl
theorem q283 : (Jvm.Cond.privateMethod ({ cls := "RoadsNotGoneBy", name := "isOne", desc := "(I)Z" } : Jvm.MethodName)) ∈ lw_tbl := lw_at lw_m1 160 rfl
theorem q284 : (Jvm.Cond.instanceMethod ({ cls := "RoadsNotGoneBy", name := "isOne", desc := "(I)Z" } : Jvm.MethodName)) ∈ lw_all := lw_g (lw_at lw_m1 161 rfl) rfl
theorem q285 : (Jvm.Cond.code ({ cls := "RoadsNotGoneBy", name := "isOne", desc := "(I)Z" } : Jvm.MethodName) prog_1_method_4_code (2 : Nat) (Option.some Jvm.ClassFile.FieldType.boolean)) ∈ lw_all := lw_g (lw_at lw_m1 162 rfl) rfl
theorem q286 : (Jvm.Cond.constantLong "RoadsNotGoneBy" (95 : Nat) (-99 : Int64)) ∈ lw_all := lw_g (lw_at lw_m1 163 rfl) rfl
theorem q287 : (Jvm.Cond.methodLink "RoadsNotGoneBy" (97 : Nat) ({ cls := "RoadsNotGoneBy", name := "mostOf", desc := "(I)I" } : Jvm.MethodName)) ∈ lw_all := lw_g (lw_at lw_m1 164 rfl) rfl
theorem q288 : (Jvm.Cond.static ({ cls := "RoadsNotGoneBy", name := "mostOf", desc := "(I)I" } : Jvm.MethodName)) ∈ lw_all := lw_g (lw_at lw_m1 165 rfl) rfl
theorem q289 : (Jvm.Cond.code ({ cls := "RoadsNotGoneBy", name := "mostOf", desc := "(I)I" } : Jvm.MethodName) prog_1_method_9_code (1 : Nat) (Option.some Jvm.ClassFile.FieldType.int)) ∈ lw_all := lw_g (lw_at lw_m1 166 rfl) rfl
theorem q290 : (Jvm.Cond.methodLink "RoadsNotGoneBy" (101 : Nat) ({ cls := "RoadsNotGoneBy", name := "heldBy", desc := "(II)I" } : Jvm.MethodName)) ∈ lw_all := lw_g (lw_at lw_m1 167 rfl) rfl
theorem q291 : (Jvm.Cond.privateMethod ({ cls := "RoadsNotGoneBy", name := "heldBy", desc := "(II)I" } : Jvm.MethodName)) ∈ lw_tbl := lw_at lw_m1 168 rfl
theorem q292 : (Jvm.Cond.instanceMethod ({ cls := "RoadsNotGoneBy", name := "heldBy", desc := "(II)I" } : Jvm.MethodName)) ∈ lw_all := lw_g (lw_at lw_m1 169 rfl) rfl
theorem q293 : (Jvm.Cond.code ({ cls := "RoadsNotGoneBy", name := "heldBy", desc := "(II)I" } : Jvm.MethodName) prog_1_method_10_code (3 : Nat) (Option.some Jvm.ClassFile.FieldType.int)) ∈ lw_all := lw_g (lw_at lw_m1 170 rfl) rfl
theorem q294 : (Jvm.Cond.methodLink "RoadsNotGoneBy" (104 : Nat) ({ cls := "RoadsNotGoneBy", name := "becomes", desc := "(III)V" } : Jvm.MethodName)) ∈ lw_all := lw_g (lw_at lw_m1 171 rfl) rfl
theorem q295 : (Jvm.Cond.privateMethod ({ cls := "RoadsNotGoneBy", name := "becomes", desc := "(III)V" } : Jvm.MethodName)) ∈ lw_tbl := lw_at lw_m1 172 rfl
theorem q296 : (Jvm.Cond.instanceMethod ({ cls := "RoadsNotGoneBy", name := "becomes", desc := "(III)V" } : Jvm.MethodName)) ∈ lw_all := lw_g (lw_at lw_m1 173 rfl) rfl
theorem q297 : (Jvm.Cond.code ({ cls := "RoadsNotGoneBy", name := "becomes", desc := "(III)V" } : Jvm.MethodName) prog_1_method_11_code (4 : Nat) (Option.none : Option Jvm.ClassFile.FieldType)) ∈ lw_all := lw_g (lw_at lw_m1 174 rfl) rfl
theorem q299 : (Jvm.Cond.instanceMethod ({ cls := "RoadsNotGoneBy", name := "told", desc := "(II)I" } : Jvm.MethodName)) ∈ lw_all := lw_g (lw_at lw_m1 176 rfl) rfl
theorem q300 : (Jvm.Cond.selects "RoadsNotGoneBy" ({ cls := "RoadsNotGoneBy", name := "told", desc := "(II)I" } : Jvm.MethodName) ({ cls := "RoadsNotGoneBy", name := "told", desc := "(II)I" } : Jvm.MethodName)) ∈ lw_all := lw_g (lw_at lw_m1 177 rfl) rfl
theorem q301 : (Jvm.Cond.code ({ cls := "RoadsNotGoneBy", name := "told", desc := "(II)I" } : Jvm.MethodName) prog_1_method_14_code (3 : Nat) (Option.some Jvm.ClassFile.FieldType.int)) ∈ lw_all := lw_g (lw_at lw_m1 178 rfl) rfl
theorem q302 : (Jvm.Cond.methodLink "RoadsNotGoneBy" (108 : Nat) ({ cls := "RoadsNotGoneBy", name := "whoAt", desc := "(I)I" } : Jvm.MethodName)) ∈ lw_all := lw_g (lw_at lw_m1 179 rfl) rfl
theorem q303 : (Jvm.Cond.privateMethod ({ cls := "RoadsNotGoneBy", name := "whoAt", desc := "(I)I" } : Jvm.MethodName)) ∈ lw_tbl := lw_at lw_m1 180 rfl
theorem q304 : (Jvm.Cond.instanceMethod ({ cls := "RoadsNotGoneBy", name := "whoAt", desc := "(I)I" } : Jvm.MethodName)) ∈ lw_all := lw_g (lw_at lw_m1 181 rfl) rfl
theorem q305 : (Jvm.Cond.code ({ cls := "RoadsNotGoneBy", name := "whoAt", desc := "(I)I" } : Jvm.MethodName) prog_1_method_13_code (4 : Nat) (Option.some Jvm.ClassFile.FieldType.int)) ∈ lw_all := lw_g (lw_at lw_m1 182 rfl) rfl
theorem q306 : (Jvm.Cond.constantLong "RoadsNotGoneBy" (111 : Nat) (7 : Int64)) ∈ lw_all := lw_g (lw_at lw_m1 183 rfl) rfl
theorem q307 : (Jvm.Cond.methodLink "RoadsNotGoneBy" (113 : Nat) ({ cls := "RoadsNotGoneBy$Life", name := "kind", desc := "()I" } : Jvm.MethodName)) ∈ lw_all := lw_g (lw_at lw_m1 184 rfl) rfl
theorem q332 : (Jvm.Cond.methodLink "RoadsNotGoneBy" (117 : Nat) ({ cls := "RoadsNotGoneBy", name := "takesOf", desc := "(I)I" } : Jvm.MethodName)) ∈ lw_all := lw_g (lw_at lw_m1 209 rfl) rfl
theorem q333 : (Jvm.Cond.privateMethod ({ cls := "RoadsNotGoneBy", name := "takesOf", desc := "(I)I" } : Jvm.MethodName)) ∈ lw_tbl := lw_at lw_m1 210 rfl
theorem q334 : (Jvm.Cond.instanceMethod ({ cls := "RoadsNotGoneBy", name := "takesOf", desc := "(I)I" } : Jvm.MethodName)) ∈ lw_all := lw_g (lw_at lw_m1 211 rfl) rfl
theorem q335 : (Jvm.Cond.code ({ cls := "RoadsNotGoneBy", name := "takesOf", desc := "(I)I" } : Jvm.MethodName) prog_1_method_40_code (4 : Nat) (Option.some Jvm.ClassFile.FieldType.int)) ∈ lw_all := lw_g (lw_at lw_m1 212 rfl) rfl
theorem q336 : (Jvm.Cond.methodLink "RoadsNotGoneBy" (362 : Nat) ({ cls := "RoadsNotGoneBy", name := "says", desc := "(III)I" } : Jvm.MethodName)) ∈ lw_all := lw_g (lw_at lw_m1 213 rfl) rfl
theorem q337 : (Jvm.Cond.privateMethod ({ cls := "RoadsNotGoneBy", name := "says", desc := "(III)I" } : Jvm.MethodName)) ∈ lw_tbl := lw_at lw_m1 214 rfl
theorem q338 : (Jvm.Cond.instanceMethod ({ cls := "RoadsNotGoneBy", name := "says", desc := "(III)I" } : Jvm.MethodName)) ∈ lw_all := lw_g (lw_at lw_m1 215 rfl) rfl
theorem q339 : (Jvm.Cond.code ({ cls := "RoadsNotGoneBy", name := "says", desc := "(III)I" } : Jvm.MethodName) prog_1_method_39_code (4 : Nat) (Option.some Jvm.ClassFile.FieldType.int)) ∈ lw_all := lw_g (lw_at lw_m1 216 rfl) rfl
theorem q340 : (Jvm.Cond.methodLink "RoadsNotGoneBy" (355 : Nat) ({ cls := "RoadsNotGoneBy$Node", name := "worth", desc := "()I" } : Jvm.MethodName)) ∈ lw_all := lw_g (lw_at lw_m1 217 rfl) rfl
theorem q357 : (Jvm.Cond.methodLink "RoadsNotGoneBy" (358 : Nat) ({ cls := "RoadsNotGoneBy", name := "held", desc := "(III)I" } : Jvm.MethodName)) ∈ lw_all := lw_g (lw_at lw_m1 234 rfl) rfl
theorem q358 : (Jvm.Cond.static ({ cls := "RoadsNotGoneBy", name := "held", desc := "(III)I" } : Jvm.MethodName)) ∈ lw_all := lw_g (lw_at lw_m1 235 rfl) rfl
theorem q359 : (Jvm.Cond.code ({ cls := "RoadsNotGoneBy", name := "held", desc := "(III)I" } : Jvm.MethodName) prog_1_method_2_code (3 : Nat) (Option.some Jvm.ClassFile.FieldType.int)) ∈ lw_all := lw_g (lw_at lw_m1 236 rfl) rfl
theorem q360 : (Jvm.Cond.methodLink "RoadsNotGoneBy" (1 : Nat) ({ cls := "java/lang/Math", name := "min", desc := "(II)I" } : Jvm.MethodName)) ∈ lw_all := lw_g (lw_at lw_m1 237 rfl) rfl
theorem q363 : (Jvm.Cond.methodLink "RoadsNotGoneBy" (7 : Nat) ({ cls := "java/lang/Math", name := "max", desc := "(II)I" } : Jvm.MethodName)) ∈ lw_all := lw_g (lw_at lw_m2 0 rfl) rfl
theorem q366 : (Jvm.Cond.methodLink "RoadsNotGoneBy" (365 : Nat) ({ cls := "RoadsNotGoneBy$Life", name := "takes", desc := "(IIII)I" } : Jvm.MethodName)) ∈ lw_all := lw_g (lw_at lw_m2 3 rfl) rfl
theorem q389 : (Jvm.Cond.methodLink "RoadsNotGoneBy" (120 : Nat) ({ cls := "RoadsNotGoneBy", name := "putsOf", desc := "(I)I" } : Jvm.MethodName)) ∈ lw_all := lw_g (lw_at lw_m2 26 rfl) rfl
theorem q390 : (Jvm.Cond.privateMethod ({ cls := "RoadsNotGoneBy", name := "putsOf", desc := "(I)I" } : Jvm.MethodName)) ∈ lw_tbl := lw_at lw_m2 27 rfl
theorem q391 : (Jvm.Cond.instanceMethod ({ cls := "RoadsNotGoneBy", name := "putsOf", desc := "(I)I" } : Jvm.MethodName)) ∈ lw_all := lw_g (lw_at lw_m2 28 rfl) rfl
theorem q392 : (Jvm.Cond.code ({ cls := "RoadsNotGoneBy", name := "putsOf", desc := "(I)I" } : Jvm.MethodName) prog_1_method_41_code (3 : Nat) (Option.some Jvm.ClassFile.FieldType.int)) ∈ lw_all := lw_g (lw_at lw_m2 29 rfl) rfl
theorem q393 : (Jvm.Cond.methodLink "RoadsNotGoneBy" (368 : Nat) ({ cls := "RoadsNotGoneBy$Life", name := "putsBy", desc := "(I)I" } : Jvm.MethodName)) ∈ lw_all := lw_g (lw_at lw_m2 30 rfl) rfl
theorem q418 : (Jvm.Cond.instanceMethod ({ cls := "RoadsNotGoneBy", name := "feed", desc := "(I)I" } : Jvm.MethodName)) ∈ lw_all := lw_g (lw_at lw_m2 55 rfl) rfl
theorem q419 : (Jvm.Cond.selects "RoadsNotGoneBy" ({ cls := "RoadsNotGoneBy", name := "feed", desc := "(I)I" } : Jvm.MethodName) ({ cls := "RoadsNotGoneBy", name := "feed", desc := "(I)I" } : Jvm.MethodName)) ∈ lw_all := lw_g (lw_at lw_m2 56 rfl) rfl
theorem q420 : (Jvm.Cond.code ({ cls := "RoadsNotGoneBy", name := "feed", desc := "(I)I" } : Jvm.MethodName) prog_1_method_34_code (2 : Nat) (Option.some Jvm.ClassFile.FieldType.int)) ∈ lw_all := lw_g (lw_at lw_m2 57 rfl) rfl
theorem q421 : (Jvm.Cond.constantLong "RoadsNotGoneBy" (269 : Nat) (255 : Int64)) ∈ lw_all := lw_g (lw_at lw_m2 58 rfl) rfl
theorem q423 : (Jvm.Cond.instanceMethod ({ cls := "RoadsNotGoneBy", name := "text", desc := "()I" } : Jvm.MethodName)) ∈ lw_all := lw_g (lw_at lw_m2 60 rfl) rfl
theorem q424 : (Jvm.Cond.selects "RoadsNotGoneBy" ({ cls := "RoadsNotGoneBy", name := "text", desc := "()I" } : Jvm.MethodName) ({ cls := "RoadsNotGoneBy", name := "text", desc := "()I" } : Jvm.MethodName)) ∈ lw_all := lw_g (lw_at lw_m2 61 rfl) rfl
theorem q425 : (Jvm.Cond.code ({ cls := "RoadsNotGoneBy", name := "text", desc := "()I" } : Jvm.MethodName) prog_1_method_35_code (1 : Nat) (Option.some Jvm.ClassFile.FieldType.int)) ∈ lw_all := lw_g (lw_at lw_m2 62 rfl) rfl
theorem q426 : (Jvm.Cond.methodLink "RoadsNotGoneBy" (266 : Nat) ({ cls := "RoadsNotGoneBy", name := "newText", desc := "()I" } : Jvm.MethodName)) ∈ lw_all := lw_g (lw_at lw_m2 63 rfl) rfl
theorem q427 : (Jvm.Cond.privateMethod ({ cls := "RoadsNotGoneBy", name := "newText", desc := "()I" } : Jvm.MethodName)) ∈ lw_tbl := lw_at lw_m2 64 rfl
theorem q428 : (Jvm.Cond.instanceMethod ({ cls := "RoadsNotGoneBy", name := "newText", desc := "()I" } : Jvm.MethodName)) ∈ lw_all := lw_g (lw_at lw_m2 65 rfl) rfl
theorem q429 : (Jvm.Cond.codeWith ({ cls := "RoadsNotGoneBy", name := "newText", desc := "()I" } : Jvm.MethodName) prog_1_method_32_code (3 : Nat) (Option.some Jvm.ClassFile.FieldType.int) [((28 : Nat), (83 : Nat), (86 : Nat), (257 : Nat))]) ∈ lw_all := lw_g (lw_at lw_m2 66 rfl) rfl
theorem q430 : (Jvm.Cond.classLink "RoadsNotGoneBy" (257 : Nat) "RoadsNotGoneBy$Faulty") ∈ lw_all := lw_g (lw_at lw_m2 67 rfl) rfl
theorem q431 : (Jvm.Cond.classLink "RoadsNotGoneBy" (255 : Nat) "RoadsNotGoneBy$Node") ∈ lw_all := lw_g (lw_at lw_m2 68 rfl) rfl
theorem q433 : (Jvm.Cond.methodLink "RoadsNotGoneBy" (194 : Nat) ({ cls := "RoadsNotGoneBy", name := "next", desc := "()V" } : Jvm.MethodName)) ∈ lw_all := lw_g (lw_at lw_m2 70 rfl) rfl
theorem q434 : (Jvm.Cond.privateMethod ({ cls := "RoadsNotGoneBy", name := "next", desc := "()V" } : Jvm.MethodName)) ∈ lw_tbl := lw_at lw_m2 71 rfl
theorem q435 : (Jvm.Cond.instanceMethod ({ cls := "RoadsNotGoneBy", name := "next", desc := "()V" } : Jvm.MethodName)) ∈ lw_all := lw_g (lw_at lw_m2 72 rfl) rfl
theorem q436 : (Jvm.Cond.code ({ cls := "RoadsNotGoneBy", name := "next", desc := "()V" } : Jvm.MethodName) prog_1_method_18_code (2 : Nat) (Option.none : Option Jvm.ClassFile.FieldType)) ∈ lw_all := lw_g (lw_at lw_m2 73 rfl) rfl
theorem q437 : (Jvm.Cond.methodLink "RoadsNotGoneBy" (141 : Nat) ({ cls := "RoadsNotGoneBy", name := "byteAt", desc := "(I)I" } : Jvm.MethodName)) ∈ lw_all := lw_g (lw_at lw_m2 74 rfl) rfl
theorem q438 : (Jvm.Cond.privateMethod ({ cls := "RoadsNotGoneBy", name := "byteAt", desc := "(I)I" } : Jvm.MethodName)) ∈ lw_tbl := lw_at lw_m2 75 rfl
theorem q439 : (Jvm.Cond.instanceMethod ({ cls := "RoadsNotGoneBy", name := "byteAt", desc := "(I)I" } : Jvm.MethodName)) ∈ lw_all := lw_g (lw_at lw_m2 76 rfl) rfl
theorem q440 : (Jvm.Cond.code ({ cls := "RoadsNotGoneBy", name := "byteAt", desc := "(I)I" } : Jvm.MethodName) prog_1_method_15_code (2 : Nat) (Option.some Jvm.ClassFile.FieldType.int)) ∈ lw_all := lw_g (lw_at lw_m2 77 rfl) rfl
theorem q441 : (Jvm.Cond.methodLink "RoadsNotGoneBy" (150 : Nat) ({ cls := "RoadsNotGoneBy", name := "isLetter", desc := "(I)Z" } : Jvm.MethodName)) ∈ lw_all := lw_g (lw_at lw_m2 78 rfl) rfl
theorem q442 : (Jvm.Cond.static ({ cls := "RoadsNotGoneBy", name := "isLetter", desc := "(I)Z" } : Jvm.MethodName)) ∈ lw_all := lw_g (lw_at lw_m2 79 rfl) rfl
theorem q443 : (Jvm.Cond.code ({ cls := "RoadsNotGoneBy", name := "isLetter", desc := "(I)Z" } : Jvm.MethodName) prog_1_method_16_code (1 : Nat) (Option.some Jvm.ClassFile.FieldType.boolean)) ∈ lw_all := lw_g (lw_at lw_m2 80 rfl) rfl
theorem q444 : (Jvm.Cond.constantLong "RoadsNotGoneBy" (130 : Nat) (97 : Int64)) ∈ lw_all := lw_g (lw_at lw_m2 81 rfl) rfl
theorem q445 : (Jvm.Cond.constantLong "RoadsNotGoneBy" (132 : Nat) (122 : Int64)) ∈ lw_all := lw_g (lw_at lw_m2 82 rfl) rfl
theorem q446 : (Jvm.Cond.methodLink "RoadsNotGoneBy" (153 : Nat) ({ cls := "RoadsNotGoneBy", name := "word", desc := "()V" } : Jvm.MethodName)) ∈ lw_all := lw_g (lw_at lw_m2 83 rfl) rfl
theorem q447 : (Jvm.Cond.privateMethod ({ cls := "RoadsNotGoneBy", name := "word", desc := "()V" } : Jvm.MethodName)) ∈ lw_tbl := lw_at lw_m2 84 rfl
theorem q448 : (Jvm.Cond.instanceMethod ({ cls := "RoadsNotGoneBy", name := "word", desc := "()V" } : Jvm.MethodName)) ∈ lw_all := lw_g (lw_at lw_m2 85 rfl) rfl
theorem q449 : (Jvm.Cond.code ({ cls := "RoadsNotGoneBy", name := "word", desc := "()V" } : Jvm.MethodName) prog_1_method_20_code (2 : Nat) (Option.none : Option Jvm.ClassFile.FieldType)) ∈ lw_all := lw_g (lw_at lw_m2 86 rfl) rfl
theorem q450 : (Jvm.Cond.methodLink "RoadsNotGoneBy" (187 : Nat) ({ cls := "RoadsNotGoneBy", name := "placeIn", desc := "([Ljava/lang/String;)I" } : Jvm.MethodName)) ∈ lw_all := lw_g (lw_at lw_m2 87 rfl) rfl
theorem q451 : (Jvm.Cond.privateMethod ({ cls := "RoadsNotGoneBy", name := "placeIn", desc := "([Ljava/lang/String;)I" } : Jvm.MethodName)) ∈ lw_tbl := lw_at lw_m2 88 rfl
theorem q452 : (Jvm.Cond.instanceMethod ({ cls := "RoadsNotGoneBy", name := "placeIn", desc := "([Ljava/lang/String;)I" } : Jvm.MethodName)) ∈ lw_all := lw_g (lw_at lw_m2 89 rfl) rfl
theorem q453 : (Jvm.Cond.code ({ cls := "RoadsNotGoneBy", name := "placeIn", desc := "([Ljava/lang/String;)I" } : Jvm.MethodName) prog_1_method_19_code (5 : Nat) (Option.some Jvm.ClassFile.FieldType.int)) ∈ lw_all := lw_g (lw_at lw_m2 90 rfl) rfl
theorem q454 : (Jvm.Cond.methodLink "RoadsNotGoneBy" (177 : Nat) ({ cls := "java/lang/String", name := "length", desc := "()I" } : Jvm.MethodName)) ∈ lw_all := lw_g (lw_at lw_m2 91 rfl) rfl
theorem q464 : (Jvm.Cond.methodLink "RoadsNotGoneBy" (179 : Nat) ({ cls := "java/lang/String", name := "charAt", desc := "(I)C" } : Jvm.MethodName)) ∈ lw_all := lw_g (lw_at lw_m2 101 rfl) rfl
theorem q502 : (Jvm.Cond.methodLink "RoadsNotGoneBy" (157 : Nat) ({ cls := "RoadsNotGoneBy", name := "isDigit", desc := "(I)Z" } : Jvm.MethodName)) ∈ lw_all := lw_g (lw_at lw_m2 139 rfl) rfl
theorem q503 : (Jvm.Cond.static ({ cls := "RoadsNotGoneBy", name := "isDigit", desc := "(I)Z" } : Jvm.MethodName)) ∈ lw_all := lw_g (lw_at lw_m2 140 rfl) rfl
theorem q504 : (Jvm.Cond.code ({ cls := "RoadsNotGoneBy", name := "isDigit", desc := "(I)Z" } : Jvm.MethodName) prog_1_method_17_code (1 : Nat) (Option.some Jvm.ClassFile.FieldType.boolean)) ∈ lw_all := lw_g (lw_at lw_m2 141 rfl) rfl
theorem q505 : (Jvm.Cond.constantLong "RoadsNotGoneBy" (134 : Nat) (48 : Int64)) ∈ lw_all := lw_g (lw_at lw_m2 142 rfl) rfl
theorem q506 : (Jvm.Cond.constantLong "RoadsNotGoneBy" (136 : Nat) (57 : Int64)) ∈ lw_all := lw_g (lw_at lw_m2 143 rfl) rfl
theorem q507 : (Jvm.Cond.methodLink "RoadsNotGoneBy" (160 : Nat) ({ cls := "RoadsNotGoneBy", name := "digits", desc := "()V" } : Jvm.MethodName)) ∈ lw_all := lw_g (lw_at lw_m2 144 rfl) rfl
theorem q508 : (Jvm.Cond.privateMethod ({ cls := "RoadsNotGoneBy", name := "digits", desc := "()V" } : Jvm.MethodName)) ∈ lw_tbl := lw_at lw_m2 145 rfl
theorem q509 : (Jvm.Cond.instanceMethod ({ cls := "RoadsNotGoneBy", name := "digits", desc := "()V" } : Jvm.MethodName)) ∈ lw_all := lw_g (lw_at lw_m2 146 rfl) rfl
theorem q510 : (Jvm.Cond.code ({ cls := "RoadsNotGoneBy", name := "digits", desc := "()V" } : Jvm.MethodName) prog_1_method_21_code (1 : Nat) (Option.none : Option Jvm.ClassFile.FieldType)) ∈ lw_all := lw_g (lw_at lw_m2 147 rfl) rfl
theorem q511 : (Jvm.Cond.stringRef "RoadsNotGoneBy" (166 : Nat) "();+-*<=") ∈ lw_tbl := lw_at lw_m2 148 rfl
theorem q512 : (Jvm.Cond.methodLink "RoadsNotGoneBy" (168 : Nat) ({ cls := "java/lang/String", name := "indexOf", desc := "(I)I" } : Jvm.MethodName)) ∈ lw_all := lw_g (lw_at lw_m2 149 rfl) rfl
theorem q567 : (Jvm.Cond.methodLink "RoadsNotGoneBy" (208 : Nat) ({ cls := "RoadsNotGoneBy", name := "isKey", desc := "(I)Z" } : Jvm.MethodName)) ∈ lw_all := lw_g (lw_at lw_m2 204 rfl) rfl
theorem q568 : (Jvm.Cond.privateMethod ({ cls := "RoadsNotGoneBy", name := "isKey", desc := "(I)Z" } : Jvm.MethodName)) ∈ lw_tbl := lw_at lw_m2 205 rfl
theorem q569 : (Jvm.Cond.instanceMethod ({ cls := "RoadsNotGoneBy", name := "isKey", desc := "(I)Z" } : Jvm.MethodName)) ∈ lw_all := lw_g (lw_at lw_m2 206 rfl) rfl
theorem q570 : (Jvm.Cond.code ({ cls := "RoadsNotGoneBy", name := "isKey", desc := "(I)Z" } : Jvm.MethodName) prog_1_method_23_code (2 : Nat) (Option.some Jvm.ClassFile.FieldType.boolean)) ∈ lw_all := lw_g (lw_at lw_m2 207 rfl) rfl
theorem q571 : (Jvm.Cond.methodLink "RoadsNotGoneBy" (200 : Nat) ({ cls := "RoadsNotGoneBy", name := "need", desc := "(Z)V" } : Jvm.MethodName)) ∈ lw_all := lw_g (lw_at lw_m2 208 rfl) rfl
theorem q572 : (Jvm.Cond.privateMethod ({ cls := "RoadsNotGoneBy", name := "need", desc := "(Z)V" } : Jvm.MethodName)) ∈ lw_tbl := lw_at lw_m2 209 rfl
theorem q573 : (Jvm.Cond.instanceMethod ({ cls := "RoadsNotGoneBy", name := "need", desc := "(Z)V" } : Jvm.MethodName)) ∈ lw_all := lw_g (lw_at lw_m2 210 rfl) rfl
theorem q574 : (Jvm.Cond.code ({ cls := "RoadsNotGoneBy", name := "need", desc := "(Z)V" } : Jvm.MethodName) prog_1_method_24_code (2 : Nat) (Option.none : Option Jvm.ClassFile.FieldType)) ∈ lw_all := lw_g (lw_at lw_m2 211 rfl) rfl
theorem q575 : (Jvm.Cond.methodLink "RoadsNotGoneBy" (249 : Nat) ({ cls := "RoadsNotGoneBy", name := "either", desc := "()LRoadsNotGoneBy$Node;" } : Jvm.MethodName)) ∈ lw_all := lw_g (lw_at lw_m2 212 rfl) rfl
theorem q576 : (Jvm.Cond.privateMethod ({ cls := "RoadsNotGoneBy", name := "either", desc := "()LRoadsNotGoneBy$Node;" } : Jvm.MethodName)) ∈ lw_tbl := lw_at lw_m2 213 rfl
theorem q577 : (Jvm.Cond.instanceMethod ({ cls := "RoadsNotGoneBy", name := "either", desc := "()LRoadsNotGoneBy$Node;" } : Jvm.MethodName)) ∈ lw_all := lw_g (lw_at lw_m2 214 rfl) rfl
theorem q578 : (Jvm.Cond.code ({ cls := "RoadsNotGoneBy", name := "either", desc := "()LRoadsNotGoneBy$Node;" } : Jvm.MethodName) prog_1_method_26_code (2 : Nat) (Option.some (Jvm.ClassFile.FieldType.object "RoadsNotGoneBy$Node"))) ∈ lw_all := lw_g (lw_at lw_m2 215 rfl) rfl
theorem q579 : (Jvm.Cond.methodLink "RoadsNotGoneBy" (204 : Nat) ({ cls := "RoadsNotGoneBy", name := "both", desc := "()LRoadsNotGoneBy$Node;" } : Jvm.MethodName)) ∈ lw_all := lw_g (lw_at lw_m2 216 rfl) rfl
theorem q580 : (Jvm.Cond.privateMethod ({ cls := "RoadsNotGoneBy", name := "both", desc := "()LRoadsNotGoneBy$Node;" } : Jvm.MethodName)) ∈ lw_tbl := lw_at lw_m2 217 rfl
theorem q581 : (Jvm.Cond.instanceMethod ({ cls := "RoadsNotGoneBy", name := "both", desc := "()LRoadsNotGoneBy$Node;" } : Jvm.MethodName)) ∈ lw_all := lw_g (lw_at lw_m2 218 rfl) rfl
theorem q582 : (Jvm.Cond.code ({ cls := "RoadsNotGoneBy", name := "both", desc := "()LRoadsNotGoneBy$Node;" } : Jvm.MethodName) prog_1_method_27_code (2 : Nat) (Option.some (Jvm.ClassFile.FieldType.object "RoadsNotGoneBy$Node"))) ∈ lw_all := lw_g (lw_at lw_m2 219 rfl) rfl
theorem q583 : (Jvm.Cond.methodLink "RoadsNotGoneBy" (216 : Nat) ({ cls := "RoadsNotGoneBy", name := "not", desc := "()LRoadsNotGoneBy$Node;" } : Jvm.MethodName)) ∈ lw_all := lw_g (lw_at lw_m2 220 rfl) rfl
theorem q584 : (Jvm.Cond.privateMethod ({ cls := "RoadsNotGoneBy", name := "not", desc := "()LRoadsNotGoneBy$Node;" } : Jvm.MethodName)) ∈ lw_tbl := lw_at lw_m2 221 rfl
theorem q585 : (Jvm.Cond.instanceMethod ({ cls := "RoadsNotGoneBy", name := "not", desc := "()LRoadsNotGoneBy$Node;" } : Jvm.MethodName)) ∈ lw_all := lw_g (lw_at lw_m2 222 rfl) rfl
theorem q586 : (Jvm.Cond.code ({ cls := "RoadsNotGoneBy", name := "not", desc := "()LRoadsNotGoneBy$Node;" } : Jvm.MethodName) prog_1_method_28_code (3 : Nat) (Option.some (Jvm.ClassFile.FieldType.object "RoadsNotGoneBy$Node"))) ∈ lw_all := lw_g (lw_at lw_m2 223 rfl) rfl
theorem q587 : (Jvm.Cond.methodLink "RoadsNotGoneBy" (219 : Nat) ({ cls := "RoadsNotGoneBy", name := "openOne", desc := "()V" } : Jvm.MethodName)) ∈ lw_all := lw_g (lw_at lw_m2 224 rfl) rfl
theorem q588 : (Jvm.Cond.privateMethod ({ cls := "RoadsNotGoneBy", name := "openOne", desc := "()V" } : Jvm.MethodName)) ∈ lw_tbl := lw_at lw_m2 225 rfl
theorem q589 : (Jvm.Cond.instanceMethod ({ cls := "RoadsNotGoneBy", name := "openOne", desc := "()V" } : Jvm.MethodName)) ∈ lw_all := lw_g (lw_at lw_m2 226 rfl) rfl
theorem q590 : (Jvm.Cond.code ({ cls := "RoadsNotGoneBy", name := "openOne", desc := "()V" } : Jvm.MethodName) prog_1_method_25_code (1 : Nat) (Option.none : Option Jvm.ClassFile.FieldType)) ∈ lw_all := lw_g (lw_at lw_m2 227 rfl) rfl
theorem q591 : (Jvm.Cond.classLink "RoadsNotGoneBy" (222 : Nat) "RoadsNotGoneBy$Turned") ∈ lw_all := lw_g (lw_at lw_m2 228 rfl) rfl
theorem q593 : (Jvm.Cond.methodLink "RoadsNotGoneBy" (224 : Nat) ({ cls := "RoadsNotGoneBy$Turned", name := "<init>", desc := "(LRoadsNotGoneBy$Node;Z)V" } : Jvm.MethodName)) ∈ lw_all := lw_g (lw_at lw_m2 230 rfl) rfl
theorem q608 : (Jvm.Cond.methodLink "RoadsNotGoneBy" (227 : Nat) ({ cls := "RoadsNotGoneBy", name := "plus", desc := "()LRoadsNotGoneBy$Node;" } : Jvm.MethodName)) ∈ lw_all := lw_g (lw_at lw_m3 5 rfl) rfl
theorem q609 : (Jvm.Cond.privateMethod ({ cls := "RoadsNotGoneBy", name := "plus", desc := "()LRoadsNotGoneBy$Node;" } : Jvm.MethodName)) ∈ lw_tbl := lw_at lw_m3 6 rfl
theorem q610 : (Jvm.Cond.instanceMethod ({ cls := "RoadsNotGoneBy", name := "plus", desc := "()LRoadsNotGoneBy$Node;" } : Jvm.MethodName)) ∈ lw_all := lw_g (lw_at lw_m3 7 rfl) rfl
theorem q611 : (Jvm.Cond.code ({ cls := "RoadsNotGoneBy", name := "plus", desc := "()LRoadsNotGoneBy$Node;" } : Jvm.MethodName) prog_1_method_29_code (3 : Nat) (Option.some (Jvm.ClassFile.FieldType.object "RoadsNotGoneBy$Node"))) ∈ lw_all := lw_g (lw_at lw_m3 8 rfl) rfl
theorem q612 : (Jvm.Cond.methodLink "RoadsNotGoneBy" (233 : Nat) ({ cls := "RoadsNotGoneBy", name := "times", desc := "()LRoadsNotGoneBy$Node;" } : Jvm.MethodName)) ∈ lw_all := lw_g (lw_at lw_m3 9 rfl) rfl
theorem q613 : (Jvm.Cond.privateMethod ({ cls := "RoadsNotGoneBy", name := "times", desc := "()LRoadsNotGoneBy$Node;" } : Jvm.MethodName)) ∈ lw_tbl := lw_at lw_m3 10 rfl
theorem q614 : (Jvm.Cond.instanceMethod ({ cls := "RoadsNotGoneBy", name := "times", desc := "()LRoadsNotGoneBy$Node;" } : Jvm.MethodName)) ∈ lw_all := lw_g (lw_at lw_m3 11 rfl) rfl
theorem q615 : (Jvm.Cond.code ({ cls := "RoadsNotGoneBy", name := "times", desc := "()LRoadsNotGoneBy$Node;" } : Jvm.MethodName) prog_1_method_30_code (2 : Nat) (Option.some (Jvm.ClassFile.FieldType.object "RoadsNotGoneBy$Node"))) ∈ lw_all := lw_g (lw_at lw_m3 12 rfl) rfl
theorem q616 : (Jvm.Cond.methodLink "RoadsNotGoneBy" (236 : Nat) ({ cls := "RoadsNotGoneBy", name := "one", desc := "()LRoadsNotGoneBy$Node;" } : Jvm.MethodName)) ∈ lw_all := lw_g (lw_at lw_m3 13 rfl) rfl
theorem q617 : (Jvm.Cond.privateMethod ({ cls := "RoadsNotGoneBy", name := "one", desc := "()LRoadsNotGoneBy$Node;" } : Jvm.MethodName)) ∈ lw_tbl := lw_at lw_m3 14 rfl
theorem q618 : (Jvm.Cond.instanceMethod ({ cls := "RoadsNotGoneBy", name := "one", desc := "()LRoadsNotGoneBy$Node;" } : Jvm.MethodName)) ∈ lw_all := lw_g (lw_at lw_m3 15 rfl) rfl
theorem q619 : (Jvm.Cond.code ({ cls := "RoadsNotGoneBy", name := "one", desc := "()LRoadsNotGoneBy$Node;" } : Jvm.MethodName) prog_1_method_31_code (3 : Nat) (Option.some (Jvm.ClassFile.FieldType.object "RoadsNotGoneBy$Node"))) ∈ lw_all := lw_g (lw_at lw_m3 16 rfl) rfl
theorem q620 : (Jvm.Cond.classLink "RoadsNotGoneBy" (239 : Nat) "RoadsNotGoneBy$Number") ∈ lw_all := lw_g (lw_at lw_m3 17 rfl) rfl
theorem q622 : (Jvm.Cond.methodLink "RoadsNotGoneBy" (241 : Nat) ({ cls := "RoadsNotGoneBy$Number", name := "<init>", desc := "(I)V" } : Jvm.MethodName)) ∈ lw_all := lw_g (lw_at lw_m3 19 rfl) rfl
theorem q630 : (Jvm.Cond.classLink "RoadsNotGoneBy" (244 : Nat) "RoadsNotGoneBy$Name") ∈ lw_all := lw_g (lw_at lw_m3 27 rfl) rfl
theorem q632 : (Jvm.Cond.methodLink "RoadsNotGoneBy" (246 : Nat) ({ cls := "RoadsNotGoneBy$Name", name := "<init>", desc := "(LRoadsNotGoneBy;I)V" } : Jvm.MethodName)) ∈ lw_all := lw_g (lw_at lw_m3 29 rfl) rfl
theorem q643 : (Jvm.Cond.methodLink "RoadsNotGoneBy" (230 : Nat) ({ cls := "RoadsNotGoneBy", name := "isSign", desc := "(I)Z" } : Jvm.MethodName)) ∈ lw_all := lw_g (lw_at lw_m3 40 rfl) rfl
theorem q644 : (Jvm.Cond.privateMethod ({ cls := "RoadsNotGoneBy", name := "isSign", desc := "(I)Z" } : Jvm.MethodName)) ∈ lw_tbl := lw_at lw_m3 41 rfl
theorem q645 : (Jvm.Cond.instanceMethod ({ cls := "RoadsNotGoneBy", name := "isSign", desc := "(I)Z" } : Jvm.MethodName)) ∈ lw_all := lw_g (lw_at lw_m3 42 rfl) rfl
theorem q646 : (Jvm.Cond.code ({ cls := "RoadsNotGoneBy", name := "isSign", desc := "(I)Z" } : Jvm.MethodName) prog_1_method_22_code (2 : Nat) (Option.some Jvm.ClassFile.FieldType.boolean)) ∈ lw_all := lw_g (lw_at lw_m3 43 rfl) rfl
theorem q647 : (Jvm.Cond.classLink "RoadsNotGoneBy" (211 : Nat) "RoadsNotGoneBy$Two") ∈ lw_all := lw_g (lw_at lw_m3 44 rfl) rfl
theorem q649 : (Jvm.Cond.methodLink "RoadsNotGoneBy" (213 : Nat) ({ cls := "RoadsNotGoneBy$Two", name := "<init>", desc := "(ILRoadsNotGoneBy$Node;LRoadsNotGoneBy$Node;)V" } : Jvm.MethodName)) ∈ lw_all := lw_g (lw_at lw_m3 46 rfl) rfl
theorem q665 : (Jvm.Cond.instanceMethod ({ cls := "RoadsNotGoneBy", name := "<init>", desc := "()V" } : Jvm.MethodName)) ∈ lw_all := lw_g (lw_at lw_m3 62 rfl) rfl
theorem q666 : (Jvm.Cond.code ({ cls := "RoadsNotGoneBy", name := "<init>", desc := "()V" } : Jvm.MethodName) prog_1_method_37_code (2 : Nat) (Option.none : Option Jvm.ClassFile.FieldType)) ∈ lw_all := lw_g (lw_at lw_m3 63 rfl) rfl
theorem q667 : (Jvm.Cond.methodLink "RoadsNotGoneBy" (271 : Nat) ({ cls := "java/lang/Object", name := "<init>", desc := "()V" } : Jvm.MethodName)) ∈ lw_all := lw_g (lw_at lw_m3 64 rfl) rfl
theorem q725 : (Jvm.Cond.methodLink "RoadsNotGoneBy" (275 : Nat) ({ cls := "RoadsNotGoneBy$Faulty", name := "<init>", desc := "()V" } : Jvm.MethodName)) ∈ lw_all := lw_g (lw_at lw_m3 122 rfl) rfl
theorem q751 : (Jvm.Cond.classLink "RoadsNotGoneBy" (276 : Nat) "[LRoadsNotGoneBy$Node;") ∈ lw_all := lw_g (lw_at lw_m3 148 rfl) rfl
theorem q753 : (Jvm.Cond.classLink "RoadsNotGoneBy" (169 : Nat) "java/lang/String") ∈ lw_all := lw_g (lw_at lw_m3 150 rfl) rfl
theorem q755 : (Jvm.Cond.stringRef "RoadsNotGoneBy" (278 : Nat) "takes") ∈ lw_tbl := lw_at lw_m3 152 rfl
theorem q756 : (Jvm.Cond.stringRef "RoadsNotGoneBy" (280 : Nat) "puts") ∈ lw_tbl := lw_at lw_m3 153 rfl
theorem q757 : (Jvm.Cond.stringRef "RoadsNotGoneBy" (282 : Nat) "feels") ∈ lw_tbl := lw_at lw_m3 154 rfl
theorem q758 : (Jvm.Cond.stringRef "RoadsNotGoneBy" (284 : Nat) "or") ∈ lw_tbl := lw_at lw_m3 155 rfl
theorem q759 : (Jvm.Cond.stringRef "RoadsNotGoneBy" (286 : Nat) "and") ∈ lw_tbl := lw_at lw_m3 156 rfl
theorem q760 : (Jvm.Cond.stringRef "RoadsNotGoneBy" (288 : Nat) "not") ∈ lw_tbl := lw_at lw_m3 157 rfl
theorem q761 : (Jvm.Cond.stringRef "RoadsNotGoneBy" (289 : Nat) "crossing") ∈ lw_tbl := lw_at lw_m3 158 rfl
theorem q762 : (Jvm.Cond.stringRef "RoadsNotGoneBy" (291 : Nat) "jar") ∈ lw_tbl := lw_at lw_m3 159 rfl
theorem q763 : (Jvm.Cond.stringRef "RoadsNotGoneBy" (293 : Nat) "number") ∈ lw_tbl := lw_at lw_m3 160 rfl
theorem q764 : (Jvm.Cond.stringRef "RoadsNotGoneBy" (294 : Nat) "year") ∈ lw_tbl := lw_at lw_m3 161 rfl
theorem q765 : (Jvm.Cond.stringRef "RoadsNotGoneBy" (295 : Nat) "mood") ∈ lw_tbl := lw_at lw_m3 162 rfl
theorem q766 : (Jvm.Cond.stringRef "RoadsNotGoneBy" (296 : Nat) "eaten") ∈ lw_tbl := lw_at lw_m3 163 rfl
theorem q767 : (Jvm.Cond.classLink "RoadsNotGoneBy" (319 : Nat) "[[I") ∈ lw_all := lw_g (lw_at lw_m3 164 rfl) rfl
theorem q769 : (Jvm.Cond.classLink "RoadsNotGoneBy" (330 : Nat) "RoadsNotGoneBy$Sheet") ∈ lw_all := lw_g (lw_at lw_m3 166 rfl) rfl
theorem q772 : (Jvm.Cond.methodLinkNest "RoadsNotGoneBy" (332 : Nat) ({ cls := "RoadsNotGoneBy$Sheet", name := "<init>", desc := "()V" } : Jvm.MethodName) "RoadsNotGoneBy") ∈ lw_tbl := lw_at lw_m3 169 rfl
theorem q776 : (Jvm.Cond.fieldLinkNest "RoadsNotGoneBy" (487 : Nat) "RoadsNotGoneBy$Sheet" "row" "Ljava/lang/Object;" "RoadsNotGoneBy") ∈ lw_tbl := lw_at lw_m3 173 rfl
theorem q781 : (Jvm.Cond.stringRef "RoadsNotGoneBy" (337 : Nat) "takes crossing + year ; puts 2 ; feels 5 ;") ∈ lw_tbl := lw_at lw_m3 178 rfl
theorem q782 : (Jvm.Cond.methodLink "RoadsNotGoneBy" (339 : Nat) ({ cls := "RoadsNotGoneBy", name := "firstText", desc := "(Ljava/lang/String;)V" } : Jvm.MethodName)) ∈ lw_all := lw_g (lw_at lw_m3 179 rfl) rfl
theorem q783 : (Jvm.Cond.privateMethod ({ cls := "RoadsNotGoneBy", name := "firstText", desc := "(Ljava/lang/String;)V" } : Jvm.MethodName)) ∈ lw_tbl := lw_at lw_m3 180 rfl
theorem q784 : (Jvm.Cond.instanceMethod ({ cls := "RoadsNotGoneBy", name := "firstText", desc := "(Ljava/lang/String;)V" } : Jvm.MethodName)) ∈ lw_all := lw_g (lw_at lw_m3 181 rfl) rfl
theorem q785 : (Jvm.Cond.code ({ cls := "RoadsNotGoneBy", name := "firstText", desc := "(Ljava/lang/String;)V" } : Jvm.MethodName) prog_1_method_33_code (3 : Nat) (Option.none : Option Jvm.ClassFile.FieldType)) ∈ lw_all := lw_g (lw_at lw_m3 182 rfl) rfl
theorem q787 : (Jvm.Cond.fieldLink "RoadsNotGoneBy" (53 : Nat) "RoadsNotGoneBy" "folk" "[LRoadsNotGoneBy$Life;") ∈ lw_all := lw_g (lw_at lw_m3 184 rfl) rfl
theorem q788 : (Jvm.Cond.fieldLink "RoadsNotGoneBy" (18 : Nat) "RoadsNotGoneBy" "many" "I") ∈ lw_all := lw_g (lw_at lw_m3 185 rfl) rfl
theorem q790 : (Jvm.Cond.fieldLink "RoadsNotGoneBy" (74 : Nat) "RoadsNotGoneBy" "year" "I") ∈ lw_all := lw_g (lw_at lw_m3 187 rfl) rfl
theorem q791 : (Jvm.Cond.fieldLink "RoadsNotGoneBy" (67 : Nat) "RoadsNotGoneBy" "leads" "[I") ∈ lw_all := lw_g (lw_at lw_m3 188 rfl) rfl
theorem q792 : (Jvm.Cond.fieldLink "RoadsNotGoneBy" (71 : Nat) "RoadsNotGoneBy" "jars" "[I") ∈ lw_all := lw_g (lw_at lw_m3 189 rfl) rfl
theorem q793 : (Jvm.Cond.fieldLink "RoadsNotGoneBy" (173 : Nat) "RoadsNotGoneBy" "faulty" "LRoadsNotGoneBy$Faulty;") ∈ lw_all := lw_g (lw_at lw_m3 190 rfl) rfl
theorem q795 : (Jvm.Cond.fieldLink "RoadsNotGoneBy" (349 : Nat) "RoadsNotGoneBy" "forOne" "I") ∈ lw_all := lw_g (lw_at lw_m3 192 rfl) rfl
theorem q797 : (Jvm.Cond.fieldLink "RoadsNotGoneBy" (352 : Nat) "RoadsNotGoneBy" "forJar" "I") ∈ lw_all := lw_g (lw_at lw_m3 194 rfl) rfl
theorem q798 : (Jvm.Cond.fieldLink "RoadsNotGoneBy" (259 : Nat) "RoadsNotGoneBy" "texts" "[[LRoadsNotGoneBy$Node;") ∈ lw_all := lw_g (lw_at lw_m3 195 rfl) rfl
theorem q799 : (Jvm.Cond.fieldLink "RoadsNotGoneBy" (263 : Nat) "RoadsNotGoneBy" "textMany" "I") ∈ lw_all := lw_g (lw_at lw_m3 196 rfl) rfl
theorem q800 : (Jvm.Cond.fieldLink "RoadsNotGoneBy" (183 : Nat) "RoadsNotGoneBy" "keys" "[Ljava/lang/String;") ∈ lw_all := lw_g (lw_at lw_m3 197 rfl) rfl
theorem q801 : (Jvm.Cond.fieldLink "RoadsNotGoneBy" (191 : Nat) "RoadsNotGoneBy" "names" "[Ljava/lang/String;") ∈ lw_all := lw_g (lw_at lw_m3 198 rfl) rfl
theorem q802 : (Jvm.Cond.fieldLink "RoadsNotGoneBy" (126 : Nat) "RoadsNotGoneBy" "tape" "[B") ∈ lw_all := lw_g (lw_at lw_m3 199 rfl) rfl
theorem q803 : (Jvm.Cond.fieldLink "RoadsNotGoneBy" (252 : Nat) "RoadsNotGoneBy" "taped" "I") ∈ lw_all := lw_g (lw_at lw_m3 200 rfl) rfl
theorem q804 : (Jvm.Cond.fieldLink "RoadsNotGoneBy" (123 : Nat) "RoadsNotGoneBy" "length" "I") ∈ lw_all := lw_g (lw_at lw_m3 201 rfl) rfl
theorem q805 : (Jvm.Cond.fieldLink "RoadsNotGoneBy" (138 : Nat) "RoadsNotGoneBy" "at" "I") ∈ lw_all := lw_g (lw_at lw_m3 202 rfl) rfl
theorem q806 : (Jvm.Cond.fieldLink "RoadsNotGoneBy" (144 : Nat) "RoadsNotGoneBy" "begin" "I") ∈ lw_all := lw_g (lw_at lw_m3 203 rfl) rfl
theorem q807 : (Jvm.Cond.fieldLink "RoadsNotGoneBy" (147 : Nat) "RoadsNotGoneBy" "token" "I") ∈ lw_all := lw_g (lw_at lw_m3 204 rfl) rfl
theorem q808 : (Jvm.Cond.fieldLink "RoadsNotGoneBy" (163 : Nat) "RoadsNotGoneBy" "value" "I") ∈ lw_all := lw_g (lw_at lw_m3 205 rfl) rfl
theorem q809 : (Jvm.Cond.fieldLink "RoadsNotGoneBy" (197 : Nat) "RoadsNotGoneBy" "opens" "I") ∈ lw_all := lw_g (lw_at lw_m3 206 rfl) rfl
theorem q810 : (Jvm.Cond.fieldLink "RoadsNotGoneBy" (346 : Nat) "RoadsNotGoneBy" "rule" "I") ∈ lw_all := lw_g (lw_at lw_m3 207 rfl) rfl
theorem q811 : (Jvm.Cond.fieldLink "RoadsNotGoneBy" (297 : Nat) "RoadsNotGoneBy" "keptJars" "[I") ∈ lw_all := lw_g (lw_at lw_m3 208 rfl) rfl
theorem q812 : (Jvm.Cond.fieldLink "RoadsNotGoneBy" (300 : Nat) "RoadsNotGoneBy" "keptOn" "[I") ∈ lw_all := lw_g (lw_at lw_m3 209 rfl) rfl
theorem q813 : (Jvm.Cond.fieldLink "RoadsNotGoneBy" (391 : Nat) "RoadsNotGoneBy" "comeTo" "I") ∈ lw_all := lw_g (lw_at lw_m3 210 rfl) rfl
theorem q814 : (Jvm.Cond.fieldLink "RoadsNotGoneBy" (303 : Nat) "RoadsNotGoneBy" "ways" "[J") ∈ lw_all := lw_g (lw_at lw_m3 211 rfl) rfl
theorem q815 : (Jvm.Cond.fieldLink "RoadsNotGoneBy" (307 : Nat) "RoadsNotGoneBy" "waysOn" "[J") ∈ lw_all := lw_g (lw_at lw_m3 212 rfl) rfl
theorem q816 : (Jvm.Cond.fieldLink "RoadsNotGoneBy" (310 : Nat) "RoadsNotGoneBy" "turned" "[I") ∈ lw_all := lw_g (lw_at lw_m3 213 rfl) rfl
theorem q817 : (Jvm.Cond.fieldLink "RoadsNotGoneBy" (313 : Nat) "RoadsNotGoneBy" "turnedOn" "[I") ∈ lw_all := lw_g (lw_at lw_m3 214 rfl) rfl
theorem q818 : (Jvm.Cond.fieldLink "RoadsNotGoneBy" (316 : Nat) "RoadsNotGoneBy" "keptLeads" "[I") ∈ lw_all := lw_g (lw_at lw_m3 215 rfl) rfl
theorem q819 : (Jvm.Cond.fieldLink "RoadsNotGoneBy" (518 : Nat) "RoadsNotGoneBy" "hasImage" "Z") ∈ lw_all := lw_g (lw_at lw_m3 216 rfl) rfl
theorem q820 : (Jvm.Cond.fieldLink "RoadsNotGoneBy" (321 : Nat) "RoadsNotGoneBy" "imageRoads" "[[I") ∈ lw_all := lw_g (lw_at lw_m3 217 rfl) rfl
theorem q821 : (Jvm.Cond.fieldLink "RoadsNotGoneBy" (324 : Nat) "RoadsNotGoneBy" "imageFolk" "[[I") ∈ lw_all := lw_g (lw_at lw_m3 218 rfl) rfl
theorem q822 : (Jvm.Cond.fieldLink "RoadsNotGoneBy" (327 : Nat) "RoadsNotGoneBy" "imageNumbers" "[I") ∈ lw_all := lw_g (lw_at lw_m3 219 rfl) rfl
theorem q823 : (Jvm.Cond.fieldLink "RoadsNotGoneBy" (333 : Nat) "RoadsNotGoneBy" "sheets" "[LRoadsNotGoneBy$Sheet;") ∈ lw_all := lw_g (lw_at lw_m3 220 rfl) rfl
theorem q824 : (Jvm.Cond.laysFinal "RoadsNotGoneBy" "RoadsNotGoneBy" "folk" "[LRoadsNotGoneBy$Life;") ∈ lw_all := lw_g (lw_at lw_m3 221 rfl) rfl
theorem q825 : (Jvm.Cond.soleField "RoadsNotGoneBy" "folk") ∈ lw_all := lw_g (lw_at lw_m3 222 rfl) rfl
theorem q826 : (Jvm.Cond.lays "RoadsNotGoneBy" "RoadsNotGoneBy" "many" "I") ∈ lw_all := lw_g (lw_at lw_m3 223 rfl) rfl
theorem q827 : (Jvm.Cond.soleField "RoadsNotGoneBy" "many") ∈ lw_all := lw_g (lw_at lw_m3 224 rfl) rfl
theorem q828 : (Jvm.Cond.lays "RoadsNotGoneBy" "RoadsNotGoneBy" "year" "I") ∈ lw_all := lw_g (lw_at lw_m3 225 rfl) rfl
theorem q829 : (Jvm.Cond.soleField "RoadsNotGoneBy" "year") ∈ lw_all := lw_g (lw_at lw_m3 226 rfl) rfl
theorem q830 : (Jvm.Cond.laysFinal "RoadsNotGoneBy" "RoadsNotGoneBy" "leads" "[I") ∈ lw_all := lw_g (lw_at lw_m3 227 rfl) rfl
theorem q831 : (Jvm.Cond.soleField "RoadsNotGoneBy" "leads") ∈ lw_all := lw_g (lw_at lw_m3 228 rfl) rfl
theorem q832 : (Jvm.Cond.laysFinal "RoadsNotGoneBy" "RoadsNotGoneBy" "jars" "[I") ∈ lw_all := lw_g (lw_at lw_m3 229 rfl) rfl
theorem q833 : (Jvm.Cond.soleField "RoadsNotGoneBy" "jars") ∈ lw_all := lw_g (lw_at lw_m3 230 rfl) rfl
theorem q834 : (Jvm.Cond.laysFinal "RoadsNotGoneBy" "RoadsNotGoneBy" "faulty" "LRoadsNotGoneBy$Faulty;") ∈ lw_all := lw_g (lw_at lw_m3 231 rfl) rfl
theorem q835 : (Jvm.Cond.soleField "RoadsNotGoneBy" "faulty") ∈ lw_all := lw_g (lw_at lw_m3 232 rfl) rfl
theorem q836 : (Jvm.Cond.lays "RoadsNotGoneBy" "RoadsNotGoneBy" "forOne" "I") ∈ lw_all := lw_g (lw_at lw_m3 233 rfl) rfl
theorem q837 : (Jvm.Cond.soleField "RoadsNotGoneBy" "forOne") ∈ lw_all := lw_g (lw_at lw_m3 234 rfl) rfl
theorem q838 : (Jvm.Cond.lays "RoadsNotGoneBy" "RoadsNotGoneBy" "forJar" "I") ∈ lw_all := lw_g (lw_at lw_m3 235 rfl) rfl
theorem q839 : (Jvm.Cond.soleField "RoadsNotGoneBy" "forJar") ∈ lw_all := lw_g (lw_at lw_m3 236 rfl) rfl
theorem q840 : (Jvm.Cond.laysFinal "RoadsNotGoneBy" "RoadsNotGoneBy" "texts" "[[LRoadsNotGoneBy$Node;") ∈ lw_all := lw_g (lw_at lw_m3 237 rfl) rfl
theorem q841 : (Jvm.Cond.soleField "RoadsNotGoneBy" "texts") ∈ lw_all := lw_g (lw_at lw_m3 238 rfl) rfl
theorem q842 : (Jvm.Cond.lays "RoadsNotGoneBy" "RoadsNotGoneBy" "textMany" "I") ∈ lw_all := lw_g (lw_at lw_m3 239 rfl) rfl
theorem q843 : (Jvm.Cond.soleField "RoadsNotGoneBy" "textMany") ∈ lw_all := lw_g (lw_at lw_m4 0 rfl) rfl
theorem q844 : (Jvm.Cond.laysFinal "RoadsNotGoneBy" "RoadsNotGoneBy" "keys" "[Ljava/lang/String;") ∈ lw_all := lw_g (lw_at lw_m4 1 rfl) rfl
theorem q845 : (Jvm.Cond.soleField "RoadsNotGoneBy" "keys") ∈ lw_all := lw_g (lw_at lw_m4 2 rfl) rfl
theorem q846 : (Jvm.Cond.laysFinal "RoadsNotGoneBy" "RoadsNotGoneBy" "names" "[Ljava/lang/String;") ∈ lw_all := lw_g (lw_at lw_m4 3 rfl) rfl
theorem q847 : (Jvm.Cond.soleField "RoadsNotGoneBy" "names") ∈ lw_all := lw_g (lw_at lw_m4 4 rfl) rfl
theorem q848 : (Jvm.Cond.laysFinal "RoadsNotGoneBy" "RoadsNotGoneBy" "tape" "[B") ∈ lw_all := lw_g (lw_at lw_m4 5 rfl) rfl
theorem q849 : (Jvm.Cond.soleField "RoadsNotGoneBy" "tape") ∈ lw_all := lw_g (lw_at lw_m4 6 rfl) rfl
theorem q850 : (Jvm.Cond.lays "RoadsNotGoneBy" "RoadsNotGoneBy" "taped" "I") ∈ lw_all := lw_g (lw_at lw_m4 7 rfl) rfl
theorem q851 : (Jvm.Cond.soleField "RoadsNotGoneBy" "taped") ∈ lw_all := lw_g (lw_at lw_m4 8 rfl) rfl
theorem q852 : (Jvm.Cond.lays "RoadsNotGoneBy" "RoadsNotGoneBy" "length" "I") ∈ lw_all := lw_g (lw_at lw_m4 9 rfl) rfl
theorem q853 : (Jvm.Cond.soleField "RoadsNotGoneBy" "length") ∈ lw_all := lw_g (lw_at lw_m4 10 rfl) rfl
theorem q854 : (Jvm.Cond.lays "RoadsNotGoneBy" "RoadsNotGoneBy" "at" "I") ∈ lw_all := lw_g (lw_at lw_m4 11 rfl) rfl
theorem q855 : (Jvm.Cond.soleField "RoadsNotGoneBy" "at") ∈ lw_all := lw_g (lw_at lw_m4 12 rfl) rfl
theorem q856 : (Jvm.Cond.lays "RoadsNotGoneBy" "RoadsNotGoneBy" "begin" "I") ∈ lw_all := lw_g (lw_at lw_m4 13 rfl) rfl
theorem q857 : (Jvm.Cond.soleField "RoadsNotGoneBy" "begin") ∈ lw_all := lw_g (lw_at lw_m4 14 rfl) rfl
theorem q858 : (Jvm.Cond.lays "RoadsNotGoneBy" "RoadsNotGoneBy" "token" "I") ∈ lw_all := lw_g (lw_at lw_m4 15 rfl) rfl
theorem q859 : (Jvm.Cond.soleField "RoadsNotGoneBy" "token") ∈ lw_all := lw_g (lw_at lw_m4 16 rfl) rfl
theorem q860 : (Jvm.Cond.lays "RoadsNotGoneBy" "RoadsNotGoneBy" "value" "I") ∈ lw_all := lw_g (lw_at lw_m4 17 rfl) rfl
theorem q861 : (Jvm.Cond.soleField "RoadsNotGoneBy" "value") ∈ lw_all := lw_g (lw_at lw_m4 18 rfl) rfl
theorem q862 : (Jvm.Cond.lays "RoadsNotGoneBy" "RoadsNotGoneBy" "opens" "I") ∈ lw_all := lw_g (lw_at lw_m4 19 rfl) rfl
theorem q863 : (Jvm.Cond.soleField "RoadsNotGoneBy" "opens") ∈ lw_all := lw_g (lw_at lw_m4 20 rfl) rfl
theorem q864 : (Jvm.Cond.lays "RoadsNotGoneBy" "RoadsNotGoneBy" "rule" "I") ∈ lw_all := lw_g (lw_at lw_m4 21 rfl) rfl
theorem q865 : (Jvm.Cond.soleField "RoadsNotGoneBy" "rule") ∈ lw_all := lw_g (lw_at lw_m4 22 rfl) rfl
theorem q866 : (Jvm.Cond.laysFinal "RoadsNotGoneBy" "RoadsNotGoneBy" "keptJars" "[I") ∈ lw_all := lw_g (lw_at lw_m4 23 rfl) rfl
theorem q867 : (Jvm.Cond.soleField "RoadsNotGoneBy" "keptJars") ∈ lw_all := lw_g (lw_at lw_m4 24 rfl) rfl
theorem q868 : (Jvm.Cond.laysFinal "RoadsNotGoneBy" "RoadsNotGoneBy" "keptOn" "[I") ∈ lw_all := lw_g (lw_at lw_m4 25 rfl) rfl
theorem q869 : (Jvm.Cond.soleField "RoadsNotGoneBy" "keptOn") ∈ lw_all := lw_g (lw_at lw_m4 26 rfl) rfl
theorem q870 : (Jvm.Cond.lays "RoadsNotGoneBy" "RoadsNotGoneBy" "comeTo" "I") ∈ lw_all := lw_g (lw_at lw_m4 27 rfl) rfl
theorem q871 : (Jvm.Cond.soleField "RoadsNotGoneBy" "comeTo") ∈ lw_all := lw_g (lw_at lw_m4 28 rfl) rfl
theorem q872 : (Jvm.Cond.lays "RoadsNotGoneBy" "RoadsNotGoneBy" "ways" "[J") ∈ lw_all := lw_g (lw_at lw_m4 29 rfl) rfl
theorem q873 : (Jvm.Cond.soleField "RoadsNotGoneBy" "ways") ∈ lw_all := lw_g (lw_at lw_m4 30 rfl) rfl
theorem q874 : (Jvm.Cond.lays "RoadsNotGoneBy" "RoadsNotGoneBy" "waysOn" "[J") ∈ lw_all := lw_g (lw_at lw_m4 31 rfl) rfl
theorem q875 : (Jvm.Cond.soleField "RoadsNotGoneBy" "waysOn") ∈ lw_all := lw_g (lw_at lw_m4 32 rfl) rfl
theorem q876 : (Jvm.Cond.lays "RoadsNotGoneBy" "RoadsNotGoneBy" "turned" "[I") ∈ lw_all := lw_g (lw_at lw_m4 33 rfl) rfl
theorem q877 : (Jvm.Cond.soleField "RoadsNotGoneBy" "turned") ∈ lw_all := lw_g (lw_at lw_m4 34 rfl) rfl
theorem q878 : (Jvm.Cond.lays "RoadsNotGoneBy" "RoadsNotGoneBy" "turnedOn" "[I") ∈ lw_all := lw_g (lw_at lw_m4 35 rfl) rfl
theorem q879 : (Jvm.Cond.soleField "RoadsNotGoneBy" "turnedOn") ∈ lw_all := lw_g (lw_at lw_m4 36 rfl) rfl
theorem q880 : (Jvm.Cond.laysFinal "RoadsNotGoneBy" "RoadsNotGoneBy" "keptLeads" "[I") ∈ lw_all := lw_g (lw_at lw_m4 37 rfl) rfl
theorem q881 : (Jvm.Cond.soleField "RoadsNotGoneBy" "keptLeads") ∈ lw_all := lw_g (lw_at lw_m4 38 rfl) rfl
theorem q882 : (Jvm.Cond.lays "RoadsNotGoneBy" "RoadsNotGoneBy" "hasImage" "Z") ∈ lw_all := lw_g (lw_at lw_m4 39 rfl) rfl
theorem q883 : (Jvm.Cond.soleField "RoadsNotGoneBy" "hasImage") ∈ lw_all := lw_g (lw_at lw_m4 40 rfl) rfl
theorem q884 : (Jvm.Cond.laysFinal "RoadsNotGoneBy" "RoadsNotGoneBy" "imageRoads" "[[I") ∈ lw_all := lw_g (lw_at lw_m4 41 rfl) rfl
theorem q885 : (Jvm.Cond.soleField "RoadsNotGoneBy" "imageRoads") ∈ lw_all := lw_g (lw_at lw_m4 42 rfl) rfl
theorem q886 : (Jvm.Cond.laysFinal "RoadsNotGoneBy" "RoadsNotGoneBy" "imageFolk" "[[I") ∈ lw_all := lw_g (lw_at lw_m4 43 rfl) rfl
theorem q887 : (Jvm.Cond.soleField "RoadsNotGoneBy" "imageFolk") ∈ lw_all := lw_g (lw_at lw_m4 44 rfl) rfl
theorem q888 : (Jvm.Cond.laysFinal "RoadsNotGoneBy" "RoadsNotGoneBy" "imageNumbers" "[I") ∈ lw_all := lw_g (lw_at lw_m4 45 rfl) rfl
theorem q889 : (Jvm.Cond.soleField "RoadsNotGoneBy" "imageNumbers") ∈ lw_all := lw_g (lw_at lw_m4 46 rfl) rfl
theorem q890 : (Jvm.Cond.laysFinal "RoadsNotGoneBy" "RoadsNotGoneBy" "sheets" "[LRoadsNotGoneBy$Sheet;") ∈ lw_all := lw_g (lw_at lw_m4 47 rfl) rfl
theorem q891 : (Jvm.Cond.soleField "RoadsNotGoneBy" "sheets") ∈ lw_all := lw_g (lw_at lw_m4 48 rfl) rfl
theorem q892 : (Jvm.Cond.superclass "RoadsNotGoneBy" "java/lang/Object") ∈ lw_all := lw_g (lw_at lw_m4 49 rfl) rfl
theorem q894 : (Jvm.Cond.instanceMethod ({ cls := "RoadsNotGoneBy", name := "force", desc := "(I)I" } : Jvm.MethodName)) ∈ lw_all := lw_g (lw_at lw_m4 51 rfl) rfl
theorem q895 : (Jvm.Cond.selects "RoadsNotGoneBy" ({ cls := "RoadsNotGoneBy", name := "force", desc := "(I)I" } : Jvm.MethodName) ({ cls := "RoadsNotGoneBy", name := "force", desc := "(I)I" } : Jvm.MethodName)) ∈ lw_all := lw_g (lw_at lw_m4 52 rfl) rfl
theorem q896 : (Jvm.Cond.code ({ cls := "RoadsNotGoneBy", name := "force", desc := "(I)I" } : Jvm.MethodName) prog_1_method_38_code (3 : Nat) (Option.some Jvm.ClassFile.FieldType.int)) ∈ lw_all := lw_g (lw_at lw_m4 53 rfl) rfl
theorem q897 : (Jvm.Cond.methodLink "RoadsNotGoneBy" (343 : Nat) ({ cls := "RoadsNotGoneBy", name := "isText", desc := "(I)Z" } : Jvm.MethodName)) ∈ lw_all := lw_g (lw_at lw_m4 54 rfl) rfl
theorem q898 : (Jvm.Cond.privateMethod ({ cls := "RoadsNotGoneBy", name := "isText", desc := "(I)Z" } : Jvm.MethodName)) ∈ lw_tbl := lw_at lw_m4 55 rfl
theorem q899 : (Jvm.Cond.instanceMethod ({ cls := "RoadsNotGoneBy", name := "isText", desc := "(I)Z" } : Jvm.MethodName)) ∈ lw_all := lw_g (lw_at lw_m4 56 rfl) rfl
theorem q900 : (Jvm.Cond.code ({ cls := "RoadsNotGoneBy", name := "isText", desc := "(I)Z" } : Jvm.MethodName) prog_1_method_36_code (2 : Nat) (Option.some Jvm.ClassFile.FieldType.boolean)) ∈ lw_all := lw_g (lw_at lw_m4 57 rfl) rfl
theorem q902 : (Jvm.Cond.instanceMethod ({ cls := "RoadsNotGoneBy", name := "tastes", desc := "(II)I" } : Jvm.MethodName)) ∈ lw_all := lw_g (lw_at lw_m4 59 rfl) rfl
theorem q903 : (Jvm.Cond.selects "RoadsNotGoneBy" ({ cls := "RoadsNotGoneBy", name := "tastes", desc := "(II)I" } : Jvm.MethodName) ({ cls := "RoadsNotGoneBy", name := "tastes", desc := "(II)I" } : Jvm.MethodName)) ∈ lw_all := lw_g (lw_at lw_m4 60 rfl) rfl
theorem q904 : (Jvm.Cond.code ({ cls := "RoadsNotGoneBy", name := "tastes", desc := "(II)I" } : Jvm.MethodName) prog_1_method_43_code (3 : Nat) (Option.some Jvm.ClassFile.FieldType.int)) ∈ lw_all := lw_g (lw_at lw_m4 61 rfl) rfl
theorem q905 : (Jvm.Cond.methodLink "RoadsNotGoneBy" (373 : Nat) ({ cls := "RoadsNotGoneBy", name := "feelsOf", desc := "(II)I" } : Jvm.MethodName)) ∈ lw_all := lw_g (lw_at lw_m4 62 rfl) rfl
theorem q906 : (Jvm.Cond.privateMethod ({ cls := "RoadsNotGoneBy", name := "feelsOf", desc := "(II)I" } : Jvm.MethodName)) ∈ lw_tbl := lw_at lw_m4 63 rfl
theorem q907 : (Jvm.Cond.instanceMethod ({ cls := "RoadsNotGoneBy", name := "feelsOf", desc := "(II)I" } : Jvm.MethodName)) ∈ lw_all := lw_g (lw_at lw_m4 64 rfl) rfl
theorem q908 : (Jvm.Cond.code ({ cls := "RoadsNotGoneBy", name := "feelsOf", desc := "(II)I" } : Jvm.MethodName) prog_1_method_42_code (3 : Nat) (Option.some Jvm.ClassFile.FieldType.int)) ∈ lw_all := lw_g (lw_at lw_m4 65 rfl) rfl
theorem q909 : (Jvm.Cond.methodLink "RoadsNotGoneBy" (371 : Nat) ({ cls := "RoadsNotGoneBy$Life", name := "feels", desc := "(I)I" } : Jvm.MethodName)) ∈ lw_all := lw_g (lw_at lw_m4 66 rfl) rfl
theorem q935 : (Jvm.Cond.instanceMethod ({ cls := "RoadsNotGoneBy", name := "year", desc := "()I" } : Jvm.MethodName)) ∈ lw_all := lw_g (lw_at lw_m4 92 rfl) rfl
theorem q936 : (Jvm.Cond.selects "RoadsNotGoneBy" ({ cls := "RoadsNotGoneBy", name := "year", desc := "()I" } : Jvm.MethodName) ({ cls := "RoadsNotGoneBy", name := "year", desc := "()I" } : Jvm.MethodName)) ∈ lw_all := lw_g (lw_at lw_m4 93 rfl) rfl
theorem q937 : (Jvm.Cond.code ({ cls := "RoadsNotGoneBy", name := "year", desc := "()I" } : Jvm.MethodName) prog_1_method_47_code (1 : Nat) (Option.some Jvm.ClassFile.FieldType.int)) ∈ lw_all := lw_g (lw_at lw_m4 94 rfl) rfl
theorem q938 : (Jvm.Cond.methodLink "RoadsNotGoneBy" (379 : Nat) ({ cls := "RoadsNotGoneBy", name := "passes", desc := "(I)V" } : Jvm.MethodName)) ∈ lw_all := lw_g (lw_at lw_m4 95 rfl) rfl
theorem q939 : (Jvm.Cond.privateMethod ({ cls := "RoadsNotGoneBy", name := "passes", desc := "(I)V" } : Jvm.MethodName)) ∈ lw_tbl := lw_at lw_m4 96 rfl
theorem q940 : (Jvm.Cond.instanceMethod ({ cls := "RoadsNotGoneBy", name := "passes", desc := "(I)V" } : Jvm.MethodName)) ∈ lw_all := lw_g (lw_at lw_m4 97 rfl) rfl
theorem q941 : (Jvm.Cond.code ({ cls := "RoadsNotGoneBy", name := "passes", desc := "(I)V" } : Jvm.MethodName) prog_1_method_45_code (5 : Nat) (Option.none : Option Jvm.ClassFile.FieldType)) ∈ lw_all := lw_g (lw_at lw_m4 98 rfl) rfl
theorem q942 : (Jvm.Cond.methodLink "RoadsNotGoneBy" (376 : Nat) ({ cls := "RoadsNotGoneBy", name := "goesBy", desc := "(III)V" } : Jvm.MethodName)) ∈ lw_all := lw_g (lw_at lw_m4 99 rfl) rfl
theorem q943 : (Jvm.Cond.privateMethod ({ cls := "RoadsNotGoneBy", name := "goesBy", desc := "(III)V" } : Jvm.MethodName)) ∈ lw_tbl := lw_at lw_m4 100 rfl
theorem q944 : (Jvm.Cond.instanceMethod ({ cls := "RoadsNotGoneBy", name := "goesBy", desc := "(III)V" } : Jvm.MethodName)) ∈ lw_all := lw_g (lw_at lw_m4 101 rfl) rfl
theorem q945 : (Jvm.Cond.code ({ cls := "RoadsNotGoneBy", name := "goesBy", desc := "(III)V" } : Jvm.MethodName) prog_1_method_44_code (5 : Nat) (Option.none : Option Jvm.ClassFile.FieldType)) ∈ lw_all := lw_g (lw_at lw_m4 102 rfl) rfl
theorem q946 : (Jvm.Cond.methodLink "RoadsNotGoneBy" (382 : Nat) ({ cls := "RoadsNotGoneBy", name := "jarsAll", desc := "()I" } : Jvm.MethodName)) ∈ lw_all := lw_g (lw_at lw_m4 103 rfl) rfl
theorem q947 : (Jvm.Cond.privateMethod ({ cls := "RoadsNotGoneBy", name := "jarsAll", desc := "()I" } : Jvm.MethodName)) ∈ lw_tbl := lw_at lw_m4 104 rfl
theorem q948 : (Jvm.Cond.instanceMethod ({ cls := "RoadsNotGoneBy", name := "jarsAll", desc := "()I" } : Jvm.MethodName)) ∈ lw_all := lw_g (lw_at lw_m4 105 rfl) rfl
theorem q949 : (Jvm.Cond.code ({ cls := "RoadsNotGoneBy", name := "jarsAll", desc := "()I" } : Jvm.MethodName) prog_1_method_46_code (3 : Nat) (Option.some Jvm.ClassFile.FieldType.int)) ∈ lw_all := lw_g (lw_at lw_m4 106 rfl) rfl
theorem q951 : (Jvm.Cond.instanceMethod ({ cls := "RoadsNotGoneBy", name := "spoon", desc := "(II)I" } : Jvm.MethodName)) ∈ lw_all := lw_g (lw_at lw_m4 108 rfl) rfl
theorem q952 : (Jvm.Cond.selects "RoadsNotGoneBy" ({ cls := "RoadsNotGoneBy", name := "spoon", desc := "(II)I" } : Jvm.MethodName) ({ cls := "RoadsNotGoneBy", name := "spoon", desc := "(II)I" } : Jvm.MethodName)) ∈ lw_all := lw_g (lw_at lw_m4 109 rfl) rfl
theorem q953 : (Jvm.Cond.code ({ cls := "RoadsNotGoneBy", name := "spoon", desc := "(II)I" } : Jvm.MethodName) prog_1_method_48_code (4 : Nat) (Option.some Jvm.ClassFile.FieldType.int)) ∈ lw_all := lw_g (lw_at lw_m4 110 rfl) rfl
theorem q955 : (Jvm.Cond.instanceMethod ({ cls := "RoadsNotGoneBy", name := "run", desc := "(III)I" } : Jvm.MethodName)) ∈ lw_all := lw_g (lw_at lw_m4 112 rfl) rfl
theorem q956 : (Jvm.Cond.selects "RoadsNotGoneBy" ({ cls := "RoadsNotGoneBy", name := "run", desc := "(III)I" } : Jvm.MethodName) ({ cls := "RoadsNotGoneBy", name := "run", desc := "(III)I" } : Jvm.MethodName)) ∈ lw_all := lw_g (lw_at lw_m4 113 rfl) rfl
theorem q957 : (Jvm.Cond.code ({ cls := "RoadsNotGoneBy", name := "run", desc := "(III)I" } : Jvm.MethodName) prog_1_method_53_code (5 : Nat) (Option.some Jvm.ClassFile.FieldType.int)) ∈ lw_all := lw_g (lw_at lw_m4 114 rfl) rfl
theorem q958 : (Jvm.Cond.constantLong "RoadsNotGoneBy" (403 : Nat) (2 : Int64)) ∈ lw_all := lw_g (lw_at lw_m4 115 rfl) rfl
theorem q959 : (Jvm.Cond.constantLong "RoadsNotGoneBy" (405 : Nat) (10 : Int64)) ∈ lw_all := lw_g (lw_at lw_m4 116 rfl) rfl
theorem q960 : (Jvm.Cond.constantLong "RoadsNotGoneBy" (407 : Nat) (33 : Int64)) ∈ lw_all := lw_g (lw_at lw_m4 117 rfl) rfl
theorem q961 : (Jvm.Cond.constantLong "RoadsNotGoneBy" (409 : Nat) (60 : Int64)) ∈ lw_all := lw_g (lw_at lw_m4 118 rfl) rfl
theorem q962 : (Jvm.Cond.methodLink "RoadsNotGoneBy" (411 : Nat) ({ cls := "RoadsNotGoneBy", name := "runs", desc := "(III)I" } : Jvm.MethodName)) ∈ lw_all := lw_g (lw_at lw_m4 119 rfl) rfl
theorem q963 : (Jvm.Cond.privateMethod ({ cls := "RoadsNotGoneBy", name := "runs", desc := "(III)I" } : Jvm.MethodName)) ∈ lw_tbl := lw_at lw_m4 120 rfl
theorem q964 : (Jvm.Cond.instanceMethod ({ cls := "RoadsNotGoneBy", name := "runs", desc := "(III)I" } : Jvm.MethodName)) ∈ lw_all := lw_g (lw_at lw_m4 121 rfl) rfl
theorem q965 : (Jvm.Cond.codeWith ({ cls := "RoadsNotGoneBy", name := "runs", desc := "(III)I" } : Jvm.MethodName) prog_1_method_52_code (7 : Nat) (Option.some Jvm.ClassFile.FieldType.int) [((10 : Nat), (55 : Nat), (114 : Nat), (0 : Nat)), ((64 : Nat), (70 : Nat), (114 : Nat), (0 : Nat)), ((79 : Nat), (85 : Nat), (114 : Nat), (0 : Nat)), ((94 : Nat), (105 : Nat), (114 : Nat), (0 : Nat)), ((114 : Nat), (116 : Nat), (114 : Nat), (0 : Nat))]) ∈ lw_all := lw_g (lw_at lw_m4 122 rfl) rfl
theorem q966 : (Jvm.Cond.methodLink "RoadsNotGoneBy" (394 : Nat) ({ cls := "RoadsNotGoneBy", name := "keeps", desc := "()V" } : Jvm.MethodName)) ∈ lw_all := lw_g (lw_at lw_m4 123 rfl) rfl
theorem q967 : (Jvm.Cond.privateMethod ({ cls := "RoadsNotGoneBy", name := "keeps", desc := "()V" } : Jvm.MethodName)) ∈ lw_tbl := lw_at lw_m4 124 rfl
theorem q968 : (Jvm.Cond.instanceMethod ({ cls := "RoadsNotGoneBy", name := "keeps", desc := "()V" } : Jvm.MethodName)) ∈ lw_all := lw_g (lw_at lw_m4 125 rfl) rfl
theorem q969 : (Jvm.Cond.code ({ cls := "RoadsNotGoneBy", name := "keeps", desc := "()V" } : Jvm.MethodName) prog_1_method_49_code (2 : Nat) (Option.none : Option Jvm.ClassFile.FieldType)) ∈ lw_all := lw_g (lw_at lw_m4 126 rfl) rfl
theorem q970 : (Jvm.Cond.methodLink "RoadsNotGoneBy" (385 : Nat) ({ cls := "java/lang/System", name := "arraycopy", desc := "(Ljava/lang/Object;ILjava/lang/Object;II)V" } : Jvm.MethodName)) ∈ lw_all := lw_g (lw_at lw_m4 127 rfl) rfl
theorem q973 : (Jvm.Cond.methodLink "RoadsNotGoneBy" (397 : Nat) ({ cls := "RoadsNotGoneBy", name := "goes", desc := "(II)V" } : Jvm.MethodName)) ∈ lw_all := lw_g (lw_at lw_m4 130 rfl) rfl
theorem q974 : (Jvm.Cond.privateMethod ({ cls := "RoadsNotGoneBy", name := "goes", desc := "(II)V" } : Jvm.MethodName)) ∈ lw_tbl := lw_at lw_m4 131 rfl
theorem q975 : (Jvm.Cond.instanceMethod ({ cls := "RoadsNotGoneBy", name := "goes", desc := "(II)V" } : Jvm.MethodName)) ∈ lw_all := lw_g (lw_at lw_m4 132 rfl) rfl
theorem q976 : (Jvm.Cond.code ({ cls := "RoadsNotGoneBy", name := "goes", desc := "(II)V" } : Jvm.MethodName) prog_1_method_51_code (4 : Nat) (Option.none : Option Jvm.ClassFile.FieldType)) ∈ lw_all := lw_g (lw_at lw_m4 133 rfl) rfl
theorem q977 : (Jvm.Cond.methodLink "RoadsNotGoneBy" (400 : Nat) ({ cls := "RoadsNotGoneBy", name := "laysBack", desc := "(I)V" } : Jvm.MethodName)) ∈ lw_all := lw_g (lw_at lw_m4 134 rfl) rfl
theorem q978 : (Jvm.Cond.privateMethod ({ cls := "RoadsNotGoneBy", name := "laysBack", desc := "(I)V" } : Jvm.MethodName)) ∈ lw_tbl := lw_at lw_m4 135 rfl
theorem q979 : (Jvm.Cond.instanceMethod ({ cls := "RoadsNotGoneBy", name := "laysBack", desc := "(I)V" } : Jvm.MethodName)) ∈ lw_all := lw_g (lw_at lw_m4 136 rfl) rfl
theorem q980 : (Jvm.Cond.code ({ cls := "RoadsNotGoneBy", name := "laysBack", desc := "(I)V" } : Jvm.MethodName) prog_1_method_50_code (3 : Nat) (Option.none : Option Jvm.ClassFile.FieldType)) ∈ lw_all := lw_g (lw_at lw_m4 137 rfl) rfl
theorem q982 : (Jvm.Cond.instanceMethod ({ cls := "RoadsNotGoneBy", name := "otherwise", desc := "(III)I" } : Jvm.MethodName)) ∈ lw_all := lw_g (lw_at lw_m4 139 rfl) rfl
theorem q983 : (Jvm.Cond.selects "RoadsNotGoneBy" ({ cls := "RoadsNotGoneBy", name := "otherwise", desc := "(III)I" } : Jvm.MethodName) ({ cls := "RoadsNotGoneBy", name := "otherwise", desc := "(III)I" } : Jvm.MethodName)) ∈ lw_all := lw_g (lw_at lw_m4 140 rfl) rfl
theorem q984 : (Jvm.Cond.codeWith ({ cls := "RoadsNotGoneBy", name := "otherwise", desc := "(III)I" } : Jvm.MethodName) prog_1_method_54_code (7 : Nat) (Option.some Jvm.ClassFile.FieldType.int) [((46 : Nat), (87 : Nat), (96 : Nat), (0 : Nat)), ((96 : Nat), (98 : Nat), (96 : Nat), (0 : Nat))]) ∈ lw_all := lw_g (lw_at lw_m4 141 rfl) rfl
theorem q985 : (Jvm.Cond.constantLong "RoadsNotGoneBy" (414 : Nat) (40 : Int64)) ∈ lw_all := lw_g (lw_at lw_m4 142 rfl) rfl
theorem q987 : (Jvm.Cond.instanceMethod ({ cls := "RoadsNotGoneBy", name := "turns", desc := "(III)J" } : Jvm.MethodName)) ∈ lw_all := lw_g (lw_at lw_m4 144 rfl) rfl
theorem q988 : (Jvm.Cond.selects "RoadsNotGoneBy" ({ cls := "RoadsNotGoneBy", name := "turns", desc := "(III)J" } : Jvm.MethodName) ({ cls := "RoadsNotGoneBy", name := "turns", desc := "(III)J" } : Jvm.MethodName)) ∈ lw_all := lw_g (lw_at lw_m4 145 rfl) rfl
theorem q989 : (Jvm.Cond.code ({ cls := "RoadsNotGoneBy", name := "turns", desc := "(III)J" } : Jvm.MethodName) prog_1_method_58_code (4 : Nat) (Option.some Jvm.ClassFile.FieldType.long)) ∈ lw_all := lw_g (lw_at lw_m4 146 rfl) rfl
theorem q990 : (Jvm.Cond.methodLink "RoadsNotGoneBy" (421 : Nat) ({ cls := "RoadsNotGoneBy", name := "areWays", desc := "(III)Z" } : Jvm.MethodName)) ∈ lw_all := lw_g (lw_at lw_m4 147 rfl) rfl
theorem q991 : (Jvm.Cond.static ({ cls := "RoadsNotGoneBy", name := "areWays", desc := "(III)Z" } : Jvm.MethodName)) ∈ lw_all := lw_g (lw_at lw_m4 148 rfl) rfl
theorem q992 : (Jvm.Cond.code ({ cls := "RoadsNotGoneBy", name := "areWays", desc := "(III)Z" } : Jvm.MethodName) prog_1_method_57_code (3 : Nat) (Option.some Jvm.ClassFile.FieldType.boolean)) ∈ lw_all := lw_g (lw_at lw_m4 149 rfl) rfl
theorem q993 : (Jvm.Cond.constantLong "RoadsNotGoneBy" (419 : Nat) (30 : Int64)) ∈ lw_all := lw_g (lw_at lw_m4 150 rfl) rfl
theorem q994 : (Jvm.Cond.methodLink "RoadsNotGoneBy" (425 : Nat) ({ cls := "RoadsNotGoneBy", name := "waysTo", desc := "(III)J" } : Jvm.MethodName)) ∈ lw_all := lw_g (lw_at lw_m4 151 rfl) rfl
theorem q995 : (Jvm.Cond.privateMethod ({ cls := "RoadsNotGoneBy", name := "waysTo", desc := "(III)J" } : Jvm.MethodName)) ∈ lw_tbl := lw_at lw_m4 152 rfl
theorem q996 : (Jvm.Cond.instanceMethod ({ cls := "RoadsNotGoneBy", name := "waysTo", desc := "(III)J" } : Jvm.MethodName)) ∈ lw_all := lw_g (lw_at lw_m4 153 rfl) rfl
theorem q997 : (Jvm.Cond.code ({ cls := "RoadsNotGoneBy", name := "waysTo", desc := "(III)J" } : Jvm.MethodName) prog_1_method_56_code (5 : Nat) (Option.some Jvm.ClassFile.FieldType.long)) ∈ lw_all := lw_g (lw_at lw_m4 154 rfl) rfl
theorem q998 : (Jvm.Cond.methodLink "RoadsNotGoneBy" (416 : Nat) ({ cls := "RoadsNotGoneBy", name := "stepsOn", desc := "()V" } : Jvm.MethodName)) ∈ lw_all := lw_g (lw_at lw_m4 155 rfl) rfl
theorem q999 : (Jvm.Cond.privateMethod ({ cls := "RoadsNotGoneBy", name := "stepsOn", desc := "()V" } : Jvm.MethodName)) ∈ lw_tbl := lw_at lw_m4 156 rfl
theorem q1000 : (Jvm.Cond.instanceMethod ({ cls := "RoadsNotGoneBy", name := "stepsOn", desc := "()V" } : Jvm.MethodName)) ∈ lw_all := lw_g (lw_at lw_m4 157 rfl) rfl
theorem q1001 : (Jvm.Cond.code ({ cls := "RoadsNotGoneBy", name := "stepsOn", desc := "()V" } : Jvm.MethodName) prog_1_method_55_code (2 : Nat) (Option.none : Option Jvm.ClassFile.FieldType)) ∈ lw_all := lw_g (lw_at lw_m4 158 rfl) rfl
theorem q1002 : (Jvm.Cond.constantLong "RoadsNotGoneBy" (429 : Nat) (-4611686018427387904 : Int64)) ∈ lw_all := lw_g (lw_at lw_m4 159 rfl) rfl
theorem q1004 : (Jvm.Cond.instanceMethod ({ cls := "RoadsNotGoneBy", name := "likely", desc := "(IIII)J" } : Jvm.MethodName)) ∈ lw_all := lw_g (lw_at lw_m4 161 rfl) rfl
theorem q1005 : (Jvm.Cond.selects "RoadsNotGoneBy" ({ cls := "RoadsNotGoneBy", name := "likely", desc := "(IIII)J" } : Jvm.MethodName) ({ cls := "RoadsNotGoneBy", name := "likely", desc := "(IIII)J" } : Jvm.MethodName)) ∈ lw_all := lw_g (lw_at lw_m4 162 rfl) rfl
theorem q1006 : (Jvm.Cond.code ({ cls := "RoadsNotGoneBy", name := "likely", desc := "(IIII)J" } : Jvm.MethodName) prog_1_method_60_code (5 : Nat) (Option.some Jvm.ClassFile.FieldType.long)) ∈ lw_all := lw_g (lw_at lw_m4 163 rfl) rfl
theorem q1007 : (Jvm.Cond.methodLink "RoadsNotGoneBy" (431 : Nat) ({ cls := "RoadsNotGoneBy", name := "lowest", desc := "(JJI)J" } : Jvm.MethodName)) ∈ lw_all := lw_g (lw_at lw_m4 164 rfl) rfl
theorem q1008 : (Jvm.Cond.static ({ cls := "RoadsNotGoneBy", name := "lowest", desc := "(JJI)J" } : Jvm.MethodName)) ∈ lw_all := lw_g (lw_at lw_m4 165 rfl) rfl
theorem q1009 : (Jvm.Cond.code ({ cls := "RoadsNotGoneBy", name := "lowest", desc := "(JJI)J" } : Jvm.MethodName) prog_1_method_59_code (11 : Nat) (Option.some Jvm.ClassFile.FieldType.long)) ∈ lw_all := lw_g (lw_at lw_m4 166 rfl) rfl
theorem q1011 : (Jvm.Cond.instanceMethod ({ cls := "RoadsNotGoneBy", name := "fewest", desc := "(III)I" } : Jvm.MethodName)) ∈ lw_all := lw_g (lw_at lw_m4 168 rfl) rfl
theorem q1012 : (Jvm.Cond.selects "RoadsNotGoneBy" ({ cls := "RoadsNotGoneBy", name := "fewest", desc := "(III)I" } : Jvm.MethodName) ({ cls := "RoadsNotGoneBy", name := "fewest", desc := "(III)I" } : Jvm.MethodName)) ∈ lw_all := lw_g (lw_at lw_m4 169 rfl) rfl
theorem q1013 : (Jvm.Cond.code ({ cls := "RoadsNotGoneBy", name := "fewest", desc := "(III)I" } : Jvm.MethodName) prog_1_method_63_code (4 : Nat) (Option.some Jvm.ClassFile.FieldType.int)) ∈ lw_all := lw_g (lw_at lw_m4 170 rfl) rfl
theorem q1014 : (Jvm.Cond.methodLink "RoadsNotGoneBy" (438 : Nat) ({ cls := "RoadsNotGoneBy", name := "fewestTo", desc := "(III)I" } : Jvm.MethodName)) ∈ lw_all := lw_g (lw_at lw_m4 171 rfl) rfl
theorem q1015 : (Jvm.Cond.privateMethod ({ cls := "RoadsNotGoneBy", name := "fewestTo", desc := "(III)I" } : Jvm.MethodName)) ∈ lw_tbl := lw_at lw_m4 172 rfl
theorem q1016 : (Jvm.Cond.instanceMethod ({ cls := "RoadsNotGoneBy", name := "fewestTo", desc := "(III)I" } : Jvm.MethodName)) ∈ lw_all := lw_g (lw_at lw_m4 173 rfl) rfl
theorem q1017 : (Jvm.Cond.codeWith ({ cls := "RoadsNotGoneBy", name := "fewestTo", desc := "(III)I" } : Jvm.MethodName) prog_1_method_62_code (7 : Nat) (Option.some Jvm.ClassFile.FieldType.int) [((52 : Nat), (90 : Nat), (99 : Nat), (0 : Nat)), ((99 : Nat), (101 : Nat), (99 : Nat), (0 : Nat))]) ∈ lw_all := lw_g (lw_at lw_m4 174 rfl) rfl
theorem q1018 : (Jvm.Cond.methodLink "RoadsNotGoneBy" (435 : Nat) ({ cls := "RoadsNotGoneBy", name := "turnsOn", desc := "(I)V" } : Jvm.MethodName)) ∈ lw_all := lw_g (lw_at lw_m4 175 rfl) rfl
theorem q1019 : (Jvm.Cond.privateMethod ({ cls := "RoadsNotGoneBy", name := "turnsOn", desc := "(I)V" } : Jvm.MethodName)) ∈ lw_tbl := lw_at lw_m4 176 rfl
theorem q1020 : (Jvm.Cond.instanceMethod ({ cls := "RoadsNotGoneBy", name := "turnsOn", desc := "(I)V" } : Jvm.MethodName)) ∈ lw_all := lw_g (lw_at lw_m4 177 rfl) rfl
theorem q1021 : (Jvm.Cond.code ({ cls := "RoadsNotGoneBy", name := "turnsOn", desc := "(I)V" } : Jvm.MethodName) prog_1_method_61_code (7 : Nat) (Option.none : Option Jvm.ClassFile.FieldType)) ∈ lw_all := lw_g (lw_at lw_m4 178 rfl) rfl
theorem q1023 : (Jvm.Cond.instanceMethod ({ cls := "RoadsNotGoneBy", name := "meet", desc := "(II)I" } : Jvm.MethodName)) ∈ lw_all := lw_g (lw_at lw_m4 180 rfl) rfl
theorem q1024 : (Jvm.Cond.selects "RoadsNotGoneBy" ({ cls := "RoadsNotGoneBy", name := "meet", desc := "(II)I" } : Jvm.MethodName) ({ cls := "RoadsNotGoneBy", name := "meet", desc := "(II)I" } : Jvm.MethodName)) ∈ lw_all := lw_g (lw_at lw_m4 181 rfl) rfl
theorem q1025 : (Jvm.Cond.code ({ cls := "RoadsNotGoneBy", name := "meet", desc := "(II)I" } : Jvm.MethodName) prog_1_method_65_code (3 : Nat) (Option.some Jvm.ClassFile.FieldType.int)) ∈ lw_all := lw_g (lw_at lw_m4 182 rfl) rfl
theorem q1026 : (Jvm.Cond.methodLink "RoadsNotGoneBy" (441 : Nat) ({ cls := "RoadsNotGoneBy", name := "meets", desc := "(II)I" } : Jvm.MethodName)) ∈ lw_all := lw_g (lw_at lw_m4 183 rfl) rfl
theorem q1027 : (Jvm.Cond.privateMethod ({ cls := "RoadsNotGoneBy", name := "meets", desc := "(II)I" } : Jvm.MethodName)) ∈ lw_tbl := lw_at lw_m4 184 rfl
theorem q1028 : (Jvm.Cond.instanceMethod ({ cls := "RoadsNotGoneBy", name := "meets", desc := "(II)I" } : Jvm.MethodName)) ∈ lw_all := lw_g (lw_at lw_m4 185 rfl) rfl
theorem q1029 : (Jvm.Cond.codeWith ({ cls := "RoadsNotGoneBy", name := "meets", desc := "(II)I" } : Jvm.MethodName) prog_1_method_64_code (7 : Nat) (Option.some Jvm.ClassFile.FieldType.int) [((9 : Nat), (44 : Nat), (74 : Nat), (0 : Nat)), ((52 : Nat), (66 : Nat), (74 : Nat), (0 : Nat)), ((74 : Nat), (76 : Nat), (74 : Nat), (0 : Nat))]) ∈ lw_all := lw_g (lw_at lw_m4 186 rfl) rfl
theorem q1031 : (Jvm.Cond.instanceMethod ({ cls := "RoadsNotGoneBy", name := "shut", desc := "(II)I" } : Jvm.MethodName)) ∈ lw_all := lw_g (lw_at lw_m4 188 rfl) rfl
theorem q1032 : (Jvm.Cond.selects "RoadsNotGoneBy" ({ cls := "RoadsNotGoneBy", name := "shut", desc := "(II)I" } : Jvm.MethodName) ({ cls := "RoadsNotGoneBy", name := "shut", desc := "(II)I" } : Jvm.MethodName)) ∈ lw_all := lw_g (lw_at lw_m4 189 rfl) rfl
theorem q1033 : (Jvm.Cond.code ({ cls := "RoadsNotGoneBy", name := "shut", desc := "(II)I" } : Jvm.MethodName) prog_1_method_68_code (7 : Nat) (Option.some Jvm.ClassFile.FieldType.int)) ∈ lw_all := lw_g (lw_at lw_m4 190 rfl) rfl
theorem q1034 : (Jvm.Cond.methodLink "RoadsNotGoneBy" (444 : Nat) ({ cls := "RoadsNotGoneBy", name := "jarsBehind", desc := "(I)I" } : Jvm.MethodName)) ∈ lw_all := lw_g (lw_at lw_m4 191 rfl) rfl
theorem q1035 : (Jvm.Cond.privateMethod ({ cls := "RoadsNotGoneBy", name := "jarsBehind", desc := "(I)I" } : Jvm.MethodName)) ∈ lw_tbl := lw_at lw_m4 192 rfl
theorem q1036 : (Jvm.Cond.instanceMethod ({ cls := "RoadsNotGoneBy", name := "jarsBehind", desc := "(I)I" } : Jvm.MethodName)) ∈ lw_all := lw_g (lw_at lw_m4 193 rfl) rfl
theorem q1037 : (Jvm.Cond.codeWith ({ cls := "RoadsNotGoneBy", name := "jarsBehind", desc := "(I)I" } : Jvm.MethodName) prog_1_method_66_code (5 : Nat) (Option.some Jvm.ClassFile.FieldType.int) [((9 : Nat), (32 : Nat), (39 : Nat), (0 : Nat)), ((39 : Nat), (41 : Nat), (39 : Nat), (0 : Nat))]) ∈ lw_all := lw_g (lw_at lw_m4 194 rfl) rfl
theorem q1038 : (Jvm.Cond.methodLink "RoadsNotGoneBy" (447 : Nat) ({ cls := "RoadsNotGoneBy", name := "jarsShutting", desc := "(II)I" } : Jvm.MethodName)) ∈ lw_all := lw_g (lw_at lw_m4 195 rfl) rfl
theorem q1039 : (Jvm.Cond.privateMethod ({ cls := "RoadsNotGoneBy", name := "jarsShutting", desc := "(II)I" } : Jvm.MethodName)) ∈ lw_tbl := lw_at lw_m4 196 rfl
theorem q1040 : (Jvm.Cond.instanceMethod ({ cls := "RoadsNotGoneBy", name := "jarsShutting", desc := "(II)I" } : Jvm.MethodName)) ∈ lw_all := lw_g (lw_at lw_m4 197 rfl) rfl
theorem q1041 : (Jvm.Cond.codeWith ({ cls := "RoadsNotGoneBy", name := "jarsShutting", desc := "(II)I" } : Jvm.MethodName) prog_1_method_67_code (5 : Nat) (Option.some Jvm.ClassFile.FieldType.int) [((15 : Nat), (66 : Nat), (83 : Nat), (0 : Nat)), ((83 : Nat), (85 : Nat), (83 : Nat), (0 : Nat))]) ∈ lw_all := lw_g (lw_at lw_m4 198 rfl) rfl
theorem q1043 : (Jvm.Cond.instanceMethod ({ cls := "RoadsNotGoneBy", name := "best", desc := "(II)I" } : Jvm.MethodName)) ∈ lw_all := lw_g (lw_at lw_m4 200 rfl) rfl
theorem q1044 : (Jvm.Cond.selects "RoadsNotGoneBy" ({ cls := "RoadsNotGoneBy", name := "best", desc := "(II)I" } : Jvm.MethodName) ({ cls := "RoadsNotGoneBy", name := "best", desc := "(II)I" } : Jvm.MethodName)) ∈ lw_all := lw_g (lw_at lw_m4 201 rfl) rfl
theorem q1045 : (Jvm.Cond.code ({ cls := "RoadsNotGoneBy", name := "best", desc := "(II)I" } : Jvm.MethodName) prog_1_method_71_code (3 : Nat) (Option.some Jvm.ClassFile.FieldType.int)) ∈ lw_all := lw_g (lw_at lw_m4 202 rfl) rfl
theorem q1046 : (Jvm.Cond.methodLink "RoadsNotGoneBy" (450 : Nat) ({ cls := "RoadsNotGoneBy", name := "shelf", desc := "()I" } : Jvm.MethodName)) ∈ lw_all := lw_g (lw_at lw_m4 203 rfl) rfl
theorem q1047 : (Jvm.Cond.privateMethod ({ cls := "RoadsNotGoneBy", name := "shelf", desc := "()I" } : Jvm.MethodName)) ∈ lw_tbl := lw_at lw_m4 204 rfl
theorem q1048 : (Jvm.Cond.instanceMethod ({ cls := "RoadsNotGoneBy", name := "shelf", desc := "()I" } : Jvm.MethodName)) ∈ lw_all := lw_g (lw_at lw_m4 205 rfl) rfl
theorem q1049 : (Jvm.Cond.code ({ cls := "RoadsNotGoneBy", name := "shelf", desc := "()I" } : Jvm.MethodName) prog_1_method_70_code (4 : Nat) (Option.some Jvm.ClassFile.FieldType.int)) ∈ lw_all := lw_g (lw_at lw_m4 206 rfl) rfl
theorem q1050 : (Jvm.Cond.methodLink "RoadsNotGoneBy" (453 : Nat) ({ cls := "RoadsNotGoneBy", name := "bestSpoon", desc := "(IZ)I" } : Jvm.MethodName)) ∈ lw_all := lw_g (lw_at lw_m4 207 rfl) rfl
theorem q1051 : (Jvm.Cond.privateMethod ({ cls := "RoadsNotGoneBy", name := "bestSpoon", desc := "(IZ)I" } : Jvm.MethodName)) ∈ lw_tbl := lw_at lw_m4 208 rfl
theorem q1052 : (Jvm.Cond.instanceMethod ({ cls := "RoadsNotGoneBy", name := "bestSpoon", desc := "(IZ)I" } : Jvm.MethodName)) ∈ lw_all := lw_g (lw_at lw_m4 209 rfl) rfl
theorem q1053 : (Jvm.Cond.code ({ cls := "RoadsNotGoneBy", name := "bestSpoon", desc := "(IZ)I" } : Jvm.MethodName) prog_1_method_69_code (8 : Nat) (Option.some Jvm.ClassFile.FieldType.int)) ∈ lw_all := lw_g (lw_at lw_m4 210 rfl) rfl
theorem q1055 : (Jvm.Cond.instanceMethod ({ cls := "RoadsNotGoneBy", name := "tells", desc := "(III)I" } : Jvm.MethodName)) ∈ lw_all := lw_g (lw_at lw_m4 212 rfl) rfl
theorem q1056 : (Jvm.Cond.selects "RoadsNotGoneBy" ({ cls := "RoadsNotGoneBy", name := "tells", desc := "(III)I" } : Jvm.MethodName) ({ cls := "RoadsNotGoneBy", name := "tells", desc := "(III)I" } : Jvm.MethodName)) ∈ lw_all := lw_g (lw_at lw_m4 213 rfl) rfl
theorem q1057 : (Jvm.Cond.code ({ cls := "RoadsNotGoneBy", name := "tells", desc := "(III)I" } : Jvm.MethodName) prog_1_method_80_code (5 : Nat) (Option.some Jvm.ClassFile.FieldType.int)) ∈ lw_all := lw_g (lw_at lw_m4 214 rfl) rfl
theorem q1058 : (Jvm.Cond.methodLink "RoadsNotGoneBy" (484 : Nat) ({ cls := "RoadsNotGoneBy", name := "isSheet", desc := "(I)Z" } : Jvm.MethodName)) ∈ lw_all := lw_g (lw_at lw_m4 215 rfl) rfl
theorem q1059 : (Jvm.Cond.static ({ cls := "RoadsNotGoneBy", name := "isSheet", desc := "(I)Z" } : Jvm.MethodName)) ∈ lw_all := lw_g (lw_at lw_m4 216 rfl) rfl
theorem q1060 : (Jvm.Cond.code ({ cls := "RoadsNotGoneBy", name := "isSheet", desc := "(I)Z" } : Jvm.MethodName) prog_1_method_88_code (1 : Nat) (Option.some Jvm.ClassFile.FieldType.boolean)) ∈ lw_all := lw_g (lw_at lw_m4 217 rfl) rfl
theorem q1061 : (Jvm.Cond.constantLong "RoadsNotGoneBy" (522 : Nat) (3 : Int64)) ∈ lw_all := lw_g (lw_at lw_m4 218 rfl) rfl
theorem q1062 : (Jvm.Cond.methodLink "RoadsNotGoneBy" (457 : Nat) ({ cls := "RoadsNotGoneBy", name := "sortOf", desc := "(Ljava/lang/Object;)I" } : Jvm.MethodName)) ∈ lw_all := lw_g (lw_at lw_m4 219 rfl) rfl
theorem q1063 : (Jvm.Cond.static ({ cls := "RoadsNotGoneBy", name := "sortOf", desc := "(Ljava/lang/Object;)I" } : Jvm.MethodName)) ∈ lw_all := lw_g (lw_at lw_m4 220 rfl) rfl
theorem q1064 : (Jvm.Cond.code ({ cls := "RoadsNotGoneBy", name := "sortOf", desc := "(Ljava/lang/Object;)I" } : Jvm.MethodName) prog_1_method_96_code (1 : Nat) (Option.some Jvm.ClassFile.FieldType.int)) ∈ lw_all := lw_g (lw_at lw_m4 221 rfl) rfl
theorem q1065 : (Jvm.Cond.classLink "RoadsNotGoneBy" (532 : Nat) "[B") ∈ lw_all := lw_g (lw_at lw_m4 222 rfl) rfl
theorem q1066 : (Jvm.Cond.classLink "RoadsNotGoneBy" (536 : Nat) "[S") ∈ lw_all := lw_g (lw_at lw_m4 223 rfl) rfl
theorem q1067 : (Jvm.Cond.methodLink "RoadsNotGoneBy" (461 : Nat) ({ cls := "RoadsNotGoneBy", name := "lengthOf", desc := "(Ljava/lang/Object;I)I" } : Jvm.MethodName)) ∈ lw_all := lw_g (lw_at lw_m4 224 rfl) rfl
theorem q1068 : (Jvm.Cond.static ({ cls := "RoadsNotGoneBy", name := "lengthOf", desc := "(Ljava/lang/Object;I)I" } : Jvm.MethodName)) ∈ lw_all := lw_g (lw_at lw_m4 225 rfl) rfl
theorem q1069 : (Jvm.Cond.code ({ cls := "RoadsNotGoneBy", name := "lengthOf", desc := "(Ljava/lang/Object;I)I" } : Jvm.MethodName) prog_1_method_94_code (2 : Nat) (Option.some Jvm.ClassFile.FieldType.int)) ∈ lw_all := lw_g (lw_at lw_m4 226 rfl) rfl
theorem q1070 : (Jvm.Cond.classLink "RoadsNotGoneBy" (538 : Nat) "[I") ∈ lw_all := lw_g (lw_at lw_m4 227 rfl) rfl
theorem q1071 : (Jvm.Cond.methodLink "RoadsNotGoneBy" (473 : Nat) ({ cls := "RoadsNotGoneBy", name := "unlike", desc := "(Ljava/lang/Object;I)I" } : Jvm.MethodName)) ∈ lw_all := lw_g (lw_at lw_m4 228 rfl) rfl
theorem q1072 : (Jvm.Cond.privateMethod ({ cls := "RoadsNotGoneBy", name := "unlike", desc := "(Ljava/lang/Object;I)I" } : Jvm.MethodName)) ∈ lw_tbl := lw_at lw_m4 229 rfl
theorem q1073 : (Jvm.Cond.instanceMethod ({ cls := "RoadsNotGoneBy", name := "unlike", desc := "(Ljava/lang/Object;I)I" } : Jvm.MethodName)) ∈ lw_all := lw_g (lw_at lw_m4 230 rfl) rfl
theorem q1074 : (Jvm.Cond.codeWith ({ cls := "RoadsNotGoneBy", name := "unlike", desc := "(Ljava/lang/Object;I)I" } : Jvm.MethodName) prog_1_method_72_code (7 : Nat) (Option.some Jvm.ClassFile.FieldType.int) [((9 : Nat), (56 : Nat), (81 : Nat), (0 : Nat)), ((64 : Nat), (73 : Nat), (81 : Nat), (0 : Nat)), ((81 : Nat), (83 : Nat), (81 : Nat), (0 : Nat))]) ∈ lw_all := lw_g (lw_at lw_m4 231 rfl) rfl
theorem q1075 : (Jvm.Cond.methodLink "RoadsNotGoneBy" (465 : Nat) ({ cls := "RoadsNotGoneBy", name := "item", desc := "(Ljava/lang/Object;II)I" } : Jvm.MethodName)) ∈ lw_all := lw_g (lw_at lw_m4 232 rfl) rfl
theorem q1076 : (Jvm.Cond.static ({ cls := "RoadsNotGoneBy", name := "item", desc := "(Ljava/lang/Object;II)I" } : Jvm.MethodName)) ∈ lw_all := lw_g (lw_at lw_m4 233 rfl) rfl
theorem q1077 : (Jvm.Cond.code ({ cls := "RoadsNotGoneBy", name := "item", desc := "(Ljava/lang/Object;II)I" } : Jvm.MethodName) prog_1_method_93_code (3 : Nat) (Option.some Jvm.ClassFile.FieldType.int)) ∈ lw_all := lw_g (lw_at lw_m4 234 rfl) rfl
theorem q1078 : (Jvm.Cond.methodLink "RoadsNotGoneBy" (533 : Nat) ({ cls := "RoadsNotGoneBy", name := "asksPlace", desc := "(II)V" } : Jvm.MethodName)) ∈ lw_all := lw_g (lw_at lw_m4 235 rfl) rfl
theorem q1079 : (Jvm.Cond.static ({ cls := "RoadsNotGoneBy", name := "asksPlace", desc := "(II)V" } : Jvm.MethodName)) ∈ lw_all := lw_g (lw_at lw_m4 236 rfl) rfl
theorem q1080 : (Jvm.Cond.code ({ cls := "RoadsNotGoneBy", name := "asksPlace", desc := "(II)V" } : Jvm.MethodName) prog_1_method_95_code (2 : Nat) (Option.none : Option Jvm.ClassFile.FieldType)) ∈ lw_all := lw_g (lw_at lw_m4 237 rfl) rfl
theorem q1081 : (Jvm.Cond.classLink "RoadsNotGoneBy" (544 : Nat) "java/lang/IndexOutOfBoundsException") ∈ lw_all := lw_g (lw_at lw_m4 238 rfl) rfl
theorem q1090 : (Jvm.Cond.methodLink "RoadsNotGoneBy" (546 : Nat) ({ cls := "java/lang/IndexOutOfBoundsException", name := "<init>", desc := "()V" } : Jvm.MethodName)) ∈ lw_all := lw_g (lw_at lw_m5 7 rfl) rfl
theorem q1102 : (Jvm.Cond.methodLink "RoadsNotGoneBy" (491 : Nat) ({ cls := "RoadsNotGoneBy", name := "kindsOf", desc := "(Ljava/lang/Object;I)I" } : Jvm.MethodName)) ∈ lw_all := lw_g (lw_at lw_m5 19 rfl) rfl
theorem q1103 : (Jvm.Cond.privateMethod ({ cls := "RoadsNotGoneBy", name := "kindsOf", desc := "(Ljava/lang/Object;I)I" } : Jvm.MethodName)) ∈ lw_tbl := lw_at lw_m5 20 rfl
theorem q1104 : (Jvm.Cond.instanceMethod ({ cls := "RoadsNotGoneBy", name := "kindsOf", desc := "(Ljava/lang/Object;I)I" } : Jvm.MethodName)) ∈ lw_all := lw_g (lw_at lw_m5 21 rfl) rfl
theorem q1105 : (Jvm.Cond.code ({ cls := "RoadsNotGoneBy", name := "kindsOf", desc := "(Ljava/lang/Object;I)I" } : Jvm.MethodName) prog_1_method_74_code (5 : Nat) (Option.some Jvm.ClassFile.FieldType.int)) ∈ lw_all := lw_g (lw_at lw_m5 22 rfl) rfl
theorem q1106 : (Jvm.Cond.methodLink "RoadsNotGoneBy" (476 : Nat) ({ cls := "RoadsNotGoneBy", name := "isSoAs", desc := "(Ljava/lang/Object;II)Z" } : Jvm.MethodName)) ∈ lw_all := lw_g (lw_at lw_m5 23 rfl) rfl
theorem q1107 : (Jvm.Cond.privateMethod ({ cls := "RoadsNotGoneBy", name := "isSoAs", desc := "(Ljava/lang/Object;II)Z" } : Jvm.MethodName)) ∈ lw_tbl := lw_at lw_m5 24 rfl
theorem q1108 : (Jvm.Cond.instanceMethod ({ cls := "RoadsNotGoneBy", name := "isSoAs", desc := "(Ljava/lang/Object;II)Z" } : Jvm.MethodName)) ∈ lw_all := lw_g (lw_at lw_m5 25 rfl) rfl
theorem q1109 : (Jvm.Cond.codeWith ({ cls := "RoadsNotGoneBy", name := "isSoAs", desc := "(Ljava/lang/Object;II)Z" } : Jvm.MethodName) prog_1_method_73_code (7 : Nat) (Option.some Jvm.ClassFile.FieldType.boolean) [((8 : Nat), (50 : Nat), (61 : Nat), (0 : Nat)), ((61 : Nat), (63 : Nat), (61 : Nat), (0 : Nat))]) ∈ lw_all := lw_g (lw_at lw_m5 26 rfl) rfl
theorem q1110 : (Jvm.Cond.methodLink "RoadsNotGoneBy" (469 : Nat) ({ cls := "RoadsNotGoneBy$Life", name := "like", desc := "(LRoadsNotGoneBy$Life;)LRoadsNotGoneBy$Life;" } : Jvm.MethodName)) ∈ lw_all := lw_g (lw_at lw_m5 27 rfl) rfl
theorem q1120 : (Jvm.Cond.methodLink "RoadsNotGoneBy" (494 : Nat) ({ cls := "RoadsNotGoneBy", name := "setBy", desc := "(Ljava/lang/Object;III)I" } : Jvm.MethodName)) ∈ lw_all := lw_g (lw_at lw_m5 37 rfl) rfl
theorem q1121 : (Jvm.Cond.privateMethod ({ cls := "RoadsNotGoneBy", name := "setBy", desc := "(Ljava/lang/Object;III)I" } : Jvm.MethodName)) ∈ lw_tbl := lw_at lw_m5 38 rfl
theorem q1122 : (Jvm.Cond.instanceMethod ({ cls := "RoadsNotGoneBy", name := "setBy", desc := "(Ljava/lang/Object;III)I" } : Jvm.MethodName)) ∈ lw_all := lw_g (lw_at lw_m5 39 rfl) rfl
theorem q1123 : (Jvm.Cond.code ({ cls := "RoadsNotGoneBy", name := "setBy", desc := "(Ljava/lang/Object;III)I" } : Jvm.MethodName) prog_1_method_76_code (7 : Nat) (Option.some Jvm.ClassFile.FieldType.int)) ∈ lw_all := lw_g (lw_at lw_m5 40 rfl) rfl
theorem q1124 : (Jvm.Cond.methodLink "RoadsNotGoneBy" (480 : Nat) ({ cls := "RoadsNotGoneBy", name := "isSoBy", desc := "(Ljava/lang/Object;III)Z" } : Jvm.MethodName)) ∈ lw_all := lw_g (lw_at lw_m5 41 rfl) rfl
theorem q1125 : (Jvm.Cond.privateMethod ({ cls := "RoadsNotGoneBy", name := "isSoBy", desc := "(Ljava/lang/Object;III)Z" } : Jvm.MethodName)) ∈ lw_tbl := lw_at lw_m5 42 rfl
theorem q1126 : (Jvm.Cond.instanceMethod ({ cls := "RoadsNotGoneBy", name := "isSoBy", desc := "(Ljava/lang/Object;III)Z" } : Jvm.MethodName)) ∈ lw_all := lw_g (lw_at lw_m5 43 rfl) rfl
theorem q1127 : (Jvm.Cond.codeWith ({ cls := "RoadsNotGoneBy", name := "isSoBy", desc := "(Ljava/lang/Object;III)Z" } : Jvm.MethodName) prog_1_method_75_code (8 : Nat) (Option.some Jvm.ClassFile.FieldType.boolean) [((8 : Nat), (33 : Nat), (44 : Nat), (0 : Nat)), ((44 : Nat), (46 : Nat), (44 : Nat), (0 : Nat))]) ∈ lw_all := lw_g (lw_at lw_m5 44 rfl) rfl
theorem q1128 : (Jvm.Cond.methodLink "RoadsNotGoneBy" (498 : Nat) ({ cls := "RoadsNotGoneBy", name := "moodsOf", desc := "(Ljava/lang/Object;IZ)I" } : Jvm.MethodName)) ∈ lw_all := lw_g (lw_at lw_m5 45 rfl) rfl
theorem q1129 : (Jvm.Cond.privateMethod ({ cls := "RoadsNotGoneBy", name := "moodsOf", desc := "(Ljava/lang/Object;IZ)I" } : Jvm.MethodName)) ∈ lw_tbl := lw_at lw_m5 46 rfl
theorem q1130 : (Jvm.Cond.instanceMethod ({ cls := "RoadsNotGoneBy", name := "moodsOf", desc := "(Ljava/lang/Object;IZ)I" } : Jvm.MethodName)) ∈ lw_all := lw_g (lw_at lw_m5 47 rfl) rfl
theorem q1131 : (Jvm.Cond.code ({ cls := "RoadsNotGoneBy", name := "moodsOf", desc := "(Ljava/lang/Object;IZ)I" } : Jvm.MethodName) prog_1_method_77_code (6 : Nat) (Option.some Jvm.ClassFile.FieldType.int)) ∈ lw_all := lw_g (lw_at lw_m5 48 rfl) rfl
theorem q1132 : (Jvm.Cond.methodLink "RoadsNotGoneBy" (502 : Nat) ({ cls := "RoadsNotGoneBy", name := "textsOf", desc := "(Ljava/lang/Object;I)I" } : Jvm.MethodName)) ∈ lw_all := lw_g (lw_at lw_m5 49 rfl) rfl
theorem q1133 : (Jvm.Cond.privateMethod ({ cls := "RoadsNotGoneBy", name := "textsOf", desc := "(Ljava/lang/Object;I)I" } : Jvm.MethodName)) ∈ lw_tbl := lw_at lw_m5 50 rfl
theorem q1134 : (Jvm.Cond.instanceMethod ({ cls := "RoadsNotGoneBy", name := "textsOf", desc := "(Ljava/lang/Object;I)I" } : Jvm.MethodName)) ∈ lw_all := lw_g (lw_at lw_m5 51 rfl) rfl
theorem q1135 : (Jvm.Cond.codeWith ({ cls := "RoadsNotGoneBy", name := "textsOf", desc := "(Ljava/lang/Object;I)I" } : Jvm.MethodName) prog_1_method_78_code (7 : Nat) (Option.some Jvm.ClassFile.FieldType.int) [((8 : Nat), (55 : Nat), (63 : Nat), (0 : Nat)), ((63 : Nat), (65 : Nat), (63 : Nat), (0 : Nat))]) ∈ lw_all := lw_g (lw_at lw_m5 52 rfl) rfl
theorem q1136 : (Jvm.Cond.methodLink "RoadsNotGoneBy" (505 : Nat) ({ cls := "RoadsNotGoneBy", name := "livesOf", desc := "(Ljava/lang/Object;)I" } : Jvm.MethodName)) ∈ lw_all := lw_g (lw_at lw_m5 53 rfl) rfl
theorem q1137 : (Jvm.Cond.privateMethod ({ cls := "RoadsNotGoneBy", name := "livesOf", desc := "(Ljava/lang/Object;)I" } : Jvm.MethodName)) ∈ lw_tbl := lw_at lw_m5 54 rfl
theorem q1138 : (Jvm.Cond.instanceMethod ({ cls := "RoadsNotGoneBy", name := "livesOf", desc := "(Ljava/lang/Object;)I" } : Jvm.MethodName)) ∈ lw_all := lw_g (lw_at lw_m5 55 rfl) rfl
theorem q1139 : (Jvm.Cond.code ({ cls := "RoadsNotGoneBy", name := "livesOf", desc := "(Ljava/lang/Object;)I" } : Jvm.MethodName) prog_1_method_79_code (4 : Nat) (Option.some Jvm.ClassFile.FieldType.int)) ∈ lw_all := lw_g (lw_at lw_m5 56 rfl) rfl
theorem q1141 : (Jvm.Cond.instanceMethod ({ cls := "RoadsNotGoneBy", name := "film", desc := "(III)I" } : Jvm.MethodName)) ∈ lw_all := lw_g (lw_at lw_m5 58 rfl) rfl
theorem q1142 : (Jvm.Cond.selects "RoadsNotGoneBy" ({ cls := "RoadsNotGoneBy", name := "film", desc := "(III)I" } : Jvm.MethodName) ({ cls := "RoadsNotGoneBy", name := "film", desc := "(III)I" } : Jvm.MethodName)) ∈ lw_all := lw_g (lw_at lw_m5 59 rfl) rfl
theorem q1143 : (Jvm.Cond.codeWith ({ cls := "RoadsNotGoneBy", name := "film", desc := "(III)I" } : Jvm.MethodName) prog_1_method_81_code (7 : Nat) (Option.some Jvm.ClassFile.FieldType.int) [((48 : Nat), (85 : Nat), (94 : Nat), (0 : Nat)), ((94 : Nat), (96 : Nat), (94 : Nat), (0 : Nat))]) ∈ lw_all := lw_g (lw_at lw_m5 60 rfl) rfl
theorem q1144 : (Jvm.Cond.methodLink "RoadsNotGoneBy" (508 : Nat) ({ cls := "RoadsNotGoneBy", name := "sheet", desc := "(III)I" } : Jvm.MethodName)) ∈ lw_all := lw_g (lw_at lw_m5 61 rfl) rfl
theorem q1145 : (Jvm.Cond.instanceMethod ({ cls := "RoadsNotGoneBy", name := "sheet", desc := "(III)I" } : Jvm.MethodName)) ∈ lw_all := lw_g (lw_at lw_m5 62 rfl) rfl
theorem q1146 : (Jvm.Cond.selects "RoadsNotGoneBy" ({ cls := "RoadsNotGoneBy", name := "sheet", desc := "(III)I" } : Jvm.MethodName) ({ cls := "RoadsNotGoneBy", name := "sheet", desc := "(III)I" } : Jvm.MethodName)) ∈ lw_all := lw_g (lw_at lw_m5 63 rfl) rfl
theorem q1147 : (Jvm.Cond.codeWith ({ cls := "RoadsNotGoneBy", name := "sheet", desc := "(III)I" } : Jvm.MethodName) prog_1_method_90_code (5 : Nat) (Option.some Jvm.ClassFile.FieldType.int) [((52 : Nat), (67 : Nat), (68 : Nat), (530 : Nat))]) ∈ lw_all := lw_g (lw_at lw_m5 64 rfl) rfl
theorem q1148 : (Jvm.Cond.classLink "RoadsNotGoneBy" (530 : Nat) "java/lang/NegativeArraySizeException") ∈ lw_all := lw_g (lw_at lw_m5 65 rfl) rfl
theorem q1175 : (Jvm.Cond.constantLong "RoadsNotGoneBy" (524 : Nat) (-1 : Int64)) ∈ lw_all := lw_g (lw_at lw_m5 92 rfl) rfl
theorem q1176 : (Jvm.Cond.methodLink "RoadsNotGoneBy" (526 : Nat) ({ cls := "RoadsNotGoneBy", name := "rowOf", desc := "(II)Ljava/lang/Object;" } : Jvm.MethodName)) ∈ lw_all := lw_g (lw_at lw_m5 93 rfl) rfl
theorem q1177 : (Jvm.Cond.static ({ cls := "RoadsNotGoneBy", name := "rowOf", desc := "(II)Ljava/lang/Object;" } : Jvm.MethodName)) ∈ lw_all := lw_g (lw_at lw_m5 94 rfl) rfl
theorem q1178 : (Jvm.Cond.code ({ cls := "RoadsNotGoneBy", name := "rowOf", desc := "(II)Ljava/lang/Object;" } : Jvm.MethodName) prog_1_method_89_code (2 : Nat) (Option.some (Jvm.ClassFile.FieldType.object "java/lang/Object"))) ∈ lw_all := lw_g (lw_at lw_m5 95 rfl) rfl
theorem q1179 : (Jvm.Cond.methodLink "RoadsNotGoneBy" (511 : Nat) ({ cls := "RoadsNotGoneBy", name := "cell", desc := "(III)I" } : Jvm.MethodName)) ∈ lw_all := lw_g (lw_at lw_m5 96 rfl) rfl
theorem q1180 : (Jvm.Cond.instanceMethod ({ cls := "RoadsNotGoneBy", name := "cell", desc := "(III)I" } : Jvm.MethodName)) ∈ lw_all := lw_g (lw_at lw_m5 97 rfl) rfl
theorem q1181 : (Jvm.Cond.selects "RoadsNotGoneBy" ({ cls := "RoadsNotGoneBy", name := "cell", desc := "(III)I" } : Jvm.MethodName) ({ cls := "RoadsNotGoneBy", name := "cell", desc := "(III)I" } : Jvm.MethodName)) ∈ lw_all := lw_g (lw_at lw_m5 98 rfl) rfl
theorem q1182 : (Jvm.Cond.codeWith ({ cls := "RoadsNotGoneBy", name := "cell", desc := "(III)I" } : Jvm.MethodName) prog_1_method_92_code (5 : Nat) (Option.some Jvm.ClassFile.FieldType.int) [((10 : Nat), (24 : Nat), (25 : Nat), (542 : Nat)), ((10 : Nat), (24 : Nat), (30 : Nat), (544 : Nat))]) ∈ lw_all := lw_g (lw_at lw_m5 99 rfl) rfl
theorem q1183 : (Jvm.Cond.classLink "RoadsNotGoneBy" (542 : Nat) "java/lang/NullPointerException") ∈ lw_all := lw_g (lw_at lw_m5 100 rfl) rfl
theorem q1220 : (Jvm.Cond.methodLink "RoadsNotGoneBy" (539 : Nat) ({ cls := "RoadsNotGoneBy", name := "put", desc := "(Ljava/lang/Object;II)I" } : Jvm.MethodName)) ∈ lw_all := lw_g (lw_at lw_m5 137 rfl) rfl
theorem q1221 : (Jvm.Cond.static ({ cls := "RoadsNotGoneBy", name := "put", desc := "(Ljava/lang/Object;II)I" } : Jvm.MethodName)) ∈ lw_all := lw_g (lw_at lw_m5 138 rfl) rfl
theorem q1222 : (Jvm.Cond.code ({ cls := "RoadsNotGoneBy", name := "put", desc := "(Ljava/lang/Object;II)I" } : Jvm.MethodName) prog_1_method_91_code (3 : Nat) (Option.some Jvm.ClassFile.FieldType.int)) ∈ lw_all := lw_g (lw_at lw_m5 139 rfl) rfl
theorem q1225 : (Jvm.Cond.instanceMethod ({ cls := "RoadsNotGoneBy", name := "drawn", desc := "(III)I" } : Jvm.MethodName)) ∈ lw_all := lw_g (lw_at lw_m5 142 rfl) rfl
theorem q1226 : (Jvm.Cond.selects "RoadsNotGoneBy" ({ cls := "RoadsNotGoneBy", name := "drawn", desc := "(III)I" } : Jvm.MethodName) ({ cls := "RoadsNotGoneBy", name := "drawn", desc := "(III)I" } : Jvm.MethodName)) ∈ lw_all := lw_g (lw_at lw_m5 143 rfl) rfl
theorem q1227 : (Jvm.Cond.code ({ cls := "RoadsNotGoneBy", name := "drawn", desc := "(III)I" } : Jvm.MethodName) prog_1_method_83_code (4 : Nat) (Option.some Jvm.ClassFile.FieldType.int)) ∈ lw_all := lw_g (lw_at lw_m5 144 rfl) rfl
theorem q1228 : (Jvm.Cond.methodLink "RoadsNotGoneBy" (515 : Nat) ({ cls := "RoadsNotGoneBy", name := "comesDrawn", desc := "(III)I" } : Jvm.MethodName)) ∈ lw_all := lw_g (lw_at lw_m5 145 rfl) rfl
theorem q1229 : (Jvm.Cond.privateMethod ({ cls := "RoadsNotGoneBy", name := "comesDrawn", desc := "(III)I" } : Jvm.MethodName)) ∈ lw_tbl := lw_at lw_m5 146 rfl
theorem q1230 : (Jvm.Cond.instanceMethod ({ cls := "RoadsNotGoneBy", name := "comesDrawn", desc := "(III)I" } : Jvm.MethodName)) ∈ lw_all := lw_g (lw_at lw_m5 147 rfl) rfl
theorem q1231 : (Jvm.Cond.code ({ cls := "RoadsNotGoneBy", name := "comesDrawn", desc := "(III)I" } : Jvm.MethodName) prog_1_method_82_code (7 : Nat) (Option.some Jvm.ClassFile.FieldType.int)) ∈ lw_all := lw_g (lw_at lw_m5 148 rfl) rfl
theorem q1232 : (Jvm.Cond.constant "RoadsNotGoneBy" (514 : Nat) (1103515245 : Int32)) ∈ lw_all := lw_g (lw_at lw_m5 149 rfl) rfl
theorem q1234 : (Jvm.Cond.instanceMethod ({ cls := "RoadsNotGoneBy", name := "chance", desc := "(IIIII)J" } : Jvm.MethodName)) ∈ lw_all := lw_g (lw_at lw_m5 151 rfl) rfl
theorem q1235 : (Jvm.Cond.selects "RoadsNotGoneBy" ({ cls := "RoadsNotGoneBy", name := "chance", desc := "(IIIII)J" } : Jvm.MethodName) ({ cls := "RoadsNotGoneBy", name := "chance", desc := "(IIIII)J" } : Jvm.MethodName)) ∈ lw_all := lw_g (lw_at lw_m5 152 rfl) rfl
theorem q1236 : (Jvm.Cond.code ({ cls := "RoadsNotGoneBy", name := "chance", desc := "(IIIII)J" } : Jvm.MethodName) prog_1_method_84_code (9 : Nat) (Option.some Jvm.ClassFile.FieldType.long)) ∈ lw_all := lw_g (lw_at lw_m5 153 rfl) rfl
theorem q1238 : (Jvm.Cond.instanceMethod ({ cls := "RoadsNotGoneBy", name := "image", desc := "()I" } : Jvm.MethodName)) ∈ lw_all := lw_g (lw_at lw_m5 155 rfl) rfl
theorem q1239 : (Jvm.Cond.selects "RoadsNotGoneBy" ({ cls := "RoadsNotGoneBy", name := "image", desc := "()I" } : Jvm.MethodName) ({ cls := "RoadsNotGoneBy", name := "image", desc := "()I" } : Jvm.MethodName)) ∈ lw_all := lw_g (lw_at lw_m5 156 rfl) rfl
theorem q1240 : (Jvm.Cond.code ({ cls := "RoadsNotGoneBy", name := "image", desc := "()I" } : Jvm.MethodName) prog_1_method_85_code (3 : Nat) (Option.some Jvm.ClassFile.FieldType.int)) ∈ lw_all := lw_g (lw_at lw_m5 157 rfl) rfl
theorem q1242 : (Jvm.Cond.instanceMethod ({ cls := "RoadsNotGoneBy", name := "back", desc := "()I" } : Jvm.MethodName)) ∈ lw_all := lw_g (lw_at lw_m5 159 rfl) rfl
theorem q1243 : (Jvm.Cond.selects "RoadsNotGoneBy" ({ cls := "RoadsNotGoneBy", name := "back", desc := "()I" } : Jvm.MethodName) ({ cls := "RoadsNotGoneBy", name := "back", desc := "()I" } : Jvm.MethodName)) ∈ lw_all := lw_g (lw_at lw_m5 160 rfl) rfl
theorem q1244 : (Jvm.Cond.code ({ cls := "RoadsNotGoneBy", name := "back", desc := "()I" } : Jvm.MethodName) prog_1_method_86_code (3 : Nat) (Option.some Jvm.ClassFile.FieldType.int)) ∈ lw_all := lw_g (lw_at lw_m5 161 rfl) rfl
theorem q1246 : (Jvm.Cond.instanceMethod ({ cls := "RoadsNotGoneBy", name := "count", desc := "(I)I" } : Jvm.MethodName)) ∈ lw_all := lw_g (lw_at lw_m5 163 rfl) rfl
theorem q1247 : (Jvm.Cond.selects "RoadsNotGoneBy" ({ cls := "RoadsNotGoneBy", name := "count", desc := "(I)I" } : Jvm.MethodName) ({ cls := "RoadsNotGoneBy", name := "count", desc := "(I)I" } : Jvm.MethodName)) ∈ lw_all := lw_g (lw_at lw_m5 164 rfl) rfl
theorem q1248 : (Jvm.Cond.code ({ cls := "RoadsNotGoneBy", name := "count", desc := "(I)I" } : Jvm.MethodName) prog_1_method_87_code (2 : Nat) (Option.some Jvm.ClassFile.FieldType.int)) ∈ lw_all := lw_g (lw_at lw_m5 165 rfl) rfl
theorem q1252 : (Jvm.Cond.instanceMethod ({ cls := "RoadsNotGoneBy", name := "copy", desc := "(IIIII)I" } : Jvm.MethodName)) ∈ lw_all := lw_g (lw_at lw_m5 169 rfl) rfl
theorem q1253 : (Jvm.Cond.selects "RoadsNotGoneBy" ({ cls := "RoadsNotGoneBy", name := "copy", desc := "(IIIII)I" } : Jvm.MethodName) ({ cls := "RoadsNotGoneBy", name := "copy", desc := "(IIIII)I" } : Jvm.MethodName)) ∈ lw_all := lw_g (lw_at lw_m5 170 rfl) rfl
theorem q1254 : (Jvm.Cond.code ({ cls := "RoadsNotGoneBy", name := "copy", desc := "(IIIII)I" } : Jvm.MethodName) prog_1_method_97_code (10 : Nat) (Option.some Jvm.ClassFile.FieldType.int)) ∈ lw_all := lw_g (lw_at lw_m5 171 rfl) rfl
theorem q1256 : (Jvm.Cond.instanceMethod ({ cls := "RoadsNotGoneBy", name := "lives", desc := "(IIII)I" } : Jvm.MethodName)) ∈ lw_all := lw_g (lw_at lw_m5 173 rfl) rfl
theorem q1257 : (Jvm.Cond.selects "RoadsNotGoneBy" ({ cls := "RoadsNotGoneBy", name := "lives", desc := "(IIII)I" } : Jvm.MethodName) ({ cls := "RoadsNotGoneBy", name := "lives", desc := "(IIII)I" } : Jvm.MethodName)) ∈ lw_all := lw_g (lw_at lw_m5 174 rfl) rfl
theorem q1258 : (Jvm.Cond.codeWith ({ cls := "RoadsNotGoneBy", name := "lives", desc := "(IIII)I" } : Jvm.MethodName) prog_1_method_99_code (6 : Nat) (Option.some Jvm.ClassFile.FieldType.int) [((35 : Nat), (52 : Nat), (53 : Nat), (553 : Nat)), ((35 : Nat), (52 : Nat), (58 : Nat), (542 : Nat)), ((35 : Nat), (52 : Nat), (63 : Nat), (544 : Nat))]) ∈ lw_all := lw_g (lw_at lw_m5 175 rfl) rfl
theorem q1259 : (Jvm.Cond.classLink "RoadsNotGoneBy" (553 : Nat) "java/lang/ClassCastException") ∈ lw_all := lw_g (lw_at lw_m5 176 rfl) rfl
theorem q1273 : (Jvm.Cond.methodLink "RoadsNotGoneBy" (550 : Nat) ({ cls := "RoadsNotGoneBy", name := "came", desc := "(Ljava/lang/Object;III)I" } : Jvm.MethodName)) ∈ lw_all := lw_g (lw_at lw_m5 190 rfl) rfl
theorem q1274 : (Jvm.Cond.privateMethod ({ cls := "RoadsNotGoneBy", name := "came", desc := "(Ljava/lang/Object;III)I" } : Jvm.MethodName)) ∈ lw_tbl := lw_at lw_m5 191 rfl
theorem q1275 : (Jvm.Cond.instanceMethod ({ cls := "RoadsNotGoneBy", name := "came", desc := "(Ljava/lang/Object;III)I" } : Jvm.MethodName)) ∈ lw_all := lw_g (lw_at lw_m5 192 rfl) rfl
theorem q1276 : (Jvm.Cond.code ({ cls := "RoadsNotGoneBy", name := "came", desc := "(Ljava/lang/Object;III)I" } : Jvm.MethodName) prog_1_method_98_code (10 : Nat) (Option.some Jvm.ClassFile.FieldType.int)) ∈ lw_all := lw_g (lw_at lw_m5 193 rfl) rfl
theorem q1277 : (Jvm.Cond.methodLink "RoadsNotGoneBy" (547 : Nat) ({ cls := "RoadsNotGoneBy", name := "life", desc := "(III)I" } : Jvm.MethodName)) ∈ lw_all := lw_g (lw_at lw_m5 194 rfl) rfl
theorem q1279 : (Jvm.Cond.instanceMethod ({ cls := "RoadsNotGoneBy", name := "taken", desc := "(II)I" } : Jvm.MethodName)) ∈ lw_all := lw_g (lw_at lw_m5 196 rfl) rfl
theorem q1280 : (Jvm.Cond.selects "RoadsNotGoneBy" ({ cls := "RoadsNotGoneBy", name := "taken", desc := "(II)I" } : Jvm.MethodName) ({ cls := "RoadsNotGoneBy", name := "taken", desc := "(II)I" } : Jvm.MethodName)) ∈ lw_all := lw_g (lw_at lw_m5 197 rfl) rfl
theorem q1281 : (Jvm.Cond.codeWith ({ cls := "RoadsNotGoneBy", name := "taken", desc := "(II)I" } : Jvm.MethodName) prog_1_method_101_code (4 : Nat) (Option.some Jvm.ClassFile.FieldType.int) [((15 : Nat), (40 : Nat), (41 : Nat), (542 : Nat)), ((15 : Nat), (40 : Nat), (45 : Nat), (553 : Nat))]) ∈ lw_all := lw_g (lw_at lw_m5 198 rfl) rfl
theorem q1282 : (Jvm.Cond.methodLink "RoadsNotGoneBy" (555 : Nat) ({ cls := "RoadsNotGoneBy", name := "as", desc := "(LRoadsNotGoneBy$Life;I)LRoadsNotGoneBy$Life;" } : Jvm.MethodName)) ∈ lw_all := lw_g (lw_at lw_m5 199 rfl) rfl
theorem q1283 : (Jvm.Cond.static ({ cls := "RoadsNotGoneBy", name := "as", desc := "(LRoadsNotGoneBy$Life;I)LRoadsNotGoneBy$Life;" } : Jvm.MethodName)) ∈ lw_all := lw_g (lw_at lw_m5 200 rfl) rfl
theorem q1284 : (Jvm.Cond.code ({ cls := "RoadsNotGoneBy", name := "as", desc := "(LRoadsNotGoneBy$Life;I)LRoadsNotGoneBy$Life;" } : Jvm.MethodName) prog_1_method_100_code (2 : Nat) (Option.some (Jvm.ClassFile.FieldType.object "RoadsNotGoneBy$Life"))) ∈ lw_all := lw_g (lw_at lw_m5 201 rfl) rfl
theorem in_X0 : ∀ w ∈ wsX00, w ∈ lw_all := lw_in wsX00 [824, 826, 828, 830, 832, 834, 836, 838, 840, 842, 844, 846, 848, 850, 852, 854, 856, 858, 860, 862, 864, 866, 868, 870, 872, 874, 876, 878, 880, 882, 884, 886, 888, 890] (by decide +kernel) (by decide +kernel)
