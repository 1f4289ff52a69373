/-! RoadsNotGoneBy$Life -/
set_option maxRecDepth 100000
def RX9 : String := "RoadsNotGoneBy$Life"
def TX9 : u_T := fun k => match k with
  | 0 => ("RoadsNotGoneBy$Life", "number", "I", false)
  | 1 => ("RoadsNotGoneBy$Life", "on", "I", false)
  | 2 => ("RoadsNotGoneBy$Life", "mood", "I", false)
  | _ => ("RoadsNotGoneBy$Life", "eaten", "I", false)
def tyX9 : Nat → FieldType := fun k => match k with
  | 0 => .int
  | 1 => .int
  | 2 => .int
  | _ => .int
abbrev wsX90 : List Cond := u_ws RX9 TX9 4
theorem nmX9 : ∀ a, a < 4 → ∀ b, b < 4 → a ≠ b → (TX9 a).2.1 ≠ (TX9 b).2.1 := by decide +kernel
theorem tyX9_ok : ∀ k, k < 4 → parseFieldDescriptor (TX9 k).2.2.1 = some (tyX9 k) := by decide +kernel
abbrev cX9_init : ByteArray := prog_7_method_1_code
def yX9_init : MethodName := ⟨RX9, "<init>", "(II)V"⟩
def dkwX9_init_0 : List UInt8 := [42, 183, 0, 1, 42, 27, 181, 0, 7, 42, 28, 181, 0, 13, 177]
abbrev dktX9_init_0 : List UInt8 := dkwX9_init_0 ++ []
theorem dksX9_init_0 : cX9_init.data.toList.drop 0 = dktX9_init_0 := by decide +kernel
theorem dX9_init_0 : decode cX9_init 0 = .ok (.aload_n 0, 1) := dk_42 (dk_at dksX9_init_0 0 rfl rfl)
theorem dX9_init_1 : decode cX9_init 1 = .ok (.invokespecial 1, 3) := dk_183 0 1 (dk_at dksX9_init_0 1 rfl rfl)
theorem dX9_init_4 : decode cX9_init 4 = .ok (.aload_n 0, 1) := dk_42 (dk_at dksX9_init_0 4 rfl rfl)
theorem dX9_init_5 : decode cX9_init 5 = .ok (.iload_n 1, 1) := dk_27 (dk_at dksX9_init_0 5 rfl rfl)
theorem dX9_init_6 : decode cX9_init 6 = .ok (.putfield 7, 3) := dk_181 0 7 (dk_at dksX9_init_0 6 rfl rfl)
theorem dX9_init_9 : decode cX9_init 9 = .ok (.aload_n 0, 1) := dk_42 (dk_at dksX9_init_0 9 rfl rfl)
theorem dX9_init_10 : decode cX9_init 10 = .ok (.iload_n 2, 1) := dk_28 (dk_at dksX9_init_0 10 rfl rfl)
theorem dX9_init_11 : decode cX9_init 11 = .ok (.putfield 13, 3) := dk_181 0 13 (dk_at dksX9_init_0 11 rfl rfl)
theorem dX9_init_14 : decode cX9_init 14 = .ok (.return_, 1) := dk_177 (dk_at dksX9_init_0 14 rfl rfl)
abbrev cX9_kind : ByteArray := prog_7_method_2_code
def yX9_kind : MethodName := ⟨RX9, "kind", "()I"⟩
theorem dX9_kind_0 : decode cX9_kind 0 = .ok (.iconst 0, 1) := by decide +kernel
theorem dX9_kind_1 : decode cX9_kind 1 = .ok (.ireturn, 1) := by decide +kernel
abbrev cX9_takes : ByteArray := prog_7_method_3_code
def yX9_takes : MethodName := ⟨RX9, "takes", "(IIII)I"⟩
def dkwX9_takes_0 : List UInt8 := [27, 5, 112, 154, 0, 7, 3, 167, 0, 4, 4, 172]
abbrev dktX9_takes_0 : List UInt8 := dkwX9_takes_0 ++ []
theorem dksX9_takes_0 : cX9_takes.data.toList.drop 0 = dktX9_takes_0 := by decide +kernel
theorem dX9_takes_0 : decode cX9_takes 0 = .ok (.iload_n 1, 1) := dk_27 (dk_at dksX9_takes_0 0 rfl rfl)
theorem dX9_takes_1 : decode cX9_takes 1 = .ok (.iconst 2, 1) := dk_5 (dk_at dksX9_takes_0 1 rfl rfl)
theorem dX9_takes_2 : decode cX9_takes 2 = .ok (.irem, 1) := dk_112 (dk_at dksX9_takes_0 2 rfl rfl)
theorem dX9_takes_3 : decode cX9_takes 3 = .ok (.ifCond .ne 7, 3) := dk_154 0 7 (dk_at dksX9_takes_0 3 rfl rfl)
theorem dX9_takes_6 : decode cX9_takes 6 = .ok (.iconst 0, 1) := dk_3 (dk_at dksX9_takes_0 6 rfl rfl)
theorem dX9_takes_7 : decode cX9_takes 7 = .ok (.goto 4, 3) := dk_167 0 4 (dk_at dksX9_takes_0 7 rfl rfl)
theorem dX9_takes_10 : decode cX9_takes 10 = .ok (.iconst 1, 1) := dk_4 (dk_at dksX9_takes_0 10 rfl rfl)
theorem dX9_takes_11 : decode cX9_takes 11 = .ok (.ireturn, 1) := dk_172 (dk_at dksX9_takes_0 11 rfl rfl)
abbrev cX9_putsBy : ByteArray := prog_7_method_4_code
def yX9_putsBy : MethodName := ⟨RX9, "putsBy", "(I)I"⟩
theorem dX9_putsBy_0 : decode cX9_putsBy 0 = .ok (.iload_n 1, 1) := by decide +kernel
theorem dX9_putsBy_1 : decode cX9_putsBy 1 = .ok (.ireturn, 1) := by decide +kernel
abbrev cX9_feels : ByteArray := prog_7_method_5_code
def yX9_feels : MethodName := ⟨RX9, "feels", "(I)I"⟩
theorem dX9_feels_0 : decode cX9_feels 0 = .ok (.iload_n 1, 1) := by decide +kernel
theorem dX9_feels_1 : decode cX9_feels 1 = .ok (.ireturn, 1) := by decide +kernel
abbrev cX9_like : ByteArray := prog_7_method_6_code
def yX9_like : MethodName := ⟨RX9, "like", "(LRoadsNotGoneBy$Life;)LRoadsNotGoneBy$Life;"⟩
def dkwX9_like_0 : List UInt8 := [42, 43, 180, 0, 16, 181, 0, 16, 42, 43, 180, 0, 19, 181, 0, 19, 42, 176]
abbrev dktX9_like_0 : List UInt8 := dkwX9_like_0 ++ []
theorem dksX9_like_0 : cX9_like.data.toList.drop 0 = dktX9_like_0 := by decide +kernel
theorem dX9_like_0 : decode cX9_like 0 = .ok (.aload_n 0, 1) := dk_42 (dk_at dksX9_like_0 0 rfl rfl)
theorem dX9_like_1 : decode cX9_like 1 = .ok (.aload_n 1, 1) := dk_43 (dk_at dksX9_like_0 1 rfl rfl)
theorem dX9_like_2 : decode cX9_like 2 = .ok (.getfield 16, 3) := dk_180 0 16 (dk_at dksX9_like_0 2 rfl rfl)
theorem dX9_like_5 : decode cX9_like 5 = .ok (.putfield 16, 3) := dk_181 0 16 (dk_at dksX9_like_0 5 rfl rfl)
theorem dX9_like_8 : decode cX9_like 8 = .ok (.aload_n 0, 1) := dk_42 (dk_at dksX9_like_0 8 rfl rfl)
theorem dX9_like_9 : decode cX9_like 9 = .ok (.aload_n 1, 1) := dk_43 (dk_at dksX9_like_0 9 rfl rfl)
theorem dX9_like_10 : decode cX9_like 10 = .ok (.getfield 19, 3) := dk_180 0 19 (dk_at dksX9_like_0 10 rfl rfl)
theorem dX9_like_13 : decode cX9_like 13 = .ok (.putfield 19, 3) := dk_181 0 19 (dk_at dksX9_like_0 13 rfl rfl)
theorem dX9_like_16 : decode cX9_like 16 = .ok (.aload_n 0, 1) := dk_42 (dk_at dksX9_like_0 16 rfl rfl)
theorem dX9_like_17 : decode cX9_like 17 = .ok (.areturn, 1) := dk_176 (dk_at dksX9_like_0 17 rfl rfl)
theorem q142 : (Jvm.Cond.initialized "RoadsNotGoneBy$Life") ∈ lw_all := lw_g (lw_at lw_m1 19 rfl) rfl
theorem q176 : (Jvm.Cond.instanceMethod ({ cls := "RoadsNotGoneBy$Life", name := "<init>", desc := "(II)V" } : Jvm.MethodName)) ∈ lw_all := lw_g (lw_at lw_m1 53 rfl) rfl
theorem q177 : (Jvm.Cond.code ({ cls := "RoadsNotGoneBy$Life", name := "<init>", desc := "(II)V" } : Jvm.MethodName) prog_7_method_1_code (3 : Nat) (Option.none : Option Jvm.ClassFile.FieldType)) ∈ lw_all := lw_g (lw_at lw_m1 54 rfl) rfl
theorem q178 : (Jvm.Cond.methodLink "RoadsNotGoneBy$Life" (1 : Nat) ({ cls := "java/lang/Object", name := "<init>", desc := "()V" } : Jvm.MethodName)) ∈ lw_all := lw_g (lw_at lw_m1 55 rfl) rfl
theorem q181 : (Jvm.Cond.fieldLink "RoadsNotGoneBy$Life" (7 : Nat) "RoadsNotGoneBy$Life" "number" "I") ∈ lw_all := lw_g (lw_at lw_m1 58 rfl) rfl
theorem q192 : (Jvm.Cond.fieldLink "RoadsNotGoneBy$Life" (13 : Nat) "RoadsNotGoneBy$Life" "on" "I") ∈ lw_all := lw_g (lw_at lw_m1 69 rfl) rfl
theorem q200 : (Jvm.Cond.fieldLink "RoadsNotGoneBy$Life" (16 : Nat) "RoadsNotGoneBy$Life" "mood" "I") ∈ lw_all := lw_g (lw_at lw_m1 77 rfl) rfl
theorem q205 : (Jvm.Cond.fieldLink "RoadsNotGoneBy$Life" (19 : Nat) "RoadsNotGoneBy$Life" "eaten" "I") ∈ lw_all := lw_g (lw_at lw_m1 82 rfl) rfl
theorem q208 : (Jvm.Cond.soleField "RoadsNotGoneBy$Life" "number") ∈ lw_all := lw_g (lw_at lw_m1 85 rfl) rfl
theorem q210 : (Jvm.Cond.soleField "RoadsNotGoneBy$Life" "on") ∈ lw_all := lw_g (lw_at lw_m1 87 rfl) rfl
theorem q212 : (Jvm.Cond.soleField "RoadsNotGoneBy$Life" "mood") ∈ lw_all := lw_g (lw_at lw_m1 89 rfl) rfl
theorem q214 : (Jvm.Cond.soleField "RoadsNotGoneBy$Life" "eaten") ∈ lw_all := lw_g (lw_at lw_m1 91 rfl) rfl
theorem q261 : (Jvm.Cond.instantiable "RoadsNotGoneBy$Life" (4 : Nat)) ∈ lw_all := lw_g (lw_at lw_m1 138 rfl) rfl
theorem q263 : (Jvm.Cond.lays "RoadsNotGoneBy$Life" "RoadsNotGoneBy$Life" "number" "I") ∈ lw_all := lw_g (lw_at lw_m1 140 rfl) rfl
theorem q264 : (Jvm.Cond.lays "RoadsNotGoneBy$Life" "RoadsNotGoneBy$Life" "on" "I") ∈ lw_all := lw_g (lw_at lw_m1 141 rfl) rfl
theorem q265 : (Jvm.Cond.lays "RoadsNotGoneBy$Life" "RoadsNotGoneBy$Life" "mood" "I") ∈ lw_all := lw_g (lw_at lw_m1 142 rfl) rfl
theorem q266 : (Jvm.Cond.lays "RoadsNotGoneBy$Life" "RoadsNotGoneBy$Life" "eaten" "I") ∈ lw_all := lw_g (lw_at lw_m1 143 rfl) rfl
theorem q267 : (Jvm.Cond.superclass "RoadsNotGoneBy$Life" "java/lang/Object") ∈ lw_all := lw_g (lw_at lw_m1 144 rfl) rfl
theorem q308 : (Jvm.Cond.instanceMethod ({ cls := "RoadsNotGoneBy$Life", name := "kind", desc := "()I" } : Jvm.MethodName)) ∈ lw_all := lw_g (lw_at lw_m1 185 rfl) rfl
theorem q309 : (Jvm.Cond.selects "RoadsNotGoneBy$Life" ({ cls := "RoadsNotGoneBy$Life", name := "kind", desc := "()I" } : Jvm.MethodName) ({ cls := "RoadsNotGoneBy$Life", name := "kind", desc := "()I" } : Jvm.MethodName)) ∈ lw_all := lw_g (lw_at lw_m1 186 rfl) rfl
theorem q310 : (Jvm.Cond.sameMethod "RoadsNotGoneBy$Life" "RoadsNotGoneBy$Life" "kind" "()I") ∈ lw_all := lw_g (lw_at lw_m1 187 rfl) rfl
theorem q318 : (Jvm.Cond.code ({ cls := "RoadsNotGoneBy$Life", name := "kind", desc := "()I" } : Jvm.MethodName) prog_7_method_2_code (1 : Nat) (Option.some Jvm.ClassFile.FieldType.int)) ∈ lw_all := lw_g (lw_at lw_m1 195 rfl) rfl
theorem q367 : (Jvm.Cond.instanceMethod ({ cls := "RoadsNotGoneBy$Life", name := "takes", desc := "(IIII)I" } : Jvm.MethodName)) ∈ lw_all := lw_g (lw_at lw_m2 4 rfl) rfl
theorem q368 : (Jvm.Cond.selects "RoadsNotGoneBy$Life" ({ cls := "RoadsNotGoneBy$Life", name := "takes", desc := "(IIII)I" } : Jvm.MethodName) ({ cls := "RoadsNotGoneBy$Life", name := "takes", desc := "(IIII)I" } : Jvm.MethodName)) ∈ lw_all := lw_g (lw_at lw_m2 5 rfl) rfl
theorem q369 : (Jvm.Cond.sameMethod "RoadsNotGoneBy$Life" "RoadsNotGoneBy$Life" "takes" "(IIII)I") ∈ lw_all := lw_g (lw_at lw_m2 6 rfl) rfl
theorem q381 : (Jvm.Cond.code ({ cls := "RoadsNotGoneBy$Life", name := "takes", desc := "(IIII)I" } : Jvm.MethodName) prog_7_method_3_code (5 : Nat) (Option.some Jvm.ClassFile.FieldType.int)) ∈ lw_all := lw_g (lw_at lw_m2 18 rfl) rfl
theorem q394 : (Jvm.Cond.instanceMethod ({ cls := "RoadsNotGoneBy$Life", name := "putsBy", desc := "(I)I" } : Jvm.MethodName)) ∈ lw_all := lw_g (lw_at lw_m2 31 rfl) rfl
theorem q395 : (Jvm.Cond.selects "RoadsNotGoneBy$Life" ({ cls := "RoadsNotGoneBy$Life", name := "putsBy", desc := "(I)I" } : Jvm.MethodName) ({ cls := "RoadsNotGoneBy$Life", name := "putsBy", desc := "(I)I" } : Jvm.MethodName)) ∈ lw_all := lw_g (lw_at lw_m2 32 rfl) rfl
theorem q396 : (Jvm.Cond.sameMethod "RoadsNotGoneBy$Life" "RoadsNotGoneBy$Life" "putsBy" "(I)I") ∈ lw_all := lw_g (lw_at lw_m2 33 rfl) rfl
theorem q404 : (Jvm.Cond.code ({ cls := "RoadsNotGoneBy$Life", name := "putsBy", desc := "(I)I" } : Jvm.MethodName) prog_7_method_4_code (2 : Nat) (Option.some Jvm.ClassFile.FieldType.int)) ∈ lw_all := lw_g (lw_at lw_m2 41 rfl) rfl
theorem q910 : (Jvm.Cond.instanceMethod ({ cls := "RoadsNotGoneBy$Life", name := "feels", desc := "(I)I" } : Jvm.MethodName)) ∈ lw_all := lw_g (lw_at lw_m4 67 rfl) rfl
theorem q911 : (Jvm.Cond.selects "RoadsNotGoneBy$Life" ({ cls := "RoadsNotGoneBy$Life", name := "feels", desc := "(I)I" } : Jvm.MethodName) ({ cls := "RoadsNotGoneBy$Life", name := "feels", desc := "(I)I" } : Jvm.MethodName)) ∈ lw_all := lw_g (lw_at lw_m4 68 rfl) rfl
theorem q912 : (Jvm.Cond.sameMethod "RoadsNotGoneBy$Life" "RoadsNotGoneBy$Life" "feels" "(I)I") ∈ lw_all := lw_g (lw_at lw_m4 69 rfl) rfl
theorem q920 : (Jvm.Cond.code ({ cls := "RoadsNotGoneBy$Life", name := "feels", desc := "(I)I" } : Jvm.MethodName) prog_7_method_5_code (2 : Nat) (Option.some Jvm.ClassFile.FieldType.int)) ∈ lw_all := lw_g (lw_at lw_m4 77 rfl) rfl
theorem q1111 : (Jvm.Cond.instanceMethod ({ cls := "RoadsNotGoneBy$Life", name := "like", desc := "(LRoadsNotGoneBy$Life;)LRoadsNotGoneBy$Life;" } : Jvm.MethodName)) ∈ lw_all := lw_g (lw_at lw_m5 28 rfl) rfl
theorem q1112 : (Jvm.Cond.selects "RoadsNotGoneBy$Life" ({ cls := "RoadsNotGoneBy$Life", name := "like", desc := "(LRoadsNotGoneBy$Life;)LRoadsNotGoneBy$Life;" } : Jvm.MethodName) ({ cls := "RoadsNotGoneBy$Life", name := "like", desc := "(LRoadsNotGoneBy$Life;)LRoadsNotGoneBy$Life;" } : Jvm.MethodName)) ∈ lw_all := lw_g (lw_at lw_m5 29 rfl) rfl
theorem q1113 : (Jvm.Cond.sameMethod "RoadsNotGoneBy$Life" "RoadsNotGoneBy$Life" "like" "(LRoadsNotGoneBy$Life;)LRoadsNotGoneBy$Life;") ∈ lw_all := lw_g (lw_at lw_m5 30 rfl) rfl
theorem q1119 : (Jvm.Cond.code ({ cls := "RoadsNotGoneBy$Life", name := "like", desc := "(LRoadsNotGoneBy$Life;)LRoadsNotGoneBy$Life;" } : Jvm.MethodName) prog_7_method_6_code (2 : Nat) (Option.some (Jvm.ClassFile.FieldType.object "RoadsNotGoneBy$Life"))) ∈ lw_all := lw_g (lw_at lw_m5 36 rfl) rfl
theorem in_X9 : ∀ w ∈ wsX90, w ∈ lw_all := lw_in wsX90 [263, 264, 265, 266] (by decide +kernel) (by decide +kernel)
/-! RoadsNotGoneBy$Engineer -/
set_option maxRecDepth 100000
def RX10 : String := "RoadsNotGoneBy$Engineer"
def TX10 : u_T := fun k => match k with
  | 0 => ("RoadsNotGoneBy$Life", "number", "I", false)
  | 1 => ("RoadsNotGoneBy$Life", "on", "I", false)
  | 2 => ("RoadsNotGoneBy$Life", "mood", "I", false)
  | _ => ("RoadsNotGoneBy$Life", "eaten", "I", false)
def tyX10 : Nat → FieldType := fun k => match k with
  | 0 => .int
  | 1 => .int
  | 2 => .int
  | _ => .int
abbrev wsX100 : List Cond := u_ws RX10 TX10 4
theorem nmX10 : ∀ a, a < 4 → ∀ b, b < 4 → a ≠ b → (TX10 a).2.1 ≠ (TX10 b).2.1 := by decide +kernel
theorem tyX10_ok : ∀ k, k < 4 → parseFieldDescriptor (TX10 k).2.2.1 = some (tyX10 k) := by decide +kernel
abbrev cX10_init : ByteArray := prog_4_method_1_code
def yX10_init : MethodName := ⟨RX10, "<init>", "(II)V"⟩
def dkwX10_init_0 : List UInt8 := [42, 27, 28, 183, 0, 1, 177]
abbrev dktX10_init_0 : List UInt8 := dkwX10_init_0 ++ []
theorem dksX10_init_0 : cX10_init.data.toList.drop 0 = dktX10_init_0 := by decide +kernel
theorem dX10_init_0 : decode cX10_init 0 = .ok (.aload_n 0, 1) := dk_42 (dk_at dksX10_init_0 0 rfl rfl)
theorem dX10_init_1 : decode cX10_init 1 = .ok (.iload_n 1, 1) := dk_27 (dk_at dksX10_init_0 1 rfl rfl)
theorem dX10_init_2 : decode cX10_init 2 = .ok (.iload_n 2, 1) := dk_28 (dk_at dksX10_init_0 2 rfl rfl)
theorem dX10_init_3 : decode cX10_init 3 = .ok (.invokespecial 1, 3) := dk_183 0 1 (dk_at dksX10_init_0 3 rfl rfl)
theorem dX10_init_6 : decode cX10_init 6 = .ok (.return_, 1) := dk_177 (dk_at dksX10_init_0 6 rfl rfl)
abbrev cX10_kind : ByteArray := prog_4_method_2_code
def yX10_kind : MethodName := ⟨RX10, "kind", "()I"⟩
def dkwX10_kind_0 : List UInt8 := [42, 183, 0, 7, 4, 96, 172]
abbrev dktX10_kind_0 : List UInt8 := dkwX10_kind_0 ++ []
theorem dksX10_kind_0 : cX10_kind.data.toList.drop 0 = dktX10_kind_0 := by decide +kernel
theorem dX10_kind_0 : decode cX10_kind 0 = .ok (.aload_n 0, 1) := dk_42 (dk_at dksX10_kind_0 0 rfl rfl)
theorem dX10_kind_1 : decode cX10_kind 1 = .ok (.invokespecial 7, 3) := dk_183 0 7 (dk_at dksX10_kind_0 1 rfl rfl)
theorem dX10_kind_4 : decode cX10_kind 4 = .ok (.iconst 1, 1) := dk_4 (dk_at dksX10_kind_0 4 rfl rfl)
theorem dX10_kind_5 : decode cX10_kind 5 = .ok (.iadd, 1) := dk_96 (dk_at dksX10_kind_0 5 rfl rfl)
theorem dX10_kind_6 : decode cX10_kind 6 = .ok (.ireturn, 1) := dk_172 (dk_at dksX10_kind_0 6 rfl rfl)
abbrev cX10_takes : ByteArray := prog_4_method_3_code
def yX10_takes : MethodName := ⟨RX10, "takes", "(IIII)I"⟩
def dkwX10_takes_1 : List UInt8 := [172]
abbrev dktX10_takes_1 : List UInt8 := dkwX10_takes_1 ++ []
def dkwX10_takes_0 : List UInt8 := [42, 180, 0, 11, 42, 180, 0, 17, 160, 0, 7, 4, 167, 0, 12, 42, 27, 28, 29, 21, 4, 183, 0, 20]
abbrev dktX10_takes_0 : List UInt8 := dkwX10_takes_0 ++ dktX10_takes_1
theorem dksX10_takes_0 : cX10_takes.data.toList.drop 0 = dktX10_takes_0 := by decide +kernel
theorem dksX10_takes_1 : cX10_takes.data.toList.drop 24 = dktX10_takes_1 := dk_seg dksX10_takes_0 24 rfl rfl
theorem dX10_takes_0 : decode cX10_takes 0 = .ok (.aload_n 0, 1) := dk_42 (dk_at dksX10_takes_0 0 rfl rfl)
theorem dX10_takes_1 : decode cX10_takes 1 = .ok (.getfield 11, 3) := dk_180 0 11 (dk_at dksX10_takes_0 1 rfl rfl)
theorem dX10_takes_4 : decode cX10_takes 4 = .ok (.aload_n 0, 1) := dk_42 (dk_at dksX10_takes_0 4 rfl rfl)
theorem dX10_takes_5 : decode cX10_takes 5 = .ok (.getfield 17, 3) := dk_180 0 17 (dk_at dksX10_takes_0 5 rfl rfl)
theorem dX10_takes_8 : decode cX10_takes 8 = .ok (.if_icmp .ne 7, 3) := dk_160 0 7 (dk_at dksX10_takes_0 8 rfl rfl)
theorem dX10_takes_11 : decode cX10_takes 11 = .ok (.iconst 1, 1) := dk_4 (dk_at dksX10_takes_0 11 rfl rfl)
theorem dX10_takes_12 : decode cX10_takes 12 = .ok (.goto 12, 3) := dk_167 0 12 (dk_at dksX10_takes_0 12 rfl rfl)
theorem dX10_takes_15 : decode cX10_takes 15 = .ok (.aload_n 0, 1) := dk_42 (dk_at dksX10_takes_0 15 rfl rfl)
theorem dX10_takes_16 : decode cX10_takes 16 = .ok (.iload_n 1, 1) := dk_27 (dk_at dksX10_takes_0 16 rfl rfl)
theorem dX10_takes_17 : decode cX10_takes 17 = .ok (.iload_n 2, 1) := dk_28 (dk_at dksX10_takes_0 17 rfl rfl)
theorem dX10_takes_18 : decode cX10_takes 18 = .ok (.iload_n 3, 1) := dk_29 (dk_at dksX10_takes_0 18 rfl rfl)
theorem dX10_takes_19 : decode cX10_takes 19 = .ok (.iload 4, 2) := dk_21 4 (dk_at dksX10_takes_0 19 rfl rfl)
theorem dX10_takes_21 : decode cX10_takes 21 = .ok (.invokespecial 20, 3) := dk_183 0 20 (dk_at dksX10_takes_0 21 rfl rfl)
theorem dX10_takes_24 : decode cX10_takes 24 = .ok (.ireturn, 1) := dk_172 (dk_at dksX10_takes_1 0 rfl rfl)
abbrev cX10_putsBy : ByteArray := prog_4_method_4_code
def yX10_putsBy : MethodName := ⟨RX10, "putsBy", "(I)I"⟩
def dkwX10_putsBy_0 : List UInt8 := [5, 42, 27, 183, 0, 24, 104, 172]
abbrev dktX10_putsBy_0 : List UInt8 := dkwX10_putsBy_0 ++ []
theorem dksX10_putsBy_0 : cX10_putsBy.data.toList.drop 0 = dktX10_putsBy_0 := by decide +kernel
theorem dX10_putsBy_0 : decode cX10_putsBy 0 = .ok (.iconst 2, 1) := dk_5 (dk_at dksX10_putsBy_0 0 rfl rfl)
theorem dX10_putsBy_1 : decode cX10_putsBy 1 = .ok (.aload_n 0, 1) := dk_42 (dk_at dksX10_putsBy_0 1 rfl rfl)
theorem dX10_putsBy_2 : decode cX10_putsBy 2 = .ok (.iload_n 1, 1) := dk_27 (dk_at dksX10_putsBy_0 2 rfl rfl)
theorem dX10_putsBy_3 : decode cX10_putsBy 3 = .ok (.invokespecial 24, 3) := dk_183 0 24 (dk_at dksX10_putsBy_0 3 rfl rfl)
theorem dX10_putsBy_6 : decode cX10_putsBy 6 = .ok (.imul, 1) := dk_104 (dk_at dksX10_putsBy_0 6 rfl rfl)
theorem dX10_putsBy_7 : decode cX10_putsBy 7 = .ok (.ireturn, 1) := dk_172 (dk_at dksX10_putsBy_0 7 rfl rfl)
abbrev cX10_feels : ByteArray := prog_4_method_5_code
def yX10_feels : MethodName := ⟨RX10, "feels", "(I)I"⟩
def dkwX10_feels_0 : List UInt8 := [3, 42, 27, 183, 0, 28, 184, 0, 31, 172]
abbrev dktX10_feels_0 : List UInt8 := dkwX10_feels_0 ++ []
theorem dksX10_feels_0 : cX10_feels.data.toList.drop 0 = dktX10_feels_0 := by decide +kernel
theorem dX10_feels_0 : decode cX10_feels 0 = .ok (.iconst 0, 1) := dk_3 (dk_at dksX10_feels_0 0 rfl rfl)
theorem dX10_feels_1 : decode cX10_feels 1 = .ok (.aload_n 0, 1) := dk_42 (dk_at dksX10_feels_0 1 rfl rfl)
theorem dX10_feels_2 : decode cX10_feels 2 = .ok (.iload_n 1, 1) := dk_27 (dk_at dksX10_feels_0 2 rfl rfl)
theorem dX10_feels_3 : decode cX10_feels 3 = .ok (.invokespecial 28, 3) := dk_183 0 28 (dk_at dksX10_feels_0 3 rfl rfl)
theorem dX10_feels_6 : decode cX10_feels 6 = .ok (.invokestatic 31, 3) := dk_184 0 31 (dk_at dksX10_feels_0 6 rfl rfl)
theorem dX10_feels_9 : decode cX10_feels 9 = .ok (.ireturn, 1) := dk_172 (dk_at dksX10_feels_0 9 rfl rfl)
theorem q143 : (Jvm.Cond.initialized "RoadsNotGoneBy$Engineer") ∈ lw_all := lw_g (lw_at lw_m1 20 rfl) rfl
theorem q171 : (Jvm.Cond.instantiable "RoadsNotGoneBy$Engineer" (4 : Nat)) ∈ lw_all := lw_g (lw_at lw_m1 48 rfl) rfl
theorem q173 : (Jvm.Cond.instanceMethod ({ cls := "RoadsNotGoneBy$Engineer", name := "<init>", desc := "(II)V" } : Jvm.MethodName)) ∈ lw_all := lw_g (lw_at lw_m1 50 rfl) rfl
theorem q174 : (Jvm.Cond.code ({ cls := "RoadsNotGoneBy$Engineer", name := "<init>", desc := "(II)V" } : Jvm.MethodName) prog_4_method_1_code (3 : Nat) (Option.none : Option Jvm.ClassFile.FieldType)) ∈ lw_all := lw_g (lw_at lw_m1 51 rfl) rfl
theorem q175 : (Jvm.Cond.methodLink "RoadsNotGoneBy$Engineer" (1 : Nat) ({ cls := "RoadsNotGoneBy$Life", name := "<init>", desc := "(II)V" } : Jvm.MethodName)) ∈ lw_all := lw_g (lw_at lw_m1 52 rfl) rfl
theorem q185 : (Jvm.Cond.fieldLink "RoadsNotGoneBy$Engineer" (17 : Nat) "RoadsNotGoneBy$Engineer" "number" "I") ∈ lw_all := lw_g (lw_at lw_m1 62 rfl) rfl
theorem q186 : (Jvm.Cond.sameField "RoadsNotGoneBy$Engineer" "RoadsNotGoneBy$Life" "number" "I") ∈ lw_all := lw_g (lw_at lw_m1 63 rfl) rfl
theorem q194 : (Jvm.Cond.fieldLink "RoadsNotGoneBy$Engineer" (11 : Nat) "RoadsNotGoneBy$Engineer" "on" "I") ∈ lw_all := lw_g (lw_at lw_m1 71 rfl) rfl
theorem q195 : (Jvm.Cond.sameField "RoadsNotGoneBy$Engineer" "RoadsNotGoneBy$Life" "on" "I") ∈ lw_all := lw_g (lw_at lw_m1 72 rfl) rfl
theorem q207 : (Jvm.Cond.lays "RoadsNotGoneBy$Engineer" "RoadsNotGoneBy$Life" "number" "I") ∈ lw_all := lw_g (lw_at lw_m1 84 rfl) rfl
theorem q209 : (Jvm.Cond.lays "RoadsNotGoneBy$Engineer" "RoadsNotGoneBy$Life" "on" "I") ∈ lw_all := lw_g (lw_at lw_m1 86 rfl) rfl
theorem q211 : (Jvm.Cond.lays "RoadsNotGoneBy$Engineer" "RoadsNotGoneBy$Life" "mood" "I") ∈ lw_all := lw_g (lw_at lw_m1 88 rfl) rfl
theorem q213 : (Jvm.Cond.lays "RoadsNotGoneBy$Engineer" "RoadsNotGoneBy$Life" "eaten" "I") ∈ lw_all := lw_g (lw_at lw_m1 90 rfl) rfl
theorem q215 : (Jvm.Cond.superclass "RoadsNotGoneBy$Engineer" "RoadsNotGoneBy$Life") ∈ lw_all := lw_g (lw_at lw_m1 92 rfl) rfl
theorem q320 : (Jvm.Cond.selects "RoadsNotGoneBy$Engineer" ({ cls := "RoadsNotGoneBy$Life", name := "kind", desc := "()I" } : Jvm.MethodName) ({ cls := "RoadsNotGoneBy$Engineer", name := "kind", desc := "()I" } : Jvm.MethodName)) ∈ lw_all := lw_g (lw_at lw_m1 197 rfl) rfl
theorem q321 : (Jvm.Cond.instanceMethod ({ cls := "RoadsNotGoneBy$Engineer", name := "kind", desc := "()I" } : Jvm.MethodName)) ∈ lw_all := lw_g (lw_at lw_m1 198 rfl) rfl
theorem q322 : (Jvm.Cond.code ({ cls := "RoadsNotGoneBy$Engineer", name := "kind", desc := "()I" } : Jvm.MethodName) prog_4_method_2_code (1 : Nat) (Option.some Jvm.ClassFile.FieldType.int)) ∈ lw_all := lw_g (lw_at lw_m1 199 rfl) rfl
theorem q323 : (Jvm.Cond.methodLink "RoadsNotGoneBy$Engineer" (7 : Nat) ({ cls := "RoadsNotGoneBy$Life", name := "kind", desc := "()I" } : Jvm.MethodName)) ∈ lw_all := lw_g (lw_at lw_m1 200 rfl) rfl
theorem q377 : (Jvm.Cond.selects "RoadsNotGoneBy$Engineer" ({ cls := "RoadsNotGoneBy$Life", name := "takes", desc := "(IIII)I" } : Jvm.MethodName) ({ cls := "RoadsNotGoneBy$Engineer", name := "takes", desc := "(IIII)I" } : Jvm.MethodName)) ∈ lw_all := lw_g (lw_at lw_m2 14 rfl) rfl
theorem q378 : (Jvm.Cond.instanceMethod ({ cls := "RoadsNotGoneBy$Engineer", name := "takes", desc := "(IIII)I" } : Jvm.MethodName)) ∈ lw_all := lw_g (lw_at lw_m2 15 rfl) rfl
theorem q379 : (Jvm.Cond.code ({ cls := "RoadsNotGoneBy$Engineer", name := "takes", desc := "(IIII)I" } : Jvm.MethodName) prog_4_method_3_code (5 : Nat) (Option.some Jvm.ClassFile.FieldType.int)) ∈ lw_all := lw_g (lw_at lw_m2 16 rfl) rfl
theorem q380 : (Jvm.Cond.methodLink "RoadsNotGoneBy$Engineer" (20 : Nat) ({ cls := "RoadsNotGoneBy$Life", name := "takes", desc := "(IIII)I" } : Jvm.MethodName)) ∈ lw_all := lw_g (lw_at lw_m2 17 rfl) rfl
theorem q406 : (Jvm.Cond.selects "RoadsNotGoneBy$Engineer" ({ cls := "RoadsNotGoneBy$Life", name := "putsBy", desc := "(I)I" } : Jvm.MethodName) ({ cls := "RoadsNotGoneBy$Engineer", name := "putsBy", desc := "(I)I" } : Jvm.MethodName)) ∈ lw_all := lw_g (lw_at lw_m2 43 rfl) rfl
theorem q407 : (Jvm.Cond.instanceMethod ({ cls := "RoadsNotGoneBy$Engineer", name := "putsBy", desc := "(I)I" } : Jvm.MethodName)) ∈ lw_all := lw_g (lw_at lw_m2 44 rfl) rfl
theorem q408 : (Jvm.Cond.code ({ cls := "RoadsNotGoneBy$Engineer", name := "putsBy", desc := "(I)I" } : Jvm.MethodName) prog_4_method_4_code (2 : Nat) (Option.some Jvm.ClassFile.FieldType.int)) ∈ lw_all := lw_g (lw_at lw_m2 45 rfl) rfl
theorem q409 : (Jvm.Cond.methodLink "RoadsNotGoneBy$Engineer" (24 : Nat) ({ cls := "RoadsNotGoneBy$Life", name := "putsBy", desc := "(I)I" } : Jvm.MethodName)) ∈ lw_all := lw_g (lw_at lw_m2 46 rfl) rfl
theorem q922 : (Jvm.Cond.selects "RoadsNotGoneBy$Engineer" ({ cls := "RoadsNotGoneBy$Life", name := "feels", desc := "(I)I" } : Jvm.MethodName) ({ cls := "RoadsNotGoneBy$Engineer", name := "feels", desc := "(I)I" } : Jvm.MethodName)) ∈ lw_all := lw_g (lw_at lw_m4 79 rfl) rfl
theorem q923 : (Jvm.Cond.instanceMethod ({ cls := "RoadsNotGoneBy$Engineer", name := "feels", desc := "(I)I" } : Jvm.MethodName)) ∈ lw_all := lw_g (lw_at lw_m4 80 rfl) rfl
theorem q924 : (Jvm.Cond.code ({ cls := "RoadsNotGoneBy$Engineer", name := "feels", desc := "(I)I" } : Jvm.MethodName) prog_4_method_5_code (2 : Nat) (Option.some Jvm.ClassFile.FieldType.int)) ∈ lw_all := lw_g (lw_at lw_m4 81 rfl) rfl
theorem q925 : (Jvm.Cond.methodLink "RoadsNotGoneBy$Engineer" (28 : Nat) ({ cls := "RoadsNotGoneBy$Life", name := "feels", desc := "(I)I" } : Jvm.MethodName)) ∈ lw_all := lw_g (lw_at lw_m4 82 rfl) rfl
theorem q926 : (Jvm.Cond.methodLink "RoadsNotGoneBy$Engineer" (31 : Nat) ({ cls := "java/lang/Math", name := "max", desc := "(II)I" } : Jvm.MethodName)) ∈ lw_all := lw_g (lw_at lw_m4 83 rfl) rfl
theorem q1116 : (Jvm.Cond.selects "RoadsNotGoneBy$Engineer" ({ cls := "RoadsNotGoneBy$Life", name := "like", desc := "(LRoadsNotGoneBy$Life;)LRoadsNotGoneBy$Life;" } : Jvm.MethodName) ({ cls := "RoadsNotGoneBy$Life", name := "like", desc := "(LRoadsNotGoneBy$Life;)LRoadsNotGoneBy$Life;" } : Jvm.MethodName)) ∈ lw_all := lw_g (lw_at lw_m5 33 rfl) rfl
theorem q1860 : (Jvm.Cond.sameMethod "RoadsNotGoneBy$Engineer" "RoadsNotGoneBy$Engineer" "kind" "()I") ∈ lw_all := lw_g (lw_at lw_m8 57 rfl) rfl
theorem q1862 : (Jvm.Cond.sameMethod "RoadsNotGoneBy$Engineer" "RoadsNotGoneBy$Engineer" "takes" "(IIII)I") ∈ lw_all := lw_g (lw_at lw_m8 59 rfl) rfl
theorem q1864 : (Jvm.Cond.sameMethod "RoadsNotGoneBy$Engineer" "RoadsNotGoneBy$Engineer" "putsBy" "(I)I") ∈ lw_all := lw_g (lw_at lw_m8 61 rfl) rfl
theorem q1867 : (Jvm.Cond.sameMethod "RoadsNotGoneBy$Engineer" "RoadsNotGoneBy$Engineer" "feels" "(I)I") ∈ lw_all := lw_g (lw_at lw_m8 64 rfl) rfl
theorem q1875 : (Jvm.Cond.castable "RoadsNotGoneBy$Engineer" "RoadsNotGoneBy$Life") ∈ lw_tbl := lw_at lw_m8 72 rfl
theorem in_X10 : ∀ w ∈ wsX100, w ∈ lw_all := lw_in wsX100 [207, 209, 211, 213] (by decide +kernel) (by decide +kernel)
/-! RoadsNotGoneBy$Clergyman -/
set_option maxRecDepth 100000
def RX11 : String := "RoadsNotGoneBy$Clergyman"
def TX11 : u_T := fun k => match k with
  | 0 => ("RoadsNotGoneBy$Life", "number", "I", false)
  | 1 => ("RoadsNotGoneBy$Life", "on", "I", false)
  | 2 => ("RoadsNotGoneBy$Life", "mood", "I", false)
  | _ => ("RoadsNotGoneBy$Life", "eaten", "I", false)
def tyX11 : Nat → FieldType := fun k => match k with
  | 0 => .int
  | 1 => .int
  | 2 => .int
  | _ => .int
abbrev wsX110 : List Cond := u_ws RX11 TX11 4
theorem nmX11 : ∀ a, a < 4 → ∀ b, b < 4 → a ≠ b → (TX11 a).2.1 ≠ (TX11 b).2.1 := by decide +kernel
theorem tyX11_ok : ∀ k, k < 4 → parseFieldDescriptor (TX11 k).2.2.1 = some (tyX11 k) := by decide +kernel
abbrev cX11_init : ByteArray := prog_3_method_1_code
def yX11_init : MethodName := ⟨RX11, "<init>", "(II)V"⟩
def dkwX11_init_0 : List UInt8 := [42, 27, 28, 183, 0, 1, 177]
abbrev dktX11_init_0 : List UInt8 := dkwX11_init_0 ++ []
theorem dksX11_init_0 : cX11_init.data.toList.drop 0 = dktX11_init_0 := by decide +kernel
theorem dX11_init_0 : decode cX11_init 0 = .ok (.aload_n 0, 1) := dk_42 (dk_at dksX11_init_0 0 rfl rfl)
theorem dX11_init_1 : decode cX11_init 1 = .ok (.iload_n 1, 1) := dk_27 (dk_at dksX11_init_0 1 rfl rfl)
theorem dX11_init_2 : decode cX11_init 2 = .ok (.iload_n 2, 1) := dk_28 (dk_at dksX11_init_0 2 rfl rfl)
theorem dX11_init_3 : decode cX11_init 3 = .ok (.invokespecial 1, 3) := dk_183 0 1 (dk_at dksX11_init_0 3 rfl rfl)
theorem dX11_init_6 : decode cX11_init 6 = .ok (.return_, 1) := dk_177 (dk_at dksX11_init_0 6 rfl rfl)
abbrev cX11_kind : ByteArray := prog_3_method_2_code
def yX11_kind : MethodName := ⟨RX11, "kind", "()I"⟩
def dkwX11_kind_0 : List UInt8 := [42, 183, 0, 7, 5, 96, 172]
abbrev dktX11_kind_0 : List UInt8 := dkwX11_kind_0 ++ []
theorem dksX11_kind_0 : cX11_kind.data.toList.drop 0 = dktX11_kind_0 := by decide +kernel
theorem dX11_kind_0 : decode cX11_kind 0 = .ok (.aload_n 0, 1) := dk_42 (dk_at dksX11_kind_0 0 rfl rfl)
theorem dX11_kind_1 : decode cX11_kind 1 = .ok (.invokespecial 7, 3) := dk_183 0 7 (dk_at dksX11_kind_0 1 rfl rfl)
theorem dX11_kind_4 : decode cX11_kind 4 = .ok (.iconst 2, 1) := dk_5 (dk_at dksX11_kind_0 4 rfl rfl)
theorem dX11_kind_5 : decode cX11_kind 5 = .ok (.iadd, 1) := dk_96 (dk_at dksX11_kind_0 5 rfl rfl)
theorem dX11_kind_6 : decode cX11_kind 6 = .ok (.ireturn, 1) := dk_172 (dk_at dksX11_kind_0 6 rfl rfl)
abbrev cX11_takes : ByteArray := prog_3_method_3_code
def yX11_takes : MethodName := ⟨RX11, "takes", "(IIII)I"⟩
def dkwX11_takes_0 : List UInt8 := [28, 29, 163, 0, 7, 3, 167, 0, 4, 4, 172]
abbrev dktX11_takes_0 : List UInt8 := dkwX11_takes_0 ++ []
theorem dksX11_takes_0 : cX11_takes.data.toList.drop 0 = dktX11_takes_0 := by decide +kernel
theorem dX11_takes_0 : decode cX11_takes 0 = .ok (.iload_n 2, 1) := dk_28 (dk_at dksX11_takes_0 0 rfl rfl)
theorem dX11_takes_1 : decode cX11_takes 1 = .ok (.iload_n 3, 1) := dk_29 (dk_at dksX11_takes_0 1 rfl rfl)
theorem dX11_takes_2 : decode cX11_takes 2 = .ok (.if_icmp .gt 7, 3) := dk_163 0 7 (dk_at dksX11_takes_0 2 rfl rfl)
theorem dX11_takes_5 : decode cX11_takes 5 = .ok (.iconst 0, 1) := dk_3 (dk_at dksX11_takes_0 5 rfl rfl)
theorem dX11_takes_6 : decode cX11_takes 6 = .ok (.goto 4, 3) := dk_167 0 4 (dk_at dksX11_takes_0 6 rfl rfl)
theorem dX11_takes_9 : decode cX11_takes 9 = .ok (.iconst 1, 1) := dk_4 (dk_at dksX11_takes_0 9 rfl rfl)
theorem dX11_takes_10 : decode cX11_takes 10 = .ok (.ireturn, 1) := dk_172 (dk_at dksX11_takes_0 10 rfl rfl)
abbrev cX11_putsBy : ByteArray := prog_3_method_4_code
def yX11_putsBy : MethodName := ⟨RX11, "putsBy", "(I)I"⟩
def dkwX11_putsBy_0 : List UInt8 := [42, 27, 183, 0, 11, 4, 96, 172]
abbrev dktX11_putsBy_0 : List UInt8 := dkwX11_putsBy_0 ++ []
theorem dksX11_putsBy_0 : cX11_putsBy.data.toList.drop 0 = dktX11_putsBy_0 := by decide +kernel
theorem dX11_putsBy_0 : decode cX11_putsBy 0 = .ok (.aload_n 0, 1) := dk_42 (dk_at dksX11_putsBy_0 0 rfl rfl)
theorem dX11_putsBy_1 : decode cX11_putsBy 1 = .ok (.iload_n 1, 1) := dk_27 (dk_at dksX11_putsBy_0 1 rfl rfl)
theorem dX11_putsBy_2 : decode cX11_putsBy 2 = .ok (.invokespecial 11, 3) := dk_183 0 11 (dk_at dksX11_putsBy_0 2 rfl rfl)
theorem dX11_putsBy_5 : decode cX11_putsBy 5 = .ok (.iconst 1, 1) := dk_4 (dk_at dksX11_putsBy_0 5 rfl rfl)
theorem dX11_putsBy_6 : decode cX11_putsBy 6 = .ok (.iadd, 1) := dk_96 (dk_at dksX11_putsBy_0 6 rfl rfl)
theorem dX11_putsBy_7 : decode cX11_putsBy 7 = .ok (.ireturn, 1) := dk_172 (dk_at dksX11_putsBy_0 7 rfl rfl)
abbrev cX11_feels : ByteArray := prog_3_method_5_code
def yX11_feels : MethodName := ⟨RX11, "feels", "(I)I"⟩
def dkwX11_feels_0 : List UInt8 := [42, 180, 0, 15, 6, 161, 0, 12, 42, 27, 183, 0, 21, 116, 167, 0, 8, 42, 27, 183, 0, 21, 172]
abbrev dktX11_feels_0 : List UInt8 := dkwX11_feels_0 ++ []
theorem dksX11_feels_0 : cX11_feels.data.toList.drop 0 = dktX11_feels_0 := by decide +kernel
theorem dX11_feels_0 : decode cX11_feels 0 = .ok (.aload_n 0, 1) := dk_42 (dk_at dksX11_feels_0 0 rfl rfl)
theorem dX11_feels_1 : decode cX11_feels 1 = .ok (.getfield 15, 3) := dk_180 0 15 (dk_at dksX11_feels_0 1 rfl rfl)
theorem dX11_feels_4 : decode cX11_feels 4 = .ok (.iconst 3, 1) := dk_6 (dk_at dksX11_feels_0 4 rfl rfl)
theorem dX11_feels_5 : decode cX11_feels 5 = .ok (.if_icmp .lt 12, 3) := dk_161 0 12 (dk_at dksX11_feels_0 5 rfl rfl)
theorem dX11_feels_8 : decode cX11_feels 8 = .ok (.aload_n 0, 1) := dk_42 (dk_at dksX11_feels_0 8 rfl rfl)
theorem dX11_feels_9 : decode cX11_feels 9 = .ok (.iload_n 1, 1) := dk_27 (dk_at dksX11_feels_0 9 rfl rfl)
theorem dX11_feels_10 : decode cX11_feels 10 = .ok (.invokespecial 21, 3) := dk_183 0 21 (dk_at dksX11_feels_0 10 rfl rfl)
theorem dX11_feels_13 : decode cX11_feels 13 = .ok (.ineg, 1) := dk_116 (dk_at dksX11_feels_0 13 rfl rfl)
theorem dX11_feels_14 : decode cX11_feels 14 = .ok (.goto 8, 3) := dk_167 0 8 (dk_at dksX11_feels_0 14 rfl rfl)
theorem dX11_feels_17 : decode cX11_feels 17 = .ok (.aload_n 0, 1) := dk_42 (dk_at dksX11_feels_0 17 rfl rfl)
theorem dX11_feels_18 : decode cX11_feels 18 = .ok (.iload_n 1, 1) := dk_27 (dk_at dksX11_feels_0 18 rfl rfl)
theorem dX11_feels_19 : decode cX11_feels 19 = .ok (.invokespecial 21, 3) := dk_183 0 21 (dk_at dksX11_feels_0 19 rfl rfl)
theorem dX11_feels_22 : decode cX11_feels 22 = .ok (.ireturn, 1) := dk_172 (dk_at dksX11_feels_0 22 rfl rfl)
theorem q144 : (Jvm.Cond.initialized "RoadsNotGoneBy$Clergyman") ∈ lw_all := lw_g (lw_at lw_m1 21 rfl) rfl
theorem q203 : (Jvm.Cond.fieldLink "RoadsNotGoneBy$Clergyman" (15 : Nat) "RoadsNotGoneBy$Clergyman" "eaten" "I") ∈ lw_all := lw_g (lw_at lw_m1 80 rfl) rfl
theorem q204 : (Jvm.Cond.sameField "RoadsNotGoneBy$Clergyman" "RoadsNotGoneBy$Life" "eaten" "I") ∈ lw_all := lw_g (lw_at lw_m1 81 rfl) rfl
theorem q217 : (Jvm.Cond.instantiable "RoadsNotGoneBy$Clergyman" (4 : Nat)) ∈ lw_all := lw_g (lw_at lw_m1 94 rfl) rfl
theorem q219 : (Jvm.Cond.instanceMethod ({ cls := "RoadsNotGoneBy$Clergyman", name := "<init>", desc := "(II)V" } : Jvm.MethodName)) ∈ lw_all := lw_g (lw_at lw_m1 96 rfl) rfl
theorem q220 : (Jvm.Cond.code ({ cls := "RoadsNotGoneBy$Clergyman", name := "<init>", desc := "(II)V" } : Jvm.MethodName) prog_3_method_1_code (3 : Nat) (Option.none : Option Jvm.ClassFile.FieldType)) ∈ lw_all := lw_g (lw_at lw_m1 97 rfl) rfl
theorem q221 : (Jvm.Cond.methodLink "RoadsNotGoneBy$Clergyman" (1 : Nat) ({ cls := "RoadsNotGoneBy$Life", name := "<init>", desc := "(II)V" } : Jvm.MethodName)) ∈ lw_all := lw_g (lw_at lw_m1 98 rfl) rfl
theorem q222 : (Jvm.Cond.lays "RoadsNotGoneBy$Clergyman" "RoadsNotGoneBy$Life" "number" "I") ∈ lw_all := lw_g (lw_at lw_m1 99 rfl) rfl
theorem q223 : (Jvm.Cond.lays "RoadsNotGoneBy$Clergyman" "RoadsNotGoneBy$Life" "on" "I") ∈ lw_all := lw_g (lw_at lw_m1 100 rfl) rfl
theorem q224 : (Jvm.Cond.lays "RoadsNotGoneBy$Clergyman" "RoadsNotGoneBy$Life" "mood" "I") ∈ lw_all := lw_g (lw_at lw_m1 101 rfl) rfl
theorem q225 : (Jvm.Cond.lays "RoadsNotGoneBy$Clergyman" "RoadsNotGoneBy$Life" "eaten" "I") ∈ lw_all := lw_g (lw_at lw_m1 102 rfl) rfl
theorem q226 : (Jvm.Cond.superclass "RoadsNotGoneBy$Clergyman" "RoadsNotGoneBy$Life") ∈ lw_all := lw_g (lw_at lw_m1 103 rfl) rfl
theorem q315 : (Jvm.Cond.instanceMethod ({ cls := "RoadsNotGoneBy$Clergyman", name := "kind", desc := "()I" } : Jvm.MethodName)) ∈ lw_all := lw_g (lw_at lw_m1 192 rfl) rfl
theorem q316 : (Jvm.Cond.code ({ cls := "RoadsNotGoneBy$Clergyman", name := "kind", desc := "()I" } : Jvm.MethodName) prog_3_method_2_code (1 : Nat) (Option.some Jvm.ClassFile.FieldType.int)) ∈ lw_all := lw_g (lw_at lw_m1 193 rfl) rfl
theorem q317 : (Jvm.Cond.methodLink "RoadsNotGoneBy$Clergyman" (7 : Nat) ({ cls := "RoadsNotGoneBy$Life", name := "kind", desc := "()I" } : Jvm.MethodName)) ∈ lw_all := lw_g (lw_at lw_m1 194 rfl) rfl
theorem q319 : (Jvm.Cond.selects "RoadsNotGoneBy$Clergyman" ({ cls := "RoadsNotGoneBy$Life", name := "kind", desc := "()I" } : Jvm.MethodName) ({ cls := "RoadsNotGoneBy$Clergyman", name := "kind", desc := "()I" } : Jvm.MethodName)) ∈ lw_all := lw_g (lw_at lw_m1 196 rfl) rfl
theorem q374 : (Jvm.Cond.instanceMethod ({ cls := "RoadsNotGoneBy$Clergyman", name := "takes", desc := "(IIII)I" } : Jvm.MethodName)) ∈ lw_all := lw_g (lw_at lw_m2 11 rfl) rfl
theorem q375 : (Jvm.Cond.code ({ cls := "RoadsNotGoneBy$Clergyman", name := "takes", desc := "(IIII)I" } : Jvm.MethodName) prog_3_method_3_code (5 : Nat) (Option.some Jvm.ClassFile.FieldType.int)) ∈ lw_all := lw_g (lw_at lw_m2 12 rfl) rfl
theorem q376 : (Jvm.Cond.selects "RoadsNotGoneBy$Clergyman" ({ cls := "RoadsNotGoneBy$Life", name := "takes", desc := "(IIII)I" } : Jvm.MethodName) ({ cls := "RoadsNotGoneBy$Clergyman", name := "takes", desc := "(IIII)I" } : Jvm.MethodName)) ∈ lw_all := lw_g (lw_at lw_m2 13 rfl) rfl
theorem q401 : (Jvm.Cond.instanceMethod ({ cls := "RoadsNotGoneBy$Clergyman", name := "putsBy", desc := "(I)I" } : Jvm.MethodName)) ∈ lw_all := lw_g (lw_at lw_m2 38 rfl) rfl
theorem q402 : (Jvm.Cond.code ({ cls := "RoadsNotGoneBy$Clergyman", name := "putsBy", desc := "(I)I" } : Jvm.MethodName) prog_3_method_4_code (2 : Nat) (Option.some Jvm.ClassFile.FieldType.int)) ∈ lw_all := lw_g (lw_at lw_m2 39 rfl) rfl
theorem q403 : (Jvm.Cond.methodLink "RoadsNotGoneBy$Clergyman" (11 : Nat) ({ cls := "RoadsNotGoneBy$Life", name := "putsBy", desc := "(I)I" } : Jvm.MethodName)) ∈ lw_all := lw_g (lw_at lw_m2 40 rfl) rfl
theorem q405 : (Jvm.Cond.selects "RoadsNotGoneBy$Clergyman" ({ cls := "RoadsNotGoneBy$Life", name := "putsBy", desc := "(I)I" } : Jvm.MethodName) ({ cls := "RoadsNotGoneBy$Clergyman", name := "putsBy", desc := "(I)I" } : Jvm.MethodName)) ∈ lw_all := lw_g (lw_at lw_m2 42 rfl) rfl
theorem q917 : (Jvm.Cond.instanceMethod ({ cls := "RoadsNotGoneBy$Clergyman", name := "feels", desc := "(I)I" } : Jvm.MethodName)) ∈ lw_all := lw_g (lw_at lw_m4 74 rfl) rfl
theorem q918 : (Jvm.Cond.code ({ cls := "RoadsNotGoneBy$Clergyman", name := "feels", desc := "(I)I" } : Jvm.MethodName) prog_3_method_5_code (2 : Nat) (Option.some Jvm.ClassFile.FieldType.int)) ∈ lw_all := lw_g (lw_at lw_m4 75 rfl) rfl
theorem q919 : (Jvm.Cond.methodLink "RoadsNotGoneBy$Clergyman" (21 : Nat) ({ cls := "RoadsNotGoneBy$Life", name := "feels", desc := "(I)I" } : Jvm.MethodName)) ∈ lw_all := lw_g (lw_at lw_m4 76 rfl) rfl
theorem q921 : (Jvm.Cond.selects "RoadsNotGoneBy$Clergyman" ({ cls := "RoadsNotGoneBy$Life", name := "feels", desc := "(I)I" } : Jvm.MethodName) ({ cls := "RoadsNotGoneBy$Clergyman", name := "feels", desc := "(I)I" } : Jvm.MethodName)) ∈ lw_all := lw_g (lw_at lw_m4 78 rfl) rfl
theorem q1115 : (Jvm.Cond.selects "RoadsNotGoneBy$Clergyman" ({ cls := "RoadsNotGoneBy$Life", name := "like", desc := "(LRoadsNotGoneBy$Life;)LRoadsNotGoneBy$Life;" } : Jvm.MethodName) ({ cls := "RoadsNotGoneBy$Life", name := "like", desc := "(LRoadsNotGoneBy$Life;)LRoadsNotGoneBy$Life;" } : Jvm.MethodName)) ∈ lw_all := lw_g (lw_at lw_m5 32 rfl) rfl
theorem q1859 : (Jvm.Cond.sameMethod "RoadsNotGoneBy$Clergyman" "RoadsNotGoneBy$Clergyman" "kind" "()I") ∈ lw_all := lw_g (lw_at lw_m8 56 rfl) rfl
theorem q1861 : (Jvm.Cond.sameMethod "RoadsNotGoneBy$Clergyman" "RoadsNotGoneBy$Clergyman" "takes" "(IIII)I") ∈ lw_all := lw_g (lw_at lw_m8 58 rfl) rfl
theorem q1863 : (Jvm.Cond.sameMethod "RoadsNotGoneBy$Clergyman" "RoadsNotGoneBy$Clergyman" "putsBy" "(I)I") ∈ lw_all := lw_g (lw_at lw_m8 60 rfl) rfl
theorem q1866 : (Jvm.Cond.sameMethod "RoadsNotGoneBy$Clergyman" "RoadsNotGoneBy$Clergyman" "feels" "(I)I") ∈ lw_all := lw_g (lw_at lw_m8 63 rfl) rfl
theorem q1876 : (Jvm.Cond.castable "RoadsNotGoneBy$Clergyman" "RoadsNotGoneBy$Life") ∈ lw_tbl := lw_at lw_m8 73 rfl
theorem in_X11 : ∀ w ∈ wsX110, w ∈ lw_all := lw_in wsX110 [222, 223, 224, 225] (by decide +kernel) (by decide +kernel)
/-! RoadsNotGoneBy$Girl -/
set_option maxRecDepth 100000
def RX12 : String := "RoadsNotGoneBy$Girl"
def TX12 : u_T := fun k => match k with
  | 0 => ("RoadsNotGoneBy$Life", "number", "I", false)
  | 1 => ("RoadsNotGoneBy$Life", "on", "I", false)
  | 2 => ("RoadsNotGoneBy$Life", "mood", "I", false)
  | _ => ("RoadsNotGoneBy$Life", "eaten", "I", false)
def tyX12 : Nat → FieldType := fun k => match k with
  | 0 => .int
  | 1 => .int
  | 2 => .int
  | _ => .int
abbrev wsX120 : List Cond := u_ws RX12 TX12 4
theorem nmX12 : ∀ a, a < 4 → ∀ b, b < 4 → a ≠ b → (TX12 a).2.1 ≠ (TX12 b).2.1 := by decide +kernel
theorem tyX12_ok : ∀ k, k < 4 → parseFieldDescriptor (TX12 k).2.2.1 = some (tyX12 k) := by decide +kernel
abbrev cX12_init : ByteArray := prog_6_method_1_code
def yX12_init : MethodName := ⟨RX12, "<init>", "(II)V"⟩
def dkwX12_init_0 : List UInt8 := [42, 27, 28, 183, 0, 1, 177]
abbrev dktX12_init_0 : List UInt8 := dkwX12_init_0 ++ []
theorem dksX12_init_0 : cX12_init.data.toList.drop 0 = dktX12_init_0 := by decide +kernel
theorem dX12_init_0 : decode cX12_init 0 = .ok (.aload_n 0, 1) := dk_42 (dk_at dksX12_init_0 0 rfl rfl)
theorem dX12_init_1 : decode cX12_init 1 = .ok (.iload_n 1, 1) := dk_27 (dk_at dksX12_init_0 1 rfl rfl)
theorem dX12_init_2 : decode cX12_init 2 = .ok (.iload_n 2, 1) := dk_28 (dk_at dksX12_init_0 2 rfl rfl)
theorem dX12_init_3 : decode cX12_init 3 = .ok (.invokespecial 1, 3) := dk_183 0 1 (dk_at dksX12_init_0 3 rfl rfl)
theorem dX12_init_6 : decode cX12_init 6 = .ok (.return_, 1) := dk_177 (dk_at dksX12_init_0 6 rfl rfl)
abbrev cX12_kind : ByteArray := prog_6_method_2_code
def yX12_kind : MethodName := ⟨RX12, "kind", "()I"⟩
def dkwX12_kind_0 : List UInt8 := [42, 183, 0, 7, 5, 96, 172]
abbrev dktX12_kind_0 : List UInt8 := dkwX12_kind_0 ++ []
theorem dksX12_kind_0 : cX12_kind.data.toList.drop 0 = dktX12_kind_0 := by decide +kernel
theorem dX12_kind_0 : decode cX12_kind 0 = .ok (.aload_n 0, 1) := dk_42 (dk_at dksX12_kind_0 0 rfl rfl)
theorem dX12_kind_1 : decode cX12_kind 1 = .ok (.invokespecial 7, 3) := dk_183 0 7 (dk_at dksX12_kind_0 1 rfl rfl)
theorem dX12_kind_4 : decode cX12_kind 4 = .ok (.iconst 2, 1) := dk_5 (dk_at dksX12_kind_0 4 rfl rfl)
theorem dX12_kind_5 : decode cX12_kind 5 = .ok (.iadd, 1) := dk_96 (dk_at dksX12_kind_0 5 rfl rfl)
theorem dX12_kind_6 : decode cX12_kind 6 = .ok (.ireturn, 1) := dk_172 (dk_at dksX12_kind_0 6 rfl rfl)
abbrev cX12_takes : ByteArray := prog_6_method_3_code
def yX12_takes : MethodName := ⟨RX12, "takes", "(IIII)I"⟩
def dkwX12_takes_1 : List UInt8 := [167, 0, 5, 21, 5, 172]
abbrev dktX12_takes_1 : List UInt8 := dkwX12_takes_1 ++ []
def dkwX12_takes_0 : List UInt8 := [42, 27, 28, 29, 21, 4, 183, 0, 11, 54, 5, 42, 180, 0, 15, 156, 0, 10, 4, 21, 5, 100]
abbrev dktX12_takes_0 : List UInt8 := dkwX12_takes_0 ++ dktX12_takes_1
theorem dksX12_takes_0 : cX12_takes.data.toList.drop 0 = dktX12_takes_0 := by decide +kernel
theorem dksX12_takes_1 : cX12_takes.data.toList.drop 22 = dktX12_takes_1 := dk_seg dksX12_takes_0 22 rfl rfl
theorem dX12_takes_0 : decode cX12_takes 0 = .ok (.aload_n 0, 1) := dk_42 (dk_at dksX12_takes_0 0 rfl rfl)
theorem dX12_takes_1 : decode cX12_takes 1 = .ok (.iload_n 1, 1) := dk_27 (dk_at dksX12_takes_0 1 rfl rfl)
theorem dX12_takes_2 : decode cX12_takes 2 = .ok (.iload_n 2, 1) := dk_28 (dk_at dksX12_takes_0 2 rfl rfl)
theorem dX12_takes_3 : decode cX12_takes 3 = .ok (.iload_n 3, 1) := dk_29 (dk_at dksX12_takes_0 3 rfl rfl)
theorem dX12_takes_4 : decode cX12_takes 4 = .ok (.iload 4, 2) := dk_21 4 (dk_at dksX12_takes_0 4 rfl rfl)
theorem dX12_takes_6 : decode cX12_takes 6 = .ok (.invokespecial 11, 3) := dk_183 0 11 (dk_at dksX12_takes_0 6 rfl rfl)
theorem dX12_takes_9 : decode cX12_takes 9 = .ok (.istore 5, 2) := dk_54 5 (dk_at dksX12_takes_0 9 rfl rfl)
theorem dX12_takes_11 : decode cX12_takes 11 = .ok (.aload_n 0, 1) := dk_42 (dk_at dksX12_takes_0 11 rfl rfl)
theorem dX12_takes_12 : decode cX12_takes 12 = .ok (.getfield 15, 3) := dk_180 0 15 (dk_at dksX12_takes_0 12 rfl rfl)
theorem dX12_takes_15 : decode cX12_takes 15 = .ok (.ifCond .ge 10, 3) := dk_156 0 10 (dk_at dksX12_takes_0 15 rfl rfl)
theorem dX12_takes_18 : decode cX12_takes 18 = .ok (.iconst 1, 1) := dk_4 (dk_at dksX12_takes_0 18 rfl rfl)
theorem dX12_takes_19 : decode cX12_takes 19 = .ok (.iload 5, 2) := dk_21 5 (dk_at dksX12_takes_0 19 rfl rfl)
theorem dX12_takes_21 : decode cX12_takes 21 = .ok (.isub, 1) := dk_100 (dk_at dksX12_takes_0 21 rfl rfl)
theorem dX12_takes_22 : decode cX12_takes 22 = .ok (.goto 5, 3) := dk_167 0 5 (dk_at dksX12_takes_1 0 rfl rfl)
theorem dX12_takes_25 : decode cX12_takes 25 = .ok (.iload 5, 2) := dk_21 5 (dk_at dksX12_takes_1 3 rfl rfl)
theorem dX12_takes_27 : decode cX12_takes 27 = .ok (.ireturn, 1) := dk_172 (dk_at dksX12_takes_1 5 rfl rfl)
abbrev cX12_putsBy : ByteArray := prog_6_method_4_code
def yX12_putsBy : MethodName := ⟨RX12, "putsBy", "(I)I"⟩
def dkwX12_putsBy_0 : List UInt8 := [42, 27, 183, 0, 21, 42, 180, 0, 25, 96, 172]
abbrev dktX12_putsBy_0 : List UInt8 := dkwX12_putsBy_0 ++ []
theorem dksX12_putsBy_0 : cX12_putsBy.data.toList.drop 0 = dktX12_putsBy_0 := by decide +kernel
theorem dX12_putsBy_0 : decode cX12_putsBy 0 = .ok (.aload_n 0, 1) := dk_42 (dk_at dksX12_putsBy_0 0 rfl rfl)
theorem dX12_putsBy_1 : decode cX12_putsBy 1 = .ok (.iload_n 1, 1) := dk_27 (dk_at dksX12_putsBy_0 1 rfl rfl)
theorem dX12_putsBy_2 : decode cX12_putsBy 2 = .ok (.invokespecial 21, 3) := dk_183 0 21 (dk_at dksX12_putsBy_0 2 rfl rfl)
theorem dX12_putsBy_5 : decode cX12_putsBy 5 = .ok (.aload_n 0, 1) := dk_42 (dk_at dksX12_putsBy_0 5 rfl rfl)
theorem dX12_putsBy_6 : decode cX12_putsBy 6 = .ok (.getfield 25, 3) := dk_180 0 25 (dk_at dksX12_putsBy_0 6 rfl rfl)
theorem dX12_putsBy_9 : decode cX12_putsBy 9 = .ok (.iadd, 1) := dk_96 (dk_at dksX12_putsBy_0 9 rfl rfl)
theorem dX12_putsBy_10 : decode cX12_putsBy 10 = .ok (.ireturn, 1) := dk_172 (dk_at dksX12_putsBy_0 10 rfl rfl)
abbrev cX12_feels : ByteArray := prog_6_method_5_code
def yX12_feels : MethodName := ⟨RX12, "feels", "(I)I"⟩
def dkwX12_feels_0 : List UInt8 := [5, 42, 27, 183, 0, 28, 104, 172]
abbrev dktX12_feels_0 : List UInt8 := dkwX12_feels_0 ++ []
theorem dksX12_feels_0 : cX12_feels.data.toList.drop 0 = dktX12_feels_0 := by decide +kernel
theorem dX12_feels_0 : decode cX12_feels 0 = .ok (.iconst 2, 1) := dk_5 (dk_at dksX12_feels_0 0 rfl rfl)
theorem dX12_feels_1 : decode cX12_feels 1 = .ok (.aload_n 0, 1) := dk_42 (dk_at dksX12_feels_0 1 rfl rfl)
theorem dX12_feels_2 : decode cX12_feels 2 = .ok (.iload_n 1, 1) := dk_27 (dk_at dksX12_feels_0 2 rfl rfl)
theorem dX12_feels_3 : decode cX12_feels 3 = .ok (.invokespecial 28, 3) := dk_183 0 28 (dk_at dksX12_feels_0 3 rfl rfl)
theorem dX12_feels_6 : decode cX12_feels 6 = .ok (.imul, 1) := dk_104 (dk_at dksX12_feels_0 6 rfl rfl)
theorem dX12_feels_7 : decode cX12_feels 7 = .ok (.ireturn, 1) := dk_172 (dk_at dksX12_feels_0 7 rfl rfl)
theorem q145 : (Jvm.Cond.initialized "RoadsNotGoneBy$Girl") ∈ lw_all := lw_g (lw_at lw_m1 22 rfl) rfl
theorem q187 : (Jvm.Cond.fieldLink "RoadsNotGoneBy$Girl" (25 : Nat) "RoadsNotGoneBy$Girl" "number" "I") ∈ lw_all := lw_g (lw_at lw_m1 64 rfl) rfl
theorem q188 : (Jvm.Cond.sameField "RoadsNotGoneBy$Girl" "RoadsNotGoneBy$Life" "number" "I") ∈ lw_all := lw_g (lw_at lw_m1 65 rfl) rfl
theorem q198 : (Jvm.Cond.fieldLink "RoadsNotGoneBy$Girl" (15 : Nat) "RoadsNotGoneBy$Girl" "mood" "I") ∈ lw_all := lw_g (lw_at lw_m1 75 rfl) rfl
theorem q199 : (Jvm.Cond.sameField "RoadsNotGoneBy$Girl" "RoadsNotGoneBy$Life" "mood" "I") ∈ lw_all := lw_g (lw_at lw_m1 76 rfl) rfl
theorem q228 : (Jvm.Cond.instantiable "RoadsNotGoneBy$Girl" (4 : Nat)) ∈ lw_all := lw_g (lw_at lw_m1 105 rfl) rfl
theorem q230 : (Jvm.Cond.instanceMethod ({ cls := "RoadsNotGoneBy$Girl", name := "<init>", desc := "(II)V" } : Jvm.MethodName)) ∈ lw_all := lw_g (lw_at lw_m1 107 rfl) rfl
theorem q231 : (Jvm.Cond.code ({ cls := "RoadsNotGoneBy$Girl", name := "<init>", desc := "(II)V" } : Jvm.MethodName) prog_6_method_1_code (3 : Nat) (Option.none : Option Jvm.ClassFile.FieldType)) ∈ lw_all := lw_g (lw_at lw_m1 108 rfl) rfl
theorem q232 : (Jvm.Cond.methodLink "RoadsNotGoneBy$Girl" (1 : Nat) ({ cls := "RoadsNotGoneBy$Engineer", name := "<init>", desc := "(II)V" } : Jvm.MethodName)) ∈ lw_all := lw_g (lw_at lw_m1 109 rfl) rfl
theorem q233 : (Jvm.Cond.lays "RoadsNotGoneBy$Girl" "RoadsNotGoneBy$Life" "number" "I") ∈ lw_all := lw_g (lw_at lw_m1 110 rfl) rfl
theorem q234 : (Jvm.Cond.lays "RoadsNotGoneBy$Girl" "RoadsNotGoneBy$Life" "on" "I") ∈ lw_all := lw_g (lw_at lw_m1 111 rfl) rfl
theorem q235 : (Jvm.Cond.lays "RoadsNotGoneBy$Girl" "RoadsNotGoneBy$Life" "mood" "I") ∈ lw_all := lw_g (lw_at lw_m1 112 rfl) rfl
theorem q236 : (Jvm.Cond.lays "RoadsNotGoneBy$Girl" "RoadsNotGoneBy$Life" "eaten" "I") ∈ lw_all := lw_g (lw_at lw_m1 113 rfl) rfl
theorem q237 : (Jvm.Cond.superclass "RoadsNotGoneBy$Girl" "RoadsNotGoneBy$Engineer") ∈ lw_all := lw_g (lw_at lw_m1 114 rfl) rfl
theorem q324 : (Jvm.Cond.selects "RoadsNotGoneBy$Girl" ({ cls := "RoadsNotGoneBy$Life", name := "kind", desc := "()I" } : Jvm.MethodName) ({ cls := "RoadsNotGoneBy$Girl", name := "kind", desc := "()I" } : Jvm.MethodName)) ∈ lw_all := lw_g (lw_at lw_m1 201 rfl) rfl
theorem q325 : (Jvm.Cond.instanceMethod ({ cls := "RoadsNotGoneBy$Girl", name := "kind", desc := "()I" } : Jvm.MethodName)) ∈ lw_all := lw_g (lw_at lw_m1 202 rfl) rfl
theorem q326 : (Jvm.Cond.code ({ cls := "RoadsNotGoneBy$Girl", name := "kind", desc := "()I" } : Jvm.MethodName) prog_6_method_2_code (1 : Nat) (Option.some Jvm.ClassFile.FieldType.int)) ∈ lw_all := lw_g (lw_at lw_m1 203 rfl) rfl
theorem q327 : (Jvm.Cond.methodLink "RoadsNotGoneBy$Girl" (7 : Nat) ({ cls := "RoadsNotGoneBy$Engineer", name := "kind", desc := "()I" } : Jvm.MethodName)) ∈ lw_all := lw_g (lw_at lw_m1 204 rfl) rfl
theorem q382 : (Jvm.Cond.selects "RoadsNotGoneBy$Girl" ({ cls := "RoadsNotGoneBy$Life", name := "takes", desc := "(IIII)I" } : Jvm.MethodName) ({ cls := "RoadsNotGoneBy$Girl", name := "takes", desc := "(IIII)I" } : Jvm.MethodName)) ∈ lw_all := lw_g (lw_at lw_m2 19 rfl) rfl
theorem q383 : (Jvm.Cond.instanceMethod ({ cls := "RoadsNotGoneBy$Girl", name := "takes", desc := "(IIII)I" } : Jvm.MethodName)) ∈ lw_all := lw_g (lw_at lw_m2 20 rfl) rfl
theorem q384 : (Jvm.Cond.code ({ cls := "RoadsNotGoneBy$Girl", name := "takes", desc := "(IIII)I" } : Jvm.MethodName) prog_6_method_3_code (6 : Nat) (Option.some Jvm.ClassFile.FieldType.int)) ∈ lw_all := lw_g (lw_at lw_m2 21 rfl) rfl
theorem q385 : (Jvm.Cond.methodLink "RoadsNotGoneBy$Girl" (11 : Nat) ({ cls := "RoadsNotGoneBy$Engineer", name := "takes", desc := "(IIII)I" } : Jvm.MethodName)) ∈ lw_all := lw_g (lw_at lw_m2 22 rfl) rfl
theorem q410 : (Jvm.Cond.selects "RoadsNotGoneBy$Girl" ({ cls := "RoadsNotGoneBy$Life", name := "putsBy", desc := "(I)I" } : Jvm.MethodName) ({ cls := "RoadsNotGoneBy$Girl", name := "putsBy", desc := "(I)I" } : Jvm.MethodName)) ∈ lw_all := lw_g (lw_at lw_m2 47 rfl) rfl
theorem q411 : (Jvm.Cond.instanceMethod ({ cls := "RoadsNotGoneBy$Girl", name := "putsBy", desc := "(I)I" } : Jvm.MethodName)) ∈ lw_all := lw_g (lw_at lw_m2 48 rfl) rfl
theorem q412 : (Jvm.Cond.code ({ cls := "RoadsNotGoneBy$Girl", name := "putsBy", desc := "(I)I" } : Jvm.MethodName) prog_6_method_4_code (2 : Nat) (Option.some Jvm.ClassFile.FieldType.int)) ∈ lw_all := lw_g (lw_at lw_m2 49 rfl) rfl
theorem q413 : (Jvm.Cond.methodLink "RoadsNotGoneBy$Girl" (21 : Nat) ({ cls := "RoadsNotGoneBy$Engineer", name := "putsBy", desc := "(I)I" } : Jvm.MethodName)) ∈ lw_all := lw_g (lw_at lw_m2 50 rfl) rfl
theorem q927 : (Jvm.Cond.selects "RoadsNotGoneBy$Girl" ({ cls := "RoadsNotGoneBy$Life", name := "feels", desc := "(I)I" } : Jvm.MethodName) ({ cls := "RoadsNotGoneBy$Girl", name := "feels", desc := "(I)I" } : Jvm.MethodName)) ∈ lw_all := lw_g (lw_at lw_m4 84 rfl) rfl
theorem q928 : (Jvm.Cond.instanceMethod ({ cls := "RoadsNotGoneBy$Girl", name := "feels", desc := "(I)I" } : Jvm.MethodName)) ∈ lw_all := lw_g (lw_at lw_m4 85 rfl) rfl
theorem q929 : (Jvm.Cond.code ({ cls := "RoadsNotGoneBy$Girl", name := "feels", desc := "(I)I" } : Jvm.MethodName) prog_6_method_5_code (2 : Nat) (Option.some Jvm.ClassFile.FieldType.int)) ∈ lw_all := lw_g (lw_at lw_m4 86 rfl) rfl
theorem q930 : (Jvm.Cond.methodLink "RoadsNotGoneBy$Girl" (28 : Nat) ({ cls := "RoadsNotGoneBy$Engineer", name := "feels", desc := "(I)I" } : Jvm.MethodName)) ∈ lw_all := lw_g (lw_at lw_m4 87 rfl) rfl
theorem q1117 : (Jvm.Cond.selects "RoadsNotGoneBy$Girl" ({ cls := "RoadsNotGoneBy$Life", name := "like", desc := "(LRoadsNotGoneBy$Life;)LRoadsNotGoneBy$Life;" } : Jvm.MethodName) ({ cls := "RoadsNotGoneBy$Life", name := "like", desc := "(LRoadsNotGoneBy$Life;)LRoadsNotGoneBy$Life;" } : Jvm.MethodName)) ∈ lw_all := lw_g (lw_at lw_m5 34 rfl) rfl
theorem q1869 : (Jvm.Cond.castable "RoadsNotGoneBy$Girl" "RoadsNotGoneBy$Engineer") ∈ lw_tbl := lw_at lw_m8 66 rfl
theorem q1877 : (Jvm.Cond.castable "RoadsNotGoneBy$Girl" "RoadsNotGoneBy$Life") ∈ lw_tbl := lw_at lw_m8 74 rfl
theorem in_X12 : ∀ w ∈ wsX120, w ∈ lw_all := lw_in wsX120 [233, 234, 235, 236] (by decide +kernel) (by decide +kernel)
/-! RoadsNotGoneBy$Bishop -/
set_option maxRecDepth 100000
def RX13 : String := "RoadsNotGoneBy$Bishop"
def TX13 : u_T := fun k => match k with
  | 0 => ("RoadsNotGoneBy$Life", "number", "I", false)
  | 1 => ("RoadsNotGoneBy$Life", "on", "I", false)
  | 2 => ("RoadsNotGoneBy$Life", "mood", "I", false)
  | _ => ("RoadsNotGoneBy$Life", "eaten", "I", false)
def tyX13 : Nat → FieldType := fun k => match k with
  | 0 => .int
  | 1 => .int
  | 2 => .int
  | _ => .int
abbrev wsX130 : List Cond := u_ws RX13 TX13 4
theorem nmX13 : ∀ a, a < 4 → ∀ b, b < 4 → a ≠ b → (TX13 a).2.1 ≠ (TX13 b).2.1 := by decide +kernel
theorem tyX13_ok : ∀ k, k < 4 → parseFieldDescriptor (TX13 k).2.2.1 = some (tyX13 k) := by decide +kernel
abbrev cX13_init : ByteArray := prog_2_method_1_code
def yX13_init : MethodName := ⟨RX13, "<init>", "(II)V"⟩
def dkwX13_init_0 : List UInt8 := [42, 27, 28, 183, 0, 1, 177]
abbrev dktX13_init_0 : List UInt8 := dkwX13_init_0 ++ []
theorem dksX13_init_0 : cX13_init.data.toList.drop 0 = dktX13_init_0 := by decide +kernel
theorem dX13_init_0 : decode cX13_init 0 = .ok (.aload_n 0, 1) := dk_42 (dk_at dksX13_init_0 0 rfl rfl)
theorem dX13_init_1 : decode cX13_init 1 = .ok (.iload_n 1, 1) := dk_27 (dk_at dksX13_init_0 1 rfl rfl)
theorem dX13_init_2 : decode cX13_init 2 = .ok (.iload_n 2, 1) := dk_28 (dk_at dksX13_init_0 2 rfl rfl)
theorem dX13_init_3 : decode cX13_init 3 = .ok (.invokespecial 1, 3) := dk_183 0 1 (dk_at dksX13_init_0 3 rfl rfl)
theorem dX13_init_6 : decode cX13_init 6 = .ok (.return_, 1) := dk_177 (dk_at dksX13_init_0 6 rfl rfl)
abbrev cX13_kind : ByteArray := prog_2_method_2_code
def yX13_kind : MethodName := ⟨RX13, "kind", "()I"⟩
def dkwX13_kind_0 : List UInt8 := [42, 183, 0, 7, 5, 96, 172]
abbrev dktX13_kind_0 : List UInt8 := dkwX13_kind_0 ++ []
theorem dksX13_kind_0 : cX13_kind.data.toList.drop 0 = dktX13_kind_0 := by decide +kernel
theorem dX13_kind_0 : decode cX13_kind 0 = .ok (.aload_n 0, 1) := dk_42 (dk_at dksX13_kind_0 0 rfl rfl)
theorem dX13_kind_1 : decode cX13_kind 1 = .ok (.invokespecial 7, 3) := dk_183 0 7 (dk_at dksX13_kind_0 1 rfl rfl)
theorem dX13_kind_4 : decode cX13_kind 4 = .ok (.iconst 2, 1) := dk_5 (dk_at dksX13_kind_0 4 rfl rfl)
theorem dX13_kind_5 : decode cX13_kind 5 = .ok (.iadd, 1) := dk_96 (dk_at dksX13_kind_0 5 rfl rfl)
theorem dX13_kind_6 : decode cX13_kind 6 = .ok (.ireturn, 1) := dk_172 (dk_at dksX13_kind_0 6 rfl rfl)
abbrev cX13_takes : ByteArray := prog_2_method_3_code
def yX13_takes : MethodName := ⟨RX13, "takes", "(IIII)I"⟩
def dkwX13_takes_0 : List UInt8 := [21, 4, 6, 112, 154, 0, 7, 3, 167, 0, 12, 42, 27, 28, 29, 21, 4, 183, 0, 11, 172]
abbrev dktX13_takes_0 : List UInt8 := dkwX13_takes_0 ++ []
theorem dksX13_takes_0 : cX13_takes.data.toList.drop 0 = dktX13_takes_0 := by decide +kernel
theorem dX13_takes_0 : decode cX13_takes 0 = .ok (.iload 4, 2) := dk_21 4 (dk_at dksX13_takes_0 0 rfl rfl)
theorem dX13_takes_2 : decode cX13_takes 2 = .ok (.iconst 3, 1) := dk_6 (dk_at dksX13_takes_0 2 rfl rfl)
theorem dX13_takes_3 : decode cX13_takes 3 = .ok (.irem, 1) := dk_112 (dk_at dksX13_takes_0 3 rfl rfl)
theorem dX13_takes_4 : decode cX13_takes 4 = .ok (.ifCond .ne 7, 3) := dk_154 0 7 (dk_at dksX13_takes_0 4 rfl rfl)
theorem dX13_takes_7 : decode cX13_takes 7 = .ok (.iconst 0, 1) := dk_3 (dk_at dksX13_takes_0 7 rfl rfl)
theorem dX13_takes_8 : decode cX13_takes 8 = .ok (.goto 12, 3) := dk_167 0 12 (dk_at dksX13_takes_0 8 rfl rfl)
theorem dX13_takes_11 : decode cX13_takes 11 = .ok (.aload_n 0, 1) := dk_42 (dk_at dksX13_takes_0 11 rfl rfl)
theorem dX13_takes_12 : decode cX13_takes 12 = .ok (.iload_n 1, 1) := dk_27 (dk_at dksX13_takes_0 12 rfl rfl)
theorem dX13_takes_13 : decode cX13_takes 13 = .ok (.iload_n 2, 1) := dk_28 (dk_at dksX13_takes_0 13 rfl rfl)
theorem dX13_takes_14 : decode cX13_takes 14 = .ok (.iload_n 3, 1) := dk_29 (dk_at dksX13_takes_0 14 rfl rfl)
theorem dX13_takes_15 : decode cX13_takes 15 = .ok (.iload 4, 2) := dk_21 4 (dk_at dksX13_takes_0 15 rfl rfl)
theorem dX13_takes_17 : decode cX13_takes 17 = .ok (.invokespecial 11, 3) := dk_183 0 11 (dk_at dksX13_takes_0 17 rfl rfl)
theorem dX13_takes_20 : decode cX13_takes 20 = .ok (.ireturn, 1) := dk_172 (dk_at dksX13_takes_0 20 rfl rfl)
abbrev cX13_putsBy : ByteArray := prog_2_method_4_code
def yX13_putsBy : MethodName := ⟨RX13, "putsBy", "(I)I"⟩
def dkwX13_putsBy_0 : List UInt8 := [42, 27, 183, 0, 15, 5, 108, 172]
abbrev dktX13_putsBy_0 : List UInt8 := dkwX13_putsBy_0 ++ []
theorem dksX13_putsBy_0 : cX13_putsBy.data.toList.drop 0 = dktX13_putsBy_0 := by decide +kernel
theorem dX13_putsBy_0 : decode cX13_putsBy 0 = .ok (.aload_n 0, 1) := dk_42 (dk_at dksX13_putsBy_0 0 rfl rfl)
theorem dX13_putsBy_1 : decode cX13_putsBy 1 = .ok (.iload_n 1, 1) := dk_27 (dk_at dksX13_putsBy_0 1 rfl rfl)
theorem dX13_putsBy_2 : decode cX13_putsBy 2 = .ok (.invokespecial 15, 3) := dk_183 0 15 (dk_at dksX13_putsBy_0 2 rfl rfl)
theorem dX13_putsBy_5 : decode cX13_putsBy 5 = .ok (.iconst 2, 1) := dk_5 (dk_at dksX13_putsBy_0 5 rfl rfl)
theorem dX13_putsBy_6 : decode cX13_putsBy 6 = .ok (.idiv, 1) := dk_108 (dk_at dksX13_putsBy_0 6 rfl rfl)
theorem dX13_putsBy_7 : decode cX13_putsBy 7 = .ok (.ireturn, 1) := dk_172 (dk_at dksX13_putsBy_0 7 rfl rfl)
abbrev cX13_feels : ByteArray := prog_2_method_5_code
def yX13_feels : MethodName := ⟨RX13, "feels", "(I)I"⟩
def dkwX13_feels_0 : List UInt8 := [42, 27, 183, 0, 19, 42, 180, 0, 22, 96, 172]
abbrev dktX13_feels_0 : List UInt8 := dkwX13_feels_0 ++ []
theorem dksX13_feels_0 : cX13_feels.data.toList.drop 0 = dktX13_feels_0 := by decide +kernel
theorem dX13_feels_0 : decode cX13_feels 0 = .ok (.aload_n 0, 1) := dk_42 (dk_at dksX13_feels_0 0 rfl rfl)
theorem dX13_feels_1 : decode cX13_feels 1 = .ok (.iload_n 1, 1) := dk_27 (dk_at dksX13_feels_0 1 rfl rfl)
theorem dX13_feels_2 : decode cX13_feels 2 = .ok (.invokespecial 19, 3) := dk_183 0 19 (dk_at dksX13_feels_0 2 rfl rfl)
theorem dX13_feels_5 : decode cX13_feels 5 = .ok (.aload_n 0, 1) := dk_42 (dk_at dksX13_feels_0 5 rfl rfl)
theorem dX13_feels_6 : decode cX13_feels 6 = .ok (.getfield 22, 3) := dk_180 0 22 (dk_at dksX13_feels_0 6 rfl rfl)
theorem dX13_feels_9 : decode cX13_feels 9 = .ok (.iadd, 1) := dk_96 (dk_at dksX13_feels_0 9 rfl rfl)
theorem dX13_feels_10 : decode cX13_feels 10 = .ok (.ireturn, 1) := dk_172 (dk_at dksX13_feels_0 10 rfl rfl)
theorem q146 : (Jvm.Cond.initialized "RoadsNotGoneBy$Bishop") ∈ lw_all := lw_g (lw_at lw_m1 23 rfl) rfl
theorem q189 : (Jvm.Cond.fieldLink "RoadsNotGoneBy$Bishop" (22 : Nat) "RoadsNotGoneBy$Bishop" "number" "I") ∈ lw_all := lw_g (lw_at lw_m1 66 rfl) rfl
theorem q190 : (Jvm.Cond.sameField "RoadsNotGoneBy$Bishop" "RoadsNotGoneBy$Life" "number" "I") ∈ lw_all := lw_g (lw_at lw_m1 67 rfl) rfl
theorem q239 : (Jvm.Cond.instantiable "RoadsNotGoneBy$Bishop" (4 : Nat)) ∈ lw_all := lw_g (lw_at lw_m1 116 rfl) rfl
theorem q241 : (Jvm.Cond.instanceMethod ({ cls := "RoadsNotGoneBy$Bishop", name := "<init>", desc := "(II)V" } : Jvm.MethodName)) ∈ lw_all := lw_g (lw_at lw_m1 118 rfl) rfl
theorem q242 : (Jvm.Cond.code ({ cls := "RoadsNotGoneBy$Bishop", name := "<init>", desc := "(II)V" } : Jvm.MethodName) prog_2_method_1_code (3 : Nat) (Option.none : Option Jvm.ClassFile.FieldType)) ∈ lw_all := lw_g (lw_at lw_m1 119 rfl) rfl
theorem q243 : (Jvm.Cond.methodLink "RoadsNotGoneBy$Bishop" (1 : Nat) ({ cls := "RoadsNotGoneBy$Clergyman", name := "<init>", desc := "(II)V" } : Jvm.MethodName)) ∈ lw_all := lw_g (lw_at lw_m1 120 rfl) rfl
theorem q244 : (Jvm.Cond.lays "RoadsNotGoneBy$Bishop" "RoadsNotGoneBy$Life" "number" "I") ∈ lw_all := lw_g (lw_at lw_m1 121 rfl) rfl
theorem q245 : (Jvm.Cond.lays "RoadsNotGoneBy$Bishop" "RoadsNotGoneBy$Life" "on" "I") ∈ lw_all := lw_g (lw_at lw_m1 122 rfl) rfl
theorem q246 : (Jvm.Cond.lays "RoadsNotGoneBy$Bishop" "RoadsNotGoneBy$Life" "mood" "I") ∈ lw_all := lw_g (lw_at lw_m1 123 rfl) rfl
theorem q247 : (Jvm.Cond.lays "RoadsNotGoneBy$Bishop" "RoadsNotGoneBy$Life" "eaten" "I") ∈ lw_all := lw_g (lw_at lw_m1 124 rfl) rfl
theorem q248 : (Jvm.Cond.superclass "RoadsNotGoneBy$Bishop" "RoadsNotGoneBy$Clergyman") ∈ lw_all := lw_g (lw_at lw_m1 125 rfl) rfl
theorem q311 : (Jvm.Cond.selects "RoadsNotGoneBy$Bishop" ({ cls := "RoadsNotGoneBy$Life", name := "kind", desc := "()I" } : Jvm.MethodName) ({ cls := "RoadsNotGoneBy$Bishop", name := "kind", desc := "()I" } : Jvm.MethodName)) ∈ lw_all := lw_g (lw_at lw_m1 188 rfl) rfl
theorem q312 : (Jvm.Cond.instanceMethod ({ cls := "RoadsNotGoneBy$Bishop", name := "kind", desc := "()I" } : Jvm.MethodName)) ∈ lw_all := lw_g (lw_at lw_m1 189 rfl) rfl
theorem q313 : (Jvm.Cond.code ({ cls := "RoadsNotGoneBy$Bishop", name := "kind", desc := "()I" } : Jvm.MethodName) prog_2_method_2_code (1 : Nat) (Option.some Jvm.ClassFile.FieldType.int)) ∈ lw_all := lw_g (lw_at lw_m1 190 rfl) rfl
theorem q314 : (Jvm.Cond.methodLink "RoadsNotGoneBy$Bishop" (7 : Nat) ({ cls := "RoadsNotGoneBy$Clergyman", name := "kind", desc := "()I" } : Jvm.MethodName)) ∈ lw_all := lw_g (lw_at lw_m1 191 rfl) rfl
theorem q370 : (Jvm.Cond.selects "RoadsNotGoneBy$Bishop" ({ cls := "RoadsNotGoneBy$Life", name := "takes", desc := "(IIII)I" } : Jvm.MethodName) ({ cls := "RoadsNotGoneBy$Bishop", name := "takes", desc := "(IIII)I" } : Jvm.MethodName)) ∈ lw_all := lw_g (lw_at lw_m2 7 rfl) rfl
theorem q371 : (Jvm.Cond.instanceMethod ({ cls := "RoadsNotGoneBy$Bishop", name := "takes", desc := "(IIII)I" } : Jvm.MethodName)) ∈ lw_all := lw_g (lw_at lw_m2 8 rfl) rfl
theorem q372 : (Jvm.Cond.code ({ cls := "RoadsNotGoneBy$Bishop", name := "takes", desc := "(IIII)I" } : Jvm.MethodName) prog_2_method_3_code (5 : Nat) (Option.some Jvm.ClassFile.FieldType.int)) ∈ lw_all := lw_g (lw_at lw_m2 9 rfl) rfl
theorem q373 : (Jvm.Cond.methodLink "RoadsNotGoneBy$Bishop" (11 : Nat) ({ cls := "RoadsNotGoneBy$Clergyman", name := "takes", desc := "(IIII)I" } : Jvm.MethodName)) ∈ lw_all := lw_g (lw_at lw_m2 10 rfl) rfl
theorem q397 : (Jvm.Cond.selects "RoadsNotGoneBy$Bishop" ({ cls := "RoadsNotGoneBy$Life", name := "putsBy", desc := "(I)I" } : Jvm.MethodName) ({ cls := "RoadsNotGoneBy$Bishop", name := "putsBy", desc := "(I)I" } : Jvm.MethodName)) ∈ lw_all := lw_g (lw_at lw_m2 34 rfl) rfl
theorem q398 : (Jvm.Cond.instanceMethod ({ cls := "RoadsNotGoneBy$Bishop", name := "putsBy", desc := "(I)I" } : Jvm.MethodName)) ∈ lw_all := lw_g (lw_at lw_m2 35 rfl) rfl
theorem q399 : (Jvm.Cond.code ({ cls := "RoadsNotGoneBy$Bishop", name := "putsBy", desc := "(I)I" } : Jvm.MethodName) prog_2_method_4_code (2 : Nat) (Option.some Jvm.ClassFile.FieldType.int)) ∈ lw_all := lw_g (lw_at lw_m2 36 rfl) rfl
theorem q400 : (Jvm.Cond.methodLink "RoadsNotGoneBy$Bishop" (15 : Nat) ({ cls := "RoadsNotGoneBy$Clergyman", name := "putsBy", desc := "(I)I" } : Jvm.MethodName)) ∈ lw_all := lw_g (lw_at lw_m2 37 rfl) rfl
theorem q913 : (Jvm.Cond.selects "RoadsNotGoneBy$Bishop" ({ cls := "RoadsNotGoneBy$Life", name := "feels", desc := "(I)I" } : Jvm.MethodName) ({ cls := "RoadsNotGoneBy$Bishop", name := "feels", desc := "(I)I" } : Jvm.MethodName)) ∈ lw_all := lw_g (lw_at lw_m4 70 rfl) rfl
theorem q914 : (Jvm.Cond.instanceMethod ({ cls := "RoadsNotGoneBy$Bishop", name := "feels", desc := "(I)I" } : Jvm.MethodName)) ∈ lw_all := lw_g (lw_at lw_m4 71 rfl) rfl
theorem q915 : (Jvm.Cond.code ({ cls := "RoadsNotGoneBy$Bishop", name := "feels", desc := "(I)I" } : Jvm.MethodName) prog_2_method_5_code (2 : Nat) (Option.some Jvm.ClassFile.FieldType.int)) ∈ lw_all := lw_g (lw_at lw_m4 72 rfl) rfl
theorem q916 : (Jvm.Cond.methodLink "RoadsNotGoneBy$Bishop" (19 : Nat) ({ cls := "RoadsNotGoneBy$Clergyman", name := "feels", desc := "(I)I" } : Jvm.MethodName)) ∈ lw_all := lw_g (lw_at lw_m4 73 rfl) rfl
theorem q1114 : (Jvm.Cond.selects "RoadsNotGoneBy$Bishop" ({ cls := "RoadsNotGoneBy$Life", name := "like", desc := "(LRoadsNotGoneBy$Life;)LRoadsNotGoneBy$Life;" } : Jvm.MethodName) ({ cls := "RoadsNotGoneBy$Life", name := "like", desc := "(LRoadsNotGoneBy$Life;)LRoadsNotGoneBy$Life;" } : Jvm.MethodName)) ∈ lw_all := lw_g (lw_at lw_m5 31 rfl) rfl
theorem q1870 : (Jvm.Cond.castable "RoadsNotGoneBy$Bishop" "RoadsNotGoneBy$Clergyman") ∈ lw_tbl := lw_at lw_m8 67 rfl
theorem q1878 : (Jvm.Cond.castable "RoadsNotGoneBy$Bishop" "RoadsNotGoneBy$Life") ∈ lw_tbl := lw_at lw_m8 75 rfl
theorem in_X13 : ∀ w ∈ wsX130, w ∈ lw_all := lw_in wsX130 [244, 245, 246, 247] (by decide +kernel) (by decide +kernel)
/-! RoadsNotGoneBy$Woman -/
set_option maxRecDepth 100000
def RX14 : String := "RoadsNotGoneBy$Woman"
def TX14 : u_T := fun k => match k with
  | 0 => ("RoadsNotGoneBy$Life", "number", "I", false)
  | 1 => ("RoadsNotGoneBy$Life", "on", "I", false)
  | 2 => ("RoadsNotGoneBy$Life", "mood", "I", false)
  | _ => ("RoadsNotGoneBy$Life", "eaten", "I", false)
def tyX14 : Nat → FieldType := fun k => match k with
  | 0 => .int
  | 1 => .int
  | 2 => .int
  | _ => .int
abbrev wsX140 : List Cond := u_ws RX14 TX14 4
theorem nmX14 : ∀ a, a < 4 → ∀ b, b < 4 → a ≠ b → (TX14 a).2.1 ≠ (TX14 b).2.1 := by decide +kernel
theorem tyX14_ok : ∀ k, k < 4 → parseFieldDescriptor (TX14 k).2.2.1 = some (tyX14 k) := by decide +kernel
abbrev cX14_init : ByteArray := prog_14_method_1_code
def yX14_init : MethodName := ⟨RX14, "<init>", "(II)V"⟩
def dkwX14_init_0 : List UInt8 := [42, 27, 28, 183, 0, 1, 177]
abbrev dktX14_init_0 : List UInt8 := dkwX14_init_0 ++ []
theorem dksX14_init_0 : cX14_init.data.toList.drop 0 = dktX14_init_0 := by decide +kernel
theorem dX14_init_0 : decode cX14_init 0 = .ok (.aload_n 0, 1) := dk_42 (dk_at dksX14_init_0 0 rfl rfl)
theorem dX14_init_1 : decode cX14_init 1 = .ok (.iload_n 1, 1) := dk_27 (dk_at dksX14_init_0 1 rfl rfl)
theorem dX14_init_2 : decode cX14_init 2 = .ok (.iload_n 2, 1) := dk_28 (dk_at dksX14_init_0 2 rfl rfl)
theorem dX14_init_3 : decode cX14_init 3 = .ok (.invokespecial 1, 3) := dk_183 0 1 (dk_at dksX14_init_0 3 rfl rfl)
theorem dX14_init_6 : decode cX14_init 6 = .ok (.return_, 1) := dk_177 (dk_at dksX14_init_0 6 rfl rfl)
abbrev cX14_kind : ByteArray := prog_14_method_2_code
def yX14_kind : MethodName := ⟨RX14, "kind", "()I"⟩
def dkwX14_kind_0 : List UInt8 := [42, 183, 0, 7, 8, 96, 172]
abbrev dktX14_kind_0 : List UInt8 := dkwX14_kind_0 ++ []
theorem dksX14_kind_0 : cX14_kind.data.toList.drop 0 = dktX14_kind_0 := by decide +kernel
theorem dX14_kind_0 : decode cX14_kind 0 = .ok (.aload_n 0, 1) := dk_42 (dk_at dksX14_kind_0 0 rfl rfl)
theorem dX14_kind_1 : decode cX14_kind 1 = .ok (.invokespecial 7, 3) := dk_183 0 7 (dk_at dksX14_kind_0 1 rfl rfl)
theorem dX14_kind_4 : decode cX14_kind 4 = .ok (.iconst 5, 1) := dk_8 (dk_at dksX14_kind_0 4 rfl rfl)
theorem dX14_kind_5 : decode cX14_kind 5 = .ok (.iadd, 1) := dk_96 (dk_at dksX14_kind_0 5 rfl rfl)
theorem dX14_kind_6 : decode cX14_kind 6 = .ok (.ireturn, 1) := dk_172 (dk_at dksX14_kind_0 6 rfl rfl)
abbrev cX14_takes : ByteArray := prog_14_method_3_code
def yX14_takes : MethodName := ⟨RX14, "takes", "(IIII)I"⟩
def dkwX14_takes_0 : List UInt8 := [42, 180, 0, 11, 5, 112, 172]
abbrev dktX14_takes_0 : List UInt8 := dkwX14_takes_0 ++ []
theorem dksX14_takes_0 : cX14_takes.data.toList.drop 0 = dktX14_takes_0 := by decide +kernel
theorem dX14_takes_0 : decode cX14_takes 0 = .ok (.aload_n 0, 1) := dk_42 (dk_at dksX14_takes_0 0 rfl rfl)
theorem dX14_takes_1 : decode cX14_takes 1 = .ok (.getfield 11, 3) := dk_180 0 11 (dk_at dksX14_takes_0 1 rfl rfl)
theorem dX14_takes_4 : decode cX14_takes 4 = .ok (.iconst 2, 1) := dk_5 (dk_at dksX14_takes_0 4 rfl rfl)
theorem dX14_takes_5 : decode cX14_takes 5 = .ok (.irem, 1) := dk_112 (dk_at dksX14_takes_0 5 rfl rfl)
theorem dX14_takes_6 : decode cX14_takes 6 = .ok (.ireturn, 1) := dk_172 (dk_at dksX14_takes_0 6 rfl rfl)
abbrev cX14_putsBy : ByteArray := prog_14_method_4_code
def yX14_putsBy : MethodName := ⟨RX14, "putsBy", "(I)I"⟩
theorem dX14_putsBy_0 : decode cX14_putsBy 0 = .ok (.iconst 0, 1) := by decide +kernel
theorem dX14_putsBy_1 : decode cX14_putsBy 1 = .ok (.ireturn, 1) := by decide +kernel
abbrev cX14_feels : ByteArray := prog_14_method_5_code
def yX14_feels : MethodName := ⟨RX14, "feels", "(I)I"⟩
theorem dX14_feels_0 : decode cX14_feels 0 = .ok (.iconst 0, 1) := by decide +kernel
theorem dX14_feels_1 : decode cX14_feels 1 = .ok (.ireturn, 1) := by decide +kernel
theorem q147 : (Jvm.Cond.initialized "RoadsNotGoneBy$Woman") ∈ lw_all := lw_g (lw_at lw_m1 24 rfl) rfl
theorem q183 : (Jvm.Cond.fieldLink "RoadsNotGoneBy$Woman" (11 : Nat) "RoadsNotGoneBy$Woman" "number" "I") ∈ lw_all := lw_g (lw_at lw_m1 60 rfl) rfl
theorem q184 : (Jvm.Cond.sameField "RoadsNotGoneBy$Woman" "RoadsNotGoneBy$Life" "number" "I") ∈ lw_all := lw_g (lw_at lw_m1 61 rfl) rfl
theorem q250 : (Jvm.Cond.instantiable "RoadsNotGoneBy$Woman" (4 : Nat)) ∈ lw_all := lw_g (lw_at lw_m1 127 rfl) rfl
theorem q252 : (Jvm.Cond.instanceMethod ({ cls := "RoadsNotGoneBy$Woman", name := "<init>", desc := "(II)V" } : Jvm.MethodName)) ∈ lw_all := lw_g (lw_at lw_m1 129 rfl) rfl
theorem q253 : (Jvm.Cond.code ({ cls := "RoadsNotGoneBy$Woman", name := "<init>", desc := "(II)V" } : Jvm.MethodName) prog_14_method_1_code (3 : Nat) (Option.none : Option Jvm.ClassFile.FieldType)) ∈ lw_all := lw_g (lw_at lw_m1 130 rfl) rfl
theorem q254 : (Jvm.Cond.methodLink "RoadsNotGoneBy$Woman" (1 : Nat) ({ cls := "RoadsNotGoneBy$Life", name := "<init>", desc := "(II)V" } : Jvm.MethodName)) ∈ lw_all := lw_g (lw_at lw_m1 131 rfl) rfl
theorem q255 : (Jvm.Cond.lays "RoadsNotGoneBy$Woman" "RoadsNotGoneBy$Life" "number" "I") ∈ lw_all := lw_g (lw_at lw_m1 132 rfl) rfl
theorem q256 : (Jvm.Cond.lays "RoadsNotGoneBy$Woman" "RoadsNotGoneBy$Life" "on" "I") ∈ lw_all := lw_g (lw_at lw_m1 133 rfl) rfl
theorem q257 : (Jvm.Cond.lays "RoadsNotGoneBy$Woman" "RoadsNotGoneBy$Life" "mood" "I") ∈ lw_all := lw_g (lw_at lw_m1 134 rfl) rfl
theorem q258 : (Jvm.Cond.lays "RoadsNotGoneBy$Woman" "RoadsNotGoneBy$Life" "eaten" "I") ∈ lw_all := lw_g (lw_at lw_m1 135 rfl) rfl
theorem q259 : (Jvm.Cond.superclass "RoadsNotGoneBy$Woman" "RoadsNotGoneBy$Life") ∈ lw_all := lw_g (lw_at lw_m1 136 rfl) rfl
theorem q328 : (Jvm.Cond.selects "RoadsNotGoneBy$Woman" ({ cls := "RoadsNotGoneBy$Life", name := "kind", desc := "()I" } : Jvm.MethodName) ({ cls := "RoadsNotGoneBy$Woman", name := "kind", desc := "()I" } : Jvm.MethodName)) ∈ lw_all := lw_g (lw_at lw_m1 205 rfl) rfl
theorem q329 : (Jvm.Cond.instanceMethod ({ cls := "RoadsNotGoneBy$Woman", name := "kind", desc := "()I" } : Jvm.MethodName)) ∈ lw_all := lw_g (lw_at lw_m1 206 rfl) rfl
theorem q330 : (Jvm.Cond.code ({ cls := "RoadsNotGoneBy$Woman", name := "kind", desc := "()I" } : Jvm.MethodName) prog_14_method_2_code (1 : Nat) (Option.some Jvm.ClassFile.FieldType.int)) ∈ lw_all := lw_g (lw_at lw_m1 207 rfl) rfl
theorem q331 : (Jvm.Cond.methodLink "RoadsNotGoneBy$Woman" (7 : Nat) ({ cls := "RoadsNotGoneBy$Life", name := "kind", desc := "()I" } : Jvm.MethodName)) ∈ lw_all := lw_g (lw_at lw_m1 208 rfl) rfl
theorem q386 : (Jvm.Cond.selects "RoadsNotGoneBy$Woman" ({ cls := "RoadsNotGoneBy$Life", name := "takes", desc := "(IIII)I" } : Jvm.MethodName) ({ cls := "RoadsNotGoneBy$Woman", name := "takes", desc := "(IIII)I" } : Jvm.MethodName)) ∈ lw_all := lw_g (lw_at lw_m2 23 rfl) rfl
theorem q387 : (Jvm.Cond.instanceMethod ({ cls := "RoadsNotGoneBy$Woman", name := "takes", desc := "(IIII)I" } : Jvm.MethodName)) ∈ lw_all := lw_g (lw_at lw_m2 24 rfl) rfl
theorem q388 : (Jvm.Cond.code ({ cls := "RoadsNotGoneBy$Woman", name := "takes", desc := "(IIII)I" } : Jvm.MethodName) prog_14_method_3_code (5 : Nat) (Option.some Jvm.ClassFile.FieldType.int)) ∈ lw_all := lw_g (lw_at lw_m2 25 rfl) rfl
theorem q414 : (Jvm.Cond.selects "RoadsNotGoneBy$Woman" ({ cls := "RoadsNotGoneBy$Life", name := "putsBy", desc := "(I)I" } : Jvm.MethodName) ({ cls := "RoadsNotGoneBy$Woman", name := "putsBy", desc := "(I)I" } : Jvm.MethodName)) ∈ lw_all := lw_g (lw_at lw_m2 51 rfl) rfl
theorem q415 : (Jvm.Cond.instanceMethod ({ cls := "RoadsNotGoneBy$Woman", name := "putsBy", desc := "(I)I" } : Jvm.MethodName)) ∈ lw_all := lw_g (lw_at lw_m2 52 rfl) rfl
theorem q416 : (Jvm.Cond.code ({ cls := "RoadsNotGoneBy$Woman", name := "putsBy", desc := "(I)I" } : Jvm.MethodName) prog_14_method_4_code (2 : Nat) (Option.some Jvm.ClassFile.FieldType.int)) ∈ lw_all := lw_g (lw_at lw_m2 53 rfl) rfl
theorem q931 : (Jvm.Cond.selects "RoadsNotGoneBy$Woman" ({ cls := "RoadsNotGoneBy$Life", name := "feels", desc := "(I)I" } : Jvm.MethodName) ({ cls := "RoadsNotGoneBy$Woman", name := "feels", desc := "(I)I" } : Jvm.MethodName)) ∈ lw_all := lw_g (lw_at lw_m4 88 rfl) rfl
theorem q932 : (Jvm.Cond.instanceMethod ({ cls := "RoadsNotGoneBy$Woman", name := "feels", desc := "(I)I" } : Jvm.MethodName)) ∈ lw_all := lw_g (lw_at lw_m4 89 rfl) rfl
theorem q933 : (Jvm.Cond.code ({ cls := "RoadsNotGoneBy$Woman", name := "feels", desc := "(I)I" } : Jvm.MethodName) prog_14_method_5_code (2 : Nat) (Option.some Jvm.ClassFile.FieldType.int)) ∈ lw_all := lw_g (lw_at lw_m4 90 rfl) rfl
theorem q1118 : (Jvm.Cond.selects "RoadsNotGoneBy$Woman" ({ cls := "RoadsNotGoneBy$Life", name := "like", desc := "(LRoadsNotGoneBy$Life;)LRoadsNotGoneBy$Life;" } : Jvm.MethodName) ({ cls := "RoadsNotGoneBy$Life", name := "like", desc := "(LRoadsNotGoneBy$Life;)LRoadsNotGoneBy$Life;" } : Jvm.MethodName)) ∈ lw_all := lw_g (lw_at lw_m5 35 rfl) rfl
theorem q1879 : (Jvm.Cond.castable "RoadsNotGoneBy$Woman" "RoadsNotGoneBy$Life") ∈ lw_tbl := lw_at lw_m8 76 rfl
theorem in_X14 : ∀ w ∈ wsX140, w ∈ lw_all := lw_in wsX140 [255, 256, 257, 258] (by decide +kernel) (by decide +kernel)
/-! RoadsNotGoneBy$Faulty -/
set_option maxRecDepth 100000
def RX1 : String := "RoadsNotGoneBy$Faulty"
def TX1 : u_T := fun k => match k with
  | 0 => ("java/lang/Throwable", "cause", "Ljava/lang/Throwable;", false)
  | 1 => ("java/lang/Throwable", "stackTrace", "[Ljava/lang/StackTraceElement;", false)
  | 2 => ("java/lang/Throwable", "suppressedExceptions", "Ljava/util/List;", false)
  | 3 => ("java/lang/Throwable", "detailMessage", "Ljava/lang/String;", false)
  | 4 => ("java/lang/Throwable", "backtrace", "Ljava/lang/Object;", false)
  | _ => ("java/lang/Throwable", "depth", "I", false)
def tyX1 : Nat → FieldType := fun k => match k with
  | 0 => .object "java/lang/Throwable"
  | 1 => .array (.object "java/lang/StackTraceElement")
  | 2 => .object "java/util/List"
  | 3 => .object "java/lang/String"
  | 4 => .object "java/lang/Object"
  | _ => .int
abbrev wsX10 : List Cond := u_ws RX1 TX1 6
theorem nmX1 : ∀ a, a < 6 → ∀ b, b < 6 → a ≠ b → (TX1 a).2.1 ≠ (TX1 b).2.1 := by decide +kernel
theorem tyX1_ok : ∀ k, k < 6 → parseFieldDescriptor (TX1 k).2.2.1 = some (tyX1 k) := by decide +kernel
abbrev cX1_init : ByteArray := prog_5_method_1_code
def yX1_init : MethodName := ⟨RX1, "<init>", "()V"⟩
def dkwX1_init_0 : List UInt8 := [42, 1, 1, 3, 3, 183, 0, 1, 177]
abbrev dktX1_init_0 : List UInt8 := dkwX1_init_0 ++ []
theorem dksX1_init_0 : cX1_init.data.toList.drop 0 = dktX1_init_0 := by decide +kernel
theorem dX1_init_0 : decode cX1_init 0 = .ok (.aload_n 0, 1) := dk_42 (dk_at dksX1_init_0 0 rfl rfl)
theorem dX1_init_1 : decode cX1_init 1 = .ok (.aconst_null, 1) := dk_1 (dk_at dksX1_init_0 1 rfl rfl)
theorem dX1_init_2 : decode cX1_init 2 = .ok (.aconst_null, 1) := dk_1 (dk_at dksX1_init_0 2 rfl rfl)
theorem dX1_init_3 : decode cX1_init 3 = .ok (.iconst 0, 1) := dk_3 (dk_at dksX1_init_0 3 rfl rfl)
theorem dX1_init_4 : decode cX1_init 4 = .ok (.iconst 0, 1) := dk_3 (dk_at dksX1_init_0 4 rfl rfl)
theorem dX1_init_5 : decode cX1_init 5 = .ok (.invokespecial 1, 3) := dk_183 0 1 (dk_at dksX1_init_0 5 rfl rfl)
theorem dX1_init_8 : decode cX1_init 8 = .ok (.return_, 1) := dk_177 (dk_at dksX1_init_0 8 rfl rfl)
theorem q128 : (Jvm.Cond.initialized "RoadsNotGoneBy$Faulty") ∈ lw_all := lw_g (lw_at lw_m1 5 rfl) rfl
theorem q669 : (Jvm.Cond.instantiable "RoadsNotGoneBy$Faulty" (6 : Nat)) ∈ lw_all := lw_g (lw_at lw_m3 66 rfl) rfl
theorem q670 : (Jvm.Cond.castable "RoadsNotGoneBy$Faulty" "RoadsNotGoneBy$Faulty") ∈ lw_tbl := lw_at lw_m3 67 rfl
theorem q677 : (Jvm.Cond.selects "RoadsNotGoneBy$Faulty" ({ cls := "java/lang/Throwable", name := "fillInStackTrace", desc := "(I)Ljava/lang/Throwable;" } : Jvm.MethodName) ({ cls := "java/lang/Throwable", name := "fillInStackTrace", desc := "(I)Ljava/lang/Throwable;" } : Jvm.MethodName)) ∈ lw_all := lw_g (lw_at lw_m3 74 rfl) rfl
theorem q678 : (Jvm.Cond.selects "RoadsNotGoneBy$Faulty" ({ cls := "java/lang/Throwable", name := "fillInStackTrace", desc := "()Ljava/lang/Throwable;" } : Jvm.MethodName) ({ cls := "java/lang/Throwable", name := "fillInStackTrace", desc := "()Ljava/lang/Throwable;" } : Jvm.MethodName)) ∈ lw_all := lw_g (lw_at lw_m3 75 rfl) rfl
theorem q679 : (Jvm.Cond.lays "RoadsNotGoneBy$Faulty" "java/lang/Throwable" "cause" "Ljava/lang/Throwable;") ∈ lw_all := lw_g (lw_at lw_m3 76 rfl) rfl
theorem q681 : (Jvm.Cond.lays "RoadsNotGoneBy$Faulty" "java/lang/Throwable" "stackTrace" "[Ljava/lang/StackTraceElement;") ∈ lw_all := lw_g (lw_at lw_m3 78 rfl) rfl
theorem q683 : (Jvm.Cond.lays "RoadsNotGoneBy$Faulty" "java/lang/Throwable" "suppressedExceptions" "Ljava/util/List;") ∈ lw_all := lw_g (lw_at lw_m3 80 rfl) rfl
theorem q685 : (Jvm.Cond.lays "RoadsNotGoneBy$Faulty" "java/lang/Throwable" "detailMessage" "Ljava/lang/String;") ∈ lw_all := lw_g (lw_at lw_m3 82 rfl) rfl
theorem q687 : (Jvm.Cond.lays "RoadsNotGoneBy$Faulty" "java/lang/Throwable" "backtrace" "Ljava/lang/Object;") ∈ lw_all := lw_g (lw_at lw_m3 84 rfl) rfl
theorem q726 : (Jvm.Cond.instanceMethod ({ cls := "RoadsNotGoneBy$Faulty", name := "<init>", desc := "()V" } : Jvm.MethodName)) ∈ lw_all := lw_g (lw_at lw_m3 123 rfl) rfl
theorem q727 : (Jvm.Cond.code ({ cls := "RoadsNotGoneBy$Faulty", name := "<init>", desc := "()V" } : Jvm.MethodName) prog_5_method_1_code (1 : Nat) (Option.none : Option Jvm.ClassFile.FieldType)) ∈ lw_all := lw_g (lw_at lw_m3 124 rfl) rfl
theorem q728 : (Jvm.Cond.methodLink "RoadsNotGoneBy$Faulty" (1 : Nat) ({ cls := "java/lang/RuntimeException", name := "<init>", desc := "(Ljava/lang/String;Ljava/lang/Throwable;ZZ)V" } : Jvm.MethodName)) ∈ lw_all := lw_g (lw_at lw_m3 125 rfl) rfl
theorem q746 : (Jvm.Cond.lays "RoadsNotGoneBy$Faulty" "java/lang/Throwable" "depth" "I") ∈ lw_all := lw_g (lw_at lw_m3 143 rfl) rfl
theorem q749 : (Jvm.Cond.superclass "RoadsNotGoneBy$Faulty" "java/lang/RuntimeException") ∈ lw_all := lw_g (lw_at lw_m3 146 rfl) rfl
theorem in_X1 : ∀ w ∈ wsX10, w ∈ lw_all := lw_in wsX10 [679, 681, 683, 685, 687, 746] (by decide +kernel) (by decide +kernel)
/-! RoadsNotGoneBy$Sheet -/
set_option maxRecDepth 100000
def RX2 : String := "RoadsNotGoneBy$Sheet"
def TX2 : u_T := fun k => match k with
  | _ => ("RoadsNotGoneBy$Sheet", "row", "Ljava/lang/Object;", false)
def tyX2 : Nat → FieldType := fun k => match k with
  | _ => .object "java/lang/Object"
abbrev wsX20 : List Cond := u_ws RX2 TX2 1
theorem nmX2 : ∀ a, a < 1 → ∀ b, b < 1 → a ≠ b → (TX2 a).2.1 ≠ (TX2 b).2.1 := by decide +kernel
theorem tyX2_ok : ∀ k, k < 1 → parseFieldDescriptor (TX2 k).2.2.1 = some (tyX2 k) := by decide +kernel
abbrev cX2_init : ByteArray := prog_11_method_1_code
def yX2_init : MethodName := ⟨RX2, "<init>", "()V"⟩
theorem dX2_init_0 : decode cX2_init 0 = .ok (.aload_n 0, 1) := by decide +kernel
theorem dX2_init_1 : decode cX2_init 1 = .ok (.invokespecial 1, 3) := by decide +kernel
theorem dX2_init_4 : decode cX2_init 4 = .ok (.return_, 1) := by decide +kernel
theorem q129 : (Jvm.Cond.initialized "RoadsNotGoneBy$Sheet") ∈ lw_all := lw_g (lw_at lw_m1 6 rfl) rfl
theorem q771 : (Jvm.Cond.instantiable "RoadsNotGoneBy$Sheet" (1 : Nat)) ∈ lw_all := lw_g (lw_at lw_m3 168 rfl) rfl
theorem q773 : (Jvm.Cond.instanceMethod ({ cls := "RoadsNotGoneBy$Sheet", name := "<init>", desc := "()V" } : Jvm.MethodName)) ∈ lw_all := lw_g (lw_at lw_m3 170 rfl) rfl
theorem q774 : (Jvm.Cond.code ({ cls := "RoadsNotGoneBy$Sheet", name := "<init>", desc := "()V" } : Jvm.MethodName) prog_11_method_1_code (1 : Nat) (Option.none : Option Jvm.ClassFile.FieldType)) ∈ lw_all := lw_g (lw_at lw_m3 171 rfl) rfl
theorem q775 : (Jvm.Cond.methodLink "RoadsNotGoneBy$Sheet" (1 : Nat) ({ cls := "java/lang/Object", name := "<init>", desc := "()V" } : Jvm.MethodName)) ∈ lw_all := lw_g (lw_at lw_m3 172 rfl) rfl
theorem q777 : (Jvm.Cond.lays "RoadsNotGoneBy$Sheet" "RoadsNotGoneBy$Sheet" "row" "Ljava/lang/Object;") ∈ lw_all := lw_g (lw_at lw_m3 174 rfl) rfl
theorem q778 : (Jvm.Cond.soleField "RoadsNotGoneBy$Sheet" "row") ∈ lw_all := lw_g (lw_at lw_m3 175 rfl) rfl
theorem q779 : (Jvm.Cond.superclass "RoadsNotGoneBy$Sheet" "java/lang/Object") ∈ lw_all := lw_g (lw_at lw_m3 176 rfl) rfl
theorem in_X2 : ∀ w ∈ wsX20, w ∈ lw_all := lw_in wsX20 [777] (by decide +kernel) (by decide +kernel)
/-! RoadsNotGoneBy$Node -/
set_option maxRecDepth 100000
def RX3 : String := "RoadsNotGoneBy$Node"
abbrev cX3_init : ByteArray := prog_9_method_1_code
def yX3_init : MethodName := ⟨RX3, "<init>", "()V"⟩
theorem dX3_init_0 : decode cX3_init 0 = .ok (.aload_n 0, 1) := by decide +kernel
theorem dX3_init_1 : decode cX3_init 1 = .ok (.invokespecial 1, 3) := by decide +kernel
theorem dX3_init_4 : decode cX3_init 4 = .ok (.return_, 1) := by decide +kernel
theorem q136 : (Jvm.Cond.initialized "RoadsNotGoneBy$Node") ∈ lw_all := lw_g (lw_at lw_m1 13 rfl) rfl
theorem q341 : (Jvm.Cond.declares ({ cls := "RoadsNotGoneBy$Node", name := "worth", desc := "()I" } : Jvm.MethodName)) ∈ lw_tbl := lw_at lw_m1 218 rfl
theorem q342 : (Jvm.Cond.sameMethod "RoadsNotGoneBy$Node" "RoadsNotGoneBy$Node" "worth" "()I") ∈ lw_all := lw_g (lw_at lw_m1 219 rfl) rfl
theorem q597 : (Jvm.Cond.instanceMethod ({ cls := "RoadsNotGoneBy$Node", name := "<init>", desc := "()V" } : Jvm.MethodName)) ∈ lw_all := lw_g (lw_at lw_m2 234 rfl) rfl
theorem q598 : (Jvm.Cond.code ({ cls := "RoadsNotGoneBy$Node", name := "<init>", desc := "()V" } : Jvm.MethodName) prog_9_method_1_code (1 : Nat) (Option.none : Option Jvm.ClassFile.FieldType)) ∈ lw_all := lw_g (lw_at lw_m2 235 rfl) rfl
theorem q599 : (Jvm.Cond.methodLink "RoadsNotGoneBy$Node" (1 : Nat) ({ cls := "java/lang/Object", name := "<init>", desc := "()V" } : Jvm.MethodName)) ∈ lw_all := lw_g (lw_at lw_m2 236 rfl) rfl
/-! RoadsNotGoneBy$Turned -/
set_option maxRecDepth 100000
def RX4 : String := "RoadsNotGoneBy$Turned"
def TX4 : u_T := fun k => match k with
  | 0 => ("RoadsNotGoneBy$Turned", "of", "LRoadsNotGoneBy$Node;", true)
  | _ => ("RoadsNotGoneBy$Turned", "isMinus", "Z", true)
def tyX4 : Nat → FieldType := fun k => match k with
  | 0 => .object "RoadsNotGoneBy$Node"
  | _ => .boolean
abbrev wsX40 : List Cond := u_ws RX4 TX4 2
theorem nmX4 : ∀ a, a < 2 → ∀ b, b < 2 → a ≠ b → (TX4 a).2.1 ≠ (TX4 b).2.1 := by decide +kernel
theorem tyX4_ok : ∀ k, k < 2 → parseFieldDescriptor (TX4 k).2.2.1 = some (tyX4 k) := by decide +kernel
abbrev cX4_worth : ByteArray := prog_12_method_2_code
def yX4_worth : MethodName := ⟨RX4, "worth", "()I"⟩
def dkwX4_worth_1 : List UInt8 := [4, 167, 0, 4, 3, 172]
abbrev dktX4_worth_1 : List UInt8 := dkwX4_worth_1 ++ []
def dkwX4_worth_0 : List UInt8 := [42, 180, 0, 7, 182, 0, 17, 60, 42, 180, 0, 13, 153, 0, 8, 27, 116, 167, 0, 12, 27, 154, 0, 7]
abbrev dktX4_worth_0 : List UInt8 := dkwX4_worth_0 ++ dktX4_worth_1
theorem dksX4_worth_0 : cX4_worth.data.toList.drop 0 = dktX4_worth_0 := by decide +kernel
theorem dksX4_worth_1 : cX4_worth.data.toList.drop 24 = dktX4_worth_1 := dk_seg dksX4_worth_0 24 rfl rfl
theorem dX4_worth_0 : decode cX4_worth 0 = .ok (.aload_n 0, 1) := dk_42 (dk_at dksX4_worth_0 0 rfl rfl)
theorem dX4_worth_1 : decode cX4_worth 1 = .ok (.getfield 7, 3) := dk_180 0 7 (dk_at dksX4_worth_0 1 rfl rfl)
theorem dX4_worth_4 : decode cX4_worth 4 = .ok (.invokevirtual 17, 3) := dk_182 0 17 (dk_at dksX4_worth_0 4 rfl rfl)
theorem dX4_worth_7 : decode cX4_worth 7 = .ok (.istore_n 1, 1) := dk_60 (dk_at dksX4_worth_0 7 rfl rfl)
theorem dX4_worth_8 : decode cX4_worth 8 = .ok (.aload_n 0, 1) := dk_42 (dk_at dksX4_worth_0 8 rfl rfl)
theorem dX4_worth_9 : decode cX4_worth 9 = .ok (.getfield 13, 3) := dk_180 0 13 (dk_at dksX4_worth_0 9 rfl rfl)
theorem dX4_worth_12 : decode cX4_worth 12 = .ok (.ifCond .eq 8, 3) := dk_153 0 8 (dk_at dksX4_worth_0 12 rfl rfl)
theorem dX4_worth_15 : decode cX4_worth 15 = .ok (.iload_n 1, 1) := dk_27 (dk_at dksX4_worth_0 15 rfl rfl)
theorem dX4_worth_16 : decode cX4_worth 16 = .ok (.ineg, 1) := dk_116 (dk_at dksX4_worth_0 16 rfl rfl)
theorem dX4_worth_17 : decode cX4_worth 17 = .ok (.goto 12, 3) := dk_167 0 12 (dk_at dksX4_worth_0 17 rfl rfl)
theorem dX4_worth_20 : decode cX4_worth 20 = .ok (.iload_n 1, 1) := dk_27 (dk_at dksX4_worth_0 20 rfl rfl)
theorem dX4_worth_21 : decode cX4_worth 21 = .ok (.ifCond .ne 7, 3) := dk_154 0 7 (dk_at dksX4_worth_0 21 rfl rfl)
theorem dX4_worth_24 : decode cX4_worth 24 = .ok (.iconst 1, 1) := dk_4 (dk_at dksX4_worth_1 0 rfl rfl)
theorem dX4_worth_25 : decode cX4_worth 25 = .ok (.goto 4, 3) := dk_167 0 4 (dk_at dksX4_worth_1 1 rfl rfl)
theorem dX4_worth_28 : decode cX4_worth 28 = .ok (.iconst 0, 1) := dk_3 (dk_at dksX4_worth_1 4 rfl rfl)
theorem dX4_worth_29 : decode cX4_worth 29 = .ok (.ireturn, 1) := dk_172 (dk_at dksX4_worth_1 5 rfl rfl)
abbrev cX4_init : ByteArray := prog_12_method_1_code
def yX4_init : MethodName := ⟨RX4, "<init>", "(LRoadsNotGoneBy$Node;Z)V"⟩
def dkwX4_init_0 : List UInt8 := [42, 183, 0, 1, 42, 43, 181, 0, 7, 42, 28, 181, 0, 13, 177]
abbrev dktX4_init_0 : List UInt8 := dkwX4_init_0 ++ []
theorem dksX4_init_0 : cX4_init.data.toList.drop 0 = dktX4_init_0 := by decide +kernel
theorem dX4_init_0 : decode cX4_init 0 = .ok (.aload_n 0, 1) := dk_42 (dk_at dksX4_init_0 0 rfl rfl)
theorem dX4_init_1 : decode cX4_init 1 = .ok (.invokespecial 1, 3) := dk_183 0 1 (dk_at dksX4_init_0 1 rfl rfl)
theorem dX4_init_4 : decode cX4_init 4 = .ok (.aload_n 0, 1) := dk_42 (dk_at dksX4_init_0 4 rfl rfl)
theorem dX4_init_5 : decode cX4_init 5 = .ok (.aload_n 1, 1) := dk_43 (dk_at dksX4_init_0 5 rfl rfl)
theorem dX4_init_6 : decode cX4_init 6 = .ok (.putfield 7, 3) := dk_181 0 7 (dk_at dksX4_init_0 6 rfl rfl)
theorem dX4_init_9 : decode cX4_init 9 = .ok (.aload_n 0, 1) := dk_42 (dk_at dksX4_init_0 9 rfl rfl)
theorem dX4_init_10 : decode cX4_init 10 = .ok (.iload_n 2, 1) := dk_28 (dk_at dksX4_init_0 10 rfl rfl)
theorem dX4_init_11 : decode cX4_init 11 = .ok (.putfield 13, 3) := dk_181 0 13 (dk_at dksX4_init_0 11 rfl rfl)
theorem dX4_init_14 : decode cX4_init 14 = .ok (.return_, 1) := dk_177 (dk_at dksX4_init_0 14 rfl rfl)
theorem q137 : (Jvm.Cond.initialized "RoadsNotGoneBy$Turned") ∈ lw_all := lw_g (lw_at lw_m1 14 rfl) rfl
theorem q349 : (Jvm.Cond.selects "RoadsNotGoneBy$Turned" ({ cls := "RoadsNotGoneBy$Node", name := "worth", desc := "()I" } : Jvm.MethodName) ({ cls := "RoadsNotGoneBy$Turned", name := "worth", desc := "()I" } : Jvm.MethodName)) ∈ lw_all := lw_g (lw_at lw_m1 226 rfl) rfl
theorem q350 : (Jvm.Cond.instanceMethod ({ cls := "RoadsNotGoneBy$Turned", name := "worth", desc := "()I" } : Jvm.MethodName)) ∈ lw_all := lw_g (lw_at lw_m1 227 rfl) rfl
theorem q351 : (Jvm.Cond.code ({ cls := "RoadsNotGoneBy$Turned", name := "worth", desc := "()I" } : Jvm.MethodName) prog_12_method_2_code (2 : Nat) (Option.some Jvm.ClassFile.FieldType.int)) ∈ lw_all := lw_g (lw_at lw_m1 228 rfl) rfl
theorem q352 : (Jvm.Cond.methodLink "RoadsNotGoneBy$Turned" (17 : Nat) ({ cls := "RoadsNotGoneBy$Node", name := "worth", desc := "()I" } : Jvm.MethodName)) ∈ lw_all := lw_g (lw_at lw_m1 229 rfl) rfl
theorem q592 : (Jvm.Cond.instantiable "RoadsNotGoneBy$Turned" (2 : Nat)) ∈ lw_all := lw_g (lw_at lw_m2 229 rfl) rfl
theorem q594 : (Jvm.Cond.instanceMethod ({ cls := "RoadsNotGoneBy$Turned", name := "<init>", desc := "(LRoadsNotGoneBy$Node;Z)V" } : Jvm.MethodName)) ∈ lw_all := lw_g (lw_at lw_m2 231 rfl) rfl
theorem q595 : (Jvm.Cond.code ({ cls := "RoadsNotGoneBy$Turned", name := "<init>", desc := "(LRoadsNotGoneBy$Node;Z)V" } : Jvm.MethodName) prog_12_method_1_code (3 : Nat) (Option.none : Option Jvm.ClassFile.FieldType)) ∈ lw_all := lw_g (lw_at lw_m2 232 rfl) rfl
theorem q596 : (Jvm.Cond.methodLinkNest "RoadsNotGoneBy$Turned" (1 : Nat) ({ cls := "RoadsNotGoneBy$Node", name := "<init>", desc := "()V" } : Jvm.MethodName) "RoadsNotGoneBy") ∈ lw_tbl := lw_at lw_m2 233 rfl
theorem q600 : (Jvm.Cond.fieldLink "RoadsNotGoneBy$Turned" (7 : Nat) "RoadsNotGoneBy$Turned" "of" "LRoadsNotGoneBy$Node;") ∈ lw_all := lw_g (lw_at lw_m2 237 rfl) rfl
theorem q601 : (Jvm.Cond.fieldLink "RoadsNotGoneBy$Turned" (13 : Nat) "RoadsNotGoneBy$Turned" "isMinus" "Z") ∈ lw_all := lw_g (lw_at lw_m2 238 rfl) rfl
theorem q602 : (Jvm.Cond.laysFinal "RoadsNotGoneBy$Turned" "RoadsNotGoneBy$Turned" "of" "LRoadsNotGoneBy$Node;") ∈ lw_all := lw_g (lw_at lw_m2 239 rfl) rfl
theorem q603 : (Jvm.Cond.soleField "RoadsNotGoneBy$Turned" "of") ∈ lw_all := lw_g (lw_at lw_m3 0 rfl) rfl
theorem q604 : (Jvm.Cond.laysFinal "RoadsNotGoneBy$Turned" "RoadsNotGoneBy$Turned" "isMinus" "Z") ∈ lw_all := lw_g (lw_at lw_m3 1 rfl) rfl
theorem q605 : (Jvm.Cond.soleField "RoadsNotGoneBy$Turned" "isMinus") ∈ lw_all := lw_g (lw_at lw_m3 2 rfl) rfl
theorem q606 : (Jvm.Cond.superclass "RoadsNotGoneBy$Turned" "RoadsNotGoneBy$Node") ∈ lw_all := lw_g (lw_at lw_m3 3 rfl) rfl
theorem q1871 : (Jvm.Cond.castable "RoadsNotGoneBy$Turned" "RoadsNotGoneBy$Node") ∈ lw_tbl := lw_at lw_m8 68 rfl
theorem in_X4 : ∀ w ∈ wsX40, w ∈ lw_all := lw_in wsX40 [602, 604] (by decide +kernel) (by decide +kernel)
/-! RoadsNotGoneBy$Number -/
set_option maxRecDepth 100000
def RX5 : String := "RoadsNotGoneBy$Number"
def TX5 : u_T := fun k => match k with
  | _ => ("RoadsNotGoneBy$Number", "v", "I", true)
def tyX5 : Nat → FieldType := fun k => match k with
  | _ => .int
abbrev wsX50 : List Cond := u_ws RX5 TX5 1
theorem nmX5 : ∀ a, a < 1 → ∀ b, b < 1 → a ≠ b → (TX5 a).2.1 ≠ (TX5 b).2.1 := by decide +kernel
theorem tyX5_ok : ∀ k, k < 1 → parseFieldDescriptor (TX5 k).2.2.1 = some (tyX5 k) := by decide +kernel
abbrev cX5_worth : ByteArray := prog_10_method_2_code
def yX5_worth : MethodName := ⟨RX5, "worth", "()I"⟩
theorem dX5_worth_0 : decode cX5_worth 0 = .ok (.aload_n 0, 1) := by decide +kernel
theorem dX5_worth_1 : decode cX5_worth 1 = .ok (.getfield 7, 3) := by decide +kernel
theorem dX5_worth_4 : decode cX5_worth 4 = .ok (.ireturn, 1) := by decide +kernel
abbrev cX5_init : ByteArray := prog_10_method_1_code
def yX5_init : MethodName := ⟨RX5, "<init>", "(I)V"⟩
def dkwX5_init_0 : List UInt8 := [42, 183, 0, 1, 42, 27, 181, 0, 7, 177]
abbrev dktX5_init_0 : List UInt8 := dkwX5_init_0 ++ []
theorem dksX5_init_0 : cX5_init.data.toList.drop 0 = dktX5_init_0 := by decide +kernel
theorem dX5_init_0 : decode cX5_init 0 = .ok (.aload_n 0, 1) := dk_42 (dk_at dksX5_init_0 0 rfl rfl)
theorem dX5_init_1 : decode cX5_init 1 = .ok (.invokespecial 1, 3) := dk_183 0 1 (dk_at dksX5_init_0 1 rfl rfl)
theorem dX5_init_4 : decode cX5_init 4 = .ok (.aload_n 0, 1) := dk_42 (dk_at dksX5_init_0 4 rfl rfl)
theorem dX5_init_5 : decode cX5_init 5 = .ok (.iload_n 1, 1) := dk_27 (dk_at dksX5_init_0 5 rfl rfl)
theorem dX5_init_6 : decode cX5_init 6 = .ok (.putfield 7, 3) := dk_181 0 7 (dk_at dksX5_init_0 6 rfl rfl)
theorem dX5_init_9 : decode cX5_init 9 = .ok (.return_, 1) := dk_177 (dk_at dksX5_init_0 9 rfl rfl)
theorem q138 : (Jvm.Cond.initialized "RoadsNotGoneBy$Number") ∈ lw_all := lw_g (lw_at lw_m1 15 rfl) rfl
theorem q346 : (Jvm.Cond.selects "RoadsNotGoneBy$Number" ({ cls := "RoadsNotGoneBy$Node", name := "worth", desc := "()I" } : Jvm.MethodName) ({ cls := "RoadsNotGoneBy$Number", name := "worth", desc := "()I" } : Jvm.MethodName)) ∈ lw_all := lw_g (lw_at lw_m1 223 rfl) rfl
theorem q347 : (Jvm.Cond.instanceMethod ({ cls := "RoadsNotGoneBy$Number", name := "worth", desc := "()I" } : Jvm.MethodName)) ∈ lw_all := lw_g (lw_at lw_m1 224 rfl) rfl
theorem q348 : (Jvm.Cond.code ({ cls := "RoadsNotGoneBy$Number", name := "worth", desc := "()I" } : Jvm.MethodName) prog_10_method_2_code (1 : Nat) (Option.some Jvm.ClassFile.FieldType.int)) ∈ lw_all := lw_g (lw_at lw_m1 225 rfl) rfl
theorem q621 : (Jvm.Cond.instantiable "RoadsNotGoneBy$Number" (1 : Nat)) ∈ lw_all := lw_g (lw_at lw_m3 18 rfl) rfl
theorem q623 : (Jvm.Cond.instanceMethod ({ cls := "RoadsNotGoneBy$Number", name := "<init>", desc := "(I)V" } : Jvm.MethodName)) ∈ lw_all := lw_g (lw_at lw_m3 20 rfl) rfl
theorem q624 : (Jvm.Cond.code ({ cls := "RoadsNotGoneBy$Number", name := "<init>", desc := "(I)V" } : Jvm.MethodName) prog_10_method_1_code (2 : Nat) (Option.none : Option Jvm.ClassFile.FieldType)) ∈ lw_all := lw_g (lw_at lw_m3 21 rfl) rfl
theorem q625 : (Jvm.Cond.methodLinkNest "RoadsNotGoneBy$Number" (1 : Nat) ({ cls := "RoadsNotGoneBy$Node", name := "<init>", desc := "()V" } : Jvm.MethodName) "RoadsNotGoneBy") ∈ lw_tbl := lw_at lw_m3 22 rfl
theorem q626 : (Jvm.Cond.fieldLink "RoadsNotGoneBy$Number" (7 : Nat) "RoadsNotGoneBy$Number" "v" "I") ∈ lw_all := lw_g (lw_at lw_m3 23 rfl) rfl
theorem q627 : (Jvm.Cond.laysFinal "RoadsNotGoneBy$Number" "RoadsNotGoneBy$Number" "v" "I") ∈ lw_all := lw_g (lw_at lw_m3 24 rfl) rfl
theorem q628 : (Jvm.Cond.soleField "RoadsNotGoneBy$Number" "v") ∈ lw_all := lw_g (lw_at lw_m3 25 rfl) rfl
theorem q629 : (Jvm.Cond.superclass "RoadsNotGoneBy$Number" "RoadsNotGoneBy$Node") ∈ lw_all := lw_g (lw_at lw_m3 26 rfl) rfl
theorem q1872 : (Jvm.Cond.castable "RoadsNotGoneBy$Number" "RoadsNotGoneBy$Node") ∈ lw_tbl := lw_at lw_m8 69 rfl
theorem in_X5 : ∀ w ∈ wsX50, w ∈ lw_all := lw_in wsX50 [627] (by decide +kernel) (by decide +kernel)
/-! RoadsNotGoneBy$Name -/
set_option maxRecDepth 100000
def RX6 : String := "RoadsNotGoneBy$Name"
def TX6 : u_T := fun k => match k with
  | 0 => ("RoadsNotGoneBy$Name", "which", "I", true)
  | _ => ("RoadsNotGoneBy$Name", "this$0", "LRoadsNotGoneBy;", true)
def tyX6 : Nat → FieldType := fun k => match k with
  | 0 => .int
  | _ => .object "RoadsNotGoneBy"
abbrev wsX60 : List Cond := u_ws RX6 TX6 2
theorem nmX6 : ∀ a, a < 2 → ∀ b, b < 2 → a ≠ b → (TX6 a).2.1 ≠ (TX6 b).2.1 := by decide +kernel
theorem tyX6_ok : ∀ k, k < 2 → parseFieldDescriptor (TX6 k).2.2.1 = some (tyX6 k) := by decide +kernel
abbrev cX6_worth : ByteArray := prog_8_method_2_code
def yX6_worth : MethodName := ⟨RX6, "worth", "()I"⟩
def dkwX6_worth_5 : List UInt8 := [180, 0, 40, 172, 42, 180, 0, 1, 180, 0, 17, 42, 180, 0, 1, 180, 0, 23, 50, 180, 0, 43, 172]
abbrev dktX6_worth_5 : List UInt8 := dkwX6_worth_5 ++ []
def dkwX6_worth_4 : List UInt8 := [180, 0, 1, 180, 0, 37, 172, 42, 180, 0, 1, 180, 0, 17, 42, 180, 0, 1, 180, 0, 23, 50]
abbrev dktX6_worth_4 : List UInt8 := dkwX6_worth_4 ++ dktX6_worth_5
def dkwX6_worth_3 : List UInt8 := [180, 0, 31, 172, 42, 180, 0, 1, 180, 0, 17, 42, 180, 0, 1, 180, 0, 23, 50, 180, 0, 34, 172, 42]
abbrev dktX6_worth_3 : List UInt8 := dkwX6_worth_3 ++ dktX6_worth_4
def dkwX6_worth_2 : List UInt8 := [42, 180, 0, 1, 180, 0, 17, 42, 180, 0, 1, 180, 0, 23, 50, 180, 0, 26, 172, 42, 180, 0, 1]
abbrev dktX6_worth_2 : List UInt8 := dkwX6_worth_2 ++ dktX6_worth_3
def dkwX6_worth_1 : List UInt8 := [170, 0, 0, 0, 0, 0, 0, 109, 0, 0, 0, 0, 0, 0, 0, 4, 0, 0, 0, 36, 0, 0, 0, 55, 0, 0, 0, 63, 0, 0, 0, 82, 0, 0, 0, 90]
abbrev dktX6_worth_1 : List UInt8 := dkwX6_worth_1 ++ dktX6_worth_2
def dkwX6_worth_0 : List UInt8 := [42, 180, 0, 13]
abbrev dktX6_worth_0 : List UInt8 := dkwX6_worth_0 ++ dktX6_worth_1
theorem dksX6_worth_0 : cX6_worth.data.toList.drop 0 = dktX6_worth_0 := by decide +kernel
theorem dksX6_worth_1 : cX6_worth.data.toList.drop 4 = dktX6_worth_1 := dk_seg dksX6_worth_0 4 rfl rfl
theorem dksX6_worth_2 : cX6_worth.data.toList.drop 40 = dktX6_worth_2 := dk_seg dksX6_worth_1 36 rfl rfl
theorem dksX6_worth_3 : cX6_worth.data.toList.drop 63 = dktX6_worth_3 := dk_seg dksX6_worth_2 23 rfl rfl
theorem dksX6_worth_4 : cX6_worth.data.toList.drop 87 = dktX6_worth_4 := dk_seg dksX6_worth_3 24 rfl rfl
theorem dksX6_worth_5 : cX6_worth.data.toList.drop 109 = dktX6_worth_5 := dk_seg dksX6_worth_4 22 rfl rfl
theorem dX6_worth_0 : decode cX6_worth 0 = .ok (.aload_n 0, 1) := dk_42 (dk_at dksX6_worth_0 0 rfl rfl)
theorem dX6_worth_1 : decode cX6_worth 1 = .ok (.getfield 13, 3) := dk_180 0 13 (dk_at dksX6_worth_0 1 rfl rfl)
theorem dX6_worth_4 : decode cX6_worth 4 = .ok (.tableswitch 109 0 4 #[36, 55, 63, 82, 90], 36) := by decide +kernel
theorem dX6_worth_40 : decode cX6_worth 40 = .ok (.aload_n 0, 1) := dk_42 (dk_at dksX6_worth_2 0 rfl rfl)
theorem dX6_worth_41 : decode cX6_worth 41 = .ok (.getfield 1, 3) := dk_180 0 1 (dk_at dksX6_worth_2 1 rfl rfl)
theorem dX6_worth_44 : decode cX6_worth 44 = .ok (.getfield 17, 3) := dk_180 0 17 (dk_at dksX6_worth_2 4 rfl rfl)
theorem dX6_worth_47 : decode cX6_worth 47 = .ok (.aload_n 0, 1) := dk_42 (dk_at dksX6_worth_2 7 rfl rfl)
theorem dX6_worth_48 : decode cX6_worth 48 = .ok (.getfield 1, 3) := dk_180 0 1 (dk_at dksX6_worth_2 8 rfl rfl)
theorem dX6_worth_51 : decode cX6_worth 51 = .ok (.getfield 23, 3) := dk_180 0 23 (dk_at dksX6_worth_2 11 rfl rfl)
theorem dX6_worth_54 : decode cX6_worth 54 = .ok (.aaload, 1) := dk_50 (dk_at dksX6_worth_2 14 rfl rfl)
theorem dX6_worth_55 : decode cX6_worth 55 = .ok (.getfield 26, 3) := dk_180 0 26 (dk_at dksX6_worth_2 15 rfl rfl)
theorem dX6_worth_58 : decode cX6_worth 58 = .ok (.ireturn, 1) := dk_172 (dk_at dksX6_worth_2 18 rfl rfl)
theorem dX6_worth_59 : decode cX6_worth 59 = .ok (.aload_n 0, 1) := dk_42 (dk_at dksX6_worth_2 19 rfl rfl)
theorem dX6_worth_60 : decode cX6_worth 60 = .ok (.getfield 1, 3) := dk_180 0 1 (dk_at dksX6_worth_2 20 rfl rfl)
theorem dX6_worth_63 : decode cX6_worth 63 = .ok (.getfield 31, 3) := dk_180 0 31 (dk_at dksX6_worth_3 0 rfl rfl)
theorem dX6_worth_66 : decode cX6_worth 66 = .ok (.ireturn, 1) := dk_172 (dk_at dksX6_worth_3 3 rfl rfl)
theorem dX6_worth_67 : decode cX6_worth 67 = .ok (.aload_n 0, 1) := dk_42 (dk_at dksX6_worth_3 4 rfl rfl)
theorem dX6_worth_68 : decode cX6_worth 68 = .ok (.getfield 1, 3) := dk_180 0 1 (dk_at dksX6_worth_3 5 rfl rfl)
theorem dX6_worth_71 : decode cX6_worth 71 = .ok (.getfield 17, 3) := dk_180 0 17 (dk_at dksX6_worth_3 8 rfl rfl)
theorem dX6_worth_74 : decode cX6_worth 74 = .ok (.aload_n 0, 1) := dk_42 (dk_at dksX6_worth_3 11 rfl rfl)
theorem dX6_worth_75 : decode cX6_worth 75 = .ok (.getfield 1, 3) := dk_180 0 1 (dk_at dksX6_worth_3 12 rfl rfl)
theorem dX6_worth_78 : decode cX6_worth 78 = .ok (.getfield 23, 3) := dk_180 0 23 (dk_at dksX6_worth_3 15 rfl rfl)
theorem dX6_worth_81 : decode cX6_worth 81 = .ok (.aaload, 1) := dk_50 (dk_at dksX6_worth_3 18 rfl rfl)
theorem dX6_worth_82 : decode cX6_worth 82 = .ok (.getfield 34, 3) := dk_180 0 34 (dk_at dksX6_worth_3 19 rfl rfl)
theorem dX6_worth_85 : decode cX6_worth 85 = .ok (.ireturn, 1) := dk_172 (dk_at dksX6_worth_3 22 rfl rfl)
theorem dX6_worth_86 : decode cX6_worth 86 = .ok (.aload_n 0, 1) := dk_42 (dk_at dksX6_worth_3 23 rfl rfl)
theorem dX6_worth_87 : decode cX6_worth 87 = .ok (.getfield 1, 3) := dk_180 0 1 (dk_at dksX6_worth_4 0 rfl rfl)
theorem dX6_worth_90 : decode cX6_worth 90 = .ok (.getfield 37, 3) := dk_180 0 37 (dk_at dksX6_worth_4 3 rfl rfl)
theorem dX6_worth_93 : decode cX6_worth 93 = .ok (.ireturn, 1) := dk_172 (dk_at dksX6_worth_4 6 rfl rfl)
theorem dX6_worth_94 : decode cX6_worth 94 = .ok (.aload_n 0, 1) := dk_42 (dk_at dksX6_worth_4 7 rfl rfl)
theorem dX6_worth_95 : decode cX6_worth 95 = .ok (.getfield 1, 3) := dk_180 0 1 (dk_at dksX6_worth_4 8 rfl rfl)
theorem dX6_worth_98 : decode cX6_worth 98 = .ok (.getfield 17, 3) := dk_180 0 17 (dk_at dksX6_worth_4 11 rfl rfl)
theorem dX6_worth_101 : decode cX6_worth 101 = .ok (.aload_n 0, 1) := dk_42 (dk_at dksX6_worth_4 14 rfl rfl)
theorem dX6_worth_102 : decode cX6_worth 102 = .ok (.getfield 1, 3) := dk_180 0 1 (dk_at dksX6_worth_4 15 rfl rfl)
theorem dX6_worth_105 : decode cX6_worth 105 = .ok (.getfield 23, 3) := dk_180 0 23 (dk_at dksX6_worth_4 18 rfl rfl)
theorem dX6_worth_108 : decode cX6_worth 108 = .ok (.aaload, 1) := dk_50 (dk_at dksX6_worth_4 21 rfl rfl)
theorem dX6_worth_109 : decode cX6_worth 109 = .ok (.getfield 40, 3) := dk_180 0 40 (dk_at dksX6_worth_5 0 rfl rfl)
theorem dX6_worth_112 : decode cX6_worth 112 = .ok (.ireturn, 1) := dk_172 (dk_at dksX6_worth_5 3 rfl rfl)
theorem dX6_worth_113 : decode cX6_worth 113 = .ok (.aload_n 0, 1) := dk_42 (dk_at dksX6_worth_5 4 rfl rfl)
theorem dX6_worth_114 : decode cX6_worth 114 = .ok (.getfield 1, 3) := dk_180 0 1 (dk_at dksX6_worth_5 5 rfl rfl)
theorem dX6_worth_117 : decode cX6_worth 117 = .ok (.getfield 17, 3) := dk_180 0 17 (dk_at dksX6_worth_5 8 rfl rfl)
theorem dX6_worth_120 : decode cX6_worth 120 = .ok (.aload_n 0, 1) := dk_42 (dk_at dksX6_worth_5 11 rfl rfl)
theorem dX6_worth_121 : decode cX6_worth 121 = .ok (.getfield 1, 3) := dk_180 0 1 (dk_at dksX6_worth_5 12 rfl rfl)
theorem dX6_worth_124 : decode cX6_worth 124 = .ok (.getfield 23, 3) := dk_180 0 23 (dk_at dksX6_worth_5 15 rfl rfl)
theorem dX6_worth_127 : decode cX6_worth 127 = .ok (.aaload, 1) := dk_50 (dk_at dksX6_worth_5 18 rfl rfl)
theorem dX6_worth_128 : decode cX6_worth 128 = .ok (.getfield 43, 3) := dk_180 0 43 (dk_at dksX6_worth_5 19 rfl rfl)
theorem dX6_worth_131 : decode cX6_worth 131 = .ok (.ireturn, 1) := dk_172 (dk_at dksX6_worth_5 22 rfl rfl)
abbrev cX6_init : ByteArray := prog_8_method_1_code
def yX6_init : MethodName := ⟨RX6, "<init>", "(LRoadsNotGoneBy;I)V"⟩
def dkwX6_init_0 : List UInt8 := [42, 43, 181, 0, 1, 42, 183, 0, 7, 42, 28, 181, 0, 13, 177]
abbrev dktX6_init_0 : List UInt8 := dkwX6_init_0 ++ []
theorem dksX6_init_0 : cX6_init.data.toList.drop 0 = dktX6_init_0 := by decide +kernel
theorem dX6_init_0 : decode cX6_init 0 = .ok (.aload_n 0, 1) := dk_42 (dk_at dksX6_init_0 0 rfl rfl)
theorem dX6_init_1 : decode cX6_init 1 = .ok (.aload_n 1, 1) := dk_43 (dk_at dksX6_init_0 1 rfl rfl)
theorem dX6_init_2 : decode cX6_init 2 = .ok (.putfield 1, 3) := dk_181 0 1 (dk_at dksX6_init_0 2 rfl rfl)
theorem dX6_init_5 : decode cX6_init 5 = .ok (.aload_n 0, 1) := dk_42 (dk_at dksX6_init_0 5 rfl rfl)
theorem dX6_init_6 : decode cX6_init 6 = .ok (.invokespecial 7, 3) := dk_183 0 7 (dk_at dksX6_init_0 6 rfl rfl)
theorem dX6_init_9 : decode cX6_init 9 = .ok (.aload_n 0, 1) := dk_42 (dk_at dksX6_init_0 9 rfl rfl)
theorem dX6_init_10 : decode cX6_init 10 = .ok (.iload_n 2, 1) := dk_28 (dk_at dksX6_init_0 10 rfl rfl)
theorem dX6_init_11 : decode cX6_init 11 = .ok (.putfield 13, 3) := dk_181 0 13 (dk_at dksX6_init_0 11 rfl rfl)
theorem dX6_init_14 : decode cX6_init 14 = .ok (.return_, 1) := dk_177 (dk_at dksX6_init_0 14 rfl rfl)
theorem q139 : (Jvm.Cond.initialized "RoadsNotGoneBy$Name") ∈ lw_all := lw_g (lw_at lw_m1 16 rfl) rfl
theorem q182 : (Jvm.Cond.fieldLink "RoadsNotGoneBy$Name" (34 : Nat) "RoadsNotGoneBy$Life" "number" "I") ∈ lw_all := lw_g (lw_at lw_m1 59 rfl) rfl
theorem q193 : (Jvm.Cond.fieldLink "RoadsNotGoneBy$Name" (26 : Nat) "RoadsNotGoneBy$Life" "on" "I") ∈ lw_all := lw_g (lw_at lw_m1 70 rfl) rfl
theorem q197 : (Jvm.Cond.fieldLink "RoadsNotGoneBy$Name" (40 : Nat) "RoadsNotGoneBy$Life" "mood" "I") ∈ lw_all := lw_g (lw_at lw_m1 74 rfl) rfl
theorem q202 : (Jvm.Cond.fieldLink "RoadsNotGoneBy$Name" (43 : Nat) "RoadsNotGoneBy$Life" "eaten" "I") ∈ lw_all := lw_g (lw_at lw_m1 79 rfl) rfl
theorem q343 : (Jvm.Cond.selects "RoadsNotGoneBy$Name" ({ cls := "RoadsNotGoneBy$Node", name := "worth", desc := "()I" } : Jvm.MethodName) ({ cls := "RoadsNotGoneBy$Name", name := "worth", desc := "()I" } : Jvm.MethodName)) ∈ lw_all := lw_g (lw_at lw_m1 220 rfl) rfl
theorem q344 : (Jvm.Cond.instanceMethod ({ cls := "RoadsNotGoneBy$Name", name := "worth", desc := "()I" } : Jvm.MethodName)) ∈ lw_all := lw_g (lw_at lw_m1 221 rfl) rfl
theorem q345 : (Jvm.Cond.code ({ cls := "RoadsNotGoneBy$Name", name := "worth", desc := "()I" } : Jvm.MethodName) prog_8_method_2_code (1 : Nat) (Option.some Jvm.ClassFile.FieldType.int)) ∈ lw_all := lw_g (lw_at lw_m1 222 rfl) rfl
theorem q631 : (Jvm.Cond.instantiable "RoadsNotGoneBy$Name" (2 : Nat)) ∈ lw_all := lw_g (lw_at lw_m3 28 rfl) rfl
theorem q633 : (Jvm.Cond.instanceMethod ({ cls := "RoadsNotGoneBy$Name", name := "<init>", desc := "(LRoadsNotGoneBy;I)V" } : Jvm.MethodName)) ∈ lw_all := lw_g (lw_at lw_m3 30 rfl) rfl
theorem q634 : (Jvm.Cond.code ({ cls := "RoadsNotGoneBy$Name", name := "<init>", desc := "(LRoadsNotGoneBy;I)V" } : Jvm.MethodName) prog_8_method_1_code (3 : Nat) (Option.none : Option Jvm.ClassFile.FieldType)) ∈ lw_all := lw_g (lw_at lw_m3 31 rfl) rfl
theorem q635 : (Jvm.Cond.methodLinkNest "RoadsNotGoneBy$Name" (7 : Nat) ({ cls := "RoadsNotGoneBy$Node", name := "<init>", desc := "()V" } : Jvm.MethodName) "RoadsNotGoneBy") ∈ lw_tbl := lw_at lw_m3 32 rfl
theorem q636 : (Jvm.Cond.fieldLink "RoadsNotGoneBy$Name" (13 : Nat) "RoadsNotGoneBy$Name" "which" "I") ∈ lw_all := lw_g (lw_at lw_m3 33 rfl) rfl
theorem q637 : (Jvm.Cond.fieldLink "RoadsNotGoneBy$Name" (1 : Nat) "RoadsNotGoneBy$Name" "this$0" "LRoadsNotGoneBy;") ∈ lw_all := lw_g (lw_at lw_m3 34 rfl) rfl
theorem q638 : (Jvm.Cond.laysFinal "RoadsNotGoneBy$Name" "RoadsNotGoneBy$Name" "which" "I") ∈ lw_all := lw_g (lw_at lw_m3 35 rfl) rfl
theorem q639 : (Jvm.Cond.soleField "RoadsNotGoneBy$Name" "which") ∈ lw_all := lw_g (lw_at lw_m3 36 rfl) rfl
theorem q640 : (Jvm.Cond.laysFinal "RoadsNotGoneBy$Name" "RoadsNotGoneBy$Name" "this$0" "LRoadsNotGoneBy;") ∈ lw_all := lw_g (lw_at lw_m3 37 rfl) rfl
theorem q641 : (Jvm.Cond.soleField "RoadsNotGoneBy$Name" "this$0") ∈ lw_all := lw_g (lw_at lw_m3 38 rfl) rfl
theorem q642 : (Jvm.Cond.superclass "RoadsNotGoneBy$Name" "RoadsNotGoneBy$Node") ∈ lw_all := lw_g (lw_at lw_m3 39 rfl) rfl
theorem q786 : (Jvm.Cond.fieldLinkNest "RoadsNotGoneBy$Name" (17 : Nat) "RoadsNotGoneBy" "folk" "[LRoadsNotGoneBy$Life;" "RoadsNotGoneBy") ∈ lw_tbl := lw_at lw_m3 183 rfl
theorem q789 : (Jvm.Cond.fieldLinkNest "RoadsNotGoneBy$Name" (37 : Nat) "RoadsNotGoneBy" "year" "I" "RoadsNotGoneBy") ∈ lw_tbl := lw_at lw_m3 186 rfl
theorem q794 : (Jvm.Cond.fieldLinkNest "RoadsNotGoneBy$Name" (23 : Nat) "RoadsNotGoneBy" "forOne" "I" "RoadsNotGoneBy") ∈ lw_tbl := lw_at lw_m3 191 rfl
theorem q796 : (Jvm.Cond.fieldLinkNest "RoadsNotGoneBy$Name" (31 : Nat) "RoadsNotGoneBy" "forJar" "I" "RoadsNotGoneBy") ∈ lw_tbl := lw_at lw_m3 193 rfl
theorem q1873 : (Jvm.Cond.castable "RoadsNotGoneBy$Name" "RoadsNotGoneBy$Node") ∈ lw_tbl := lw_at lw_m8 70 rfl
theorem in_X6 : ∀ w ∈ wsX60, w ∈ lw_all := lw_in wsX60 [638, 640] (by decide +kernel) (by decide +kernel)
/-! RoadsNotGoneBy$Two -/
set_option maxRecDepth 100000
def RX7 : String := "RoadsNotGoneBy$Two"
def TX7 : u_T := fun k => match k with
  | 0 => ("RoadsNotGoneBy$Two", "sign", "I", true)
  | 1 => ("RoadsNotGoneBy$Two", "a", "LRoadsNotGoneBy$Node;", true)
  | _ => ("RoadsNotGoneBy$Two", "b", "LRoadsNotGoneBy$Node;", true)
def tyX7 : Nat → FieldType := fun k => match k with
  | 0 => .int
  | 1 => .object "RoadsNotGoneBy$Node"
  | _ => .object "RoadsNotGoneBy$Node"
abbrev wsX70 : List Cond := u_ws RX7 TX7 3
theorem nmX7 : ∀ a, a < 3 → ∀ b, b < 3 → a ≠ b → (TX7 a).2.1 ≠ (TX7 b).2.1 := by decide +kernel
theorem tyX7_ok : ∀ k, k < 3 → parseFieldDescriptor (TX7 k).2.2.1 = some (tyX7 k) := by decide +kernel
abbrev cX7_worth : ByteArray := prog_13_method_2_code
def yX7_worth : MethodName := ⟨RX7, "worth", "()I"⟩
def dkwX7_worth_4 : List UInt8 := [27, 154, 0, 7, 28, 153, 0, 7, 4, 167, 0, 4, 3, 172]
abbrev dktX7_worth_4 : List UInt8 := dkwX7_worth_4 ++ []
def dkwX7_worth_3 : List UInt8 := [28, 160, 0, 7, 4, 167, 0, 4, 3, 172, 27, 153, 0, 11, 28, 153, 0, 7, 4, 167, 0, 4, 3, 172]
abbrev dktX7_worth_3 : List UInt8 := dkwX7_worth_3 ++ dktX7_worth_4
def dkwX7_worth_2 : List UInt8 := [27, 28, 96, 172, 27, 28, 100, 172, 27, 28, 104, 172, 27, 28, 162, 0, 7, 4, 167, 0, 4, 3, 172, 27]
abbrev dktX7_worth_2 : List UInt8 := dkwX7_worth_2 ++ dktX7_worth_3
def dkwX7_worth_1 : List UInt8 := [171, 0, 0, 0, 0, 0, 0, 108, 0, 0, 0, 6, 0, 0, 0, 38, 0, 0, 0, 94, 0, 0, 0, 42, 0, 0, 0, 68, 0, 0, 0, 43, 0, 0, 0, 60, 0, 0, 0, 45, 0, 0, 0, 64, 0, 0, 0, 60, 0, 0, 0, 72, 0, 0, 0, 61, 0, 0, 0, 83]
abbrev dktX7_worth_1 : List UInt8 := dkwX7_worth_1 ++ dktX7_worth_2
def dkwX7_worth_0 : List UInt8 := [42, 180, 0, 13, 182, 0, 20, 60, 42, 180, 0, 17, 182, 0, 20, 61, 42, 180, 0, 7]
abbrev dktX7_worth_0 : List UInt8 := dkwX7_worth_0 ++ dktX7_worth_1
theorem dksX7_worth_0 : cX7_worth.data.toList.drop 0 = dktX7_worth_0 := by decide +kernel
theorem dksX7_worth_1 : cX7_worth.data.toList.drop 20 = dktX7_worth_1 := dk_seg dksX7_worth_0 20 rfl rfl
theorem dksX7_worth_2 : cX7_worth.data.toList.drop 80 = dktX7_worth_2 := dk_seg dksX7_worth_1 60 rfl rfl
theorem dksX7_worth_3 : cX7_worth.data.toList.drop 104 = dktX7_worth_3 := dk_seg dksX7_worth_2 24 rfl rfl
theorem dksX7_worth_4 : cX7_worth.data.toList.drop 128 = dktX7_worth_4 := dk_seg dksX7_worth_3 24 rfl rfl
theorem dX7_worth_0 : decode cX7_worth 0 = .ok (.aload_n 0, 1) := dk_42 (dk_at dksX7_worth_0 0 rfl rfl)
theorem dX7_worth_1 : decode cX7_worth 1 = .ok (.getfield 13, 3) := dk_180 0 13 (dk_at dksX7_worth_0 1 rfl rfl)
theorem dX7_worth_4 : decode cX7_worth 4 = .ok (.invokevirtual 20, 3) := dk_182 0 20 (dk_at dksX7_worth_0 4 rfl rfl)
theorem dX7_worth_7 : decode cX7_worth 7 = .ok (.istore_n 1, 1) := dk_60 (dk_at dksX7_worth_0 7 rfl rfl)
theorem dX7_worth_8 : decode cX7_worth 8 = .ok (.aload_n 0, 1) := dk_42 (dk_at dksX7_worth_0 8 rfl rfl)
theorem dX7_worth_9 : decode cX7_worth 9 = .ok (.getfield 17, 3) := dk_180 0 17 (dk_at dksX7_worth_0 9 rfl rfl)
theorem dX7_worth_12 : decode cX7_worth 12 = .ok (.invokevirtual 20, 3) := dk_182 0 20 (dk_at dksX7_worth_0 12 rfl rfl)
theorem dX7_worth_15 : decode cX7_worth 15 = .ok (.istore_n 2, 1) := dk_61 (dk_at dksX7_worth_0 15 rfl rfl)
theorem dX7_worth_16 : decode cX7_worth 16 = .ok (.aload_n 0, 1) := dk_42 (dk_at dksX7_worth_0 16 rfl rfl)
theorem dX7_worth_17 : decode cX7_worth 17 = .ok (.getfield 7, 3) := dk_180 0 7 (dk_at dksX7_worth_0 17 rfl rfl)
theorem dX7_worth_20 : decode cX7_worth 20 = .ok (.lookupswitch 108 #[(38, 94), (42, 68), (43, 60), (45, 64), (60, 72), (61, 83)], 60) := by decide +kernel
theorem dX7_worth_80 : decode cX7_worth 80 = .ok (.iload_n 1, 1) := dk_27 (dk_at dksX7_worth_2 0 rfl rfl)
theorem dX7_worth_81 : decode cX7_worth 81 = .ok (.iload_n 2, 1) := dk_28 (dk_at dksX7_worth_2 1 rfl rfl)
theorem dX7_worth_82 : decode cX7_worth 82 = .ok (.iadd, 1) := dk_96 (dk_at dksX7_worth_2 2 rfl rfl)
theorem dX7_worth_83 : decode cX7_worth 83 = .ok (.ireturn, 1) := dk_172 (dk_at dksX7_worth_2 3 rfl rfl)
theorem dX7_worth_84 : decode cX7_worth 84 = .ok (.iload_n 1, 1) := dk_27 (dk_at dksX7_worth_2 4 rfl rfl)
theorem dX7_worth_85 : decode cX7_worth 85 = .ok (.iload_n 2, 1) := dk_28 (dk_at dksX7_worth_2 5 rfl rfl)
theorem dX7_worth_86 : decode cX7_worth 86 = .ok (.isub, 1) := dk_100 (dk_at dksX7_worth_2 6 rfl rfl)
theorem dX7_worth_87 : decode cX7_worth 87 = .ok (.ireturn, 1) := dk_172 (dk_at dksX7_worth_2 7 rfl rfl)
theorem dX7_worth_88 : decode cX7_worth 88 = .ok (.iload_n 1, 1) := dk_27 (dk_at dksX7_worth_2 8 rfl rfl)
theorem dX7_worth_89 : decode cX7_worth 89 = .ok (.iload_n 2, 1) := dk_28 (dk_at dksX7_worth_2 9 rfl rfl)
theorem dX7_worth_90 : decode cX7_worth 90 = .ok (.imul, 1) := dk_104 (dk_at dksX7_worth_2 10 rfl rfl)
theorem dX7_worth_91 : decode cX7_worth 91 = .ok (.ireturn, 1) := dk_172 (dk_at dksX7_worth_2 11 rfl rfl)
theorem dX7_worth_92 : decode cX7_worth 92 = .ok (.iload_n 1, 1) := dk_27 (dk_at dksX7_worth_2 12 rfl rfl)
theorem dX7_worth_93 : decode cX7_worth 93 = .ok (.iload_n 2, 1) := dk_28 (dk_at dksX7_worth_2 13 rfl rfl)
theorem dX7_worth_94 : decode cX7_worth 94 = .ok (.if_icmp .ge 7, 3) := dk_162 0 7 (dk_at dksX7_worth_2 14 rfl rfl)
theorem dX7_worth_97 : decode cX7_worth 97 = .ok (.iconst 1, 1) := dk_4 (dk_at dksX7_worth_2 17 rfl rfl)
theorem dX7_worth_98 : decode cX7_worth 98 = .ok (.goto 4, 3) := dk_167 0 4 (dk_at dksX7_worth_2 18 rfl rfl)
theorem dX7_worth_101 : decode cX7_worth 101 = .ok (.iconst 0, 1) := dk_3 (dk_at dksX7_worth_2 21 rfl rfl)
theorem dX7_worth_102 : decode cX7_worth 102 = .ok (.ireturn, 1) := dk_172 (dk_at dksX7_worth_2 22 rfl rfl)
theorem dX7_worth_103 : decode cX7_worth 103 = .ok (.iload_n 1, 1) := dk_27 (dk_at dksX7_worth_2 23 rfl rfl)
theorem dX7_worth_104 : decode cX7_worth 104 = .ok (.iload_n 2, 1) := dk_28 (dk_at dksX7_worth_3 0 rfl rfl)
theorem dX7_worth_105 : decode cX7_worth 105 = .ok (.if_icmp .ne 7, 3) := dk_160 0 7 (dk_at dksX7_worth_3 1 rfl rfl)
theorem dX7_worth_108 : decode cX7_worth 108 = .ok (.iconst 1, 1) := dk_4 (dk_at dksX7_worth_3 4 rfl rfl)
theorem dX7_worth_109 : decode cX7_worth 109 = .ok (.goto 4, 3) := dk_167 0 4 (dk_at dksX7_worth_3 5 rfl rfl)
theorem dX7_worth_112 : decode cX7_worth 112 = .ok (.iconst 0, 1) := dk_3 (dk_at dksX7_worth_3 8 rfl rfl)
theorem dX7_worth_113 : decode cX7_worth 113 = .ok (.ireturn, 1) := dk_172 (dk_at dksX7_worth_3 9 rfl rfl)
theorem dX7_worth_114 : decode cX7_worth 114 = .ok (.iload_n 1, 1) := dk_27 (dk_at dksX7_worth_3 10 rfl rfl)
theorem dX7_worth_115 : decode cX7_worth 115 = .ok (.ifCond .eq 11, 3) := dk_153 0 11 (dk_at dksX7_worth_3 11 rfl rfl)
theorem dX7_worth_118 : decode cX7_worth 118 = .ok (.iload_n 2, 1) := dk_28 (dk_at dksX7_worth_3 14 rfl rfl)
theorem dX7_worth_119 : decode cX7_worth 119 = .ok (.ifCond .eq 7, 3) := dk_153 0 7 (dk_at dksX7_worth_3 15 rfl rfl)
theorem dX7_worth_122 : decode cX7_worth 122 = .ok (.iconst 1, 1) := dk_4 (dk_at dksX7_worth_3 18 rfl rfl)
theorem dX7_worth_123 : decode cX7_worth 123 = .ok (.goto 4, 3) := dk_167 0 4 (dk_at dksX7_worth_3 19 rfl rfl)
theorem dX7_worth_126 : decode cX7_worth 126 = .ok (.iconst 0, 1) := dk_3 (dk_at dksX7_worth_3 22 rfl rfl)
theorem dX7_worth_127 : decode cX7_worth 127 = .ok (.ireturn, 1) := dk_172 (dk_at dksX7_worth_3 23 rfl rfl)
theorem dX7_worth_128 : decode cX7_worth 128 = .ok (.iload_n 1, 1) := dk_27 (dk_at dksX7_worth_4 0 rfl rfl)
theorem dX7_worth_129 : decode cX7_worth 129 = .ok (.ifCond .ne 7, 3) := dk_154 0 7 (dk_at dksX7_worth_4 1 rfl rfl)
theorem dX7_worth_132 : decode cX7_worth 132 = .ok (.iload_n 2, 1) := dk_28 (dk_at dksX7_worth_4 4 rfl rfl)
theorem dX7_worth_133 : decode cX7_worth 133 = .ok (.ifCond .eq 7, 3) := dk_153 0 7 (dk_at dksX7_worth_4 5 rfl rfl)
theorem dX7_worth_136 : decode cX7_worth 136 = .ok (.iconst 1, 1) := dk_4 (dk_at dksX7_worth_4 8 rfl rfl)
theorem dX7_worth_137 : decode cX7_worth 137 = .ok (.goto 4, 3) := dk_167 0 4 (dk_at dksX7_worth_4 9 rfl rfl)
theorem dX7_worth_140 : decode cX7_worth 140 = .ok (.iconst 0, 1) := dk_3 (dk_at dksX7_worth_4 12 rfl rfl)
theorem dX7_worth_141 : decode cX7_worth 141 = .ok (.ireturn, 1) := dk_172 (dk_at dksX7_worth_4 13 rfl rfl)
abbrev cX7_init : ByteArray := prog_13_method_1_code
def yX7_init : MethodName := ⟨RX7, "<init>", "(ILRoadsNotGoneBy$Node;LRoadsNotGoneBy$Node;)V"⟩
def dkwX7_init_0 : List UInt8 := [42, 183, 0, 1, 42, 27, 181, 0, 7, 42, 44, 181, 0, 13, 42, 45, 181, 0, 17, 177]
abbrev dktX7_init_0 : List UInt8 := dkwX7_init_0 ++ []
theorem dksX7_init_0 : cX7_init.data.toList.drop 0 = dktX7_init_0 := by decide +kernel
theorem dX7_init_0 : decode cX7_init 0 = .ok (.aload_n 0, 1) := dk_42 (dk_at dksX7_init_0 0 rfl rfl)
theorem dX7_init_1 : decode cX7_init 1 = .ok (.invokespecial 1, 3) := dk_183 0 1 (dk_at dksX7_init_0 1 rfl rfl)
theorem dX7_init_4 : decode cX7_init 4 = .ok (.aload_n 0, 1) := dk_42 (dk_at dksX7_init_0 4 rfl rfl)
theorem dX7_init_5 : decode cX7_init 5 = .ok (.iload_n 1, 1) := dk_27 (dk_at dksX7_init_0 5 rfl rfl)
theorem dX7_init_6 : decode cX7_init 6 = .ok (.putfield 7, 3) := dk_181 0 7 (dk_at dksX7_init_0 6 rfl rfl)
theorem dX7_init_9 : decode cX7_init 9 = .ok (.aload_n 0, 1) := dk_42 (dk_at dksX7_init_0 9 rfl rfl)
theorem dX7_init_10 : decode cX7_init 10 = .ok (.aload_n 2, 1) := dk_44 (dk_at dksX7_init_0 10 rfl rfl)
theorem dX7_init_11 : decode cX7_init 11 = .ok (.putfield 13, 3) := dk_181 0 13 (dk_at dksX7_init_0 11 rfl rfl)
theorem dX7_init_14 : decode cX7_init 14 = .ok (.aload_n 0, 1) := dk_42 (dk_at dksX7_init_0 14 rfl rfl)
theorem dX7_init_15 : decode cX7_init 15 = .ok (.aload_n 3, 1) := dk_45 (dk_at dksX7_init_0 15 rfl rfl)
theorem dX7_init_16 : decode cX7_init 16 = .ok (.putfield 17, 3) := dk_181 0 17 (dk_at dksX7_init_0 16 rfl rfl)
theorem dX7_init_19 : decode cX7_init 19 = .ok (.return_, 1) := dk_177 (dk_at dksX7_init_0 19 rfl rfl)
theorem q140 : (Jvm.Cond.initialized "RoadsNotGoneBy$Two") ∈ lw_all := lw_g (lw_at lw_m1 17 rfl) rfl
theorem q353 : (Jvm.Cond.instanceMethod ({ cls := "RoadsNotGoneBy$Two", name := "worth", desc := "()I" } : Jvm.MethodName)) ∈ lw_all := lw_g (lw_at lw_m1 230 rfl) rfl
theorem q354 : (Jvm.Cond.code ({ cls := "RoadsNotGoneBy$Two", name := "worth", desc := "()I" } : Jvm.MethodName) prog_13_method_2_code (3 : Nat) (Option.some Jvm.ClassFile.FieldType.int)) ∈ lw_all := lw_g (lw_at lw_m1 231 rfl) rfl
theorem q355 : (Jvm.Cond.methodLink "RoadsNotGoneBy$Two" (20 : Nat) ({ cls := "RoadsNotGoneBy$Node", name := "worth", desc := "()I" } : Jvm.MethodName)) ∈ lw_all := lw_g (lw_at lw_m1 232 rfl) rfl
theorem q356 : (Jvm.Cond.selects "RoadsNotGoneBy$Two" ({ cls := "RoadsNotGoneBy$Node", name := "worth", desc := "()I" } : Jvm.MethodName) ({ cls := "RoadsNotGoneBy$Two", name := "worth", desc := "()I" } : Jvm.MethodName)) ∈ lw_all := lw_g (lw_at lw_m1 233 rfl) rfl
theorem q648 : (Jvm.Cond.instantiable "RoadsNotGoneBy$Two" (3 : Nat)) ∈ lw_all := lw_g (lw_at lw_m3 45 rfl) rfl
theorem q650 : (Jvm.Cond.instanceMethod ({ cls := "RoadsNotGoneBy$Two", name := "<init>", desc := "(ILRoadsNotGoneBy$Node;LRoadsNotGoneBy$Node;)V" } : Jvm.MethodName)) ∈ lw_all := lw_g (lw_at lw_m3 47 rfl) rfl
theorem q651 : (Jvm.Cond.code ({ cls := "RoadsNotGoneBy$Two", name := "<init>", desc := "(ILRoadsNotGoneBy$Node;LRoadsNotGoneBy$Node;)V" } : Jvm.MethodName) prog_13_method_1_code (4 : Nat) (Option.none : Option Jvm.ClassFile.FieldType)) ∈ lw_all := lw_g (lw_at lw_m3 48 rfl) rfl
theorem q652 : (Jvm.Cond.methodLinkNest "RoadsNotGoneBy$Two" (1 : Nat) ({ cls := "RoadsNotGoneBy$Node", name := "<init>", desc := "()V" } : Jvm.MethodName) "RoadsNotGoneBy") ∈ lw_tbl := lw_at lw_m3 49 rfl
theorem q653 : (Jvm.Cond.fieldLink "RoadsNotGoneBy$Two" (7 : Nat) "RoadsNotGoneBy$Two" "sign" "I") ∈ lw_all := lw_g (lw_at lw_m3 50 rfl) rfl
theorem q654 : (Jvm.Cond.fieldLink "RoadsNotGoneBy$Two" (13 : Nat) "RoadsNotGoneBy$Two" "a" "LRoadsNotGoneBy$Node;") ∈ lw_all := lw_g (lw_at lw_m3 51 rfl) rfl
theorem q655 : (Jvm.Cond.fieldLink "RoadsNotGoneBy$Two" (17 : Nat) "RoadsNotGoneBy$Two" "b" "LRoadsNotGoneBy$Node;") ∈ lw_all := lw_g (lw_at lw_m3 52 rfl) rfl
theorem q656 : (Jvm.Cond.laysFinal "RoadsNotGoneBy$Two" "RoadsNotGoneBy$Two" "sign" "I") ∈ lw_all := lw_g (lw_at lw_m3 53 rfl) rfl
theorem q657 : (Jvm.Cond.soleField "RoadsNotGoneBy$Two" "sign") ∈ lw_all := lw_g (lw_at lw_m3 54 rfl) rfl
theorem q658 : (Jvm.Cond.laysFinal "RoadsNotGoneBy$Two" "RoadsNotGoneBy$Two" "a" "LRoadsNotGoneBy$Node;") ∈ lw_all := lw_g (lw_at lw_m3 55 rfl) rfl
theorem q659 : (Jvm.Cond.soleField "RoadsNotGoneBy$Two" "a") ∈ lw_all := lw_g (lw_at lw_m3 56 rfl) rfl
theorem q660 : (Jvm.Cond.laysFinal "RoadsNotGoneBy$Two" "RoadsNotGoneBy$Two" "b" "LRoadsNotGoneBy$Node;") ∈ lw_all := lw_g (lw_at lw_m3 57 rfl) rfl
theorem q661 : (Jvm.Cond.soleField "RoadsNotGoneBy$Two" "b") ∈ lw_all := lw_g (lw_at lw_m3 58 rfl) rfl
theorem q662 : (Jvm.Cond.superclass "RoadsNotGoneBy$Two" "RoadsNotGoneBy$Node") ∈ lw_all := lw_g (lw_at lw_m3 59 rfl) rfl
theorem q1874 : (Jvm.Cond.castable "RoadsNotGoneBy$Two" "RoadsNotGoneBy$Node") ∈ lw_tbl := lw_at lw_m8 71 rfl
theorem in_X7 : ∀ w ∈ wsX70, w ∈ lw_all := lw_in wsX70 [656, 658, 660] (by decide +kernel) (by decide +kernel)
