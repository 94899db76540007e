/-! java/lang/Throwable -/
set_option maxRecDepth 100000
def RJ0 : String := "java/lang/Throwable"
def TJ0 : u_T := fun k => match k with
  | 0 => ("java/lang/Throwable", "cause", "Ljava/lang/Throwable;", false)
  | 1 => ("java/lang/Throwable", "stackTrace", "[Ljava/lang/StackTraceElement;", false)
  | 2 => ("java/lang/Throwable", "suppressedExceptions", "Ljava/util/List;", false)
  | 3 => ("java/lang/Throwable", "detailMessage", "Ljava/lang/String;", false)
  | _ => ("java/lang/Throwable", "backtrace", "Ljava/lang/Object;", false)
def tyJ0 : Nat → FieldType := fun k => match k with
  | 0 => .object "java/lang/Throwable"
  | 1 => .array (.object "java/lang/StackTraceElement")
  | 2 => .object "java/util/List"
  | 3 => .object "java/lang/String"
  | _ => .object "java/lang/Object"
abbrev wsJ00 : List Cond := u_ws RJ0 TJ0 5
theorem nmJ0 : ∀ a, a < 5 → ∀ b, b < 5 → a ≠ b → (TJ0 a).2.1 ≠ (TJ0 b).2.1 := by decide +kernel
theorem tyJ0_ok : ∀ k, k < 5 → parseFieldDescriptor (TJ0 k).2.2.1 = some (tyJ0 k) := by decide +kernel
abbrev cJ0_init : ByteArray := prog_28_method_1_code
def yJ0_init : MethodName := ⟨RJ0, "<init>", "()V"⟩
def dkwJ0_init_1 : List UInt8 := [182, 0, 27, 87, 177]
abbrev dktJ0_init_1 : List UInt8 := dkwJ0_init_1 ++ []
def dkwJ0_init_0 : List UInt8 := [42, 183, 0, 1, 42, 42, 181, 0, 7, 42, 178, 0, 13, 181, 0, 17, 42, 178, 0, 20, 181, 0, 24, 42]
abbrev dktJ0_init_0 : List UInt8 := dkwJ0_init_0 ++ dktJ0_init_1
theorem dksJ0_init_0 : cJ0_init.data.toList.drop 0 = dktJ0_init_0 := by decide +kernel
theorem dksJ0_init_1 : cJ0_init.data.toList.drop 24 = dktJ0_init_1 := dk_seg dksJ0_init_0 24 rfl rfl
theorem dJ0_init_0 : decode cJ0_init 0 = .ok (.aload_n 0, 1) := dk_42 (dk_at dksJ0_init_0 0 rfl rfl)
theorem dJ0_init_1 : decode cJ0_init 1 = .ok (.invokespecial 1, 3) := dk_183 0 1 (dk_at dksJ0_init_0 1 rfl rfl)
theorem dJ0_init_4 : decode cJ0_init 4 = .ok (.aload_n 0, 1) := dk_42 (dk_at dksJ0_init_0 4 rfl rfl)
theorem dJ0_init_5 : decode cJ0_init 5 = .ok (.aload_n 0, 1) := dk_42 (dk_at dksJ0_init_0 5 rfl rfl)
theorem dJ0_init_6 : decode cJ0_init 6 = .ok (.putfield 7, 3) := dk_181 0 7 (dk_at dksJ0_init_0 6 rfl rfl)
theorem dJ0_init_9 : decode cJ0_init 9 = .ok (.aload_n 0, 1) := dk_42 (dk_at dksJ0_init_0 9 rfl rfl)
theorem dJ0_init_10 : decode cJ0_init 10 = .ok (.getstatic 13, 3) := dk_178 0 13 (dk_at dksJ0_init_0 10 rfl rfl)
theorem dJ0_init_13 : decode cJ0_init 13 = .ok (.putfield 17, 3) := dk_181 0 17 (dk_at dksJ0_init_0 13 rfl rfl)
theorem dJ0_init_16 : decode cJ0_init 16 = .ok (.aload_n 0, 1) := dk_42 (dk_at dksJ0_init_0 16 rfl rfl)
theorem dJ0_init_17 : decode cJ0_init 17 = .ok (.getstatic 20, 3) := dk_178 0 20 (dk_at dksJ0_init_0 17 rfl rfl)
theorem dJ0_init_20 : decode cJ0_init 20 = .ok (.putfield 24, 3) := dk_181 0 24 (dk_at dksJ0_init_0 20 rfl rfl)
theorem dJ0_init_23 : decode cJ0_init 23 = .ok (.aload_n 0, 1) := dk_42 (dk_at dksJ0_init_0 23 rfl rfl)
theorem dJ0_init_24 : decode cJ0_init 24 = .ok (.invokevirtual 27, 3) := dk_182 0 27 (dk_at dksJ0_init_1 0 rfl rfl)
theorem dJ0_init_27 : decode cJ0_init 27 = .ok (.pop, 1) := dk_87 (dk_at dksJ0_init_1 3 rfl rfl)
theorem dJ0_init_28 : decode cJ0_init 28 = .ok (.return_, 1) := dk_177 (dk_at dksJ0_init_1 4 rfl rfl)
theorem q84 : (Jvm.Cond.initialized "java/lang/Throwable") ∈ lw_all := lw_g (lw_at lw_m1 2 rfl) rfl
theorem q129 : (Jvm.Cond.declares ({ cls := "java/lang/Throwable", name := "<init>", desc := "()V" } : Jvm.MethodName)) ∈ lw_tbl := lw_at lw_m1 47 rfl
theorem q130 : (Jvm.Cond.declares ({ cls := "java/lang/Throwable", name := "<init>", desc := "(Ljava/lang/String;)V" } : Jvm.MethodName)) ∈ lw_tbl := lw_at lw_m1 48 rfl
theorem q134 : (Jvm.Cond.lays "java/lang/Throwable" "java/lang/Throwable" "cause" "Ljava/lang/Throwable;") ∈ lw_all := lw_g (lw_at lw_m1 52 rfl) rfl
theorem q136 : (Jvm.Cond.lays "java/lang/Throwable" "java/lang/Throwable" "stackTrace" "[Ljava/lang/StackTraceElement;") ∈ lw_all := lw_g (lw_at lw_m1 54 rfl) rfl
theorem q138 : (Jvm.Cond.lays "java/lang/Throwable" "java/lang/Throwable" "suppressedExceptions" "Ljava/util/List;") ∈ lw_all := lw_g (lw_at lw_m1 56 rfl) rfl
theorem q140 : (Jvm.Cond.lays "java/lang/Throwable" "java/lang/Throwable" "detailMessage" "Ljava/lang/String;") ∈ lw_all := lw_g (lw_at lw_m1 58 rfl) rfl
theorem q142 : (Jvm.Cond.lays "java/lang/Throwable" "java/lang/Throwable" "backtrace" "Ljava/lang/Object;") ∈ lw_all := lw_g (lw_at lw_m1 60 rfl) rfl
theorem q143 : (Jvm.Cond.fieldLink "java/lang/Throwable" (198 : Nat) "java/lang/Throwable" "backtrace" "Ljava/lang/Object;") ∈ lw_all := lw_g (lw_at lw_m1 61 rfl) rfl
theorem q144 : (Jvm.Cond.superclass "java/lang/Throwable" "java/lang/Object") ∈ lw_all := lw_g (lw_at lw_m1 62 rfl) rfl
theorem q145 : (Jvm.Cond.instanceMethod ({ cls := "java/lang/Throwable", name := "<init>", desc := "()V" } : Jvm.MethodName)) ∈ lw_all := lw_g (lw_at lw_m1 63 rfl) rfl
theorem q146 : (Jvm.Cond.code ({ cls := "java/lang/Throwable", name := "<init>", desc := "()V" } : Jvm.MethodName) prog_28_method_1_code (1 : Nat) (Option.none : Option Jvm.ClassFile.FieldType)) ∈ lw_all := lw_g (lw_at lw_m1 64 rfl) rfl
theorem q147 : (Jvm.Cond.methodLink "java/lang/Throwable" (1 : Nat) ({ cls := "java/lang/Object", name := "<init>", desc := "()V" } : Jvm.MethodName)) ∈ lw_all := lw_g (lw_at lw_m1 65 rfl) rfl
theorem q148 : (Jvm.Cond.fieldLink "java/lang/Throwable" (13 : Nat) "java/lang/Throwable" "UNASSIGNED_STACK" "[Ljava/lang/StackTraceElement;") ∈ lw_all := lw_g (lw_at lw_m1 66 rfl) rfl
theorem q149 : (Jvm.Cond.laysStatic "java/lang/Throwable" "UNASSIGNED_STACK" "[Ljava/lang/StackTraceElement;") ∈ lw_tbl := lw_at lw_m1 67 rfl
theorem q150 : (Jvm.Cond.fieldLink "java/lang/Throwable" (20 : Nat) "java/lang/Throwable" "SUPPRESSED_SENTINEL" "Ljava/util/List;") ∈ lw_all := lw_g (lw_at lw_m1 68 rfl) rfl
theorem q151 : (Jvm.Cond.laysStatic "java/lang/Throwable" "SUPPRESSED_SENTINEL" "Ljava/util/List;") ∈ lw_tbl := lw_at lw_m1 69 rfl
theorem q152 : (Jvm.Cond.methodLink "java/lang/Throwable" (27 : Nat) ({ cls := "java/lang/Throwable", name := "fillInStackTrace", desc := "()Ljava/lang/Throwable;" } : Jvm.MethodName)) ∈ lw_all := lw_g (lw_at lw_m1 70 rfl) rfl
theorem q153 : (Jvm.Cond.instanceMethod ({ cls := "java/lang/Throwable", name := "fillInStackTrace", desc := "()Ljava/lang/Throwable;" } : Jvm.MethodName)) ∈ lw_all := lw_g (lw_at lw_m1 71 rfl) rfl
theorem q154 : (Jvm.Cond.sameMethod "java/lang/Throwable" "java/lang/Throwable" "fillInStackTrace" "()Ljava/lang/Throwable;") ∈ lw_all := lw_g (lw_at lw_m1 72 rfl) rfl
theorem q156 : (Jvm.Cond.codeSync ({ cls := "java/lang/Throwable", name := "fillInStackTrace", desc := "()Ljava/lang/Throwable;" } : Jvm.MethodName) prog_28_method_18_code (1 : Nat) (Option.some (Jvm.ClassFile.FieldType.object "java/lang/Throwable"))) ∈ lw_all := lw_g (lw_at lw_m1 74 rfl) rfl
theorem q157 : (Jvm.Cond.methodLink "java/lang/Throwable" (202 : Nat) ({ cls := "java/lang/Throwable", name := "fillInStackTrace", desc := "(I)Ljava/lang/Throwable;" } : Jvm.MethodName)) ∈ lw_all := lw_g (lw_at lw_m1 75 rfl) rfl
theorem q158 : (Jvm.Cond.privateMethod ({ cls := "java/lang/Throwable", name := "fillInStackTrace", desc := "(I)Ljava/lang/Throwable;" } : Jvm.MethodName)) ∈ lw_tbl := lw_at lw_m1 76 rfl
theorem q159 : (Jvm.Cond.instanceMethod ({ cls := "java/lang/Throwable", name := "fillInStackTrace", desc := "(I)Ljava/lang/Throwable;" } : Jvm.MethodName)) ∈ lw_all := lw_g (lw_at lw_m1 77 rfl) rfl
theorem q160 : (Jvm.Cond.instantiable "java/lang/Throwable" (6 : Nat)) ∈ lw_all := lw_g (lw_at lw_m1 78 rfl) rfl
theorem q161 : (Jvm.Cond.native ({ cls := "java/lang/Throwable", name := "fillInStackTrace", desc := "(I)Ljava/lang/Throwable;" } : Jvm.MethodName)) ∈ lw_all := lw_g (lw_at lw_m1 79 rfl) rfl
theorem q169 : (Jvm.Cond.fieldLink "java/lang/Throwable" (198 : Nat) "java/lang/Throwable" "backtrace" "Ljava/lang/Object;") ∈ lw_all := lw_g (lw_at lw_m1 87 rfl) rfl
theorem q170 : (Jvm.Cond.fieldLink "java/lang/Throwable" (7 : Nat) "java/lang/Throwable" "cause" "Ljava/lang/Throwable;") ∈ lw_all := lw_g (lw_at lw_m1 88 rfl) rfl
theorem q171 : (Jvm.Cond.fieldLink "java/lang/Throwable" (17 : Nat) "java/lang/Throwable" "stackTrace" "[Ljava/lang/StackTraceElement;") ∈ lw_all := lw_g (lw_at lw_m1 89 rfl) rfl
theorem q172 : (Jvm.Cond.fieldLink "java/lang/Throwable" (24 : Nat) "java/lang/Throwable" "suppressedExceptions" "Ljava/util/List;") ∈ lw_all := lw_g (lw_at lw_m1 90 rfl) rfl
theorem q173 : (Jvm.Cond.soleField "java/lang/Throwable" "backtrace") ∈ lw_all := lw_g (lw_at lw_m1 91 rfl) rfl
theorem q174 : (Jvm.Cond.soleField "java/lang/Throwable" "detailMessage") ∈ lw_all := lw_g (lw_at lw_m1 92 rfl) rfl
theorem q175 : (Jvm.Cond.soleField "java/lang/Throwable" "cause") ∈ lw_all := lw_g (lw_at lw_m1 93 rfl) rfl
theorem q176 : (Jvm.Cond.soleField "java/lang/Throwable" "stackTrace") ∈ lw_all := lw_g (lw_at lw_m1 94 rfl) rfl
theorem q178 : (Jvm.Cond.soleField "java/lang/Throwable" "depth") ∈ lw_all := lw_g (lw_at lw_m1 96 rfl) rfl
theorem q179 : (Jvm.Cond.soleField "java/lang/Throwable" "suppressedExceptions") ∈ lw_all := lw_g (lw_at lw_m1 97 rfl) rfl
theorem q1877 : (Jvm.Cond.sameMethod "java/lang/Throwable" "java/lang/Throwable" "fillInStackTrace" "(I)Ljava/lang/Throwable;") ∈ lw_all := lw_g (lw_at lw_m8 115 rfl) rfl
theorem q1897 : (Jvm.Cond.castable "java/lang/Throwable" "java/lang/Object") ∈ lw_tbl := lw_at lw_m8 135 rfl
theorem in_J0 : ∀ w ∈ wsJ00, w ∈ lw_all := lw_in wsJ00 [134, 136, 138, 140, 142] (by decide +kernel) (by decide +kernel)
/-! java/lang/Exception -/
set_option maxRecDepth 100000
def RJ1 : String := "java/lang/Exception"
abbrev cJ1_init : ByteArray := prog_24_method_1_code
def yJ1_init : MethodName := ⟨RJ1, "<init>", "()V"⟩
theorem dJ1_init_0 : decode cJ1_init 0 = .ok (.aload_n 0, 1) := by decide +kernel
theorem dJ1_init_1 : decode cJ1_init 1 = .ok (.invokespecial 1, 3) := by decide +kernel
theorem dJ1_init_4 : decode cJ1_init 4 = .ok (.return_, 1) := by decide +kernel
theorem q85 : (Jvm.Cond.initialized "java/lang/Exception") ∈ lw_all := lw_g (lw_at lw_m1 3 rfl) rfl
theorem q127 : (Jvm.Cond.declares ({ cls := "java/lang/Exception", name := "<init>", desc := "()V" } : Jvm.MethodName)) ∈ lw_tbl := lw_at lw_m1 45 rfl
theorem q128 : (Jvm.Cond.declares ({ cls := "java/lang/Exception", name := "<init>", desc := "(Ljava/lang/String;)V" } : Jvm.MethodName)) ∈ lw_tbl := lw_at lw_m1 46 rfl
theorem q166 : (Jvm.Cond.instanceMethod ({ cls := "java/lang/Exception", name := "<init>", desc := "()V" } : Jvm.MethodName)) ∈ lw_all := lw_g (lw_at lw_m1 84 rfl) rfl
theorem q167 : (Jvm.Cond.code ({ cls := "java/lang/Exception", name := "<init>", desc := "()V" } : Jvm.MethodName) prog_24_method_1_code (1 : Nat) (Option.none : Option Jvm.ClassFile.FieldType)) ∈ lw_all := lw_g (lw_at lw_m1 85 rfl) rfl
theorem q168 : (Jvm.Cond.methodLink "java/lang/Exception" (1 : Nat) ({ cls := "java/lang/Throwable", name := "<init>", desc := "()V" } : Jvm.MethodName)) ∈ lw_all := lw_g (lw_at lw_m1 86 rfl) rfl
/-! java/lang/Math -/
set_option maxRecDepth 100000
def RJ2 : String := "java/lang/Math"
abbrev cJ2_floorMod : ByteArray := prog_26_method_50_code
def yJ2_floorMod : MethodName := ⟨RJ2, "floorMod", "(II)I"⟩
def dkwJ2_floorMod_0 : List UInt8 := [26, 27, 112, 61, 26, 27, 130, 156, 0, 11, 28, 153, 0, 7, 28, 27, 96, 172, 28, 172]
abbrev dktJ2_floorMod_0 : List UInt8 := dkwJ2_floorMod_0 ++ []
theorem dksJ2_floorMod_0 : cJ2_floorMod.data.toList.drop 0 = dktJ2_floorMod_0 := by decide +kernel
theorem dJ2_floorMod_0 : decode cJ2_floorMod 0 = .ok (.iload_n 0, 1) := dk_26 (dk_at dksJ2_floorMod_0 0 rfl rfl)
theorem dJ2_floorMod_1 : decode cJ2_floorMod 1 = .ok (.iload_n 1, 1) := dk_27 (dk_at dksJ2_floorMod_0 1 rfl rfl)
theorem dJ2_floorMod_2 : decode cJ2_floorMod 2 = .ok (.irem, 1) := dk_112 (dk_at dksJ2_floorMod_0 2 rfl rfl)
theorem dJ2_floorMod_3 : decode cJ2_floorMod 3 = .ok (.istore_n 2, 1) := dk_61 (dk_at dksJ2_floorMod_0 3 rfl rfl)
theorem dJ2_floorMod_4 : decode cJ2_floorMod 4 = .ok (.iload_n 0, 1) := dk_26 (dk_at dksJ2_floorMod_0 4 rfl rfl)
theorem dJ2_floorMod_5 : decode cJ2_floorMod 5 = .ok (.iload_n 1, 1) := dk_27 (dk_at dksJ2_floorMod_0 5 rfl rfl)
theorem dJ2_floorMod_6 : decode cJ2_floorMod 6 = .ok (.ixor, 1) := dk_130 (dk_at dksJ2_floorMod_0 6 rfl rfl)
theorem dJ2_floorMod_7 : decode cJ2_floorMod 7 = .ok (.ifCond .ge 11, 3) := dk_156 0 11 (dk_at dksJ2_floorMod_0 7 rfl rfl)
theorem dJ2_floorMod_10 : decode cJ2_floorMod 10 = .ok (.iload_n 2, 1) := dk_28 (dk_at dksJ2_floorMod_0 10 rfl rfl)
theorem dJ2_floorMod_11 : decode cJ2_floorMod 11 = .ok (.ifCond .eq 7, 3) := dk_153 0 7 (dk_at dksJ2_floorMod_0 11 rfl rfl)
theorem dJ2_floorMod_14 : decode cJ2_floorMod 14 = .ok (.iload_n 2, 1) := dk_28 (dk_at dksJ2_floorMod_0 14 rfl rfl)
theorem dJ2_floorMod_15 : decode cJ2_floorMod 15 = .ok (.iload_n 1, 1) := dk_27 (dk_at dksJ2_floorMod_0 15 rfl rfl)
theorem dJ2_floorMod_16 : decode cJ2_floorMod 16 = .ok (.iadd, 1) := dk_96 (dk_at dksJ2_floorMod_0 16 rfl rfl)
theorem dJ2_floorMod_17 : decode cJ2_floorMod 17 = .ok (.ireturn, 1) := dk_172 (dk_at dksJ2_floorMod_0 17 rfl rfl)
theorem dJ2_floorMod_18 : decode cJ2_floorMod 18 = .ok (.iload_n 2, 1) := dk_28 (dk_at dksJ2_floorMod_0 18 rfl rfl)
theorem dJ2_floorMod_19 : decode cJ2_floorMod 19 = .ok (.ireturn, 1) := dk_172 (dk_at dksJ2_floorMod_0 19 rfl rfl)
abbrev cJ2_max : ByteArray := prog_26_method_65_code
def yJ2_max : MethodName := ⟨RJ2, "max", "(II)I"⟩
def dkwJ2_max_0 : List UInt8 := [26, 27, 161, 0, 7, 26, 167, 0, 4, 27, 172]
abbrev dktJ2_max_0 : List UInt8 := dkwJ2_max_0 ++ []
theorem dksJ2_max_0 : cJ2_max.data.toList.drop 0 = dktJ2_max_0 := by decide +kernel
theorem dJ2_max_0 : decode cJ2_max 0 = .ok (.iload_n 0, 1) := dk_26 (dk_at dksJ2_max_0 0 rfl rfl)
theorem dJ2_max_1 : decode cJ2_max 1 = .ok (.iload_n 1, 1) := dk_27 (dk_at dksJ2_max_0 1 rfl rfl)
theorem dJ2_max_2 : decode cJ2_max 2 = .ok (.if_icmp .lt 7, 3) := dk_161 0 7 (dk_at dksJ2_max_0 2 rfl rfl)
theorem dJ2_max_5 : decode cJ2_max 5 = .ok (.iload_n 0, 1) := dk_26 (dk_at dksJ2_max_0 5 rfl rfl)
theorem dJ2_max_6 : decode cJ2_max 6 = .ok (.goto 4, 3) := dk_167 0 4 (dk_at dksJ2_max_0 6 rfl rfl)
theorem dJ2_max_9 : decode cJ2_max 9 = .ok (.iload_n 1, 1) := dk_27 (dk_at dksJ2_max_0 9 rfl rfl)
theorem dJ2_max_10 : decode cJ2_max 10 = .ok (.ireturn, 1) := dk_172 (dk_at dksJ2_max_0 10 rfl rfl)
abbrev cJ2_min : ByteArray := prog_26_method_69_code
def yJ2_min : MethodName := ⟨RJ2, "min", "(II)I"⟩
def dkwJ2_min_0 : List UInt8 := [26, 27, 163, 0, 7, 26, 167, 0, 4, 27, 172]
abbrev dktJ2_min_0 : List UInt8 := dkwJ2_min_0 ++ []
theorem dksJ2_min_0 : cJ2_min.data.toList.drop 0 = dktJ2_min_0 := by decide +kernel
theorem dJ2_min_0 : decode cJ2_min 0 = .ok (.iload_n 0, 1) := dk_26 (dk_at dksJ2_min_0 0 rfl rfl)
theorem dJ2_min_1 : decode cJ2_min 1 = .ok (.iload_n 1, 1) := dk_27 (dk_at dksJ2_min_0 1 rfl rfl)
theorem dJ2_min_2 : decode cJ2_min 2 = .ok (.if_icmp .gt 7, 3) := dk_163 0 7 (dk_at dksJ2_min_0 2 rfl rfl)
theorem dJ2_min_5 : decode cJ2_min 5 = .ok (.iload_n 0, 1) := dk_26 (dk_at dksJ2_min_0 5 rfl rfl)
theorem dJ2_min_6 : decode cJ2_min 6 = .ok (.goto 4, 3) := dk_167 0 4 (dk_at dksJ2_min_0 6 rfl rfl)
theorem dJ2_min_9 : decode cJ2_min 9 = .ok (.iload_n 1, 1) := dk_27 (dk_at dksJ2_min_0 9 rfl rfl)
theorem dJ2_min_10 : decode cJ2_min 10 = .ok (.ireturn, 1) := dk_172 (dk_at dksJ2_min_0 10 rfl rfl)
abbrev cJ2_abs : ByteArray := prog_26_method_59_code
def yJ2_abs : MethodName := ⟨RJ2, "abs", "(I)I"⟩
def dkwJ2_abs_0 : List UInt8 := [26, 156, 0, 8, 26, 116, 167, 0, 4, 26, 172]
abbrev dktJ2_abs_0 : List UInt8 := dkwJ2_abs_0 ++ []
theorem dksJ2_abs_0 : cJ2_abs.data.toList.drop 0 = dktJ2_abs_0 := by decide +kernel
theorem dJ2_abs_0 : decode cJ2_abs 0 = .ok (.iload_n 0, 1) := dk_26 (dk_at dksJ2_abs_0 0 rfl rfl)
theorem dJ2_abs_1 : decode cJ2_abs 1 = .ok (.ifCond .ge 8, 3) := dk_156 0 8 (dk_at dksJ2_abs_0 1 rfl rfl)
theorem dJ2_abs_4 : decode cJ2_abs 4 = .ok (.iload_n 0, 1) := dk_26 (dk_at dksJ2_abs_0 4 rfl rfl)
theorem dJ2_abs_5 : decode cJ2_abs 5 = .ok (.ineg, 1) := dk_116 (dk_at dksJ2_abs_0 5 rfl rfl)
theorem dJ2_abs_6 : decode cJ2_abs 6 = .ok (.goto 4, 3) := dk_167 0 4 (dk_at dksJ2_abs_0 6 rfl rfl)
theorem dJ2_abs_9 : decode cJ2_abs 9 = .ok (.iload_n 0, 1) := dk_26 (dk_at dksJ2_abs_0 9 rfl rfl)
theorem dJ2_abs_10 : decode cJ2_abs 10 = .ok (.ireturn, 1) := dk_172 (dk_at dksJ2_abs_0 10 rfl rfl)
theorem q92 : (Jvm.Cond.initialized "java/lang/Math") ∈ lw_all := lw_g (lw_at lw_m1 10 rfl) rfl
theorem q405 : (Jvm.Cond.static ({ cls := "java/lang/Math", name := "floorMod", desc := "(II)I" } : Jvm.MethodName)) ∈ lw_all := lw_g (lw_at lw_m2 83 rfl) rfl
theorem q406 : (Jvm.Cond.code ({ cls := "java/lang/Math", name := "floorMod", desc := "(II)I" } : Jvm.MethodName) prog_26_method_50_code (3 : Nat) (Option.some Jvm.ClassFile.FieldType.int)) ∈ lw_all := lw_g (lw_at lw_m2 84 rfl) rfl
theorem q650 : (Jvm.Cond.static ({ cls := "java/lang/Math", name := "max", desc := "(II)I" } : Jvm.MethodName)) ∈ lw_all := lw_g (lw_at lw_m3 88 rfl) rfl
theorem q651 : (Jvm.Cond.code ({ cls := "java/lang/Math", name := "max", desc := "(II)I" } : Jvm.MethodName) prog_26_method_65_code (2 : Nat) (Option.some Jvm.ClassFile.FieldType.int)) ∈ lw_all := lw_g (lw_at lw_m3 89 rfl) rfl
theorem q1058 : (Jvm.Cond.static ({ cls := "java/lang/Math", name := "min", desc := "(II)I" } : Jvm.MethodName)) ∈ lw_all := lw_g (lw_at lw_m5 16 rfl) rfl
theorem q1059 : (Jvm.Cond.code ({ cls := "java/lang/Math", name := "min", desc := "(II)I" } : Jvm.MethodName) prog_26_method_69_code (2 : Nat) (Option.some Jvm.ClassFile.FieldType.int)) ∈ lw_all := lw_g (lw_at lw_m5 17 rfl) rfl
theorem q1141 : (Jvm.Cond.static ({ cls := "java/lang/Math", name := "abs", desc := "(I)I" } : Jvm.MethodName)) ∈ lw_all := lw_g (lw_at lw_m5 99 rfl) rfl
theorem q1142 : (Jvm.Cond.code ({ cls := "java/lang/Math", name := "abs", desc := "(I)I" } : Jvm.MethodName) prog_26_method_59_code (1 : Nat) (Option.some Jvm.ClassFile.FieldType.int)) ∈ lw_all := lw_g (lw_at lw_m5 100 rfl) rfl
/-! java/lang/RuntimeException -/
set_option maxRecDepth 100000
def RJ3 : String := "java/lang/RuntimeException"
abbrev cJ3_init : ByteArray := prog_27_method_1_code
def yJ3_init : MethodName := ⟨RJ3, "<init>", "()V"⟩
theorem dJ3_init_0 : decode cJ3_init 0 = .ok (.aload_n 0, 1) := by decide +kernel
theorem dJ3_init_1 : decode cJ3_init 1 = .ok (.invokespecial 1, 3) := by decide +kernel
theorem dJ3_init_4 : decode cJ3_init 4 = .ok (.return_, 1) := by decide +kernel
theorem q93 : (Jvm.Cond.initialized "java/lang/RuntimeException") ∈ lw_all := lw_g (lw_at lw_m1 11 rfl) rfl
theorem q1170 : (Jvm.Cond.declares ({ cls := "java/lang/RuntimeException", name := "<init>", desc := "()V" } : Jvm.MethodName)) ∈ lw_tbl := lw_at lw_m5 128 rfl
theorem q1171 : (Jvm.Cond.declares ({ cls := "java/lang/RuntimeException", name := "<init>", desc := "(Ljava/lang/String;)V" } : Jvm.MethodName)) ∈ lw_tbl := lw_at lw_m5 129 rfl
theorem q1182 : (Jvm.Cond.instanceMethod ({ cls := "java/lang/RuntimeException", name := "<init>", desc := "()V" } : Jvm.MethodName)) ∈ lw_all := lw_g (lw_at lw_m5 140 rfl) rfl
theorem q1183 : (Jvm.Cond.code ({ cls := "java/lang/RuntimeException", name := "<init>", desc := "()V" } : Jvm.MethodName) prog_27_method_1_code (1 : Nat) (Option.none : Option Jvm.ClassFile.FieldType)) ∈ lw_all := lw_g (lw_at lw_m5 141 rfl) rfl
theorem q1184 : (Jvm.Cond.methodLink "java/lang/RuntimeException" (1 : Nat) ({ cls := "java/lang/Exception", name := "<init>", desc := "()V" } : Jvm.MethodName)) ∈ lw_all := lw_g (lw_at lw_m5 142 rfl) rfl
/-! java/util/NoSuchElementException -/
set_option maxRecDepth 100000
def RJ4 : String := "java/util/NoSuchElementException"
def TJ4 : u_T := fun k => match k with
  | 0 => ("java/lang/Throwable", "cause", "Ljava/lang/Throwable;", false)
  | 1 => ("java/lang/Throwable", "stackTrace", "[Ljava/lang/StackTraceElement;", false)
  | 2 => ("java/lang/Throwable", "suppressedExceptions", "Ljava/util/List;", false)
  | 3 => ("java/lang/Throwable", "detailMessage", "Ljava/lang/String;", false)
  | 4 => ("java/lang/Throwable", "backtrace", "Ljava/lang/Object;", false)
  | _ => ("java/lang/Throwable", "depth", "I", false)
def tyJ4 : Nat → FieldType := fun k => match k with
  | 0 => .object "java/lang/Throwable"
  | 1 => .array (.object "java/lang/StackTraceElement")
  | 2 => .object "java/util/List"
  | 3 => .object "java/lang/String"
  | 4 => .object "java/lang/Object"
  | _ => .int
abbrev wsJ40 : List Cond := u_ws RJ4 TJ4 6
theorem nmJ4 : ∀ a, a < 6 → ∀ b, b < 6 → a ≠ b → (TJ4 a).2.1 ≠ (TJ4 b).2.1 := by decide +kernel
theorem tyJ4_ok : ∀ k, k < 6 → parseFieldDescriptor (TJ4 k).2.2.1 = some (tyJ4 k) := by decide +kernel
abbrev cJ4_init : ByteArray := prog_29_method_1_code
def yJ4_init : MethodName := ⟨RJ4, "<init>", "()V"⟩
theorem dJ4_init_0 : decode cJ4_init 0 = .ok (.aload_n 0, 1) := by decide +kernel
theorem dJ4_init_1 : decode cJ4_init 1 = .ok (.invokespecial 1, 3) := by decide +kernel
theorem dJ4_init_4 : decode cJ4_init 4 = .ok (.return_, 1) := by decide +kernel
theorem q94 : (Jvm.Cond.initialized "java/util/NoSuchElementException") ∈ lw_all := lw_g (lw_at lw_m1 12 rfl) rfl
theorem q155 : (Jvm.Cond.selects "java/util/NoSuchElementException" ({ cls := "java/lang/Throwable", name := "fillInStackTrace", desc := "()Ljava/lang/Throwable;" } : Jvm.MethodName) ({ cls := "java/lang/Throwable", name := "fillInStackTrace", desc := "()Ljava/lang/Throwable;" } : Jvm.MethodName)) ∈ lw_all := lw_g (lw_at lw_m1 73 rfl) rfl
theorem q1168 : (Jvm.Cond.instantiable "java/util/NoSuchElementException" (6 : Nat)) ∈ lw_all := lw_g (lw_at lw_m5 126 rfl) rfl
theorem q1169 : (Jvm.Cond.castable "java/util/NoSuchElementException" "java/util/NoSuchElementException") ∈ lw_tbl := lw_at lw_m5 127 rfl
theorem q1172 : (Jvm.Cond.selects "java/util/NoSuchElementException" ({ cls := "java/lang/Throwable", name := "fillInStackTrace", desc := "(I)Ljava/lang/Throwable;" } : Jvm.MethodName) ({ cls := "java/lang/Throwable", name := "fillInStackTrace", desc := "(I)Ljava/lang/Throwable;" } : Jvm.MethodName)) ∈ lw_all := lw_g (lw_at lw_m5 130 rfl) rfl
theorem q1173 : (Jvm.Cond.lays "java/util/NoSuchElementException" "java/lang/Throwable" "cause" "Ljava/lang/Throwable;") ∈ lw_all := lw_g (lw_at lw_m5 131 rfl) rfl
theorem q1174 : (Jvm.Cond.lays "java/util/NoSuchElementException" "java/lang/Throwable" "stackTrace" "[Ljava/lang/StackTraceElement;") ∈ lw_all := lw_g (lw_at lw_m5 132 rfl) rfl
theorem q1175 : (Jvm.Cond.lays "java/util/NoSuchElementException" "java/lang/Throwable" "suppressedExceptions" "Ljava/util/List;") ∈ lw_all := lw_g (lw_at lw_m5 133 rfl) rfl
theorem q1176 : (Jvm.Cond.lays "java/util/NoSuchElementException" "java/lang/Throwable" "detailMessage" "Ljava/lang/String;") ∈ lw_all := lw_g (lw_at lw_m5 134 rfl) rfl
theorem q1177 : (Jvm.Cond.lays "java/util/NoSuchElementException" "java/lang/Throwable" "backtrace" "Ljava/lang/Object;") ∈ lw_all := lw_g (lw_at lw_m5 135 rfl) rfl
theorem q1179 : (Jvm.Cond.instanceMethod ({ cls := "java/util/NoSuchElementException", name := "<init>", desc := "()V" } : Jvm.MethodName)) ∈ lw_all := lw_g (lw_at lw_m5 137 rfl) rfl
theorem q1180 : (Jvm.Cond.code ({ cls := "java/util/NoSuchElementException", name := "<init>", desc := "()V" } : Jvm.MethodName) prog_29_method_1_code (1 : Nat) (Option.none : Option Jvm.ClassFile.FieldType)) ∈ lw_all := lw_g (lw_at lw_m5 138 rfl) rfl
theorem q1181 : (Jvm.Cond.methodLink "java/util/NoSuchElementException" (1 : Nat) ({ cls := "java/lang/RuntimeException", name := "<init>", desc := "()V" } : Jvm.MethodName)) ∈ lw_all := lw_g (lw_at lw_m5 139 rfl) rfl
theorem q1185 : (Jvm.Cond.lays "java/util/NoSuchElementException" "java/lang/Throwable" "depth" "I") ∈ lw_all := lw_g (lw_at lw_m5 143 rfl) rfl
theorem q1186 : (Jvm.Cond.superclass "java/util/NoSuchElementException" "java/lang/RuntimeException") ∈ lw_all := lw_g (lw_at lw_m5 144 rfl) rfl
theorem q1884 : (Jvm.Cond.castable "java/util/NoSuchElementException" "java/lang/Object") ∈ lw_tbl := lw_at lw_m8 122 rfl
theorem in_J4 : ∀ w ∈ wsJ40, w ∈ lw_all := lw_in wsJ40 [1173, 1174, 1175, 1176, 1177, 1185] (by decide +kernel) (by decide +kernel)
/-! java/lang/Integer -/
set_option maxRecDepth 100000
def RJ5 : String := "java/lang/Intege\x72"
abbrev cJ5_bitCount : ByteArray := prog_25_method_49_code
def yJ5_bitCount : MethodName := ⟨RJ5, "bitCount", "(I)I"⟩
def dkwJ5_bitCount_2 : List UInt8 := [26, 16, 63, 126, 172]
abbrev dktJ5_bitCount_2 : List UInt8 := dkwJ5_bitCount_2 ++ []
def dkwJ5_bitCount_1 : List UInt8 := [26, 26, 7, 124, 96, 19, 1, 11, 126, 59, 26, 26, 16, 8, 124, 96, 59, 26, 26, 16, 16, 124, 96, 59]
abbrev dktJ5_bitCount_1 : List UInt8 := dkwJ5_bitCount_1 ++ dktJ5_bitCount_2
def dkwJ5_bitCount_0 : List UInt8 := [26, 26, 4, 124, 19, 1, 9, 126, 100, 59, 26, 19, 1, 10, 126, 26, 5, 124, 19, 1, 10, 126, 96, 59]
abbrev dktJ5_bitCount_0 : List UInt8 := dkwJ5_bitCount_0 ++ dktJ5_bitCount_1
theorem dksJ5_bitCount_0 : cJ5_bitCount.data.toList.drop 0 = dktJ5_bitCount_0 := by decide +kernel
theorem dksJ5_bitCount_1 : cJ5_bitCount.data.toList.drop 24 = dktJ5_bitCount_1 := dk_seg dksJ5_bitCount_0 24 rfl rfl
theorem dksJ5_bitCount_2 : cJ5_bitCount.data.toList.drop 48 = dktJ5_bitCount_2 := dk_seg dksJ5_bitCount_1 24 rfl rfl
theorem dJ5_bitCount_0 : decode cJ5_bitCount 0 = .ok (.iload_n 0, 1) := dk_26 (dk_at dksJ5_bitCount_0 0 rfl rfl)
theorem dJ5_bitCount_1 : decode cJ5_bitCount 1 = .ok (.iload_n 0, 1) := dk_26 (dk_at dksJ5_bitCount_0 1 rfl rfl)
theorem dJ5_bitCount_2 : decode cJ5_bitCount 2 = .ok (.iconst 1, 1) := dk_4 (dk_at dksJ5_bitCount_0 2 rfl rfl)
theorem dJ5_bitCount_3 : decode cJ5_bitCount 3 = .ok (.iushr, 1) := dk_124 (dk_at dksJ5_bitCount_0 3 rfl rfl)
theorem dJ5_bitCount_4 : decode cJ5_bitCount 4 = .ok (.ldc_w 265, 3) := dk_19 1 9 (dk_at dksJ5_bitCount_0 4 rfl rfl)
theorem dJ5_bitCount_7 : decode cJ5_bitCount 7 = .ok (.iand, 1) := dk_126 (dk_at dksJ5_bitCount_0 7 rfl rfl)
theorem dJ5_bitCount_8 : decode cJ5_bitCount 8 = .ok (.isub, 1) := dk_100 (dk_at dksJ5_bitCount_0 8 rfl rfl)
theorem dJ5_bitCount_9 : decode cJ5_bitCount 9 = .ok (.istore_n 0, 1) := dk_59 (dk_at dksJ5_bitCount_0 9 rfl rfl)
theorem dJ5_bitCount_10 : decode cJ5_bitCount 10 = .ok (.iload_n 0, 1) := dk_26 (dk_at dksJ5_bitCount_0 10 rfl rfl)
theorem dJ5_bitCount_11 : decode cJ5_bitCount 11 = .ok (.ldc_w 266, 3) := dk_19 1 10 (dk_at dksJ5_bitCount_0 11 rfl rfl)
theorem dJ5_bitCount_14 : decode cJ5_bitCount 14 = .ok (.iand, 1) := dk_126 (dk_at dksJ5_bitCount_0 14 rfl rfl)
theorem dJ5_bitCount_15 : decode cJ5_bitCount 15 = .ok (.iload_n 0, 1) := dk_26 (dk_at dksJ5_bitCount_0 15 rfl rfl)
theorem dJ5_bitCount_16 : decode cJ5_bitCount 16 = .ok (.iconst 2, 1) := dk_5 (dk_at dksJ5_bitCount_0 16 rfl rfl)
theorem dJ5_bitCount_17 : decode cJ5_bitCount 17 = .ok (.iushr, 1) := dk_124 (dk_at dksJ5_bitCount_0 17 rfl rfl)
theorem dJ5_bitCount_18 : decode cJ5_bitCount 18 = .ok (.ldc_w 266, 3) := dk_19 1 10 (dk_at dksJ5_bitCount_0 18 rfl rfl)
theorem dJ5_bitCount_21 : decode cJ5_bitCount 21 = .ok (.iand, 1) := dk_126 (dk_at dksJ5_bitCount_0 21 rfl rfl)
theorem dJ5_bitCount_22 : decode cJ5_bitCount 22 = .ok (.iadd, 1) := dk_96 (dk_at dksJ5_bitCount_0 22 rfl rfl)
theorem dJ5_bitCount_23 : decode cJ5_bitCount 23 = .ok (.istore_n 0, 1) := dk_59 (dk_at dksJ5_bitCount_0 23 rfl rfl)
theorem dJ5_bitCount_24 : decode cJ5_bitCount 24 = .ok (.iload_n 0, 1) := dk_26 (dk_at dksJ5_bitCount_1 0 rfl rfl)
theorem dJ5_bitCount_25 : decode cJ5_bitCount 25 = .ok (.iload_n 0, 1) := dk_26 (dk_at dksJ5_bitCount_1 1 rfl rfl)
theorem dJ5_bitCount_26 : decode cJ5_bitCount 26 = .ok (.iconst 4, 1) := dk_7 (dk_at dksJ5_bitCount_1 2 rfl rfl)
theorem dJ5_bitCount_27 : decode cJ5_bitCount 27 = .ok (.iushr, 1) := dk_124 (dk_at dksJ5_bitCount_1 3 rfl rfl)
theorem dJ5_bitCount_28 : decode cJ5_bitCount 28 = .ok (.iadd, 1) := dk_96 (dk_at dksJ5_bitCount_1 4 rfl rfl)
theorem dJ5_bitCount_29 : decode cJ5_bitCount 29 = .ok (.ldc_w 267, 3) := dk_19 1 11 (dk_at dksJ5_bitCount_1 5 rfl rfl)
theorem dJ5_bitCount_32 : decode cJ5_bitCount 32 = .ok (.iand, 1) := dk_126 (dk_at dksJ5_bitCount_1 8 rfl rfl)
theorem dJ5_bitCount_33 : decode cJ5_bitCount 33 = .ok (.istore_n 0, 1) := dk_59 (dk_at dksJ5_bitCount_1 9 rfl rfl)
theorem dJ5_bitCount_34 : decode cJ5_bitCount 34 = .ok (.iload_n 0, 1) := dk_26 (dk_at dksJ5_bitCount_1 10 rfl rfl)
theorem dJ5_bitCount_35 : decode cJ5_bitCount 35 = .ok (.iload_n 0, 1) := dk_26 (dk_at dksJ5_bitCount_1 11 rfl rfl)
theorem dJ5_bitCount_36 : decode cJ5_bitCount 36 = .ok (.bipush 8, 2) := dk_16 8 (dk_at dksJ5_bitCount_1 12 rfl rfl)
theorem dJ5_bitCount_38 : decode cJ5_bitCount 38 = .ok (.iushr, 1) := dk_124 (dk_at dksJ5_bitCount_1 14 rfl rfl)
theorem dJ5_bitCount_39 : decode cJ5_bitCount 39 = .ok (.iadd, 1) := dk_96 (dk_at dksJ5_bitCount_1 15 rfl rfl)
theorem dJ5_bitCount_40 : decode cJ5_bitCount 40 = .ok (.istore_n 0, 1) := dk_59 (dk_at dksJ5_bitCount_1 16 rfl rfl)
theorem dJ5_bitCount_41 : decode cJ5_bitCount 41 = .ok (.iload_n 0, 1) := dk_26 (dk_at dksJ5_bitCount_1 17 rfl rfl)
theorem dJ5_bitCount_42 : decode cJ5_bitCount 42 = .ok (.iload_n 0, 1) := dk_26 (dk_at dksJ5_bitCount_1 18 rfl rfl)
theorem dJ5_bitCount_43 : decode cJ5_bitCount 43 = .ok (.bipush 16, 2) := dk_16 16 (dk_at dksJ5_bitCount_1 19 rfl rfl)
theorem dJ5_bitCount_45 : decode cJ5_bitCount 45 = .ok (.iushr, 1) := dk_124 (dk_at dksJ5_bitCount_1 21 rfl rfl)
theorem dJ5_bitCount_46 : decode cJ5_bitCount 46 = .ok (.iadd, 1) := dk_96 (dk_at dksJ5_bitCount_1 22 rfl rfl)
theorem dJ5_bitCount_47 : decode cJ5_bitCount 47 = .ok (.istore_n 0, 1) := dk_59 (dk_at dksJ5_bitCount_1 23 rfl rfl)
theorem dJ5_bitCount_48 : decode cJ5_bitCount 48 = .ok (.iload_n 0, 1) := dk_26 (dk_at dksJ5_bitCount_2 0 rfl rfl)
theorem dJ5_bitCount_49 : decode cJ5_bitCount 49 = .ok (.bipush 63, 2) := dk_16 63 (dk_at dksJ5_bitCount_2 1 rfl rfl)
theorem dJ5_bitCount_51 : decode cJ5_bitCount 51 = .ok (.iand, 1) := dk_126 (dk_at dksJ5_bitCount_2 3 rfl rfl)
theorem dJ5_bitCount_52 : decode cJ5_bitCount 52 = .ok (.ireturn, 1) := dk_172 (dk_at dksJ5_bitCount_2 4 rfl rfl)
theorem q98 : (Jvm.Cond.initialized "java/lang/Intege\x72") ∈ lw_all := lw_g (lw_at lw_m1 16 rfl) rfl
theorem q545 : (Jvm.Cond.static ({ cls := "java/lang/Intege\x72", name := "bitCount", desc := "(I)I" } : Jvm.MethodName)) ∈ lw_all := lw_g (lw_at lw_m2 223 rfl) rfl
theorem q546 : (Jvm.Cond.code ({ cls := "java/lang/Intege\x72", name := "bitCount", desc := "(I)I" } : Jvm.MethodName) prog_25_method_49_code (1 : Nat) (Option.some Jvm.ClassFile.FieldType.int)) ∈ lw_all := lw_g (lw_at lw_m2 224 rfl) rfl
theorem q547 : (Jvm.Cond.constant "java/lang/Intege\x72" (265 : Nat) (1431655765 : Int32)) ∈ lw_all := lw_g (lw_at lw_m2 225 rfl) rfl
theorem q548 : (Jvm.Cond.constant "java/lang/Intege\x72" (266 : Nat) (858993459 : Int32)) ∈ lw_all := lw_g (lw_at lw_m2 226 rfl) rfl
theorem q549 : (Jvm.Cond.constant "java/lang/Intege\x72" (267 : Nat) (252645135 : Int32)) ∈ lw_all := lw_g (lw_at lw_m2 227 rfl) rfl
/-! java/lang/Object -/
set_option maxRecDepth 100000
def RJ6 : String := "java/lang/Object"
abbrev cJ6_init : ByteArray := object_method_1_code
def yJ6_init : MethodName := ⟨RJ6, "<init>", "()V"⟩
theorem dJ6_init_0 : decode cJ6_init 0 = .ok (.return_, 1) := by decide +kernel
theorem q116 : (Jvm.Cond.instanceMethod ({ cls := "java/lang/Object", name := "<init>", desc := "()V" } : Jvm.MethodName)) ∈ lw_all := lw_g (lw_at lw_m1 34 rfl) rfl
theorem q117 : (Jvm.Cond.code ({ cls := "java/lang/Object", name := "<init>", desc := "()V" } : Jvm.MethodName) object_method_1_code (1 : Nat) (Option.none : Option Jvm.ClassFile.FieldType)) ∈ lw_all := lw_g (lw_at lw_m1 35 rfl) rfl
/-! LifeKeysLaw -/
set_option maxRecDepth 100000
def RX0 : String := "LifeKeysLaw"
abbrev cX0_open : ByteArray := method_3_code
def yX0_open : MethodName := ⟨RX0, "open", "(LLifeKeys;I[J)I"⟩
def dkwX0_open_0 : List UInt8 := [44, 3, 42, 27, 182, 0, 7, 133, 80, 167, 0, 6, 78, 4, 172, 3, 172]
abbrev dktX0_open_0 : List UInt8 := dkwX0_open_0 ++ []
theorem dksX0_open_0 : cX0_open.data.toList.drop 0 = dktX0_open_0 := by decide +kernel
theorem dX0_open_0 : decode cX0_open 0 = .ok (.aload_n 2, 1) := dk_44 (dk_at dksX0_open_0 0 rfl rfl)
theorem dX0_open_1 : decode cX0_open 1 = .ok (.iconst 0, 1) := dk_3 (dk_at dksX0_open_0 1 rfl rfl)
theorem dX0_open_2 : decode cX0_open 2 = .ok (.aload_n 0, 1) := dk_42 (dk_at dksX0_open_0 2 rfl rfl)
theorem dX0_open_3 : decode cX0_open 3 = .ok (.iload_n 1, 1) := dk_27 (dk_at dksX0_open_0 3 rfl rfl)
theorem dX0_open_4 : decode cX0_open 4 = .ok (.invokevirtual 7, 3) := dk_182 0 7 (dk_at dksX0_open_0 4 rfl rfl)
theorem dX0_open_7 : decode cX0_open 7 = .ok (.i2l, 1) := dk_133 (dk_at dksX0_open_0 7 rfl rfl)
theorem dX0_open_8 : decode cX0_open 8 = .ok (.lastore, 1) := dk_80 (dk_at dksX0_open_0 8 rfl rfl)
theorem dX0_open_9 : decode cX0_open 9 = .ok (.goto 6, 3) := dk_167 0 6 (dk_at dksX0_open_0 9 rfl rfl)
theorem dX0_open_12 : decode cX0_open 12 = .ok (.astore_n 3, 1) := dk_78 (dk_at dksX0_open_0 12 rfl rfl)
theorem dX0_open_13 : decode cX0_open 13 = .ok (.iconst 1, 1) := dk_4 (dk_at dksX0_open_0 13 rfl rfl)
theorem dX0_open_14 : decode cX0_open 14 = .ok (.ireturn, 1) := dk_172 (dk_at dksX0_open_0 14 rfl rfl)
theorem dX0_open_15 : decode cX0_open 15 = .ok (.iconst 0, 1) := dk_3 (dk_at dksX0_open_0 15 rfl rfl)
theorem dX0_open_16 : decode cX0_open 16 = .ok (.ireturn, 1) := dk_172 (dk_at dksX0_open_0 16 rfl rfl)
theorem q82 : (Jvm.Cond.initialized "LifeKeysLaw") ∈ lw_all := lw_g (lw_at lw_m1 0 rfl) rfl
theorem q110 : (Jvm.Cond.classLink "LifeKeysLaw" (8 : Nat) "LifeKeys") ∈ lw_all := lw_g (lw_at lw_m1 28 rfl) rfl
theorem q112 : (Jvm.Cond.methodLink "LifeKeysLaw" (15 : Nat) ({ cls := "LifeKeys", name := "<init>", desc := "()V" } : Jvm.MethodName)) ∈ lw_all := lw_g (lw_at lw_m1 30 rfl) rfl
theorem q309 : (Jvm.Cond.methodLink "LifeKeysLaw" (19 : Nat) ({ cls := "LifeKeys", name := "days", desc := "(I)I" } : Jvm.MethodName)) ∈ lw_all := lw_g (lw_at lw_m1 227 rfl) rfl
theorem q316 : (Jvm.Cond.methodLink "LifeKeysLaw" (23 : Nat) ({ cls := "LifeKeys", name := "holde\x72", desc := "()I" } : Jvm.MethodName)) ∈ lw_all := lw_g (lw_at lw_m1 234 rfl) rfl
theorem q320 : (Jvm.Cond.methodLink "LifeKeysLaw" (28 : Nat) ({ cls := "LifeKeys", name := "key", desc := "(IZ)I" } : Jvm.MethodName)) ∈ lw_all := lw_g (lw_at lw_m1 238 rfl) rfl
theorem q376 : (Jvm.Cond.methodLink "LifeKeysLaw" (33 : Nat) ({ cls := "LifeKeys", name := "feed", desc := "(IIIII)I" } : Jvm.MethodName)) ∈ lw_all := lw_g (lw_at lw_m2 54 rfl) rfl
theorem q383 : (Jvm.Cond.methodLink "LifeKeysLaw" (38 : Nat) ({ cls := "LifeKeys", name := "end", desc := "(I)Z" } : Jvm.MethodName)) ∈ lw_all := lw_g (lw_at lw_m2 61 rfl) rfl
theorem q387 : (Jvm.Cond.methodLink "LifeKeysLaw" (43 : Nat) ({ cls := "LifeKeys", name := "make", desc := "(I)I" } : Jvm.MethodName)) ∈ lw_all := lw_g (lw_at lw_m2 65 rfl) rfl
theorem q417 : (Jvm.Cond.methodLink "LifeKeysLaw" (56 : Nat) ({ cls := "LifeKeys", name := "told", desc := "(II)I" } : Jvm.MethodName)) ∈ lw_all := lw_g (lw_at lw_m2 95 rfl) rfl
theorem q453 : (Jvm.Cond.methodLink "LifeKeysLaw" (61 : Nat) ({ cls := "LifeKeys", name := "give", desc := "(II)Z" } : Jvm.MethodName)) ∈ lw_all := lw_g (lw_at lw_m2 131 rfl) rfl
theorem q510 : (Jvm.Cond.methodLink "LifeKeysLaw" (66 : Nat) ({ cls := "LifeKeys", name := "take", desc := "(II)Z" } : Jvm.MethodName)) ∈ lw_all := lw_g (lw_at lw_m2 188 rfl) rfl
theorem q514 : (Jvm.Cond.methodLink "LifeKeysLaw" (70 : Nat) ({ cls := "LifeKeys", name := "wrap", desc := "(II)I" } : Jvm.MethodName)) ∈ lw_all := lw_g (lw_at lw_m2 192 rfl) rfl
theorem q532 : (Jvm.Cond.methodLink "LifeKeysLaw" (74 : Nat) ({ cls := "LifeKeys", name := "cut", desc := "(I)Z" } : Jvm.MethodName)) ∈ lw_all := lw_g (lw_at lw_m2 210 rfl) rfl
theorem q536 : (Jvm.Cond.methodLink "LifeKeysLaw" (80 : Nat) ({ cls := "LifeKeys", name := "part", desc := "(IIIJ)I" } : Jvm.MethodName)) ∈ lw_all := lw_g (lw_at lw_m2 214 rfl) rfl
theorem q585 : (Jvm.Cond.methodLink "LifeKeysLaw" (85 : Nat) ({ cls := "LifeKeys", name := "again", desc := "(IJ)I" } : Jvm.MethodName)) ∈ lw_all := lw_g (lw_at lw_m3 23 rfl) rfl
theorem q593 : (Jvm.Cond.methodLink "LifeKeysLaw" (90 : Nat) ({ cls := "LifeKeys", name := "piece", desc := "(II)I" } : Jvm.MethodName)) ∈ lw_all := lw_g (lw_at lw_m3 31 rfl) rfl
theorem q609 : (Jvm.Cond.methodLink "LifeKeysLaw" (94 : Nat) ({ cls := "LifeKeys", name := "checks", desc := "(II)I" } : Jvm.MethodName)) ∈ lw_all := lw_g (lw_at lw_m3 47 rfl) rfl
theorem q620 : (Jvm.Cond.methodLink "LifeKeysLaw" (98 : Nat) ({ cls := "LifeKeys", name := "fits", desc := "(III)I" } : Jvm.MethodName)) ∈ lw_all := lw_g (lw_at lw_m3 58 rfl) rfl
theorem q630 : (Jvm.Cond.methodLink "LifeKeysLaw" (103 : Nat) ({ cls := "LifeKeys", name := "lay", desc := "(II)I" } : Jvm.MethodName)) ∈ lw_all := lw_g (lw_at lw_m3 68 rfl) rfl
theorem q634 : (Jvm.Cond.methodLink "LifeKeysLaw" (107 : Nat) ({ cls := "LifeKeys", name := "join", desc := "()I" } : Jvm.MethodName)) ∈ lw_all := lw_g (lw_at lw_m3 72 rfl) rfl
theorem q645 : (Jvm.Cond.methodLink "LifeKeysLaw" (111 : Nat) ({ cls := "LifeKeys", name := "left", desc := "(II)I" } : Jvm.MethodName)) ∈ lw_all := lw_g (lw_at lw_m3 83 rfl) rfl
theorem q652 : (Jvm.Cond.methodLink "LifeKeysLaw" (115 : Nat) ({ cls := "LifeKeys", name := "got", desc := "(II)J" } : Jvm.MethodName)) ∈ lw_all := lw_g (lw_at lw_m3 90 rfl) rfl
theorem q687 : (Jvm.Cond.methodLink "LifeKeysLaw" (120 : Nat) ({ cls := "LifeKeys", name := "fault", desc := "()I" } : Jvm.MethodName)) ∈ lw_all := lw_g (lw_at lw_m3 125 rfl) rfl
theorem q784 : (Jvm.Cond.methodLink "LifeKeysLaw" (124 : Nat) ({ cls := "LifeKeys", name := "rule", desc := "()I" } : Jvm.MethodName)) ∈ lw_all := lw_g (lw_at lw_m3 222 rfl) rfl
theorem q788 : (Jvm.Cond.methodLink "LifeKeysLaw" (128 : Nat) ({ cls := "LifeKeys", name := "death", desc := "(II)Z" } : Jvm.MethodName)) ∈ lw_all := lw_g (lw_at lw_m3 226 rfl) rfl
theorem q796 : (Jvm.Cond.methodLink "LifeKeysLaw" (154 : Nat) ({ cls := "LifeKeys", name := "dead", desc := "(III)I" } : Jvm.MethodName)) ∈ lw_all := lw_g (lw_at lw_m3 234 rfl) rfl
theorem q856 : (Jvm.Cond.methodLink "LifeKeysLaw" (142 : Nat) ({ cls := "LifeKeys", name := "mourn", desc := "(IIZ)Z" } : Jvm.MethodName)) ∈ lw_all := lw_g (lw_at lw_m4 54 rfl) rfl
theorem q882 : (Jvm.Cond.methodLink "LifeKeysLaw" (132 : Nat) ({ cls := "LifeKeys", name := "seal", desc := "(IIZ)I" } : Jvm.MethodName)) ∈ lw_all := lw_g (lw_at lw_m4 80 rfl) rfl
theorem q917 : (Jvm.Cond.methodLink "LifeKeysLaw" (137 : Nat) ({ cls := "LifeKeys", name := "say", desc := "(IIZ)Z" } : Jvm.MethodName)) ∈ lw_all := lw_g (lw_at lw_m4 115 rfl) rfl
theorem q925 : (Jvm.Cond.methodLink "LifeKeysLaw" (146 : Nat) ({ cls := "LifeKeys", name := "ask", desc := "(I)Z" } : Jvm.MethodName)) ∈ lw_all := lw_g (lw_at lw_m4 123 rfl) rfl
theorem q929 : (Jvm.Cond.methodLink "LifeKeysLaw" (150 : Nat) ({ cls := "LifeKeys", name := "may", desc := "(III)I" } : Jvm.MethodName)) ∈ lw_all := lw_g (lw_at lw_m4 127 rfl) rfl
theorem q941 : (Jvm.Cond.methodLink "LifeKeysLaw" (158 : Nat) ({ cls := "LifeKeys", name := "unseal", desc := "(I)I" } : Jvm.MethodName)) ∈ lw_all := lw_g (lw_at lw_m4 139 rfl) rfl
theorem q945 : (Jvm.Cond.methodLink "LifeKeysLaw" (162 : Nat) ({ cls := "LifeKeys", name := "sign", desc := "(IIII)I" } : Jvm.MethodName)) ∈ lw_all := lw_g (lw_at lw_m4 143 rfl) rfl
theorem q1003 : (Jvm.Cond.methodLink "LifeKeysLaw" (167 : Nat) ({ cls := "LifeKeys", name := "falsely", desc := "(IZ)Z" } : Jvm.MethodName)) ∈ lw_all := lw_g (lw_at lw_m4 201 rfl) rfl
theorem q1007 : (Jvm.Cond.methodLink "LifeKeysLaw" (172 : Nat) ({ cls := "LifeKeys", name := "several", desc := "(IIIJ)I" } : Jvm.MethodName)) ∈ lw_all := lw_g (lw_at lw_m4 205 rfl) rfl
theorem q1013 : (Jvm.Cond.methodLink "LifeKeysLaw" (176 : Nat) ({ cls := "LifeKeys", name := "signed", desc := "(II)I" } : Jvm.MethodName)) ∈ lw_all := lw_g (lw_at lw_m4 211 rfl) rfl
theorem q1017 : (Jvm.Cond.methodLink "LifeKeysLaw" (180 : Nat) ({ cls := "LifeKeys", name := "taken", desc := "(IIII)I" } : Jvm.MethodName)) ∈ lw_all := lw_g (lw_at lw_m4 215 rfl) rfl
theorem q1021 : (Jvm.Cond.methodLink "LifeKeysLaw" (184 : Nat) ({ cls := "LifeKeys", name := "burn", desc := "(II)Z" } : Jvm.MethodName)) ∈ lw_all := lw_g (lw_at lw_m4 219 rfl) rfl
theorem q1044 : (Jvm.Cond.methodLink "LifeKeysLaw" (188 : Nat) ({ cls := "LifeKeys", name := "old", desc := "(I)Z" } : Jvm.MethodName)) ∈ lw_all := lw_g (lw_at lw_m5 2 rfl) rfl
theorem q1048 : (Jvm.Cond.methodLink "LifeKeysLaw" (192 : Nat) ({ cls := "LifeKeys", name := "stands", desc := "(II)I" } : Jvm.MethodName)) ∈ lw_all := lw_g (lw_at lw_m5 6 rfl) rfl
theorem q1060 : (Jvm.Cond.methodLink "LifeKeysLaw" (196 : Nat) ({ cls := "LifeKeys", name := "lend", desc := "(IIIII)I" } : Jvm.MethodName)) ∈ lw_all := lw_g (lw_at lw_m5 18 rfl) rfl
theorem q1088 : (Jvm.Cond.methodLink "LifeKeysLaw" (200 : Nat) ({ cls := "LifeKeys", name := "use", desc := "(III)I" } : Jvm.MethodName)) ∈ lw_all := lw_g (lw_at lw_m5 46 rfl) rfl
theorem q1096 : (Jvm.Cond.methodLink "LifeKeysLaw" (204 : Nat) ({ cls := "LifeKeys", name := "back", desc := "(I)Z" } : Jvm.MethodName)) ∈ lw_all := lw_g (lw_at lw_m5 54 rfl) rfl
theorem q1100 : (Jvm.Cond.methodLink "LifeKeysLaw" (208 : Nat) ({ cls := "LifeKeys", name := "fall", desc := "(I)I" } : Jvm.MethodName)) ∈ lw_all := lw_g (lw_at lw_m5 58 rfl) rfl
theorem q1104 : (Jvm.Cond.methodLink "LifeKeysLaw" (212 : Nat) ({ cls := "LifeKeys", name := "fallen", desc := "(II)J" } : Jvm.MethodName)) ∈ lw_all := lw_g (lw_at lw_m5 62 rfl) rfl
theorem q1116 : (Jvm.Cond.methodLink "LifeKeysLaw" (216 : Nat) ({ cls := "LifeKeys", name := "least", desc := "(II)I" } : Jvm.MethodName)) ∈ lw_all := lw_g (lw_at lw_m5 74 rfl) rfl
theorem q1124 : (Jvm.Cond.methodLink "LifeKeysLaw" (220 : Nat) ({ cls := "LifeKeys", name := "ways", desc := "(II)I" } : Jvm.MethodName)) ∈ lw_all := lw_g (lw_at lw_m5 82 rfl) rfl
theorem q1128 : (Jvm.Cond.methodLink "LifeKeysLaw" (224 : Nat) ({ cls := "LifeKeys", name := "first", desc := "(II)I" } : Jvm.MethodName)) ∈ lw_all := lw_g (lw_at lw_m5 86 rfl) rfl
theorem q1132 : (Jvm.Cond.methodLink "LifeKeysLaw" (228 : Nat) ({ cls := "LifeKeys", name := "bette\x72", desc := "(I)I" } : Jvm.MethodName)) ∈ lw_all := lw_g (lw_at lw_m5 90 rfl) rfl
theorem q1143 : (Jvm.Cond.methodLink "LifeKeysLaw" (232 : Nat) ({ cls := "LifeKeys", name := "orde\x72", desc := "(II)I" } : Jvm.MethodName)) ∈ lw_all := lw_g (lw_at lw_m5 101 rfl) rfl
theorem q1155 : (Jvm.Cond.methodLink "LifeKeysLaw" (236 : Nat) ({ cls := "LifeKeys", name := "count", desc := "(I)I" } : Jvm.MethodName)) ∈ lw_all := lw_g (lw_at lw_m5 113 rfl) rfl
theorem q1159 : (Jvm.Cond.methodLink "LifeKeysLaw" (47 : Nat) ({ cls := "LifeKeysLaw", name := "open", desc := "(LLifeKeys;I[J)I" } : Jvm.MethodName)) ∈ lw_all := lw_g (lw_at lw_m5 117 rfl) rfl
theorem q1160 : (Jvm.Cond.static ({ cls := "LifeKeysLaw", name := "open", desc := "(LLifeKeys;I[J)I" } : Jvm.MethodName)) ∈ lw_all := lw_g (lw_at lw_m5 118 rfl) rfl
theorem q1161 : (Jvm.Cond.codeWith ({ cls := "LifeKeysLaw", name := "open", desc := "(LLifeKeys;I[J)I" } : Jvm.MethodName) method_3_code (4 : Nat) (Option.some Jvm.ClassFile.FieldType.int) [((0 : Nat), (9 : Nat), (12 : Nat), (13 : Nat))]) ∈ lw_all := lw_g (lw_at lw_m5 119 rfl) rfl
theorem q1162 : (Jvm.Cond.classLink "LifeKeysLaw" (13 : Nat) "java/util/NoSuchElementException") ∈ lw_all := lw_g (lw_at lw_m5 120 rfl) rfl
theorem q1163 : (Jvm.Cond.methodLink "LifeKeysLaw" (7 : Nat) ({ cls := "LifeKeys", name := "open", desc := "(I)I" } : Jvm.MethodName)) ∈ lw_all := lw_g (lw_at lw_m5 121 rfl) rfl
theorem q1187 : (Jvm.Cond.classLink "LifeKeysLaw" (16 : Nat) "LifeKeysModel") ∈ lw_all := lw_g (lw_at lw_m5 145 rfl) rfl
theorem q1189 : (Jvm.Cond.methodLink "LifeKeysLaw" (18 : Nat) ({ cls := "LifeKeysModel", name := "<init>", desc := "()V" } : Jvm.MethodName)) ∈ lw_all := lw_g (lw_at lw_m5 147 rfl) rfl
theorem q1450 : (Jvm.Cond.methodLink "LifeKeysLaw" (53 : Nat) ({ cls := "LifeKeysModel", name := "thrown", desc := "()I" } : Jvm.MethodName)) ∈ lw_all := lw_g (lw_at lw_m6 168 rfl) rfl
theorem q1454 : (Jvm.Cond.methodLink "LifeKeysLaw" (22 : Nat) ({ cls := "LifeKeysModel", name := "days", desc := "(I)I" } : Jvm.MethodName)) ∈ lw_all := lw_g (lw_at lw_m6 172 rfl) rfl
theorem q1461 : (Jvm.Cond.methodLink "LifeKeysLaw" (27 : Nat) ({ cls := "LifeKeysModel", name := "holde\x72", desc := "()I" } : Jvm.MethodName)) ∈ lw_all := lw_g (lw_at lw_m6 179 rfl) rfl
theorem q1465 : (Jvm.Cond.methodLink "LifeKeysLaw" (32 : Nat) ({ cls := "LifeKeysModel", name := "key", desc := "(IZ)I" } : Jvm.MethodName)) ∈ lw_all := lw_g (lw_at lw_m6 183 rfl) rfl
theorem q1473 : (Jvm.Cond.methodLink "LifeKeysLaw" (37 : Nat) ({ cls := "LifeKeysModel", name := "feed", desc := "(IIIII)I" } : Jvm.MethodName)) ∈ lw_all := lw_g (lw_at lw_m6 191 rfl) rfl
theorem q1484 : (Jvm.Cond.methodLink "LifeKeysLaw" (42 : Nat) ({ cls := "LifeKeysModel", name := "end", desc := "(I)Z" } : Jvm.MethodName)) ∈ lw_all := lw_g (lw_at lw_m6 202 rfl) rfl
theorem q1488 : (Jvm.Cond.methodLink "LifeKeysLaw" (46 : Nat) ({ cls := "LifeKeysModel", name := "make", desc := "(I)I" } : Jvm.MethodName)) ∈ lw_all := lw_g (lw_at lw_m6 206 rfl) rfl
theorem q1496 : (Jvm.Cond.methodLink "LifeKeysLaw" (52 : Nat) ({ cls := "LifeKeysModel", name := "open", desc := "(I)I" } : Jvm.MethodName)) ∈ lw_all := lw_g (lw_at lw_m6 214 rfl) rfl
theorem q1506 : (Jvm.Cond.methodLink "LifeKeysLaw" (65 : Nat) ({ cls := "LifeKeysModel", name := "give", desc := "(II)Z" } : Jvm.MethodName)) ∈ lw_all := lw_g (lw_at lw_m6 224 rfl) rfl
theorem q1522 : (Jvm.Cond.methodLink "LifeKeysLaw" (69 : Nat) ({ cls := "LifeKeysModel", name := "take", desc := "(II)Z" } : Jvm.MethodName)) ∈ lw_all := lw_g (lw_at lw_m7 0 rfl) rfl
theorem q1526 : (Jvm.Cond.methodLink "LifeKeysLaw" (73 : Nat) ({ cls := "LifeKeysModel", name := "wrap", desc := "(II)I" } : Jvm.MethodName)) ∈ lw_all := lw_g (lw_at lw_m7 4 rfl) rfl
theorem q1530 : (Jvm.Cond.methodLink "LifeKeysLaw" (77 : Nat) ({ cls := "LifeKeysModel", name := "cut", desc := "(I)Z" } : Jvm.MethodName)) ∈ lw_all := lw_g (lw_at lw_m7 8 rfl) rfl
theorem q1534 : (Jvm.Cond.methodLink "LifeKeysLaw" (84 : Nat) ({ cls := "LifeKeysModel", name := "part", desc := "(IIIJ)I" } : Jvm.MethodName)) ∈ lw_all := lw_g (lw_at lw_m7 12 rfl) rfl
theorem q1555 : (Jvm.Cond.methodLink "LifeKeysLaw" (89 : Nat) ({ cls := "LifeKeysModel", name := "again", desc := "(IJ)I" } : Jvm.MethodName)) ∈ lw_all := lw_g (lw_at lw_m7 33 rfl) rfl
theorem q1563 : (Jvm.Cond.methodLink "LifeKeysLaw" (93 : Nat) ({ cls := "LifeKeysModel", name := "piece", desc := "(II)I" } : Jvm.MethodName)) ∈ lw_all := lw_g (lw_at lw_m7 41 rfl) rfl
theorem q1575 : (Jvm.Cond.methodLink "LifeKeysLaw" (97 : Nat) ({ cls := "LifeKeysModel", name := "checks", desc := "(II)I" } : Jvm.MethodName)) ∈ lw_all := lw_g (lw_at lw_m7 53 rfl) rfl
theorem q1579 : (Jvm.Cond.methodLink "LifeKeysLaw" (102 : Nat) ({ cls := "LifeKeysModel", name := "fits", desc := "(III)I" } : Jvm.MethodName)) ∈ lw_all := lw_g (lw_at lw_m7 57 rfl) rfl
theorem q1583 : (Jvm.Cond.methodLink "LifeKeysLaw" (106 : Nat) ({ cls := "LifeKeysModel", name := "lay", desc := "(II)I" } : Jvm.MethodName)) ∈ lw_all := lw_g (lw_at lw_m7 61 rfl) rfl
theorem q1587 : (Jvm.Cond.methodLink "LifeKeysLaw" (110 : Nat) ({ cls := "LifeKeysModel", name := "join", desc := "()I" } : Jvm.MethodName)) ∈ lw_all := lw_g (lw_at lw_m7 65 rfl) rfl
theorem q1598 : (Jvm.Cond.methodLink "LifeKeysLaw" (114 : Nat) ({ cls := "LifeKeysModel", name := "left", desc := "(II)I" } : Jvm.MethodName)) ∈ lw_all := lw_g (lw_at lw_m7 76 rfl) rfl
theorem q1603 : (Jvm.Cond.methodLink "LifeKeysLaw" (119 : Nat) ({ cls := "LifeKeysModel", name := "got", desc := "(II)J" } : Jvm.MethodName)) ∈ lw_all := lw_g (lw_at lw_m7 81 rfl) rfl
theorem q1632 : (Jvm.Cond.methodLink "LifeKeysLaw" (123 : Nat) ({ cls := "LifeKeysModel", name := "fault", desc := "()I" } : Jvm.MethodName)) ∈ lw_all := lw_g (lw_at lw_m7 110 rfl) rfl
theorem q1684 : (Jvm.Cond.methodLink "LifeKeysLaw" (127 : Nat) ({ cls := "LifeKeysModel", name := "rule", desc := "()I" } : Jvm.MethodName)) ∈ lw_all := lw_g (lw_at lw_m7 162 rfl) rfl
theorem q1689 : (Jvm.Cond.methodLink "LifeKeysLaw" (131 : Nat) ({ cls := "LifeKeysModel", name := "death", desc := "(II)Z" } : Jvm.MethodName)) ∈ lw_all := lw_g (lw_at lw_m7 167 rfl) rfl
theorem q1697 : (Jvm.Cond.methodLink "LifeKeysLaw" (136 : Nat) ({ cls := "LifeKeysModel", name := "seal", desc := "(IIZ)I" } : Jvm.MethodName)) ∈ lw_all := lw_g (lw_at lw_m7 175 rfl) rfl
theorem q1701 : (Jvm.Cond.methodLink "LifeKeysLaw" (141 : Nat) ({ cls := "LifeKeysModel", name := "say", desc := "(IIZ)Z" } : Jvm.MethodName)) ∈ lw_all := lw_g (lw_at lw_m7 179 rfl) rfl
theorem q1713 : (Jvm.Cond.methodLink "LifeKeysLaw" (145 : Nat) ({ cls := "LifeKeysModel", name := "mourn", desc := "(IIZ)Z" } : Jvm.MethodName)) ∈ lw_all := lw_g (lw_at lw_m7 191 rfl) rfl
theorem q1717 : (Jvm.Cond.methodLink "LifeKeysLaw" (149 : Nat) ({ cls := "LifeKeysModel", name := "ask", desc := "(I)Z" } : Jvm.MethodName)) ∈ lw_all := lw_g (lw_at lw_m7 195 rfl) rfl
theorem q1721 : (Jvm.Cond.methodLink "LifeKeysLaw" (153 : Nat) ({ cls := "LifeKeysModel", name := "may", desc := "(III)I" } : Jvm.MethodName)) ∈ lw_all := lw_g (lw_at lw_m7 199 rfl) rfl
theorem q1740 : (Jvm.Cond.methodLink "LifeKeysLaw" (157 : Nat) ({ cls := "LifeKeysModel", name := "dead", desc := "(III)I" } : Jvm.MethodName)) ∈ lw_all := lw_g (lw_at lw_m7 218 rfl) rfl
theorem q1744 : (Jvm.Cond.methodLink "LifeKeysLaw" (161 : Nat) ({ cls := "LifeKeysModel", name := "unseal", desc := "(I)I" } : Jvm.MethodName)) ∈ lw_all := lw_g (lw_at lw_m7 222 rfl) rfl
theorem q1748 : (Jvm.Cond.methodLink "LifeKeysLaw" (166 : Nat) ({ cls := "LifeKeysModel", name := "sign", desc := "(IIII)I" } : Jvm.MethodName)) ∈ lw_all := lw_g (lw_at lw_m7 226 rfl) rfl
theorem q1771 : (Jvm.Cond.methodLink "LifeKeysLaw" (171 : Nat) ({ cls := "LifeKeysModel", name := "falsely", desc := "(IZ)Z" } : Jvm.MethodName)) ∈ lw_all := lw_g (lw_at lw_m8 9 rfl) rfl
theorem q1775 : (Jvm.Cond.methodLink "LifeKeysLaw" (175 : Nat) ({ cls := "LifeKeysModel", name := "several", desc := "(IIIJ)I" } : Jvm.MethodName)) ∈ lw_all := lw_g (lw_at lw_m8 13 rfl) rfl
theorem q1779 : (Jvm.Cond.methodLink "LifeKeysLaw" (179 : Nat) ({ cls := "LifeKeysModel", name := "signed", desc := "(II)I" } : Jvm.MethodName)) ∈ lw_all := lw_g (lw_at lw_m8 17 rfl) rfl
theorem q1783 : (Jvm.Cond.methodLink "LifeKeysLaw" (183 : Nat) ({ cls := "LifeKeysModel", name := "taken", desc := "(IIII)I" } : Jvm.MethodName)) ∈ lw_all := lw_g (lw_at lw_m8 21 rfl) rfl
theorem q1787 : (Jvm.Cond.methodLink "LifeKeysLaw" (187 : Nat) ({ cls := "LifeKeysModel", name := "burn", desc := "(II)Z" } : Jvm.MethodName)) ∈ lw_all := lw_g (lw_at lw_m8 25 rfl) rfl
theorem q1791 : (Jvm.Cond.methodLink "LifeKeysLaw" (191 : Nat) ({ cls := "LifeKeysModel", name := "old", desc := "(I)Z" } : Jvm.MethodName)) ∈ lw_all := lw_g (lw_at lw_m8 29 rfl) rfl
theorem q1795 : (Jvm.Cond.methodLink "LifeKeysLaw" (195 : Nat) ({ cls := "LifeKeysModel", name := "stands", desc := "(II)I" } : Jvm.MethodName)) ∈ lw_all := lw_g (lw_at lw_m8 33 rfl) rfl
theorem q1799 : (Jvm.Cond.methodLink "LifeKeysLaw" (199 : Nat) ({ cls := "LifeKeysModel", name := "lend", desc := "(IIIII)I" } : Jvm.MethodName)) ∈ lw_all := lw_g (lw_at lw_m8 37 rfl) rfl
theorem q1803 : (Jvm.Cond.methodLink "LifeKeysLaw" (203 : Nat) ({ cls := "LifeKeysModel", name := "use", desc := "(III)I" } : Jvm.MethodName)) ∈ lw_all := lw_g (lw_at lw_m8 41 rfl) rfl
theorem q1807 : (Jvm.Cond.methodLink "LifeKeysLaw" (207 : Nat) ({ cls := "LifeKeysModel", name := "back", desc := "(I)Z" } : Jvm.MethodName)) ∈ lw_all := lw_g (lw_at lw_m8 45 rfl) rfl
theorem q1811 : (Jvm.Cond.methodLink "LifeKeysLaw" (60 : Nat) ({ cls := "LifeKeysModel", name := "told", desc := "(II)I" } : Jvm.MethodName)) ∈ lw_all := lw_g (lw_at lw_m8 49 rfl) rfl
theorem q1815 : (Jvm.Cond.methodLink "LifeKeysLaw" (211 : Nat) ({ cls := "LifeKeysModel", name := "fall", desc := "(I)I" } : Jvm.MethodName)) ∈ lw_all := lw_g (lw_at lw_m8 53 rfl) rfl
theorem q1819 : (Jvm.Cond.methodLink "LifeKeysLaw" (215 : Nat) ({ cls := "LifeKeysModel", name := "fallen", desc := "(II)J" } : Jvm.MethodName)) ∈ lw_all := lw_g (lw_at lw_m8 57 rfl) rfl
theorem q1835 : (Jvm.Cond.methodLink "LifeKeysLaw" (219 : Nat) ({ cls := "LifeKeysModel", name := "least", desc := "(II)I" } : Jvm.MethodName)) ∈ lw_all := lw_g (lw_at lw_m8 73 rfl) rfl
theorem q1847 : (Jvm.Cond.methodLink "LifeKeysLaw" (223 : Nat) ({ cls := "LifeKeysModel", name := "ways", desc := "(II)I" } : Jvm.MethodName)) ∈ lw_all := lw_g (lw_at lw_m8 85 rfl) rfl
theorem q1851 : (Jvm.Cond.methodLink "LifeKeysLaw" (227 : Nat) ({ cls := "LifeKeysModel", name := "first", desc := "(II)I" } : Jvm.MethodName)) ∈ lw_all := lw_g (lw_at lw_m8 89 rfl) rfl
theorem q1855 : (Jvm.Cond.methodLink "LifeKeysLaw" (231 : Nat) ({ cls := "LifeKeysModel", name := "bette\x72", desc := "(I)I" } : Jvm.MethodName)) ∈ lw_all := lw_g (lw_at lw_m8 93 rfl) rfl
theorem q1864 : (Jvm.Cond.methodLink "LifeKeysLaw" (235 : Nat) ({ cls := "LifeKeysModel", name := "orde\x72", desc := "(II)I" } : Jvm.MethodName)) ∈ lw_all := lw_g (lw_at lw_m8 102 rfl) rfl
theorem q1872 : (Jvm.Cond.methodLink "LifeKeysLaw" (239 : Nat) ({ cls := "LifeKeysModel", name := "count", desc := "(I)I" } : Jvm.MethodName)) ∈ lw_all := lw_g (lw_at lw_m8 110 rfl) rfl
theorem q1876 : (Jvm.Cond.constantLong "LifeKeysLaw" (78 : Nat) (4294967295 : Int64)) ∈ lw_all := lw_g (lw_at lw_m8 114 rfl) rfl
/-! LifeKeys$Fault -/
set_option maxRecDepth 100000
def RX2 : String := "LifeKeys$Fault"
def TX2 : u_T := fun k => match k with
  | 0 => ("java/lang/Throwable", "cause", "Ljava/lang/Throwable;", false)
  | 1 => ("java/lang/Throwable", "stackTrace", "[Ljava/lang/StackTraceElement;", false)
  | 2 => ("java/lang/Throwable", "suppressedExceptions", "Ljava/util/List;", false)
  | 3 => ("java/lang/Throwable", "detailMessage", "Ljava/lang/String;", false)
  | 4 => ("java/lang/Throwable", "backtrace", "Ljava/lang/Object;", false)
  | _ => ("java/lang/Throwable", "depth", "I", false)
def tyX2 : Nat → FieldType := fun k => match k with
  | 0 => .object "java/lang/Throwable"
  | 1 => .array (.object "java/lang/StackTraceElement")
  | 2 => .object "java/util/List"
  | 3 => .object "java/lang/String"
  | 4 => .object "java/lang/Object"
  | _ => .int
abbrev wsX20 : List Cond := u_ws RX2 TX2 6
theorem nmX2 : ∀ a, a < 6 → ∀ b, b < 6 → a ≠ b → (TX2 a).2.1 ≠ (TX2 b).2.1 := by decide +kernel
theorem tyX2_ok : ∀ k, k < 6 → parseFieldDescriptor (TX2 k).2.2.1 = some (tyX2 k) := by decide +kernel
abbrev cX2_init : ByteArray := prog_3_method_1_code
def yX2_init : MethodName := ⟨RX2, "<init>", "()V"⟩
theorem dX2_init_0 : decode cX2_init 0 = .ok (.aload_n 0, 1) := by decide +kernel
theorem dX2_init_1 : decode cX2_init 1 = .ok (.invokespecial 1, 3) := by decide +kernel
theorem dX2_init_4 : decode cX2_init 4 = .ok (.return_, 1) := by decide +kernel
theorem q86 : (Jvm.Cond.initialized "LifeKeys$Fault") ∈ lw_all := lw_g (lw_at lw_m1 4 rfl) rfl
theorem q125 : (Jvm.Cond.instantiable "LifeKeys$Fault" (6 : Nat)) ∈ lw_all := lw_g (lw_at lw_m1 43 rfl) rfl
theorem q126 : (Jvm.Cond.castable "LifeKeys$Fault" "LifeKeys$Fault") ∈ lw_tbl := lw_at lw_m1 44 rfl
theorem q131 : (Jvm.Cond.selects "LifeKeys$Fault" ({ cls := "java/lang/Throwable", name := "fillInStackTrace", desc := "(I)Ljava/lang/Throwable;" } : Jvm.MethodName) ({ cls := "java/lang/Throwable", name := "fillInStackTrace", desc := "(I)Ljava/lang/Throwable;" } : Jvm.MethodName)) ∈ lw_all := lw_g (lw_at lw_m1 49 rfl) rfl
theorem q132 : (Jvm.Cond.selects "LifeKeys$Fault" ({ cls := "java/lang/Throwable", name := "fillInStackTrace", desc := "()Ljava/lang/Throwable;" } : Jvm.MethodName) ({ cls := "java/lang/Throwable", name := "fillInStackTrace", desc := "()Ljava/lang/Throwable;" } : Jvm.MethodName)) ∈ lw_all := lw_g (lw_at lw_m1 50 rfl) rfl
theorem q133 : (Jvm.Cond.lays "LifeKeys$Fault" "java/lang/Throwable" "cause" "Ljava/lang/Throwable;") ∈ lw_all := lw_g (lw_at lw_m1 51 rfl) rfl
theorem q135 : (Jvm.Cond.lays "LifeKeys$Fault" "java/lang/Throwable" "stackTrace" "[Ljava/lang/StackTraceElement;") ∈ lw_all := lw_g (lw_at lw_m1 53 rfl) rfl
theorem q137 : (Jvm.Cond.lays "LifeKeys$Fault" "java/lang/Throwable" "suppressedExceptions" "Ljava/util/List;") ∈ lw_all := lw_g (lw_at lw_m1 55 rfl) rfl
theorem q139 : (Jvm.Cond.lays "LifeKeys$Fault" "java/lang/Throwable" "detailMessage" "Ljava/lang/String;") ∈ lw_all := lw_g (lw_at lw_m1 57 rfl) rfl
theorem q141 : (Jvm.Cond.lays "LifeKeys$Fault" "java/lang/Throwable" "backtrace" "Ljava/lang/Object;") ∈ lw_all := lw_g (lw_at lw_m1 59 rfl) rfl
theorem q163 : (Jvm.Cond.instanceMethod ({ cls := "LifeKeys$Fault", name := "<init>", desc := "()V" } : Jvm.MethodName)) ∈ lw_all := lw_g (lw_at lw_m1 81 rfl) rfl
theorem q164 : (Jvm.Cond.code ({ cls := "LifeKeys$Fault", name := "<init>", desc := "()V" } : Jvm.MethodName) prog_3_method_1_code (1 : Nat) (Option.none : Option Jvm.ClassFile.FieldType)) ∈ lw_all := lw_g (lw_at lw_m1 82 rfl) rfl
theorem q165 : (Jvm.Cond.methodLink "LifeKeys$Fault" (1 : Nat) ({ cls := "java/lang/Exception", name := "<init>", desc := "()V" } : Jvm.MethodName)) ∈ lw_all := lw_g (lw_at lw_m1 83 rfl) rfl
theorem q177 : (Jvm.Cond.lays "LifeKeys$Fault" "java/lang/Throwable" "depth" "I") ∈ lw_all := lw_g (lw_at lw_m1 95 rfl) rfl
theorem q180 : (Jvm.Cond.superclass "LifeKeys$Fault" "java/lang/Exception") ∈ lw_all := lw_g (lw_at lw_m1 98 rfl) rfl
theorem q1879 : (Jvm.Cond.castable "LifeKeys$Fault" "java/lang/Object") ∈ lw_tbl := lw_at lw_m8 117 rfl
theorem in_X2 : ∀ w ∈ wsX20, w ∈ lw_all := lw_in wsX20 [133, 135, 137, 139, 141, 177] (by decide +kernel) (by decide +kernel)
/-! LifeKeys$Key -/
set_option maxRecDepth 100000
def RX4 : String := "LifeKeys$Key"
abbrev cX4_init : ByteArray := prog_5_method_1_code
def yX4_init : MethodName := ⟨RX4, "<init>", "(III)V"⟩
def dkwX4_init_1 : List UInt8 := [177]
abbrev dktX4_init_1 : List UInt8 := dkwX4_init_1 ++ []
def dkwX4_init_0 : List UInt8 := [42, 183, 0, 3, 42, 2, 181, 0, 9, 42, 27, 181, 0, 15, 42, 28, 181, 0, 18, 42, 29, 181, 0, 21]
abbrev dktX4_init_0 : List UInt8 := dkwX4_init_0 ++ dktX4_init_1
theorem dksX4_init_0 : cX4_init.data.toList.drop 0 = dktX4_init_0 := by decide +kernel
theorem dksX4_init_1 : cX4_init.data.toList.drop 24 = dktX4_init_1 := dk_seg dksX4_init_0 24 rfl rfl
theorem dX4_init_0 : decode cX4_init 0 = .ok (.aload_n 0, 1) := dk_42 (dk_at dksX4_init_0 0 rfl rfl)
theorem dX4_init_1 : decode cX4_init 1 = .ok (.invokespecial 3, 3) := dk_183 0 3 (dk_at dksX4_init_0 1 rfl rfl)
theorem dX4_init_4 : decode cX4_init 4 = .ok (.aload_n 0, 1) := dk_42 (dk_at dksX4_init_0 4 rfl rfl)
theorem dX4_init_5 : decode cX4_init 5 = .ok (.iconst (-1), 1) := dk_2 (dk_at dksX4_init_0 5 rfl rfl)
theorem dX4_init_6 : decode cX4_init 6 = .ok (.putfield 9, 3) := dk_181 0 9 (dk_at dksX4_init_0 6 rfl rfl)
theorem dX4_init_9 : decode cX4_init 9 = .ok (.aload_n 0, 1) := dk_42 (dk_at dksX4_init_0 9 rfl rfl)
theorem dX4_init_10 : decode cX4_init 10 = .ok (.iload_n 1, 1) := dk_27 (dk_at dksX4_init_0 10 rfl rfl)
theorem dX4_init_11 : decode cX4_init 11 = .ok (.putfield 15, 3) := dk_181 0 15 (dk_at dksX4_init_0 11 rfl rfl)
theorem dX4_init_14 : decode cX4_init 14 = .ok (.aload_n 0, 1) := dk_42 (dk_at dksX4_init_0 14 rfl rfl)
theorem dX4_init_15 : decode cX4_init 15 = .ok (.iload_n 2, 1) := dk_28 (dk_at dksX4_init_0 15 rfl rfl)
theorem dX4_init_16 : decode cX4_init 16 = .ok (.putfield 18, 3) := dk_181 0 18 (dk_at dksX4_init_0 16 rfl rfl)
theorem dX4_init_19 : decode cX4_init 19 = .ok (.aload_n 0, 1) := dk_42 (dk_at dksX4_init_0 19 rfl rfl)
theorem dX4_init_20 : decode cX4_init 20 = .ok (.iload_n 3, 1) := dk_29 (dk_at dksX4_init_0 20 rfl rfl)
theorem dX4_init_21 : decode cX4_init 21 = .ok (.putfield 21, 3) := dk_181 0 21 (dk_at dksX4_init_0 21 rfl rfl)
theorem dX4_init_24 : decode cX4_init 24 = .ok (.return_, 1) := dk_177 (dk_at dksX4_init_1 0 rfl rfl)
abbrev cX4_root : ByteArray := prog_5_method_3_code
def yX4_root : MethodName := ⟨RX4, "root", "()I"⟩
theorem dX4_root_0 : decode cX4_root 0 = .ok (.iconst (-1), 1) := by decide +kernel
theorem dX4_root_1 : decode cX4_root 1 = .ok (.ireturn, 1) := by decide +kernel
abbrev cX4_burntFrom : ByteArray := prog_5_method_5_code
def yX4_burntFrom : MethodName := ⟨RX4, "burntFrom", "(I)I"⟩
def dkwX4_burntFrom_1 : List UInt8 := [45, 180, 0, 33, 28, 162, 0, 8, 45, 180, 0, 33, 61, 45, 180, 0, 36, 78, 167, 255, 221, 28, 172]
abbrev dktX4_burntFrom_1 : List UInt8 := dkwX4_burntFrom_1 ++ []
def dkwX4_burntFrom_0 : List UInt8 := [2, 61, 42, 180, 0, 24, 78, 45, 198, 0, 37, 45, 180, 0, 28, 27, 163, 0, 21, 28, 2, 159, 0, 11]
abbrev dktX4_burntFrom_0 : List UInt8 := dkwX4_burntFrom_0 ++ dktX4_burntFrom_1
theorem dksX4_burntFrom_0 : cX4_burntFrom.data.toList.drop 0 = dktX4_burntFrom_0 := by decide +kernel
theorem dksX4_burntFrom_1 : cX4_burntFrom.data.toList.drop 24 = dktX4_burntFrom_1 := dk_seg dksX4_burntFrom_0 24 rfl rfl
theorem dX4_burntFrom_0 : decode cX4_burntFrom 0 = .ok (.iconst (-1), 1) := dk_2 (dk_at dksX4_burntFrom_0 0 rfl rfl)
theorem dX4_burntFrom_1 : decode cX4_burntFrom 1 = .ok (.istore_n 2, 1) := dk_61 (dk_at dksX4_burntFrom_0 1 rfl rfl)
theorem dX4_burntFrom_2 : decode cX4_burntFrom 2 = .ok (.aload_n 0, 1) := dk_42 (dk_at dksX4_burntFrom_0 2 rfl rfl)
theorem dX4_burntFrom_3 : decode cX4_burntFrom 3 = .ok (.getfield 24, 3) := dk_180 0 24 (dk_at dksX4_burntFrom_0 3 rfl rfl)
theorem dX4_burntFrom_6 : decode cX4_burntFrom 6 = .ok (.astore_n 3, 1) := dk_78 (dk_at dksX4_burntFrom_0 6 rfl rfl)
theorem dX4_burntFrom_7 : decode cX4_burntFrom 7 = .ok (.aload_n 3, 1) := dk_45 (dk_at dksX4_burntFrom_0 7 rfl rfl)
theorem dX4_burntFrom_8 : decode cX4_burntFrom 8 = .ok (.ifnull 37, 3) := dk_198 0 37 (dk_at dksX4_burntFrom_0 8 rfl rfl)
theorem dX4_burntFrom_11 : decode cX4_burntFrom 11 = .ok (.aload_n 3, 1) := dk_45 (dk_at dksX4_burntFrom_0 11 rfl rfl)
theorem dX4_burntFrom_12 : decode cX4_burntFrom 12 = .ok (.getfield 28, 3) := dk_180 0 28 (dk_at dksX4_burntFrom_0 12 rfl rfl)
theorem dX4_burntFrom_15 : decode cX4_burntFrom 15 = .ok (.iload_n 1, 1) := dk_27 (dk_at dksX4_burntFrom_0 15 rfl rfl)
theorem dX4_burntFrom_16 : decode cX4_burntFrom 16 = .ok (.if_icmp .gt 21, 3) := dk_163 0 21 (dk_at dksX4_burntFrom_0 16 rfl rfl)
theorem dX4_burntFrom_19 : decode cX4_burntFrom 19 = .ok (.iload_n 2, 1) := dk_28 (dk_at dksX4_burntFrom_0 19 rfl rfl)
theorem dX4_burntFrom_20 : decode cX4_burntFrom 20 = .ok (.iconst (-1), 1) := dk_2 (dk_at dksX4_burntFrom_0 20 rfl rfl)
theorem dX4_burntFrom_21 : decode cX4_burntFrom 21 = .ok (.if_icmp .eq 11, 3) := dk_159 0 11 (dk_at dksX4_burntFrom_0 21 rfl rfl)
theorem dX4_burntFrom_24 : decode cX4_burntFrom 24 = .ok (.aload_n 3, 1) := dk_45 (dk_at dksX4_burntFrom_1 0 rfl rfl)
theorem dX4_burntFrom_25 : decode cX4_burntFrom 25 = .ok (.getfield 33, 3) := dk_180 0 33 (dk_at dksX4_burntFrom_1 1 rfl rfl)
theorem dX4_burntFrom_28 : decode cX4_burntFrom 28 = .ok (.iload_n 2, 1) := dk_28 (dk_at dksX4_burntFrom_1 4 rfl rfl)
theorem dX4_burntFrom_29 : decode cX4_burntFrom 29 = .ok (.if_icmp .ge 8, 3) := dk_162 0 8 (dk_at dksX4_burntFrom_1 5 rfl rfl)
theorem dX4_burntFrom_32 : decode cX4_burntFrom 32 = .ok (.aload_n 3, 1) := dk_45 (dk_at dksX4_burntFrom_1 8 rfl rfl)
theorem dX4_burntFrom_33 : decode cX4_burntFrom 33 = .ok (.getfield 33, 3) := dk_180 0 33 (dk_at dksX4_burntFrom_1 9 rfl rfl)
theorem dX4_burntFrom_36 : decode cX4_burntFrom 36 = .ok (.istore_n 2, 1) := dk_61 (dk_at dksX4_burntFrom_1 12 rfl rfl)
theorem dX4_burntFrom_37 : decode cX4_burntFrom 37 = .ok (.aload_n 3, 1) := dk_45 (dk_at dksX4_burntFrom_1 13 rfl rfl)
theorem dX4_burntFrom_38 : decode cX4_burntFrom 38 = .ok (.getfield 36, 3) := dk_180 0 36 (dk_at dksX4_burntFrom_1 14 rfl rfl)
theorem dX4_burntFrom_41 : decode cX4_burntFrom 41 = .ok (.astore_n 3, 1) := dk_78 (dk_at dksX4_burntFrom_1 17 rfl rfl)
theorem dX4_burntFrom_42 : decode cX4_burntFrom 42 = .ok (.goto (-35), 3) := dk_167 255 221 (dk_at dksX4_burntFrom_1 18 rfl rfl)
theorem dX4_burntFrom_45 : decode cX4_burntFrom 45 = .ok (.iload_n 2, 1) := dk_28 (dk_at dksX4_burntFrom_1 21 rfl rfl)
theorem dX4_burntFrom_46 : decode cX4_burntFrom 46 = .ok (.ireturn, 1) := dk_172 (dk_at dksX4_burntFrom_1 22 rfl rfl)
abbrev cX4_comesOf : ByteArray := prog_5_method_4_code
def yX4_comesOf : MethodName := ⟨RX4, "comesOf", "(J)Z"⟩
theorem dX4_comesOf_0 : decode cX4_comesOf 0 = .ok (.iconst 0, 1) := by decide +kernel
theorem dX4_comesOf_1 : decode cX4_comesOf 1 = .ok (.ireturn, 1) := by decide +kernel
abbrev cX4_isBurnt : ByteArray := prog_5_method_6_code
def yX4_isBurnt : MethodName := ⟨RX4, "isBurnt", "(II)Z"⟩
def dkwX4_isBurnt_0 : List UInt8 := [42, 28, 182, 0, 39, 62, 29, 2, 159, 0, 12, 29, 27, 163, 0, 7, 4, 167, 0, 4, 3, 172]
abbrev dktX4_isBurnt_0 : List UInt8 := dkwX4_isBurnt_0 ++ []
theorem dksX4_isBurnt_0 : cX4_isBurnt.data.toList.drop 0 = dktX4_isBurnt_0 := by decide +kernel
theorem dX4_isBurnt_0 : decode cX4_isBurnt 0 = .ok (.aload_n 0, 1) := dk_42 (dk_at dksX4_isBurnt_0 0 rfl rfl)
theorem dX4_isBurnt_1 : decode cX4_isBurnt 1 = .ok (.iload_n 2, 1) := dk_28 (dk_at dksX4_isBurnt_0 1 rfl rfl)
theorem dX4_isBurnt_2 : decode cX4_isBurnt 2 = .ok (.invokevirtual 39, 3) := dk_182 0 39 (dk_at dksX4_isBurnt_0 2 rfl rfl)
theorem dX4_isBurnt_5 : decode cX4_isBurnt 5 = .ok (.istore_n 3, 1) := dk_62 (dk_at dksX4_isBurnt_0 5 rfl rfl)
theorem dX4_isBurnt_6 : decode cX4_isBurnt 6 = .ok (.iload_n 3, 1) := dk_29 (dk_at dksX4_isBurnt_0 6 rfl rfl)
theorem dX4_isBurnt_7 : decode cX4_isBurnt 7 = .ok (.iconst (-1), 1) := dk_2 (dk_at dksX4_isBurnt_0 7 rfl rfl)
theorem dX4_isBurnt_8 : decode cX4_isBurnt 8 = .ok (.if_icmp .eq 12, 3) := dk_159 0 12 (dk_at dksX4_isBurnt_0 8 rfl rfl)
theorem dX4_isBurnt_11 : decode cX4_isBurnt 11 = .ok (.iload_n 3, 1) := dk_29 (dk_at dksX4_isBurnt_0 11 rfl rfl)
theorem dX4_isBurnt_12 : decode cX4_isBurnt 12 = .ok (.iload_n 1, 1) := dk_27 (dk_at dksX4_isBurnt_0 12 rfl rfl)
theorem dX4_isBurnt_13 : decode cX4_isBurnt 13 = .ok (.if_icmp .gt 7, 3) := dk_163 0 7 (dk_at dksX4_isBurnt_0 13 rfl rfl)
theorem dX4_isBurnt_16 : decode cX4_isBurnt 16 = .ok (.iconst 1, 1) := dk_4 (dk_at dksX4_isBurnt_0 16 rfl rfl)
theorem dX4_isBurnt_17 : decode cX4_isBurnt 17 = .ok (.goto 4, 3) := dk_167 0 4 (dk_at dksX4_isBurnt_0 17 rfl rfl)
theorem dX4_isBurnt_20 : decode cX4_isBurnt 20 = .ok (.iconst 0, 1) := dk_3 (dk_at dksX4_isBurnt_0 20 rfl rfl)
theorem dX4_isBurnt_21 : decode cX4_isBurnt 21 = .ok (.ireturn, 1) := dk_172 (dk_at dksX4_isBurnt_0 21 rfl rfl)
theorem q88 : (Jvm.Cond.initialized "LifeKeys$Key") ∈ lw_all := lw_g (lw_at lw_m1 6 rfl) rfl
theorem q330 : (Jvm.Cond.instanceMethod ({ cls := "LifeKeys$Key", name := "<init>", desc := "(III)V" } : Jvm.MethodName)) ∈ lw_all := lw_g (lw_at lw_m2 8 rfl) rfl
theorem q331 : (Jvm.Cond.code ({ cls := "LifeKeys$Key", name := "<init>", desc := "(III)V" } : Jvm.MethodName) prog_5_method_1_code (4 : Nat) (Option.none : Option Jvm.ClassFile.FieldType)) ∈ lw_all := lw_g (lw_at lw_m2 9 rfl) rfl
theorem q332 : (Jvm.Cond.methodLink "LifeKeys$Key" (3 : Nat) ({ cls := "java/lang/Object", name := "<init>", desc := "()V" } : Jvm.MethodName)) ∈ lw_all := lw_g (lw_at lw_m2 10 rfl) rfl
theorem q333 : (Jvm.Cond.fieldLink "LifeKeys$Key" (15 : Nat) "LifeKeys$Key" "numbe\x72" "I") ∈ lw_all := lw_g (lw_at lw_m2 11 rfl) rfl
theorem q338 : (Jvm.Cond.fieldLink "LifeKeys$Key" (18 : Nat) "LifeKeys$Key" "secret" "I") ∈ lw_all := lw_g (lw_at lw_m2 16 rfl) rfl
theorem q343 : (Jvm.Cond.fieldLink "LifeKeys$Key" (21 : Nat) "LifeKeys$Key" "born" "I") ∈ lw_all := lw_g (lw_at lw_m2 21 rfl) rfl
theorem q345 : (Jvm.Cond.fieldLink "LifeKeys$Key" (9 : Nat) "LifeKeys$Key" "old" "I") ∈ lw_all := lw_g (lw_at lw_m2 23 rfl) rfl
theorem q347 : (Jvm.Cond.fieldLink "LifeKeys$Key" (24 : Nat) "LifeKeys$Key" "burns" "LLifeKeys$Burn;") ∈ lw_all := lw_g (lw_at lw_m2 25 rfl) rfl
theorem q350 : (Jvm.Cond.soleField "LifeKeys$Key" "numbe\x72") ∈ lw_all := lw_g (lw_at lw_m2 28 rfl) rfl
theorem q352 : (Jvm.Cond.soleField "LifeKeys$Key" "secret") ∈ lw_all := lw_g (lw_at lw_m2 30 rfl) rfl
theorem q354 : (Jvm.Cond.soleField "LifeKeys$Key" "born") ∈ lw_all := lw_g (lw_at lw_m2 32 rfl) rfl
theorem q356 : (Jvm.Cond.soleField "LifeKeys$Key" "old") ∈ lw_all := lw_g (lw_at lw_m2 34 rfl) rfl
theorem q358 : (Jvm.Cond.soleField "LifeKeys$Key" "burns") ∈ lw_all := lw_g (lw_at lw_m2 36 rfl) rfl
theorem q422 : (Jvm.Cond.declares ({ cls := "LifeKeys$Key", name := "sort", desc := "()I" } : Jvm.MethodName)) ∈ lw_tbl := lw_at lw_m2 100 rfl
theorem q423 : (Jvm.Cond.sameMethod "LifeKeys$Key" "LifeKeys$Key" "sort" "()I") ∈ lw_all := lw_g (lw_at lw_m2 101 rfl) rfl
theorem q434 : (Jvm.Cond.instanceMethod ({ cls := "LifeKeys$Key", name := "root", desc := "()I" } : Jvm.MethodName)) ∈ lw_all := lw_g (lw_at lw_m2 112 rfl) rfl
theorem q435 : (Jvm.Cond.sameMethod "LifeKeys$Key" "LifeKeys$Key" "root" "()I") ∈ lw_all := lw_g (lw_at lw_m2 113 rfl) rfl
theorem q441 : (Jvm.Cond.code ({ cls := "LifeKeys$Key", name := "root", desc := "()I" } : Jvm.MethodName) prog_5_method_3_code (1 : Nat) (Option.some Jvm.ClassFile.FieldType.int)) ∈ lw_all := lw_g (lw_at lw_m2 119 rfl) rfl
theorem q443 : (Jvm.Cond.instanceMethod ({ cls := "LifeKeys$Key", name := "burntFrom", desc := "(I)I" } : Jvm.MethodName)) ∈ lw_all := lw_g (lw_at lw_m2 121 rfl) rfl
theorem q444 : (Jvm.Cond.sameMethod "LifeKeys$Key" "LifeKeys$Key" "burntFrom" "(I)I") ∈ lw_all := lw_g (lw_at lw_m2 122 rfl) rfl
theorem q448 : (Jvm.Cond.code ({ cls := "LifeKeys$Key", name := "burntFrom", desc := "(I)I" } : Jvm.MethodName) prog_5_method_5_code (4 : Nat) (Option.some Jvm.ClassFile.FieldType.int)) ∈ lw_all := lw_g (lw_at lw_m2 126 rfl) rfl
theorem q678 : (Jvm.Cond.instanceMethod ({ cls := "LifeKeys$Key", name := "comesOf", desc := "(J)Z" } : Jvm.MethodName)) ∈ lw_all := lw_g (lw_at lw_m3 116 rfl) rfl
theorem q679 : (Jvm.Cond.sameMethod "LifeKeys$Key" "LifeKeys$Key" "comesOf" "(J)Z") ∈ lw_all := lw_g (lw_at lw_m3 117 rfl) rfl
theorem q685 : (Jvm.Cond.code ({ cls := "LifeKeys$Key", name := "comesOf", desc := "(J)Z" } : Jvm.MethodName) prog_5_method_4_code (3 : Nat) (Option.some Jvm.ClassFile.FieldType.boolean)) ∈ lw_all := lw_g (lw_at lw_m3 123 rfl) rfl
theorem q954 : (Jvm.Cond.instanceMethod ({ cls := "LifeKeys$Key", name := "isBurnt", desc := "(II)Z" } : Jvm.MethodName)) ∈ lw_all := lw_g (lw_at lw_m4 152 rfl) rfl
theorem q955 : (Jvm.Cond.sameMethod "LifeKeys$Key" "LifeKeys$Key" "isBurnt" "(II)Z") ∈ lw_all := lw_g (lw_at lw_m4 153 rfl) rfl
theorem q959 : (Jvm.Cond.code ({ cls := "LifeKeys$Key", name := "isBurnt", desc := "(II)Z" } : Jvm.MethodName) prog_5_method_6_code (4 : Nat) (Option.some Jvm.ClassFile.FieldType.boolean)) ∈ lw_all := lw_g (lw_at lw_m4 157 rfl) rfl
theorem q960 : (Jvm.Cond.methodLink "LifeKeys$Key" (39 : Nat) ({ cls := "LifeKeys$Key", name := "burntFrom", desc := "(I)I" } : Jvm.MethodName)) ∈ lw_all := lw_g (lw_at lw_m4 158 rfl) rfl
theorem q1032 : (Jvm.Cond.fieldLinkNest "LifeKeys$Key" (33 : Nat) "LifeKeys$Burn" "from" "I" "LifeKeys") ∈ lw_tbl := lw_at lw_m4 230 rfl
theorem q1034 : (Jvm.Cond.fieldLinkNest "LifeKeys$Key" (28 : Nat) "LifeKeys$Burn" "told" "I" "LifeKeys") ∈ lw_tbl := lw_at lw_m4 232 rfl
theorem q1036 : (Jvm.Cond.fieldLinkNest "LifeKeys$Key" (36 : Nat) "LifeKeys$Burn" "before" "LLifeKeys$Burn;" "LifeKeys") ∈ lw_tbl := lw_at lw_m4 234 rfl
/-! LifeKeys$Root -/
set_option maxRecDepth 100000
def RX5 : String := "LifeKeys$Root"
def TX5 : u_T := fun k => match k with
  | 0 => ("LifeKeys$Key", "numbe\x72", "I", true)
  | 1 => ("LifeKeys$Key", "secret", "I", true)
  | 2 => ("LifeKeys$Key", "born", "I", true)
  | 3 => ("LifeKeys$Key", "old", "I", false)
  | _ => ("LifeKeys$Key", "burns", "LLifeKeys$Burn;", false)
def tyX5 : Nat → FieldType := fun k => match k with
  | 0 => .int
  | 1 => .int
  | 2 => .int
  | 3 => .int
  | _ => .object "LifeKeys$Burn"
abbrev wsX50 : List Cond := u_ws RX5 TX5 5
theorem nmX5 : ∀ a, a < 5 → ∀ b, b < 5 → a ≠ b → (TX5 a).2.1 ≠ (TX5 b).2.1 := by decide +kernel
theorem tyX5_ok : ∀ k, k < 5 → parseFieldDescriptor (TX5 k).2.2.1 = some (tyX5 k) := by decide +kernel
abbrev cX5_init : ByteArray := prog_12_method_1_code
def yX5_init : MethodName := ⟨RX5, "<init>", "(III)V"⟩
def dkwX5_init_0 : List UInt8 := [42, 27, 28, 29, 183, 0, 3, 177]
abbrev dktX5_init_0 : List UInt8 := dkwX5_init_0 ++ []
theorem dksX5_init_0 : cX5_init.data.toList.drop 0 = dktX5_init_0 := by decide +kernel
theorem dX5_init_0 : decode cX5_init 0 = .ok (.aload_n 0, 1) := dk_42 (dk_at dksX5_init_0 0 rfl rfl)
theorem dX5_init_1 : decode cX5_init 1 = .ok (.iload_n 1, 1) := dk_27 (dk_at dksX5_init_0 1 rfl rfl)
theorem dX5_init_2 : decode cX5_init 2 = .ok (.iload_n 2, 1) := dk_28 (dk_at dksX5_init_0 2 rfl rfl)
theorem dX5_init_3 : decode cX5_init 3 = .ok (.iload_n 3, 1) := dk_29 (dk_at dksX5_init_0 3 rfl rfl)
theorem dX5_init_4 : decode cX5_init 4 = .ok (.invokespecial 3, 3) := dk_183 0 3 (dk_at dksX5_init_0 4 rfl rfl)
theorem dX5_init_7 : decode cX5_init 7 = .ok (.return_, 1) := dk_177 (dk_at dksX5_init_0 7 rfl rfl)
abbrev cX5_made : ByteArray := prog_12_method_3_code
def yX5_made : MethodName := ⟨RX5, "made", "(I)I"⟩
def dkwX5_made_0 : List UInt8 := [16, 37, 42, 180, 0, 9, 104, 27, 96, 17, 3, 250, 184, 0, 15, 4, 96, 172]
abbrev dktX5_made_0 : List UInt8 := dkwX5_made_0 ++ []
theorem dksX5_made_0 : cX5_made.data.toList.drop 0 = dktX5_made_0 := by decide +kernel
theorem dX5_made_0 : decode cX5_made 0 = .ok (.bipush 37, 2) := dk_16 37 (dk_at dksX5_made_0 0 rfl rfl)
theorem dX5_made_2 : decode cX5_made 2 = .ok (.aload_n 0, 1) := dk_42 (dk_at dksX5_made_0 2 rfl rfl)
theorem dX5_made_3 : decode cX5_made 3 = .ok (.getfield 9, 3) := dk_180 0 9 (dk_at dksX5_made_0 3 rfl rfl)
theorem dX5_made_6 : decode cX5_made 6 = .ok (.imul, 1) := dk_104 (dk_at dksX5_made_0 6 rfl rfl)
theorem dX5_made_7 : decode cX5_made 7 = .ok (.iload_n 1, 1) := dk_27 (dk_at dksX5_made_0 7 rfl rfl)
theorem dX5_made_8 : decode cX5_made 8 = .ok (.iadd, 1) := dk_96 (dk_at dksX5_made_0 8 rfl rfl)
theorem dX5_made_9 : decode cX5_made 9 = .ok (.sipush 1018, 3) := dk_17 3 250 (dk_at dksX5_made_0 9 rfl rfl)
theorem dX5_made_12 : decode cX5_made 12 = .ok (.invokestatic 15, 3) := dk_184 0 15 (dk_at dksX5_made_0 12 rfl rfl)
theorem dX5_made_15 : decode cX5_made 15 = .ok (.iconst 1, 1) := dk_4 (dk_at dksX5_made_0 15 rfl rfl)
theorem dX5_made_16 : decode cX5_made 16 = .ok (.iadd, 1) := dk_96 (dk_at dksX5_made_0 16 rfl rfl)
theorem dX5_made_17 : decode cX5_made 17 = .ok (.ireturn, 1) := dk_172 (dk_at dksX5_made_0 17 rfl rfl)
abbrev cX5_sort : ByteArray := prog_12_method_2_code
def yX5_sort : MethodName := ⟨RX5, "sort", "()I"⟩
theorem dX5_sort_0 : decode cX5_sort 0 = .ok (.iconst 1, 1) := by decide +kernel
theorem dX5_sort_1 : decode cX5_sort 1 = .ok (.ireturn, 1) := by decide +kernel
theorem q89 : (Jvm.Cond.initialized "LifeKeys$Root") ∈ lw_all := lw_g (lw_at lw_m1 7 rfl) rfl
theorem q325 : (Jvm.Cond.instantiable "LifeKeys$Root" (5 : Nat)) ∈ lw_all := lw_g (lw_at lw_m2 3 rfl) rfl
theorem q327 : (Jvm.Cond.instanceMethod ({ cls := "LifeKeys$Root", name := "<init>", desc := "(III)V" } : Jvm.MethodName)) ∈ lw_all := lw_g (lw_at lw_m2 5 rfl) rfl
theorem q328 : (Jvm.Cond.code ({ cls := "LifeKeys$Root", name := "<init>", desc := "(III)V" } : Jvm.MethodName) prog_12_method_1_code (4 : Nat) (Option.none : Option Jvm.ClassFile.FieldType)) ∈ lw_all := lw_g (lw_at lw_m2 6 rfl) rfl
theorem q329 : (Jvm.Cond.methodLink "LifeKeys$Root" (3 : Nat) ({ cls := "LifeKeys$Key", name := "<init>", desc := "(III)V" } : Jvm.MethodName)) ∈ lw_all := lw_g (lw_at lw_m2 7 rfl) rfl
theorem q336 : (Jvm.Cond.sameField "LifeKeys$Root" "LifeKeys$Key" "numbe\x72" "I") ∈ lw_all := lw_g (lw_at lw_m2 14 rfl) rfl
theorem q340 : (Jvm.Cond.fieldLink "LifeKeys$Root" (9 : Nat) "LifeKeys$Root" "secret" "I") ∈ lw_all := lw_g (lw_at lw_m2 18 rfl) rfl
theorem q341 : (Jvm.Cond.sameField "LifeKeys$Root" "LifeKeys$Key" "secret" "I") ∈ lw_all := lw_g (lw_at lw_m2 19 rfl) rfl
theorem q349 : (Jvm.Cond.laysFinal "LifeKeys$Root" "LifeKeys$Key" "numbe\x72" "I") ∈ lw_all := lw_g (lw_at lw_m2 27 rfl) rfl
theorem q351 : (Jvm.Cond.laysFinal "LifeKeys$Root" "LifeKeys$Key" "secret" "I") ∈ lw_all := lw_g (lw_at lw_m2 29 rfl) rfl
theorem q353 : (Jvm.Cond.laysFinal "LifeKeys$Root" "LifeKeys$Key" "born" "I") ∈ lw_all := lw_g (lw_at lw_m2 31 rfl) rfl
theorem q355 : (Jvm.Cond.lays "LifeKeys$Root" "LifeKeys$Key" "old" "I") ∈ lw_all := lw_g (lw_at lw_m2 33 rfl) rfl
theorem q357 : (Jvm.Cond.lays "LifeKeys$Root" "LifeKeys$Key" "burns" "LLifeKeys$Burn;") ∈ lw_all := lw_g (lw_at lw_m2 35 rfl) rfl
theorem q359 : (Jvm.Cond.superclass "LifeKeys$Root" "LifeKeys$Key") ∈ lw_all := lw_g (lw_at lw_m2 37 rfl) rfl
theorem q401 : (Jvm.Cond.instanceMethod ({ cls := "LifeKeys$Root", name := "made", desc := "(I)I" } : Jvm.MethodName)) ∈ lw_all := lw_g (lw_at lw_m2 79 rfl) rfl
theorem q402 : (Jvm.Cond.selects "LifeKeys$Root" ({ cls := "LifeKeys$Root", name := "made", desc := "(I)I" } : Jvm.MethodName) ({ cls := "LifeKeys$Root", name := "made", desc := "(I)I" } : Jvm.MethodName)) ∈ lw_all := lw_g (lw_at lw_m2 80 rfl) rfl
theorem q403 : (Jvm.Cond.code ({ cls := "LifeKeys$Root", name := "made", desc := "(I)I" } : Jvm.MethodName) prog_12_method_3_code (2 : Nat) (Option.some Jvm.ClassFile.FieldType.int)) ∈ lw_all := lw_g (lw_at lw_m2 81 rfl) rfl
theorem q404 : (Jvm.Cond.methodLink "LifeKeys$Root" (15 : Nat) ({ cls := "java/lang/Math", name := "floorMod", desc := "(II)I" } : Jvm.MethodName)) ∈ lw_all := lw_g (lw_at lw_m2 82 rfl) rfl
theorem q430 : (Jvm.Cond.selects "LifeKeys$Root" ({ cls := "LifeKeys$Key", name := "sort", desc := "()I" } : Jvm.MethodName) ({ cls := "LifeKeys$Root", name := "sort", desc := "()I" } : Jvm.MethodName)) ∈ lw_all := lw_g (lw_at lw_m2 108 rfl) rfl
theorem q431 : (Jvm.Cond.instanceMethod ({ cls := "LifeKeys$Root", name := "sort", desc := "()I" } : Jvm.MethodName)) ∈ lw_all := lw_g (lw_at lw_m2 109 rfl) rfl
theorem q432 : (Jvm.Cond.code ({ cls := "LifeKeys$Root", name := "sort", desc := "()I" } : Jvm.MethodName) prog_12_method_2_code (1 : Nat) (Option.some Jvm.ClassFile.FieldType.int)) ∈ lw_all := lw_g (lw_at lw_m2 110 rfl) rfl
theorem q440 : (Jvm.Cond.selects "LifeKeys$Root" ({ cls := "LifeKeys$Key", name := "root", desc := "()I" } : Jvm.MethodName) ({ cls := "LifeKeys$Key", name := "root", desc := "()I" } : Jvm.MethodName)) ∈ lw_all := lw_g (lw_at lw_m2 118 rfl) rfl
theorem q447 : (Jvm.Cond.selects "LifeKeys$Root" ({ cls := "LifeKeys$Key", name := "burntFrom", desc := "(I)I" } : Jvm.MethodName) ({ cls := "LifeKeys$Key", name := "burntFrom", desc := "(I)I" } : Jvm.MethodName)) ∈ lw_all := lw_g (lw_at lw_m2 125 rfl) rfl
theorem q684 : (Jvm.Cond.selects "LifeKeys$Root" ({ cls := "LifeKeys$Key", name := "comesOf", desc := "(J)Z" } : Jvm.MethodName) ({ cls := "LifeKeys$Key", name := "comesOf", desc := "(J)Z" } : Jvm.MethodName)) ∈ lw_all := lw_g (lw_at lw_m3 122 rfl) rfl
theorem q958 : (Jvm.Cond.selects "LifeKeys$Root" ({ cls := "LifeKeys$Key", name := "isBurnt", desc := "(II)Z" } : Jvm.MethodName) ({ cls := "LifeKeys$Key", name := "isBurnt", desc := "(II)Z" } : Jvm.MethodName)) ∈ lw_all := lw_g (lw_at lw_m4 156 rfl) rfl
theorem q1881 : (Jvm.Cond.castable "LifeKeys$Root" "java/lang/Object") ∈ lw_tbl := lw_at lw_m8 119 rfl
theorem q1898 : (Jvm.Cond.castable "LifeKeys$Root" "LifeKeys$Key") ∈ lw_tbl := lw_at lw_m8 136 rfl
theorem in_X5 : ∀ w ∈ wsX50, w ∈ lw_all := lw_in wsX50 [349, 351, 353, 355, 357] (by decide +kernel) (by decide +kernel)
/-! LifeKeys$Plain -/
set_option maxRecDepth 100000
def RX6 : String := "LifeKeys$Plain"
def TX6 : u_T := fun k => match k with
  | 0 => ("LifeKeys$Key", "numbe\x72", "I", true)
  | 1 => ("LifeKeys$Key", "secret", "I", true)
  | 2 => ("LifeKeys$Key", "born", "I", true)
  | 3 => ("LifeKeys$Key", "old", "I", false)
  | _ => ("LifeKeys$Key", "burns", "LLifeKeys$Burn;", false)
def tyX6 : Nat → FieldType := fun k => match k with
  | 0 => .int
  | 1 => .int
  | 2 => .int
  | 3 => .int
  | _ => .object "LifeKeys$Burn"
abbrev wsX60 : List Cond := u_ws RX6 TX6 5
theorem nmX6 : ∀ a, a < 5 → ∀ b, b < 5 → a ≠ b → (TX6 a).2.1 ≠ (TX6 b).2.1 := by decide +kernel
theorem tyX6_ok : ∀ k, k < 5 → parseFieldDescriptor (TX6 k).2.2.1 = some (tyX6 k) := by decide +kernel
abbrev cX6_init : ByteArray := prog_10_method_1_code
def yX6_init : MethodName := ⟨RX6, "<init>", "(III)V"⟩
def dkwX6_init_0 : List UInt8 := [42, 27, 28, 29, 183, 0, 3, 177]
abbrev dktX6_init_0 : List UInt8 := dkwX6_init_0 ++ []
theorem dksX6_init_0 : cX6_init.data.toList.drop 0 = dktX6_init_0 := by decide +kernel
theorem dX6_init_0 : decode cX6_init 0 = .ok (.aload_n 0, 1) := dk_42 (dk_at dksX6_init_0 0 rfl rfl)
theorem dX6_init_1 : decode cX6_init 1 = .ok (.iload_n 1, 1) := dk_27 (dk_at dksX6_init_0 1 rfl rfl)
theorem dX6_init_2 : decode cX6_init 2 = .ok (.iload_n 2, 1) := dk_28 (dk_at dksX6_init_0 2 rfl rfl)
theorem dX6_init_3 : decode cX6_init 3 = .ok (.iload_n 3, 1) := dk_29 (dk_at dksX6_init_0 3 rfl rfl)
theorem dX6_init_4 : decode cX6_init 4 = .ok (.invokespecial 3, 3) := dk_183 0 3 (dk_at dksX6_init_0 4 rfl rfl)
theorem dX6_init_7 : decode cX6_init 7 = .ok (.return_, 1) := dk_177 (dk_at dksX6_init_0 7 rfl rfl)
abbrev cX6_sort : ByteArray := prog_10_method_2_code
def yX6_sort : MethodName := ⟨RX6, "sort", "()I"⟩
theorem dX6_sort_0 : decode cX6_sort 0 = .ok (.iconst 0, 1) := by decide +kernel
theorem dX6_sort_1 : decode cX6_sort 1 = .ok (.ireturn, 1) := by decide +kernel
theorem q90 : (Jvm.Cond.initialized "LifeKeys$Plain") ∈ lw_all := lw_g (lw_at lw_m1 8 rfl) rfl
theorem q361 : (Jvm.Cond.instantiable "LifeKeys$Plain" (5 : Nat)) ∈ lw_all := lw_g (lw_at lw_m2 39 rfl) rfl
theorem q363 : (Jvm.Cond.instanceMethod ({ cls := "LifeKeys$Plain", name := "<init>", desc := "(III)V" } : Jvm.MethodName)) ∈ lw_all := lw_g (lw_at lw_m2 41 rfl) rfl
theorem q364 : (Jvm.Cond.code ({ cls := "LifeKeys$Plain", name := "<init>", desc := "(III)V" } : Jvm.MethodName) prog_10_method_1_code (4 : Nat) (Option.none : Option Jvm.ClassFile.FieldType)) ∈ lw_all := lw_g (lw_at lw_m2 42 rfl) rfl
theorem q365 : (Jvm.Cond.methodLink "LifeKeys$Plain" (3 : Nat) ({ cls := "LifeKeys$Key", name := "<init>", desc := "(III)V" } : Jvm.MethodName)) ∈ lw_all := lw_g (lw_at lw_m2 43 rfl) rfl
theorem q366 : (Jvm.Cond.laysFinal "LifeKeys$Plain" "LifeKeys$Key" "numbe\x72" "I") ∈ lw_all := lw_g (lw_at lw_m2 44 rfl) rfl
theorem q367 : (Jvm.Cond.laysFinal "LifeKeys$Plain" "LifeKeys$Key" "secret" "I") ∈ lw_all := lw_g (lw_at lw_m2 45 rfl) rfl
theorem q368 : (Jvm.Cond.laysFinal "LifeKeys$Plain" "LifeKeys$Key" "born" "I") ∈ lw_all := lw_g (lw_at lw_m2 46 rfl) rfl
theorem q369 : (Jvm.Cond.lays "LifeKeys$Plain" "LifeKeys$Key" "old" "I") ∈ lw_all := lw_g (lw_at lw_m2 47 rfl) rfl
theorem q370 : (Jvm.Cond.lays "LifeKeys$Plain" "LifeKeys$Key" "burns" "LLifeKeys$Burn;") ∈ lw_all := lw_g (lw_at lw_m2 48 rfl) rfl
theorem q371 : (Jvm.Cond.superclass "LifeKeys$Plain" "LifeKeys$Key") ∈ lw_all := lw_g (lw_at lw_m2 49 rfl) rfl
theorem q427 : (Jvm.Cond.selects "LifeKeys$Plain" ({ cls := "LifeKeys$Key", name := "sort", desc := "()I" } : Jvm.MethodName) ({ cls := "LifeKeys$Plain", name := "sort", desc := "()I" } : Jvm.MethodName)) ∈ lw_all := lw_g (lw_at lw_m2 105 rfl) rfl
theorem q428 : (Jvm.Cond.instanceMethod ({ cls := "LifeKeys$Plain", name := "sort", desc := "()I" } : Jvm.MethodName)) ∈ lw_all := lw_g (lw_at lw_m2 106 rfl) rfl
theorem q429 : (Jvm.Cond.code ({ cls := "LifeKeys$Plain", name := "sort", desc := "()I" } : Jvm.MethodName) prog_10_method_2_code (1 : Nat) (Option.some Jvm.ClassFile.FieldType.int)) ∈ lw_all := lw_g (lw_at lw_m2 107 rfl) rfl
theorem q439 : (Jvm.Cond.selects "LifeKeys$Plain" ({ cls := "LifeKeys$Key", name := "root", desc := "()I" } : Jvm.MethodName) ({ cls := "LifeKeys$Key", name := "root", desc := "()I" } : Jvm.MethodName)) ∈ lw_all := lw_g (lw_at lw_m2 117 rfl) rfl
theorem q446 : (Jvm.Cond.selects "LifeKeys$Plain" ({ cls := "LifeKeys$Key", name := "burntFrom", desc := "(I)I" } : Jvm.MethodName) ({ cls := "LifeKeys$Key", name := "burntFrom", desc := "(I)I" } : Jvm.MethodName)) ∈ lw_all := lw_g (lw_at lw_m2 124 rfl) rfl
theorem q683 : (Jvm.Cond.selects "LifeKeys$Plain" ({ cls := "LifeKeys$Key", name := "comesOf", desc := "(J)Z" } : Jvm.MethodName) ({ cls := "LifeKeys$Key", name := "comesOf", desc := "(J)Z" } : Jvm.MethodName)) ∈ lw_all := lw_g (lw_at lw_m3 121 rfl) rfl
theorem q957 : (Jvm.Cond.selects "LifeKeys$Plain" ({ cls := "LifeKeys$Key", name := "isBurnt", desc := "(II)Z" } : Jvm.MethodName) ({ cls := "LifeKeys$Key", name := "isBurnt", desc := "(II)Z" } : Jvm.MethodName)) ∈ lw_all := lw_g (lw_at lw_m4 155 rfl) rfl
theorem q1882 : (Jvm.Cond.castable "LifeKeys$Plain" "java/lang/Object") ∈ lw_tbl := lw_at lw_m8 120 rfl
theorem q1899 : (Jvm.Cond.castable "LifeKeys$Plain" "LifeKeys$Key") ∈ lw_tbl := lw_at lw_m8 137 rfl
theorem in_X6 : ∀ w ∈ wsX60, w ∈ lw_all := lw_in wsX60 [366, 367, 368, 369, 370] (by decide +kernel) (by decide +kernel)
/-! LifeKeys$Made -/
set_option maxRecDepth 100000
def RX7 : String := "LifeKeys$Made"
def TX7 : u_T := fun k => match k with
  | 0 => ("LifeKeys$Key", "numbe\x72", "I", true)
  | 1 => ("LifeKeys$Key", "secret", "I", true)
  | 2 => ("LifeKeys$Key", "born", "I", true)
  | 3 => ("LifeKeys$Key", "old", "I", false)
  | 4 => ("LifeKeys$Key", "burns", "LLifeKeys$Burn;", false)
  | _ => ("LifeKeys$Made", "of", "LLifeKeys$Root;", true)
def tyX7 : Nat → FieldType := fun k => match k with
  | 0 => .int
  | 1 => .int
  | 2 => .int
  | 3 => .int
  | 4 => .object "LifeKeys$Burn"
  | _ => .object "LifeKeys$Root"
abbrev wsX70 : List Cond := u_ws RX7 TX7 6
theorem nmX7 : ∀ a, a < 6 → ∀ b, b < 6 → a ≠ b → (TX7 a).2.1 ≠ (TX7 b).2.1 := by decide +kernel
theorem tyX7_ok : ∀ k, k < 6 → parseFieldDescriptor (TX7 k).2.2.1 = some (tyX7 k) := by decide +kernel
abbrev cX7_init : ByteArray := prog_7_method_1_code
def yX7_init : MethodName := ⟨RX7, "<init>", "(ILLifeKeys$Root;II)V"⟩
def dkwX7_init_0 : List UInt8 := [42, 27, 44, 29, 182, 0, 3, 21, 4, 183, 0, 9, 42, 44, 181, 0, 15, 177]
abbrev dktX7_init_0 : List UInt8 := dkwX7_init_0 ++ []
theorem dksX7_init_0 : cX7_init.data.toList.drop 0 = dktX7_init_0 := by decide +kernel
theorem dX7_init_0 : decode cX7_init 0 = .ok (.aload_n 0, 1) := dk_42 (dk_at dksX7_init_0 0 rfl rfl)
theorem dX7_init_1 : decode cX7_init 1 = .ok (.iload_n 1, 1) := dk_27 (dk_at dksX7_init_0 1 rfl rfl)
theorem dX7_init_2 : decode cX7_init 2 = .ok (.aload_n 2, 1) := dk_44 (dk_at dksX7_init_0 2 rfl rfl)
theorem dX7_init_3 : decode cX7_init 3 = .ok (.iload_n 3, 1) := dk_29 (dk_at dksX7_init_0 3 rfl rfl)
theorem dX7_init_4 : decode cX7_init 4 = .ok (.invokevirtual 3, 3) := dk_182 0 3 (dk_at dksX7_init_0 4 rfl rfl)
theorem dX7_init_7 : decode cX7_init 7 = .ok (.iload 4, 2) := dk_21 4 (dk_at dksX7_init_0 7 rfl rfl)
theorem dX7_init_9 : decode cX7_init 9 = .ok (.invokespecial 9, 3) := dk_183 0 9 (dk_at dksX7_init_0 9 rfl rfl)
theorem dX7_init_12 : decode cX7_init 12 = .ok (.aload_n 0, 1) := dk_42 (dk_at dksX7_init_0 12 rfl rfl)
theorem dX7_init_13 : decode cX7_init 13 = .ok (.aload_n 2, 1) := dk_44 (dk_at dksX7_init_0 13 rfl rfl)
theorem dX7_init_14 : decode cX7_init 14 = .ok (.putfield 15, 3) := dk_181 0 15 (dk_at dksX7_init_0 14 rfl rfl)
theorem dX7_init_17 : decode cX7_init 17 = .ok (.return_, 1) := dk_177 (dk_at dksX7_init_0 17 rfl rfl)
abbrev cX7_sort : ByteArray := prog_7_method_2_code
def yX7_sort : MethodName := ⟨RX7, "sort", "()I"⟩
theorem dX7_sort_0 : decode cX7_sort 0 = .ok (.iconst 2, 1) := by decide +kernel
theorem dX7_sort_1 : decode cX7_sort 1 = .ok (.ireturn, 1) := by decide +kernel
abbrev cX7_root : ByteArray := prog_7_method_3_code
def yX7_root : MethodName := ⟨RX7, "root", "()I"⟩
def dkwX7_root_0 : List UInt8 := [42, 180, 0, 15, 180, 0, 21, 172]
abbrev dktX7_root_0 : List UInt8 := dkwX7_root_0 ++ []
theorem dksX7_root_0 : cX7_root.data.toList.drop 0 = dktX7_root_0 := by decide +kernel
theorem dX7_root_0 : decode cX7_root 0 = .ok (.aload_n 0, 1) := dk_42 (dk_at dksX7_root_0 0 rfl rfl)
theorem dX7_root_1 : decode cX7_root 1 = .ok (.getfield 15, 3) := dk_180 0 15 (dk_at dksX7_root_0 1 rfl rfl)
theorem dX7_root_4 : decode cX7_root 4 = .ok (.getfield 21, 3) := dk_180 0 21 (dk_at dksX7_root_0 4 rfl rfl)
theorem dX7_root_7 : decode cX7_root 7 = .ok (.ireturn, 1) := dk_172 (dk_at dksX7_root_0 7 rfl rfl)
abbrev cX7_comesOf : ByteArray := prog_7_method_4_code
def yX7_comesOf : MethodName := ⟨RX7, "comesOf", "(J)Z"⟩
def dkwX7_comesOf_0 : List UInt8 := [31, 42, 180, 0, 15, 180, 0, 21, 123, 10, 127, 10, 148, 154, 0, 7, 4, 167, 0, 4, 3, 172]
abbrev dktX7_comesOf_0 : List UInt8 := dkwX7_comesOf_0 ++ []
theorem dksX7_comesOf_0 : cX7_comesOf.data.toList.drop 0 = dktX7_comesOf_0 := by decide +kernel
theorem dX7_comesOf_0 : decode cX7_comesOf 0 = .ok (.lload_n 1, 1) := dk_31 (dk_at dksX7_comesOf_0 0 rfl rfl)
theorem dX7_comesOf_1 : decode cX7_comesOf 1 = .ok (.aload_n 0, 1) := dk_42 (dk_at dksX7_comesOf_0 1 rfl rfl)
theorem dX7_comesOf_2 : decode cX7_comesOf 2 = .ok (.getfield 15, 3) := dk_180 0 15 (dk_at dksX7_comesOf_0 2 rfl rfl)
theorem dX7_comesOf_5 : decode cX7_comesOf 5 = .ok (.getfield 21, 3) := dk_180 0 21 (dk_at dksX7_comesOf_0 5 rfl rfl)
theorem dX7_comesOf_8 : decode cX7_comesOf 8 = .ok (.lshr, 1) := dk_123 (dk_at dksX7_comesOf_0 8 rfl rfl)
theorem dX7_comesOf_9 : decode cX7_comesOf 9 = .ok (.lconst 1, 1) := dk_10 (dk_at dksX7_comesOf_0 9 rfl rfl)
theorem dX7_comesOf_10 : decode cX7_comesOf 10 = .ok (.land, 1) := dk_127 (dk_at dksX7_comesOf_0 10 rfl rfl)
theorem dX7_comesOf_11 : decode cX7_comesOf 11 = .ok (.lconst 1, 1) := dk_10 (dk_at dksX7_comesOf_0 11 rfl rfl)
theorem dX7_comesOf_12 : decode cX7_comesOf 12 = .ok (.lcmp, 1) := dk_148 (dk_at dksX7_comesOf_0 12 rfl rfl)
theorem dX7_comesOf_13 : decode cX7_comesOf 13 = .ok (.ifCond .ne 7, 3) := dk_154 0 7 (dk_at dksX7_comesOf_0 13 rfl rfl)
theorem dX7_comesOf_16 : decode cX7_comesOf 16 = .ok (.iconst 1, 1) := dk_4 (dk_at dksX7_comesOf_0 16 rfl rfl)
theorem dX7_comesOf_17 : decode cX7_comesOf 17 = .ok (.goto 4, 3) := dk_167 0 4 (dk_at dksX7_comesOf_0 17 rfl rfl)
theorem dX7_comesOf_20 : decode cX7_comesOf 20 = .ok (.iconst 0, 1) := dk_3 (dk_at dksX7_comesOf_0 20 rfl rfl)
theorem dX7_comesOf_21 : decode cX7_comesOf 21 = .ok (.ireturn, 1) := dk_172 (dk_at dksX7_comesOf_0 21 rfl rfl)
theorem q91 : (Jvm.Cond.initialized "LifeKeys$Made") ∈ lw_all := lw_g (lw_at lw_m1 9 rfl) rfl
theorem q335 : (Jvm.Cond.fieldLink "LifeKeys$Made" (21 : Nat) "LifeKeys$Root" "numbe\x72" "I") ∈ lw_all := lw_g (lw_at lw_m2 13 rfl) rfl
theorem q396 : (Jvm.Cond.instantiable "LifeKeys$Made" (6 : Nat)) ∈ lw_all := lw_g (lw_at lw_m2 74 rfl) rfl
theorem q398 : (Jvm.Cond.instanceMethod ({ cls := "LifeKeys$Made", name := "<init>", desc := "(ILLifeKeys$Root;II)V" } : Jvm.MethodName)) ∈ lw_all := lw_g (lw_at lw_m2 76 rfl) rfl
theorem q399 : (Jvm.Cond.code ({ cls := "LifeKeys$Made", name := "<init>", desc := "(ILLifeKeys$Root;II)V" } : Jvm.MethodName) prog_7_method_1_code (5 : Nat) (Option.none : Option Jvm.ClassFile.FieldType)) ∈ lw_all := lw_g (lw_at lw_m2 77 rfl) rfl
theorem q400 : (Jvm.Cond.methodLink "LifeKeys$Made" (3 : Nat) ({ cls := "LifeKeys$Root", name := "made", desc := "(I)I" } : Jvm.MethodName)) ∈ lw_all := lw_g (lw_at lw_m2 78 rfl) rfl
theorem q407 : (Jvm.Cond.methodLink "LifeKeys$Made" (9 : Nat) ({ cls := "LifeKeys$Key", name := "<init>", desc := "(III)V" } : Jvm.MethodName)) ∈ lw_all := lw_g (lw_at lw_m2 85 rfl) rfl
theorem q408 : (Jvm.Cond.fieldLink "LifeKeys$Made" (15 : Nat) "LifeKeys$Made" "of" "LLifeKeys$Root;") ∈ lw_all := lw_g (lw_at lw_m2 86 rfl) rfl
theorem q409 : (Jvm.Cond.laysFinal "LifeKeys$Made" "LifeKeys$Made" "of" "LLifeKeys$Root;") ∈ lw_all := lw_g (lw_at lw_m2 87 rfl) rfl
theorem q410 : (Jvm.Cond.soleField "LifeKeys$Made" "of") ∈ lw_all := lw_g (lw_at lw_m2 88 rfl) rfl
theorem q411 : (Jvm.Cond.laysFinal "LifeKeys$Made" "LifeKeys$Key" "numbe\x72" "I") ∈ lw_all := lw_g (lw_at lw_m2 89 rfl) rfl
theorem q412 : (Jvm.Cond.laysFinal "LifeKeys$Made" "LifeKeys$Key" "secret" "I") ∈ lw_all := lw_g (lw_at lw_m2 90 rfl) rfl
theorem q413 : (Jvm.Cond.laysFinal "LifeKeys$Made" "LifeKeys$Key" "born" "I") ∈ lw_all := lw_g (lw_at lw_m2 91 rfl) rfl
theorem q414 : (Jvm.Cond.lays "LifeKeys$Made" "LifeKeys$Key" "old" "I") ∈ lw_all := lw_g (lw_at lw_m2 92 rfl) rfl
theorem q415 : (Jvm.Cond.lays "LifeKeys$Made" "LifeKeys$Key" "burns" "LLifeKeys$Burn;") ∈ lw_all := lw_g (lw_at lw_m2 93 rfl) rfl
theorem q416 : (Jvm.Cond.superclass "LifeKeys$Made" "LifeKeys$Key") ∈ lw_all := lw_g (lw_at lw_m2 94 rfl) rfl
theorem q424 : (Jvm.Cond.selects "LifeKeys$Made" ({ cls := "LifeKeys$Key", name := "sort", desc := "()I" } : Jvm.MethodName) ({ cls := "LifeKeys$Made", name := "sort", desc := "()I" } : Jvm.MethodName)) ∈ lw_all := lw_g (lw_at lw_m2 102 rfl) rfl
theorem q425 : (Jvm.Cond.instanceMethod ({ cls := "LifeKeys$Made", name := "sort", desc := "()I" } : Jvm.MethodName)) ∈ lw_all := lw_g (lw_at lw_m2 103 rfl) rfl
theorem q426 : (Jvm.Cond.code ({ cls := "LifeKeys$Made", name := "sort", desc := "()I" } : Jvm.MethodName) prog_7_method_2_code (1 : Nat) (Option.some Jvm.ClassFile.FieldType.int)) ∈ lw_all := lw_g (lw_at lw_m2 104 rfl) rfl
theorem q436 : (Jvm.Cond.selects "LifeKeys$Made" ({ cls := "LifeKeys$Key", name := "root", desc := "()I" } : Jvm.MethodName) ({ cls := "LifeKeys$Made", name := "root", desc := "()I" } : Jvm.MethodName)) ∈ lw_all := lw_g (lw_at lw_m2 114 rfl) rfl
theorem q437 : (Jvm.Cond.instanceMethod ({ cls := "LifeKeys$Made", name := "root", desc := "()I" } : Jvm.MethodName)) ∈ lw_all := lw_g (lw_at lw_m2 115 rfl) rfl
theorem q438 : (Jvm.Cond.code ({ cls := "LifeKeys$Made", name := "root", desc := "()I" } : Jvm.MethodName) prog_7_method_3_code (1 : Nat) (Option.some Jvm.ClassFile.FieldType.int)) ∈ lw_all := lw_g (lw_at lw_m2 116 rfl) rfl
theorem q445 : (Jvm.Cond.selects "LifeKeys$Made" ({ cls := "LifeKeys$Key", name := "burntFrom", desc := "(I)I" } : Jvm.MethodName) ({ cls := "LifeKeys$Key", name := "burntFrom", desc := "(I)I" } : Jvm.MethodName)) ∈ lw_all := lw_g (lw_at lw_m2 123 rfl) rfl
theorem q680 : (Jvm.Cond.selects "LifeKeys$Made" ({ cls := "LifeKeys$Key", name := "comesOf", desc := "(J)Z" } : Jvm.MethodName) ({ cls := "LifeKeys$Made", name := "comesOf", desc := "(J)Z" } : Jvm.MethodName)) ∈ lw_all := lw_g (lw_at lw_m3 118 rfl) rfl
theorem q681 : (Jvm.Cond.instanceMethod ({ cls := "LifeKeys$Made", name := "comesOf", desc := "(J)Z" } : Jvm.MethodName)) ∈ lw_all := lw_g (lw_at lw_m3 119 rfl) rfl
theorem q682 : (Jvm.Cond.code ({ cls := "LifeKeys$Made", name := "comesOf", desc := "(J)Z" } : Jvm.MethodName) prog_7_method_4_code (3 : Nat) (Option.some Jvm.ClassFile.FieldType.boolean)) ∈ lw_all := lw_g (lw_at lw_m3 120 rfl) rfl
theorem q956 : (Jvm.Cond.selects "LifeKeys$Made" ({ cls := "LifeKeys$Key", name := "isBurnt", desc := "(II)Z" } : Jvm.MethodName) ({ cls := "LifeKeys$Key", name := "isBurnt", desc := "(II)Z" } : Jvm.MethodName)) ∈ lw_all := lw_g (lw_at lw_m4 154 rfl) rfl
theorem q1883 : (Jvm.Cond.castable "LifeKeys$Made" "java/lang/Object") ∈ lw_tbl := lw_at lw_m8 121 rfl
theorem q1900 : (Jvm.Cond.castable "LifeKeys$Made" "LifeKeys$Key") ∈ lw_tbl := lw_at lw_m8 138 rfl
theorem in_X7 : ∀ w ∈ wsX70, w ∈ lw_all := lw_in wsX70 [411, 412, 413, 414, 415, 409] (by decide +kernel) (by decide +kernel)
/-! LifeKeys$Way -/
set_option maxRecDepth 100000
def RX8 : String := "LifeKeys$Way"
abbrev cX8_isOn : ByteArray := prog_18_method_2_code
def yX8_isOn : MethodName := ⟨RX8, "isOn", "(I)Z"⟩
def dkwX8_isOn_1 : List UInt8 := [4, 167, 0, 4, 3, 172]
abbrev dktX8_isOn_1 : List UInt8 := dkwX8_isOn_1 ++ []
def dkwX8_isOn_0 : List UInt8 := [42, 180, 0, 15, 27, 163, 0, 23, 42, 180, 0, 9, 2, 159, 0, 11, 42, 180, 0, 9, 27, 164, 0, 7]
abbrev dktX8_isOn_0 : List UInt8 := dkwX8_isOn_0 ++ dktX8_isOn_1
theorem dksX8_isOn_0 : cX8_isOn.data.toList.drop 0 = dktX8_isOn_0 := by decide +kernel
theorem dksX8_isOn_1 : cX8_isOn.data.toList.drop 24 = dktX8_isOn_1 := dk_seg dksX8_isOn_0 24 rfl rfl
theorem dX8_isOn_0 : decode cX8_isOn 0 = .ok (.aload_n 0, 1) := dk_42 (dk_at dksX8_isOn_0 0 rfl rfl)
theorem dX8_isOn_1 : decode cX8_isOn 1 = .ok (.getfield 15, 3) := dk_180 0 15 (dk_at dksX8_isOn_0 1 rfl rfl)
theorem dX8_isOn_4 : decode cX8_isOn 4 = .ok (.iload_n 1, 1) := dk_27 (dk_at dksX8_isOn_0 4 rfl rfl)
theorem dX8_isOn_5 : decode cX8_isOn 5 = .ok (.if_icmp .gt 23, 3) := dk_163 0 23 (dk_at dksX8_isOn_0 5 rfl rfl)
theorem dX8_isOn_8 : decode cX8_isOn 8 = .ok (.aload_n 0, 1) := dk_42 (dk_at dksX8_isOn_0 8 rfl rfl)
theorem dX8_isOn_9 : decode cX8_isOn 9 = .ok (.getfield 9, 3) := dk_180 0 9 (dk_at dksX8_isOn_0 9 rfl rfl)
theorem dX8_isOn_12 : decode cX8_isOn 12 = .ok (.iconst (-1), 1) := dk_2 (dk_at dksX8_isOn_0 12 rfl rfl)
theorem dX8_isOn_13 : decode cX8_isOn 13 = .ok (.if_icmp .eq 11, 3) := dk_159 0 11 (dk_at dksX8_isOn_0 13 rfl rfl)
theorem dX8_isOn_16 : decode cX8_isOn 16 = .ok (.aload_n 0, 1) := dk_42 (dk_at dksX8_isOn_0 16 rfl rfl)
theorem dX8_isOn_17 : decode cX8_isOn 17 = .ok (.getfield 9, 3) := dk_180 0 9 (dk_at dksX8_isOn_0 17 rfl rfl)
theorem dX8_isOn_20 : decode cX8_isOn 20 = .ok (.iload_n 1, 1) := dk_27 (dk_at dksX8_isOn_0 20 rfl rfl)
theorem dX8_isOn_21 : decode cX8_isOn 21 = .ok (.if_icmp .le 7, 3) := dk_164 0 7 (dk_at dksX8_isOn_0 21 rfl rfl)
theorem dX8_isOn_24 : decode cX8_isOn 24 = .ok (.iconst 1, 1) := dk_4 (dk_at dksX8_isOn_1 0 rfl rfl)
theorem dX8_isOn_25 : decode cX8_isOn 25 = .ok (.goto 4, 3) := dk_167 0 4 (dk_at dksX8_isOn_1 1 rfl rfl)
theorem dX8_isOn_28 : decode cX8_isOn 28 = .ok (.iconst 0, 1) := dk_3 (dk_at dksX8_isOn_1 4 rfl rfl)
theorem dX8_isOn_29 : decode cX8_isOn 29 = .ok (.ireturn, 1) := dk_172 (dk_at dksX8_isOn_1 5 rfl rfl)
abbrev cX8_init : ByteArray := prog_18_method_1_code
def yX8_init : MethodName := ⟨RX8, "<init>", "(ILLifeKeys$Key;LLifeKeys$Way;)V"⟩
def dkwX8_init_1 : List UInt8 := [177]
abbrev dktX8_init_1 : List UInt8 := dkwX8_init_1 ++ []
def dkwX8_init_0 : List UInt8 := [42, 183, 0, 3, 42, 2, 181, 0, 9, 42, 27, 181, 0, 15, 42, 44, 181, 0, 18, 42, 45, 181, 0, 22]
abbrev dktX8_init_0 : List UInt8 := dkwX8_init_0 ++ dktX8_init_1
theorem dksX8_init_0 : cX8_init.data.toList.drop 0 = dktX8_init_0 := by decide +kernel
theorem dksX8_init_1 : cX8_init.data.toList.drop 24 = dktX8_init_1 := dk_seg dksX8_init_0 24 rfl rfl
theorem dX8_init_0 : decode cX8_init 0 = .ok (.aload_n 0, 1) := dk_42 (dk_at dksX8_init_0 0 rfl rfl)
theorem dX8_init_1 : decode cX8_init 1 = .ok (.invokespecial 3, 3) := dk_183 0 3 (dk_at dksX8_init_0 1 rfl rfl)
theorem dX8_init_4 : decode cX8_init 4 = .ok (.aload_n 0, 1) := dk_42 (dk_at dksX8_init_0 4 rfl rfl)
theorem dX8_init_5 : decode cX8_init 5 = .ok (.iconst (-1), 1) := dk_2 (dk_at dksX8_init_0 5 rfl rfl)
theorem dX8_init_6 : decode cX8_init 6 = .ok (.putfield 9, 3) := dk_181 0 9 (dk_at dksX8_init_0 6 rfl rfl)
theorem dX8_init_9 : decode cX8_init 9 = .ok (.aload_n 0, 1) := dk_42 (dk_at dksX8_init_0 9 rfl rfl)
theorem dX8_init_10 : decode cX8_init 10 = .ok (.iload_n 1, 1) := dk_27 (dk_at dksX8_init_0 10 rfl rfl)
theorem dX8_init_11 : decode cX8_init 11 = .ok (.putfield 15, 3) := dk_181 0 15 (dk_at dksX8_init_0 11 rfl rfl)
theorem dX8_init_14 : decode cX8_init 14 = .ok (.aload_n 0, 1) := dk_42 (dk_at dksX8_init_0 14 rfl rfl)
theorem dX8_init_15 : decode cX8_init 15 = .ok (.aload_n 2, 1) := dk_44 (dk_at dksX8_init_0 15 rfl rfl)
theorem dX8_init_16 : decode cX8_init 16 = .ok (.putfield 18, 3) := dk_181 0 18 (dk_at dksX8_init_0 16 rfl rfl)
theorem dX8_init_19 : decode cX8_init 19 = .ok (.aload_n 0, 1) := dk_42 (dk_at dksX8_init_0 19 rfl rfl)
theorem dX8_init_20 : decode cX8_init 20 = .ok (.aload_n 3, 1) := dk_45 (dk_at dksX8_init_0 20 rfl rfl)
theorem dX8_init_21 : decode cX8_init 21 = .ok (.putfield 22, 3) := dk_181 0 22 (dk_at dksX8_init_0 21 rfl rfl)
theorem dX8_init_24 : decode cX8_init 24 = .ok (.return_, 1) := dk_177 (dk_at dksX8_init_1 0 rfl rfl)
theorem q95 : (Jvm.Cond.initialized "LifeKeys$Way") ∈ lw_all := lw_g (lw_at lw_m1 13 rfl) rfl
theorem q467 : (Jvm.Cond.instanceMethod ({ cls := "LifeKeys$Way", name := "isOn", desc := "(I)Z" } : Jvm.MethodName)) ∈ lw_all := lw_g (lw_at lw_m2 145 rfl) rfl
theorem q468 : (Jvm.Cond.sameMethod "LifeKeys$Way" "LifeKeys$Way" "isOn" "(I)Z") ∈ lw_all := lw_g (lw_at lw_m2 146 rfl) rfl
theorem q472 : (Jvm.Cond.code ({ cls := "LifeKeys$Way", name := "isOn", desc := "(I)Z" } : Jvm.MethodName) prog_18_method_2_code (2 : Nat) (Option.some Jvm.ClassFile.FieldType.boolean)) ∈ lw_all := lw_g (lw_at lw_m2 150 rfl) rfl
theorem q478 : (Jvm.Cond.instanceMethod ({ cls := "LifeKeys$Way", name := "<init>", desc := "(ILLifeKeys$Key;LLifeKeys$Way;)V" } : Jvm.MethodName)) ∈ lw_all := lw_g (lw_at lw_m2 156 rfl) rfl
theorem q479 : (Jvm.Cond.code ({ cls := "LifeKeys$Way", name := "<init>", desc := "(ILLifeKeys$Key;LLifeKeys$Way;)V" } : Jvm.MethodName) prog_18_method_1_code (4 : Nat) (Option.none : Option Jvm.ClassFile.FieldType)) ∈ lw_all := lw_g (lw_at lw_m2 157 rfl) rfl
theorem q480 : (Jvm.Cond.methodLink "LifeKeys$Way" (3 : Nat) ({ cls := "java/lang/Object", name := "<init>", desc := "()V" } : Jvm.MethodName)) ∈ lw_all := lw_g (lw_at lw_m2 158 rfl) rfl
theorem q483 : (Jvm.Cond.fieldLink "LifeKeys$Way" (15 : Nat) "LifeKeys$Way" "from" "I") ∈ lw_all := lw_g (lw_at lw_m2 161 rfl) rfl
theorem q484 : (Jvm.Cond.fieldLink "LifeKeys$Way" (18 : Nat) "LifeKeys$Way" "key" "LLifeKeys$Key;") ∈ lw_all := lw_g (lw_at lw_m2 162 rfl) rfl
theorem q490 : (Jvm.Cond.fieldLink "LifeKeys$Way" (22 : Nat) "LifeKeys$Way" "before" "LLifeKeys$Way;") ∈ lw_all := lw_g (lw_at lw_m2 168 rfl) rfl
theorem q492 : (Jvm.Cond.fieldLink "LifeKeys$Way" (9 : Nat) "LifeKeys$Way" "to" "I") ∈ lw_all := lw_g (lw_at lw_m2 170 rfl) rfl
theorem q502 : (Jvm.Cond.soleField "LifeKeys$Way" "from") ∈ lw_all := lw_g (lw_at lw_m2 180 rfl) rfl
theorem q504 : (Jvm.Cond.soleField "LifeKeys$Way" "key") ∈ lw_all := lw_g (lw_at lw_m2 182 rfl) rfl
theorem q506 : (Jvm.Cond.soleField "LifeKeys$Way" "before") ∈ lw_all := lw_g (lw_at lw_m2 184 rfl) rfl
theorem q508 : (Jvm.Cond.soleField "LifeKeys$Way" "to") ∈ lw_all := lw_g (lw_at lw_m2 186 rfl) rfl
theorem q665 : (Jvm.Cond.declares ({ cls := "LifeKeys$Way", name := "leads", desc := "(IJ)Z" } : Jvm.MethodName)) ∈ lw_tbl := lw_at lw_m3 103 rfl
theorem q666 : (Jvm.Cond.sameMethod "LifeKeys$Way" "LifeKeys$Way" "leads" "(IJ)Z") ∈ lw_all := lw_g (lw_at lw_m3 104 rfl) rfl
theorem q1153 : (Jvm.Cond.declares ({ cls := "LifeKeys$Way", name := "isOn", desc := "(I)Z" } : Jvm.MethodName)) ∈ lw_tbl := lw_at lw_m5 111 rfl
/-! LifeKeys$Held -/
set_option maxRecDepth 100000
def RX9 : String := "LifeKeys$Held"
def TX9 : u_T := fun k => match k with
  | 0 => ("LifeKeys$Way", "from", "I", true)
  | 1 => ("LifeKeys$Way", "key", "LLifeKeys$Key;", true)
  | 2 => ("LifeKeys$Way", "before", "LLifeKeys$Way;", true)
  | 3 => ("LifeKeys$Way", "to", "I", false)
  | _ => ("LifeKeys$Held", "holde\x72", "I", true)
def tyX9 : Nat → FieldType := fun k => match k with
  | 0 => .int
  | 1 => .object "LifeKeys$Key"
  | 2 => .object "LifeKeys$Way"
  | 3 => .int
  | _ => .int
abbrev wsX90 : List Cond := u_ws RX9 TX9 5
theorem nmX9 : ∀ a, a < 5 → ∀ b, b < 5 → a ≠ b → (TX9 a).2.1 ≠ (TX9 b).2.1 := by decide +kernel
theorem tyX9_ok : ∀ k, k < 5 → parseFieldDescriptor (TX9 k).2.2.1 = some (tyX9 k) := by decide +kernel
abbrev cX9_init : ByteArray := prog_4_method_1_code
def yX9_init : MethodName := ⟨RX9, "<init>", "(ILLifeKeys$Key;LLifeKeys$Way;I)V"⟩
def dkwX9_init_0 : List UInt8 := [42, 27, 44, 45, 183, 0, 1, 42, 21, 4, 181, 0, 7, 177]
abbrev dktX9_init_0 : List UInt8 := dkwX9_init_0 ++ []
theorem dksX9_init_0 : cX9_init.data.toList.drop 0 = dktX9_init_0 := by decide +kernel
theorem dX9_init_0 : decode cX9_init 0 = .ok (.aload_n 0, 1) := dk_42 (dk_at dksX9_init_0 0 rfl rfl)
theorem dX9_init_1 : decode cX9_init 1 = .ok (.iload_n 1, 1) := dk_27 (dk_at dksX9_init_0 1 rfl rfl)
theorem dX9_init_2 : decode cX9_init 2 = .ok (.aload_n 2, 1) := dk_44 (dk_at dksX9_init_0 2 rfl rfl)
theorem dX9_init_3 : decode cX9_init 3 = .ok (.aload_n 3, 1) := dk_45 (dk_at dksX9_init_0 3 rfl rfl)
theorem dX9_init_4 : decode cX9_init 4 = .ok (.invokespecial 1, 3) := dk_183 0 1 (dk_at dksX9_init_0 4 rfl rfl)
theorem dX9_init_7 : decode cX9_init 7 = .ok (.aload_n 0, 1) := dk_42 (dk_at dksX9_init_0 7 rfl rfl)
theorem dX9_init_8 : decode cX9_init 8 = .ok (.iload 4, 2) := dk_21 4 (dk_at dksX9_init_0 8 rfl rfl)
theorem dX9_init_10 : decode cX9_init 10 = .ok (.putfield 7, 3) := dk_181 0 7 (dk_at dksX9_init_0 10 rfl rfl)
theorem dX9_init_13 : decode cX9_init 13 = .ok (.return_, 1) := dk_177 (dk_at dksX9_init_0 13 rfl rfl)
abbrev cX9_leads : ByteArray := prog_4_method_2_code
def yX9_leads : MethodName := ⟨RX9, "leads", "(IJ)Z"⟩
def dkwX9_leads_0 : List UInt8 := [27, 42, 180, 0, 7, 122, 4, 126, 4, 160, 0, 7, 4, 167, 0, 4, 3, 172]
abbrev dktX9_leads_0 : List UInt8 := dkwX9_leads_0 ++ []
theorem dksX9_leads_0 : cX9_leads.data.toList.drop 0 = dktX9_leads_0 := by decide +kernel
theorem dX9_leads_0 : decode cX9_leads 0 = .ok (.iload_n 1, 1) := dk_27 (dk_at dksX9_leads_0 0 rfl rfl)
theorem dX9_leads_1 : decode cX9_leads 1 = .ok (.aload_n 0, 1) := dk_42 (dk_at dksX9_leads_0 1 rfl rfl)
theorem dX9_leads_2 : decode cX9_leads 2 = .ok (.getfield 7, 3) := dk_180 0 7 (dk_at dksX9_leads_0 2 rfl rfl)
theorem dX9_leads_5 : decode cX9_leads 5 = .ok (.ishr, 1) := dk_122 (dk_at dksX9_leads_0 5 rfl rfl)
theorem dX9_leads_6 : decode cX9_leads 6 = .ok (.iconst 1, 1) := dk_4 (dk_at dksX9_leads_0 6 rfl rfl)
theorem dX9_leads_7 : decode cX9_leads 7 = .ok (.iand, 1) := dk_126 (dk_at dksX9_leads_0 7 rfl rfl)
theorem dX9_leads_8 : decode cX9_leads 8 = .ok (.iconst 1, 1) := dk_4 (dk_at dksX9_leads_0 8 rfl rfl)
theorem dX9_leads_9 : decode cX9_leads 9 = .ok (.if_icmp .ne 7, 3) := dk_160 0 7 (dk_at dksX9_leads_0 9 rfl rfl)
theorem dX9_leads_12 : decode cX9_leads 12 = .ok (.iconst 1, 1) := dk_4 (dk_at dksX9_leads_0 12 rfl rfl)
theorem dX9_leads_13 : decode cX9_leads 13 = .ok (.goto 4, 3) := dk_167 0 4 (dk_at dksX9_leads_0 13 rfl rfl)
theorem dX9_leads_16 : decode cX9_leads 16 = .ok (.iconst 0, 1) := dk_3 (dk_at dksX9_leads_0 16 rfl rfl)
theorem dX9_leads_17 : decode cX9_leads 17 = .ok (.ireturn, 1) := dk_172 (dk_at dksX9_leads_0 17 rfl rfl)
theorem q96 : (Jvm.Cond.initialized "LifeKeys$Held") ∈ lw_all := lw_g (lw_at lw_m1 14 rfl) rfl
theorem q469 : (Jvm.Cond.selects "LifeKeys$Held" ({ cls := "LifeKeys$Way", name := "isOn", desc := "(I)Z" } : Jvm.MethodName) ({ cls := "LifeKeys$Way", name := "isOn", desc := "(I)Z" } : Jvm.MethodName)) ∈ lw_all := lw_g (lw_at lw_m2 147 rfl) rfl
theorem q473 : (Jvm.Cond.instantiable "LifeKeys$Held" (5 : Nat)) ∈ lw_all := lw_g (lw_at lw_m2 151 rfl) rfl
theorem q475 : (Jvm.Cond.instanceMethod ({ cls := "LifeKeys$Held", name := "<init>", desc := "(ILLifeKeys$Key;LLifeKeys$Way;I)V" } : Jvm.MethodName)) ∈ lw_all := lw_g (lw_at lw_m2 153 rfl) rfl
theorem q476 : (Jvm.Cond.code ({ cls := "LifeKeys$Held", name := "<init>", desc := "(ILLifeKeys$Key;LLifeKeys$Way;I)V" } : Jvm.MethodName) prog_4_method_1_code (5 : Nat) (Option.none : Option Jvm.ClassFile.FieldType)) ∈ lw_all := lw_g (lw_at lw_m2 154 rfl) rfl
theorem q477 : (Jvm.Cond.methodLink "LifeKeys$Held" (1 : Nat) ({ cls := "LifeKeys$Way", name := "<init>", desc := "(ILLifeKeys$Key;LLifeKeys$Way;)V" } : Jvm.MethodName)) ∈ lw_all := lw_g (lw_at lw_m2 155 rfl) rfl
theorem q481 : (Jvm.Cond.fieldLink "LifeKeys$Held" (7 : Nat) "LifeKeys$Held" "holde\x72" "I") ∈ lw_all := lw_g (lw_at lw_m2 159 rfl) rfl
theorem q494 : (Jvm.Cond.sameField "LifeKeys$Held" "LifeKeys$Way" "to" "I") ∈ lw_all := lw_g (lw_at lw_m2 172 rfl) rfl
theorem q499 : (Jvm.Cond.laysFinal "LifeKeys$Held" "LifeKeys$Held" "holde\x72" "I") ∈ lw_all := lw_g (lw_at lw_m2 177 rfl) rfl
theorem q500 : (Jvm.Cond.soleField "LifeKeys$Held" "holde\x72") ∈ lw_all := lw_g (lw_at lw_m2 178 rfl) rfl
theorem q501 : (Jvm.Cond.laysFinal "LifeKeys$Held" "LifeKeys$Way" "from" "I") ∈ lw_all := lw_g (lw_at lw_m2 179 rfl) rfl
theorem q503 : (Jvm.Cond.laysFinal "LifeKeys$Held" "LifeKeys$Way" "key" "LLifeKeys$Key;") ∈ lw_all := lw_g (lw_at lw_m2 181 rfl) rfl
theorem q505 : (Jvm.Cond.laysFinal "LifeKeys$Held" "LifeKeys$Way" "before" "LLifeKeys$Way;") ∈ lw_all := lw_g (lw_at lw_m2 183 rfl) rfl
theorem q507 : (Jvm.Cond.lays "LifeKeys$Held" "LifeKeys$Way" "to" "I") ∈ lw_all := lw_g (lw_at lw_m2 185 rfl) rfl
theorem q509 : (Jvm.Cond.superclass "LifeKeys$Held" "LifeKeys$Way") ∈ lw_all := lw_g (lw_at lw_m2 187 rfl) rfl
theorem q667 : (Jvm.Cond.selects "LifeKeys$Held" ({ cls := "LifeKeys$Way", name := "leads", desc := "(IJ)Z" } : Jvm.MethodName) ({ cls := "LifeKeys$Held", name := "leads", desc := "(IJ)Z" } : Jvm.MethodName)) ∈ lw_all := lw_g (lw_at lw_m3 105 rfl) rfl
theorem q668 : (Jvm.Cond.instanceMethod ({ cls := "LifeKeys$Held", name := "leads", desc := "(IJ)Z" } : Jvm.MethodName)) ∈ lw_all := lw_g (lw_at lw_m3 106 rfl) rfl
theorem q669 : (Jvm.Cond.code ({ cls := "LifeKeys$Held", name := "leads", desc := "(IJ)Z" } : Jvm.MethodName) prog_4_method_2_code (4 : Nat) (Option.some Jvm.ClassFile.FieldType.boolean)) ∈ lw_all := lw_g (lw_at lw_m3 107 rfl) rfl
theorem q1885 : (Jvm.Cond.castable "LifeKeys$Held" "java/lang/Object") ∈ lw_tbl := lw_at lw_m8 123 rfl
theorem in_X9 : ∀ w ∈ wsX90, w ∈ lw_all := lw_in wsX90 [501, 503, 505, 507, 499] (by decide +kernel) (by decide +kernel)
/-! LifeKeys$Wrap -/
set_option maxRecDepth 100000
def RX10 : String := "LifeKeys$Wrap"
def TX10 : u_T := fun k => match k with
  | 0 => ("LifeKeys$Way", "from", "I", true)
  | 1 => ("LifeKeys$Way", "key", "LLifeKeys$Key;", true)
  | 2 => ("LifeKeys$Way", "before", "LLifeKeys$Way;", true)
  | 3 => ("LifeKeys$Way", "to", "I", false)
  | _ => ("LifeKeys$Wrap", "oute\x72", "LLifeKeys$Key;", true)
def tyX10 : Nat → FieldType := fun k => match k with
  | 0 => .int
  | 1 => .object "LifeKeys$Key"
  | 2 => .object "LifeKeys$Way"
  | 3 => .int
  | _ => .object "LifeKeys$Key"
abbrev wsX100 : List Cond := u_ws RX10 TX10 5
theorem nmX10 : ∀ a, a < 5 → ∀ b, b < 5 → a ≠ b → (TX10 a).2.1 ≠ (TX10 b).2.1 := by decide +kernel
theorem tyX10_ok : ∀ k, k < 5 → parseFieldDescriptor (TX10 k).2.2.1 = some (tyX10 k) := by decide +kernel
abbrev cX10_init : ByteArray := prog_20_method_1_code
def yX10_init : MethodName := ⟨RX10, "<init>", "(ILLifeKeys$Key;LLifeKeys$Way;LLifeKeys$Key;)V"⟩
def dkwX10_init_0 : List UInt8 := [42, 27, 44, 45, 183, 0, 1, 42, 25, 4, 181, 0, 7, 177]
abbrev dktX10_init_0 : List UInt8 := dkwX10_init_0 ++ []
theorem dksX10_init_0 : cX10_init.data.toList.drop 0 = dktX10_init_0 := by decide +kernel
theorem dX10_init_0 : decode cX10_init 0 = .ok (.aload_n 0, 1) := dk_42 (dk_at dksX10_init_0 0 rfl rfl)
theorem dX10_init_1 : decode cX10_init 1 = .ok (.iload_n 1, 1) := dk_27 (dk_at dksX10_init_0 1 rfl rfl)
theorem dX10_init_2 : decode cX10_init 2 = .ok (.aload_n 2, 1) := dk_44 (dk_at dksX10_init_0 2 rfl rfl)
theorem dX10_init_3 : decode cX10_init 3 = .ok (.aload_n 3, 1) := dk_45 (dk_at dksX10_init_0 3 rfl rfl)
theorem dX10_init_4 : decode cX10_init 4 = .ok (.invokespecial 1, 3) := dk_183 0 1 (dk_at dksX10_init_0 4 rfl rfl)
theorem dX10_init_7 : decode cX10_init 7 = .ok (.aload_n 0, 1) := dk_42 (dk_at dksX10_init_0 7 rfl rfl)
theorem dX10_init_8 : decode cX10_init 8 = .ok (.aload 4, 2) := dk_25 4 (dk_at dksX10_init_0 8 rfl rfl)
theorem dX10_init_10 : decode cX10_init 10 = .ok (.putfield 7, 3) := dk_181 0 7 (dk_at dksX10_init_0 10 rfl rfl)
theorem dX10_init_13 : decode cX10_init 13 = .ok (.return_, 1) := dk_177 (dk_at dksX10_init_0 13 rfl rfl)
abbrev cX10_leads : ByteArray := prog_20_method_2_code
def yX10_leads : MethodName := ⟨RX10, "leads", "(IJ)Z"⟩
def dkwX10_leads_0 : List UInt8 := [32, 42, 180, 0, 7, 180, 0, 13, 123, 10, 127, 10, 148, 154, 0, 7, 4, 167, 0, 4, 3, 172]
abbrev dktX10_leads_0 : List UInt8 := dkwX10_leads_0 ++ []
theorem dksX10_leads_0 : cX10_leads.data.toList.drop 0 = dktX10_leads_0 := by decide +kernel
theorem dX10_leads_0 : decode cX10_leads 0 = .ok (.lload_n 2, 1) := dk_32 (dk_at dksX10_leads_0 0 rfl rfl)
theorem dX10_leads_1 : decode cX10_leads 1 = .ok (.aload_n 0, 1) := dk_42 (dk_at dksX10_leads_0 1 rfl rfl)
theorem dX10_leads_2 : decode cX10_leads 2 = .ok (.getfield 7, 3) := dk_180 0 7 (dk_at dksX10_leads_0 2 rfl rfl)
theorem dX10_leads_5 : decode cX10_leads 5 = .ok (.getfield 13, 3) := dk_180 0 13 (dk_at dksX10_leads_0 5 rfl rfl)
theorem dX10_leads_8 : decode cX10_leads 8 = .ok (.lshr, 1) := dk_123 (dk_at dksX10_leads_0 8 rfl rfl)
theorem dX10_leads_9 : decode cX10_leads 9 = .ok (.lconst 1, 1) := dk_10 (dk_at dksX10_leads_0 9 rfl rfl)
theorem dX10_leads_10 : decode cX10_leads 10 = .ok (.land, 1) := dk_127 (dk_at dksX10_leads_0 10 rfl rfl)
theorem dX10_leads_11 : decode cX10_leads 11 = .ok (.lconst 1, 1) := dk_10 (dk_at dksX10_leads_0 11 rfl rfl)
theorem dX10_leads_12 : decode cX10_leads 12 = .ok (.lcmp, 1) := dk_148 (dk_at dksX10_leads_0 12 rfl rfl)
theorem dX10_leads_13 : decode cX10_leads 13 = .ok (.ifCond .ne 7, 3) := dk_154 0 7 (dk_at dksX10_leads_0 13 rfl rfl)
theorem dX10_leads_16 : decode cX10_leads 16 = .ok (.iconst 1, 1) := dk_4 (dk_at dksX10_leads_0 16 rfl rfl)
theorem dX10_leads_17 : decode cX10_leads 17 = .ok (.goto 4, 3) := dk_167 0 4 (dk_at dksX10_leads_0 17 rfl rfl)
theorem dX10_leads_20 : decode cX10_leads 20 = .ok (.iconst 0, 1) := dk_3 (dk_at dksX10_leads_0 20 rfl rfl)
theorem dX10_leads_21 : decode cX10_leads 21 = .ok (.ireturn, 1) := dk_172 (dk_at dksX10_leads_0 21 rfl rfl)
theorem q97 : (Jvm.Cond.initialized "LifeKeys$Wrap") ∈ lw_all := lw_g (lw_at lw_m1 15 rfl) rfl
theorem q334 : (Jvm.Cond.fieldLink "LifeKeys$Wrap" (13 : Nat) "LifeKeys$Key" "numbe\x72" "I") ∈ lw_all := lw_g (lw_at lw_m2 12 rfl) rfl
theorem q471 : (Jvm.Cond.selects "LifeKeys$Wrap" ({ cls := "LifeKeys$Way", name := "isOn", desc := "(I)Z" } : Jvm.MethodName) ({ cls := "LifeKeys$Way", name := "isOn", desc := "(I)Z" } : Jvm.MethodName)) ∈ lw_all := lw_g (lw_at lw_m2 149 rfl) rfl
theorem q489 : (Jvm.Cond.sameField "LifeKeys$Wrap" "LifeKeys$Way" "key" "LLifeKeys$Key;") ∈ lw_all := lw_g (lw_at lw_m2 167 rfl) rfl
theorem q496 : (Jvm.Cond.sameField "LifeKeys$Wrap" "LifeKeys$Way" "to" "I") ∈ lw_all := lw_g (lw_at lw_m2 174 rfl) rfl
theorem q518 : (Jvm.Cond.instantiable "LifeKeys$Wrap" (5 : Nat)) ∈ lw_all := lw_g (lw_at lw_m2 196 rfl) rfl
theorem q520 : (Jvm.Cond.instanceMethod ({ cls := "LifeKeys$Wrap", name := "<init>", desc := "(ILLifeKeys$Key;LLifeKeys$Way;LLifeKeys$Key;)V" } : Jvm.MethodName)) ∈ lw_all := lw_g (lw_at lw_m2 198 rfl) rfl
theorem q521 : (Jvm.Cond.code ({ cls := "LifeKeys$Wrap", name := "<init>", desc := "(ILLifeKeys$Key;LLifeKeys$Way;LLifeKeys$Key;)V" } : Jvm.MethodName) prog_20_method_1_code (5 : Nat) (Option.none : Option Jvm.ClassFile.FieldType)) ∈ lw_all := lw_g (lw_at lw_m2 199 rfl) rfl
theorem q522 : (Jvm.Cond.methodLink "LifeKeys$Wrap" (1 : Nat) ({ cls := "LifeKeys$Way", name := "<init>", desc := "(ILLifeKeys$Key;LLifeKeys$Way;)V" } : Jvm.MethodName)) ∈ lw_all := lw_g (lw_at lw_m2 200 rfl) rfl
theorem q523 : (Jvm.Cond.fieldLink "LifeKeys$Wrap" (7 : Nat) "LifeKeys$Wrap" "oute\x72" "LLifeKeys$Key;") ∈ lw_all := lw_g (lw_at lw_m2 201 rfl) rfl
theorem q525 : (Jvm.Cond.laysFinal "LifeKeys$Wrap" "LifeKeys$Wrap" "oute\x72" "LLifeKeys$Key;") ∈ lw_all := lw_g (lw_at lw_m2 203 rfl) rfl
theorem q526 : (Jvm.Cond.soleField "LifeKeys$Wrap" "oute\x72") ∈ lw_all := lw_g (lw_at lw_m2 204 rfl) rfl
theorem q527 : (Jvm.Cond.laysFinal "LifeKeys$Wrap" "LifeKeys$Way" "from" "I") ∈ lw_all := lw_g (lw_at lw_m2 205 rfl) rfl
theorem q528 : (Jvm.Cond.laysFinal "LifeKeys$Wrap" "LifeKeys$Way" "key" "LLifeKeys$Key;") ∈ lw_all := lw_g (lw_at lw_m2 206 rfl) rfl
theorem q529 : (Jvm.Cond.laysFinal "LifeKeys$Wrap" "LifeKeys$Way" "before" "LLifeKeys$Way;") ∈ lw_all := lw_g (lw_at lw_m2 207 rfl) rfl
theorem q530 : (Jvm.Cond.lays "LifeKeys$Wrap" "LifeKeys$Way" "to" "I") ∈ lw_all := lw_g (lw_at lw_m2 208 rfl) rfl
theorem q531 : (Jvm.Cond.superclass "LifeKeys$Wrap" "LifeKeys$Way") ∈ lw_all := lw_g (lw_at lw_m2 209 rfl) rfl
theorem q674 : (Jvm.Cond.selects "LifeKeys$Wrap" ({ cls := "LifeKeys$Way", name := "leads", desc := "(IJ)Z" } : Jvm.MethodName) ({ cls := "LifeKeys$Wrap", name := "leads", desc := "(IJ)Z" } : Jvm.MethodName)) ∈ lw_all := lw_g (lw_at lw_m3 112 rfl) rfl
theorem q675 : (Jvm.Cond.instanceMethod ({ cls := "LifeKeys$Wrap", name := "leads", desc := "(IJ)Z" } : Jvm.MethodName)) ∈ lw_all := lw_g (lw_at lw_m3 113 rfl) rfl
theorem q676 : (Jvm.Cond.code ({ cls := "LifeKeys$Wrap", name := "leads", desc := "(IJ)Z" } : Jvm.MethodName) prog_20_method_2_code (4 : Nat) (Option.some Jvm.ClassFile.FieldType.boolean)) ∈ lw_all := lw_g (lw_at lw_m3 114 rfl) rfl
theorem q1152 : (Jvm.Cond.sameMethod "LifeKeys$Wrap" "LifeKeys$Way" "isOn" "(I)Z") ∈ lw_all := lw_g (lw_at lw_m5 110 rfl) rfl
theorem q1154 : (Jvm.Cond.selects "LifeKeys$Wrap" ({ cls := "LifeKeys$Wrap", name := "isOn", desc := "(I)Z" } : Jvm.MethodName) ({ cls := "LifeKeys$Way", name := "isOn", desc := "(I)Z" } : Jvm.MethodName)) ∈ lw_all := lw_g (lw_at lw_m5 112 rfl) rfl
theorem q1886 : (Jvm.Cond.castable "LifeKeys$Wrap" "java/lang/Object") ∈ lw_tbl := lw_at lw_m8 124 rfl
theorem in_X10 : ∀ w ∈ wsX100, w ∈ lw_all := lw_in wsX100 [527, 528, 529, 530, 525] (by decide +kernel) (by decide +kernel)
/-! LifeKeys$Parting -/
set_option maxRecDepth 100000
def RX11 : String := "LifeKeys$Parting"
def TX11 : u_T := fun k => match k with
  | 0 => ("LifeKeys$Way", "from", "I", true)
  | 1 => ("LifeKeys$Way", "key", "LLifeKeys$Key;", true)
  | 2 => ("LifeKeys$Way", "before", "LLifeKeys$Way;", true)
  | 3 => ("LifeKeys$Way", "to", "I", false)
  | 4 => ("LifeKeys$Parting", "numbe\x72", "I", true)
  | 5 => ("LifeKeys$Parting", "of", "I", true)
  | 6 => ("LifeKeys$Parting", "curve", "[I", true)
  | _ => ("LifeKeys$Parting", "need", "I", false)
def tyX11 : Nat → FieldType := fun k => match k with
  | 0 => .int
  | 1 => .object "LifeKeys$Key"
  | 2 => .object "LifeKeys$Way"
  | 3 => .int
  | 4 => .int
  | 5 => .int
  | 6 => .array .int
  | _ => .int
abbrev wsX110 : List Cond := u_ws RX11 TX11 8
theorem nmX11 : ∀ a, a < 8 → ∀ b, b < 8 → a ≠ b → (TX11 a).2.1 ≠ (TX11 b).2.1 := by decide +kernel
theorem tyX11_ok : ∀ k, k < 8 → parseFieldDescriptor (TX11 k).2.2.1 = some (tyX11 k) := by decide +kernel
abbrev cX11_init : ByteArray := prog_9_method_1_code
def yX11_init : MethodName := ⟨RX11, "<init>", "(ILLifeKeys$Key;LLifeKeys$Way;IIIJ)V"⟩
def dkwX11_init_3 : List UInt8 := [21, 11, 22, 9, 16, 33, 125, 20, 0, 34, 113, 136, 79, 132, 11, 1, 167, 255, 222, 177]
abbrev dktX11_init_3 : List UInt8 := dkwX11_init_3 ++ []
def dkwX11_init_2 : List UInt8 := [55, 9, 4, 54, 11, 21, 11, 21, 6, 162, 0, 33, 22, 9, 184, 0, 30, 55, 9, 42, 180, 0, 21]
abbrev dktX11_init_2 : List UInt8 := dkwX11_init_2 ++ dktX11_init_3
def dkwX11_init_1 : List UInt8 := [181, 0, 18, 42, 21, 6, 188, 10, 181, 0, 21, 42, 180, 0, 21, 3, 44, 180, 0, 25, 79, 22, 7]
abbrev dktX11_init_1 : List UInt8 := dkwX11_init_1 ++ dktX11_init_2
def dkwX11_init_0 : List UInt8 := [42, 27, 44, 45, 183, 0, 3, 42, 21, 4, 181, 0, 9, 42, 21, 5, 181, 0, 15, 42, 21, 6]
abbrev dktX11_init_0 : List UInt8 := dkwX11_init_0 ++ dktX11_init_1
theorem dksX11_init_0 : cX11_init.data.toList.drop 0 = dktX11_init_0 := by decide +kernel
theorem dksX11_init_1 : cX11_init.data.toList.drop 22 = dktX11_init_1 := dk_seg dksX11_init_0 22 rfl rfl
theorem dksX11_init_2 : cX11_init.data.toList.drop 45 = dktX11_init_2 := dk_seg dksX11_init_1 23 rfl rfl
theorem dksX11_init_3 : cX11_init.data.toList.drop 68 = dktX11_init_3 := dk_seg dksX11_init_2 23 rfl rfl
theorem dX11_init_0 : decode cX11_init 0 = .ok (.aload_n 0, 1) := dk_42 (dk_at dksX11_init_0 0 rfl rfl)
theorem dX11_init_1 : decode cX11_init 1 = .ok (.iload_n 1, 1) := dk_27 (dk_at dksX11_init_0 1 rfl rfl)
theorem dX11_init_2 : decode cX11_init 2 = .ok (.aload_n 2, 1) := dk_44 (dk_at dksX11_init_0 2 rfl rfl)
theorem dX11_init_3 : decode cX11_init 3 = .ok (.aload_n 3, 1) := dk_45 (dk_at dksX11_init_0 3 rfl rfl)
theorem dX11_init_4 : decode cX11_init 4 = .ok (.invokespecial 3, 3) := dk_183 0 3 (dk_at dksX11_init_0 4 rfl rfl)
theorem dX11_init_7 : decode cX11_init 7 = .ok (.aload_n 0, 1) := dk_42 (dk_at dksX11_init_0 7 rfl rfl)
theorem dX11_init_8 : decode cX11_init 8 = .ok (.iload 4, 2) := dk_21 4 (dk_at dksX11_init_0 8 rfl rfl)
theorem dX11_init_10 : decode cX11_init 10 = .ok (.putfield 9, 3) := dk_181 0 9 (dk_at dksX11_init_0 10 rfl rfl)
theorem dX11_init_13 : decode cX11_init 13 = .ok (.aload_n 0, 1) := dk_42 (dk_at dksX11_init_0 13 rfl rfl)
theorem dX11_init_14 : decode cX11_init 14 = .ok (.iload 5, 2) := dk_21 5 (dk_at dksX11_init_0 14 rfl rfl)
theorem dX11_init_16 : decode cX11_init 16 = .ok (.putfield 15, 3) := dk_181 0 15 (dk_at dksX11_init_0 16 rfl rfl)
theorem dX11_init_19 : decode cX11_init 19 = .ok (.aload_n 0, 1) := dk_42 (dk_at dksX11_init_0 19 rfl rfl)
theorem dX11_init_20 : decode cX11_init 20 = .ok (.iload 6, 2) := dk_21 6 (dk_at dksX11_init_0 20 rfl rfl)
theorem dX11_init_22 : decode cX11_init 22 = .ok (.putfield 18, 3) := dk_181 0 18 (dk_at dksX11_init_1 0 rfl rfl)
theorem dX11_init_25 : decode cX11_init 25 = .ok (.aload_n 0, 1) := dk_42 (dk_at dksX11_init_1 3 rfl rfl)
theorem dX11_init_26 : decode cX11_init 26 = .ok (.iload 6, 2) := dk_21 6 (dk_at dksX11_init_1 4 rfl rfl)
theorem dX11_init_28 : decode cX11_init 28 = .ok (.newarray .int, 2) := dk_188_10 (dk_at dksX11_init_1 6 rfl rfl)
theorem dX11_init_30 : decode cX11_init 30 = .ok (.putfield 21, 3) := dk_181 0 21 (dk_at dksX11_init_1 8 rfl rfl)
theorem dX11_init_33 : decode cX11_init 33 = .ok (.aload_n 0, 1) := dk_42 (dk_at dksX11_init_1 11 rfl rfl)
theorem dX11_init_34 : decode cX11_init 34 = .ok (.getfield 21, 3) := dk_180 0 21 (dk_at dksX11_init_1 12 rfl rfl)
theorem dX11_init_37 : decode cX11_init 37 = .ok (.iconst 0, 1) := dk_3 (dk_at dksX11_init_1 15 rfl rfl)
theorem dX11_init_38 : decode cX11_init 38 = .ok (.aload_n 2, 1) := dk_44 (dk_at dksX11_init_1 16 rfl rfl)
theorem dX11_init_39 : decode cX11_init 39 = .ok (.getfield 25, 3) := dk_180 0 25 (dk_at dksX11_init_1 17 rfl rfl)
theorem dX11_init_42 : decode cX11_init 42 = .ok (.iastore, 1) := dk_79 (dk_at dksX11_init_1 20 rfl rfl)
theorem dX11_init_43 : decode cX11_init 43 = .ok (.lload 7, 2) := dk_22 7 (dk_at dksX11_init_1 21 rfl rfl)
theorem dX11_init_45 : decode cX11_init 45 = .ok (.lstore 9, 2) := dk_55 9 (dk_at dksX11_init_2 0 rfl rfl)
theorem dX11_init_47 : decode cX11_init 47 = .ok (.iconst 1, 1) := dk_4 (dk_at dksX11_init_2 2 rfl rfl)
theorem dX11_init_48 : decode cX11_init 48 = .ok (.istore 11, 2) := dk_54 11 (dk_at dksX11_init_2 3 rfl rfl)
theorem dX11_init_50 : decode cX11_init 50 = .ok (.iload 11, 2) := dk_21 11 (dk_at dksX11_init_2 5 rfl rfl)
theorem dX11_init_52 : decode cX11_init 52 = .ok (.iload 6, 2) := dk_21 6 (dk_at dksX11_init_2 7 rfl rfl)
theorem dX11_init_54 : decode cX11_init 54 = .ok (.if_icmp .ge 33, 3) := dk_162 0 33 (dk_at dksX11_init_2 9 rfl rfl)
theorem dX11_init_57 : decode cX11_init 57 = .ok (.lload 9, 2) := dk_22 9 (dk_at dksX11_init_2 12 rfl rfl)
theorem dX11_init_59 : decode cX11_init 59 = .ok (.invokestatic 30, 3) := dk_184 0 30 (dk_at dksX11_init_2 14 rfl rfl)
theorem dX11_init_62 : decode cX11_init 62 = .ok (.lstore 9, 2) := dk_55 9 (dk_at dksX11_init_2 17 rfl rfl)
theorem dX11_init_64 : decode cX11_init 64 = .ok (.aload_n 0, 1) := dk_42 (dk_at dksX11_init_2 19 rfl rfl)
theorem dX11_init_65 : decode cX11_init 65 = .ok (.getfield 21, 3) := dk_180 0 21 (dk_at dksX11_init_2 20 rfl rfl)
theorem dX11_init_68 : decode cX11_init 68 = .ok (.iload 11, 2) := dk_21 11 (dk_at dksX11_init_3 0 rfl rfl)
theorem dX11_init_70 : decode cX11_init 70 = .ok (.lload 9, 2) := dk_22 9 (dk_at dksX11_init_3 2 rfl rfl)
theorem dX11_init_72 : decode cX11_init 72 = .ok (.bipush 33, 2) := dk_16 33 (dk_at dksX11_init_3 4 rfl rfl)
theorem dX11_init_74 : decode cX11_init 74 = .ok (.lushr, 1) := dk_125 (dk_at dksX11_init_3 6 rfl rfl)
theorem dX11_init_75 : decode cX11_init 75 = .ok (.ldc2_w 34, 3) := dk_20 0 34 (dk_at dksX11_init_3 7 rfl rfl)
theorem dX11_init_78 : decode cX11_init 78 = .ok (.lrem, 1) := dk_113 (dk_at dksX11_init_3 10 rfl rfl)
theorem dX11_init_79 : decode cX11_init 79 = .ok (.l2i, 1) := dk_136 (dk_at dksX11_init_3 11 rfl rfl)
theorem dX11_init_80 : decode cX11_init 80 = .ok (.iastore, 1) := dk_79 (dk_at dksX11_init_3 12 rfl rfl)
theorem dX11_init_81 : decode cX11_init 81 = .ok (.iinc 11 1, 3) := dk_132 11 1 (dk_at dksX11_init_3 13 rfl rfl)
theorem dX11_init_84 : decode cX11_init 84 = .ok (.goto (-34), 3) := dk_167 255 222 (dk_at dksX11_init_3 16 rfl rfl)
theorem dX11_init_87 : decode cX11_init 87 = .ok (.return_, 1) := dk_177 (dk_at dksX11_init_3 19 rfl rfl)
abbrev cX11_has : ByteArray := prog_9_method_3_code
def yX11_has : MethodName := ⟨RX11, "has", "(I)Z"⟩
def dkwX11_has_0 : List UInt8 := [42, 180, 0, 15, 27, 122, 4, 126, 4, 160, 0, 7, 4, 167, 0, 4, 3, 172]
abbrev dktX11_has_0 : List UInt8 := dkwX11_has_0 ++ []
theorem dksX11_has_0 : cX11_has.data.toList.drop 0 = dktX11_has_0 := by decide +kernel
theorem dX11_has_0 : decode cX11_has 0 = .ok (.aload_n 0, 1) := dk_42 (dk_at dksX11_has_0 0 rfl rfl)
theorem dX11_has_1 : decode cX11_has 1 = .ok (.getfield 15, 3) := dk_180 0 15 (dk_at dksX11_has_0 1 rfl rfl)
theorem dX11_has_4 : decode cX11_has 4 = .ok (.iload_n 1, 1) := dk_27 (dk_at dksX11_has_0 4 rfl rfl)
theorem dX11_has_5 : decode cX11_has 5 = .ok (.ishr, 1) := dk_122 (dk_at dksX11_has_0 5 rfl rfl)
theorem dX11_has_6 : decode cX11_has 6 = .ok (.iconst 1, 1) := dk_4 (dk_at dksX11_has_0 6 rfl rfl)
theorem dX11_has_7 : decode cX11_has 7 = .ok (.iand, 1) := dk_126 (dk_at dksX11_has_0 7 rfl rfl)
theorem dX11_has_8 : decode cX11_has 8 = .ok (.iconst 1, 1) := dk_4 (dk_at dksX11_has_0 8 rfl rfl)
theorem dX11_has_9 : decode cX11_has 9 = .ok (.if_icmp .ne 7, 3) := dk_160 0 7 (dk_at dksX11_has_0 9 rfl rfl)
theorem dX11_has_12 : decode cX11_has 12 = .ok (.iconst 1, 1) := dk_4 (dk_at dksX11_has_0 12 rfl rfl)
theorem dX11_has_13 : decode cX11_has 13 = .ok (.goto 4, 3) := dk_167 0 4 (dk_at dksX11_has_0 13 rfl rfl)
theorem dX11_has_16 : decode cX11_has 16 = .ok (.iconst 0, 1) := dk_3 (dk_at dksX11_has_0 16 rfl rfl)
theorem dX11_has_17 : decode cX11_has 17 = .ok (.ireturn, 1) := dk_172 (dk_at dksX11_has_0 17 rfl rfl)
abbrev cX11_piece : ByteArray := prog_9_method_4_code
def yX11_piece : MethodName := ⟨RX11, "piece", "(I)I"⟩
def dkwX11_piece_1 : List UInt8 := [46, 96, 17, 3, 251, 112, 61, 132, 3, 255, 167, 255, 232, 28, 172]
abbrev dktX11_piece_1 : List UInt8 := dkwX11_piece_1 ++ []
def dkwX11_piece_0 : List UInt8 := [3, 61, 42, 180, 0, 21, 190, 4, 100, 62, 29, 155, 0, 26, 28, 27, 4, 96, 104, 42, 180, 0, 21, 29]
abbrev dktX11_piece_0 : List UInt8 := dkwX11_piece_0 ++ dktX11_piece_1
theorem dksX11_piece_0 : cX11_piece.data.toList.drop 0 = dktX11_piece_0 := by decide +kernel
theorem dksX11_piece_1 : cX11_piece.data.toList.drop 24 = dktX11_piece_1 := dk_seg dksX11_piece_0 24 rfl rfl
theorem dX11_piece_0 : decode cX11_piece 0 = .ok (.iconst 0, 1) := dk_3 (dk_at dksX11_piece_0 0 rfl rfl)
theorem dX11_piece_1 : decode cX11_piece 1 = .ok (.istore_n 2, 1) := dk_61 (dk_at dksX11_piece_0 1 rfl rfl)
theorem dX11_piece_2 : decode cX11_piece 2 = .ok (.aload_n 0, 1) := dk_42 (dk_at dksX11_piece_0 2 rfl rfl)
theorem dX11_piece_3 : decode cX11_piece 3 = .ok (.getfield 21, 3) := dk_180 0 21 (dk_at dksX11_piece_0 3 rfl rfl)
theorem dX11_piece_6 : decode cX11_piece 6 = .ok (.arraylength, 1) := dk_190 (dk_at dksX11_piece_0 6 rfl rfl)
theorem dX11_piece_7 : decode cX11_piece 7 = .ok (.iconst 1, 1) := dk_4 (dk_at dksX11_piece_0 7 rfl rfl)
theorem dX11_piece_8 : decode cX11_piece 8 = .ok (.isub, 1) := dk_100 (dk_at dksX11_piece_0 8 rfl rfl)
theorem dX11_piece_9 : decode cX11_piece 9 = .ok (.istore_n 3, 1) := dk_62 (dk_at dksX11_piece_0 9 rfl rfl)
theorem dX11_piece_10 : decode cX11_piece 10 = .ok (.iload_n 3, 1) := dk_29 (dk_at dksX11_piece_0 10 rfl rfl)
theorem dX11_piece_11 : decode cX11_piece 11 = .ok (.ifCond .lt 26, 3) := dk_155 0 26 (dk_at dksX11_piece_0 11 rfl rfl)
theorem dX11_piece_14 : decode cX11_piece 14 = .ok (.iload_n 2, 1) := dk_28 (dk_at dksX11_piece_0 14 rfl rfl)
theorem dX11_piece_15 : decode cX11_piece 15 = .ok (.iload_n 1, 1) := dk_27 (dk_at dksX11_piece_0 15 rfl rfl)
theorem dX11_piece_16 : decode cX11_piece 16 = .ok (.iconst 1, 1) := dk_4 (dk_at dksX11_piece_0 16 rfl rfl)
theorem dX11_piece_17 : decode cX11_piece 17 = .ok (.iadd, 1) := dk_96 (dk_at dksX11_piece_0 17 rfl rfl)
theorem dX11_piece_18 : decode cX11_piece 18 = .ok (.imul, 1) := dk_104 (dk_at dksX11_piece_0 18 rfl rfl)
theorem dX11_piece_19 : decode cX11_piece 19 = .ok (.aload_n 0, 1) := dk_42 (dk_at dksX11_piece_0 19 rfl rfl)
theorem dX11_piece_20 : decode cX11_piece 20 = .ok (.getfield 21, 3) := dk_180 0 21 (dk_at dksX11_piece_0 20 rfl rfl)
theorem dX11_piece_23 : decode cX11_piece 23 = .ok (.iload_n 3, 1) := dk_29 (dk_at dksX11_piece_0 23 rfl rfl)
theorem dX11_piece_24 : decode cX11_piece 24 = .ok (.iaload, 1) := dk_46 (dk_at dksX11_piece_1 0 rfl rfl)
theorem dX11_piece_25 : decode cX11_piece 25 = .ok (.iadd, 1) := dk_96 (dk_at dksX11_piece_1 1 rfl rfl)
theorem dX11_piece_26 : decode cX11_piece 26 = .ok (.sipush 1019, 3) := dk_17 3 251 (dk_at dksX11_piece_1 2 rfl rfl)
theorem dX11_piece_29 : decode cX11_piece 29 = .ok (.irem, 1) := dk_112 (dk_at dksX11_piece_1 5 rfl rfl)
theorem dX11_piece_30 : decode cX11_piece 30 = .ok (.istore_n 2, 1) := dk_61 (dk_at dksX11_piece_1 6 rfl rfl)
theorem dX11_piece_31 : decode cX11_piece 31 = .ok (.iinc 3 (-1), 3) := dk_132 3 255 (dk_at dksX11_piece_1 7 rfl rfl)
theorem dX11_piece_34 : decode cX11_piece 34 = .ok (.goto (-24), 3) := dk_167 255 232 (dk_at dksX11_piece_1 10 rfl rfl)
theorem dX11_piece_37 : decode cX11_piece 37 = .ok (.iload_n 2, 1) := dk_28 (dk_at dksX11_piece_1 13 rfl rfl)
theorem dX11_piece_38 : decode cX11_piece 38 = .ok (.ireturn, 1) := dk_172 (dk_at dksX11_piece_1 14 rfl rfl)
abbrev cX11_check : ByteArray := prog_9_method_5_code
def yX11_check : MethodName := ⟨RX11, "check", "(I)I"⟩
def dkwX11_check_0 : List UInt8 := [7, 42, 180, 0, 21, 27, 46, 184, 0, 42, 172]
abbrev dktX11_check_0 : List UInt8 := dkwX11_check_0 ++ []
theorem dksX11_check_0 : cX11_check.data.toList.drop 0 = dktX11_check_0 := by decide +kernel
theorem dX11_check_0 : decode cX11_check 0 = .ok (.iconst 4, 1) := dk_7 (dk_at dksX11_check_0 0 rfl rfl)
theorem dX11_check_1 : decode cX11_check 1 = .ok (.aload_n 0, 1) := dk_42 (dk_at dksX11_check_0 1 rfl rfl)
theorem dX11_check_2 : decode cX11_check 2 = .ok (.getfield 21, 3) := dk_180 0 21 (dk_at dksX11_check_0 2 rfl rfl)
theorem dX11_check_5 : decode cX11_check 5 = .ok (.iload_n 1, 1) := dk_27 (dk_at dksX11_check_0 5 rfl rfl)
theorem dX11_check_6 : decode cX11_check 6 = .ok (.iaload, 1) := dk_46 (dk_at dksX11_check_0 6 rfl rfl)
theorem dX11_check_7 : decode cX11_check 7 = .ok (.invokestatic 42, 3) := dk_184 0 42 (dk_at dksX11_check_0 7 rfl rfl)
theorem dX11_check_10 : decode cX11_check 10 = .ok (.ireturn, 1) := dk_172 (dk_at dksX11_check_0 10 rfl rfl)
abbrev cX11_open : ByteArray := prog_9_method_6_code
def yX11_open : MethodName := ⟨RX11, "open", "(I)I"⟩
def dkwX11_open_2 : List UInt8 := [167, 255, 216, 28, 172]
abbrev dktX11_open_2 : List UInt8 := dkwX11_open_2 ++ []
def dkwX11_open_1 : List UInt8 := [29, 184, 0, 42, 104, 17, 7, 247, 112, 61, 29, 27, 4, 96, 104, 17, 3, 251, 112, 62, 132, 4, 1]
abbrev dktX11_open_1 : List UInt8 := dkwX11_open_1 ++ dktX11_open_2
def dkwX11_open_0 : List UInt8 := [4, 61, 4, 62, 3, 54, 4, 21, 4, 42, 180, 0, 21, 190, 162, 0, 36, 28, 42, 21, 4, 182, 0, 46]
abbrev dktX11_open_0 : List UInt8 := dkwX11_open_0 ++ dktX11_open_1
theorem dksX11_open_0 : cX11_open.data.toList.drop 0 = dktX11_open_0 := by decide +kernel
theorem dksX11_open_1 : cX11_open.data.toList.drop 24 = dktX11_open_1 := dk_seg dksX11_open_0 24 rfl rfl
theorem dksX11_open_2 : cX11_open.data.toList.drop 47 = dktX11_open_2 := dk_seg dksX11_open_1 23 rfl rfl
theorem dX11_open_0 : decode cX11_open 0 = .ok (.iconst 1, 1) := dk_4 (dk_at dksX11_open_0 0 rfl rfl)
theorem dX11_open_1 : decode cX11_open 1 = .ok (.istore_n 2, 1) := dk_61 (dk_at dksX11_open_0 1 rfl rfl)
theorem dX11_open_2 : decode cX11_open 2 = .ok (.iconst 1, 1) := dk_4 (dk_at dksX11_open_0 2 rfl rfl)
theorem dX11_open_3 : decode cX11_open 3 = .ok (.istore_n 3, 1) := dk_62 (dk_at dksX11_open_0 3 rfl rfl)
theorem dX11_open_4 : decode cX11_open 4 = .ok (.iconst 0, 1) := dk_3 (dk_at dksX11_open_0 4 rfl rfl)
theorem dX11_open_5 : decode cX11_open 5 = .ok (.istore 4, 2) := dk_54 4 (dk_at dksX11_open_0 5 rfl rfl)
theorem dX11_open_7 : decode cX11_open 7 = .ok (.iload 4, 2) := dk_21 4 (dk_at dksX11_open_0 7 rfl rfl)
theorem dX11_open_9 : decode cX11_open 9 = .ok (.aload_n 0, 1) := dk_42 (dk_at dksX11_open_0 9 rfl rfl)
theorem dX11_open_10 : decode cX11_open 10 = .ok (.getfield 21, 3) := dk_180 0 21 (dk_at dksX11_open_0 10 rfl rfl)
theorem dX11_open_13 : decode cX11_open 13 = .ok (.arraylength, 1) := dk_190 (dk_at dksX11_open_0 13 rfl rfl)
theorem dX11_open_14 : decode cX11_open 14 = .ok (.if_icmp .ge 36, 3) := dk_162 0 36 (dk_at dksX11_open_0 14 rfl rfl)
theorem dX11_open_17 : decode cX11_open 17 = .ok (.iload_n 2, 1) := dk_28 (dk_at dksX11_open_0 17 rfl rfl)
theorem dX11_open_18 : decode cX11_open 18 = .ok (.aload_n 0, 1) := dk_42 (dk_at dksX11_open_0 18 rfl rfl)
theorem dX11_open_19 : decode cX11_open 19 = .ok (.iload 4, 2) := dk_21 4 (dk_at dksX11_open_0 19 rfl rfl)
theorem dX11_open_21 : decode cX11_open 21 = .ok (.invokevirtual 46, 3) := dk_182 0 46 (dk_at dksX11_open_0 21 rfl rfl)
theorem dX11_open_24 : decode cX11_open 24 = .ok (.iload_n 3, 1) := dk_29 (dk_at dksX11_open_1 0 rfl rfl)
theorem dX11_open_25 : decode cX11_open 25 = .ok (.invokestatic 42, 3) := dk_184 0 42 (dk_at dksX11_open_1 1 rfl rfl)
theorem dX11_open_28 : decode cX11_open 28 = .ok (.imul, 1) := dk_104 (dk_at dksX11_open_1 4 rfl rfl)
theorem dX11_open_29 : decode cX11_open 29 = .ok (.sipush 2039, 3) := dk_17 7 247 (dk_at dksX11_open_1 5 rfl rfl)
theorem dX11_open_32 : decode cX11_open 32 = .ok (.irem, 1) := dk_112 (dk_at dksX11_open_1 8 rfl rfl)
theorem dX11_open_33 : decode cX11_open 33 = .ok (.istore_n 2, 1) := dk_61 (dk_at dksX11_open_1 9 rfl rfl)
theorem dX11_open_34 : decode cX11_open 34 = .ok (.iload_n 3, 1) := dk_29 (dk_at dksX11_open_1 10 rfl rfl)
theorem dX11_open_35 : decode cX11_open 35 = .ok (.iload_n 1, 1) := dk_27 (dk_at dksX11_open_1 11 rfl rfl)
theorem dX11_open_36 : decode cX11_open 36 = .ok (.iconst 1, 1) := dk_4 (dk_at dksX11_open_1 12 rfl rfl)
theorem dX11_open_37 : decode cX11_open 37 = .ok (.iadd, 1) := dk_96 (dk_at dksX11_open_1 13 rfl rfl)
theorem dX11_open_38 : decode cX11_open 38 = .ok (.imul, 1) := dk_104 (dk_at dksX11_open_1 14 rfl rfl)
theorem dX11_open_39 : decode cX11_open 39 = .ok (.sipush 1019, 3) := dk_17 3 251 (dk_at dksX11_open_1 15 rfl rfl)
theorem dX11_open_42 : decode cX11_open 42 = .ok (.irem, 1) := dk_112 (dk_at dksX11_open_1 18 rfl rfl)
theorem dX11_open_43 : decode cX11_open 43 = .ok (.istore_n 3, 1) := dk_62 (dk_at dksX11_open_1 19 rfl rfl)
theorem dX11_open_44 : decode cX11_open 44 = .ok (.iinc 4 1, 3) := dk_132 4 1 (dk_at dksX11_open_1 20 rfl rfl)
theorem dX11_open_47 : decode cX11_open 47 = .ok (.goto (-40), 3) := dk_167 255 216 (dk_at dksX11_open_2 0 rfl rfl)
theorem dX11_open_50 : decode cX11_open 50 = .ok (.iload_n 2, 1) := dk_28 (dk_at dksX11_open_2 3 rfl rfl)
theorem dX11_open_51 : decode cX11_open 51 = .ok (.ireturn, 1) := dk_172 (dk_at dksX11_open_2 4 rfl rfl)
abbrev cX11_leads : ByteArray := prog_9_method_2_code
def yX11_leads : MethodName := ⟨RX11, "leads", "(IJ)Z"⟩
def dkwX11_leads_0 : List UInt8 := [27, 42, 180, 0, 15, 126, 184, 0, 36, 42, 180, 0, 18, 161, 0, 7, 4, 167, 0, 4, 3, 172]
abbrev dktX11_leads_0 : List UInt8 := dkwX11_leads_0 ++ []
theorem dksX11_leads_0 : cX11_leads.data.toList.drop 0 = dktX11_leads_0 := by decide +kernel
theorem dX11_leads_0 : decode cX11_leads 0 = .ok (.iload_n 1, 1) := dk_27 (dk_at dksX11_leads_0 0 rfl rfl)
theorem dX11_leads_1 : decode cX11_leads 1 = .ok (.aload_n 0, 1) := dk_42 (dk_at dksX11_leads_0 1 rfl rfl)
theorem dX11_leads_2 : decode cX11_leads 2 = .ok (.getfield 15, 3) := dk_180 0 15 (dk_at dksX11_leads_0 2 rfl rfl)
theorem dX11_leads_5 : decode cX11_leads 5 = .ok (.iand, 1) := dk_126 (dk_at dksX11_leads_0 5 rfl rfl)
theorem dX11_leads_6 : decode cX11_leads 6 = .ok (.invokestatic 36, 3) := dk_184 0 36 (dk_at dksX11_leads_0 6 rfl rfl)
theorem dX11_leads_9 : decode cX11_leads 9 = .ok (.aload_n 0, 1) := dk_42 (dk_at dksX11_leads_0 9 rfl rfl)
theorem dX11_leads_10 : decode cX11_leads 10 = .ok (.getfield 18, 3) := dk_180 0 18 (dk_at dksX11_leads_0 10 rfl rfl)
theorem dX11_leads_13 : decode cX11_leads 13 = .ok (.if_icmp .lt 7, 3) := dk_161 0 7 (dk_at dksX11_leads_0 13 rfl rfl)
theorem dX11_leads_16 : decode cX11_leads 16 = .ok (.iconst 1, 1) := dk_4 (dk_at dksX11_leads_0 16 rfl rfl)
theorem dX11_leads_17 : decode cX11_leads 17 = .ok (.goto 4, 3) := dk_167 0 4 (dk_at dksX11_leads_0 17 rfl rfl)
theorem dX11_leads_20 : decode cX11_leads 20 = .ok (.iconst 0, 1) := dk_3 (dk_at dksX11_leads_0 20 rfl rfl)
theorem dX11_leads_21 : decode cX11_leads 21 = .ok (.ireturn, 1) := dk_172 (dk_at dksX11_leads_0 21 rfl rfl)
theorem q99 : (Jvm.Cond.initialized "LifeKeys$Parting") ∈ lw_all := lw_g (lw_at lw_m1 17 rfl) rfl
theorem q339 : (Jvm.Cond.fieldLink "LifeKeys$Parting" (25 : Nat) "LifeKeys$Key" "secret" "I") ∈ lw_all := lw_g (lw_at lw_m2 17 rfl) rfl
theorem q470 : (Jvm.Cond.selects "LifeKeys$Parting" ({ cls := "LifeKeys$Way", name := "isOn", desc := "(I)Z" } : Jvm.MethodName) ({ cls := "LifeKeys$Way", name := "isOn", desc := "(I)Z" } : Jvm.MethodName)) ∈ lw_all := lw_g (lw_at lw_m2 148 rfl) rfl
theorem q487 : (Jvm.Cond.sameField "LifeKeys$Parting" "LifeKeys$Way" "key" "LLifeKeys$Key;") ∈ lw_all := lw_g (lw_at lw_m2 165 rfl) rfl
theorem q498 : (Jvm.Cond.sameField "LifeKeys$Parting" "LifeKeys$Way" "to" "I") ∈ lw_all := lw_g (lw_at lw_m2 176 rfl) rfl
theorem q554 : (Jvm.Cond.instantiable "LifeKeys$Parting" (8 : Nat)) ∈ lw_all := lw_g (lw_at lw_m2 232 rfl) rfl
theorem q556 : (Jvm.Cond.instanceMethod ({ cls := "LifeKeys$Parting", name := "<init>", desc := "(ILLifeKeys$Key;LLifeKeys$Way;IIIJ)V" } : Jvm.MethodName)) ∈ lw_all := lw_g (lw_at lw_m2 234 rfl) rfl
theorem q557 : (Jvm.Cond.code ({ cls := "LifeKeys$Parting", name := "<init>", desc := "(ILLifeKeys$Key;LLifeKeys$Way;IIIJ)V" } : Jvm.MethodName) prog_9_method_1_code (12 : Nat) (Option.none : Option Jvm.ClassFile.FieldType)) ∈ lw_all := lw_g (lw_at lw_m2 235 rfl) rfl
theorem q558 : (Jvm.Cond.methodLink "LifeKeys$Parting" (3 : Nat) ({ cls := "LifeKeys$Way", name := "<init>", desc := "(ILLifeKeys$Key;LLifeKeys$Way;)V" } : Jvm.MethodName)) ∈ lw_all := lw_g (lw_at lw_m2 236 rfl) rfl
theorem q559 : (Jvm.Cond.methodLinkNest "LifeKeys$Parting" (30 : Nat) ({ cls := "LifeKeys", name := "next", desc := "(J)J" } : Jvm.MethodName) "LifeKeys") ∈ lw_tbl := lw_at lw_m2 237 rfl
theorem q564 : (Jvm.Cond.constantLong "LifeKeys$Parting" (34 : Nat) (1019 : Int64)) ∈ lw_all := lw_g (lw_at lw_m3 2 rfl) rfl
theorem q565 : (Jvm.Cond.fieldLink "LifeKeys$Parting" (9 : Nat) "LifeKeys$Parting" "numbe\x72" "I") ∈ lw_all := lw_g (lw_at lw_m3 3 rfl) rfl
theorem q566 : (Jvm.Cond.fieldLink "LifeKeys$Parting" (15 : Nat) "LifeKeys$Parting" "of" "I") ∈ lw_all := lw_g (lw_at lw_m3 4 rfl) rfl
theorem q568 : (Jvm.Cond.fieldLink "LifeKeys$Parting" (21 : Nat) "LifeKeys$Parting" "curve" "[I") ∈ lw_all := lw_g (lw_at lw_m3 6 rfl) rfl
theorem q570 : (Jvm.Cond.fieldLink "LifeKeys$Parting" (18 : Nat) "LifeKeys$Parting" "need" "I") ∈ lw_all := lw_g (lw_at lw_m3 8 rfl) rfl
theorem q572 : (Jvm.Cond.laysFinal "LifeKeys$Parting" "LifeKeys$Parting" "numbe\x72" "I") ∈ lw_all := lw_g (lw_at lw_m3 10 rfl) rfl
theorem q573 : (Jvm.Cond.soleField "LifeKeys$Parting" "numbe\x72") ∈ lw_all := lw_g (lw_at lw_m3 11 rfl) rfl
theorem q574 : (Jvm.Cond.laysFinal "LifeKeys$Parting" "LifeKeys$Parting" "of" "I") ∈ lw_all := lw_g (lw_at lw_m3 12 rfl) rfl
theorem q575 : (Jvm.Cond.soleField "LifeKeys$Parting" "of") ∈ lw_all := lw_g (lw_at lw_m3 13 rfl) rfl
theorem q576 : (Jvm.Cond.laysFinal "LifeKeys$Parting" "LifeKeys$Parting" "curve" "[I") ∈ lw_all := lw_g (lw_at lw_m3 14 rfl) rfl
theorem q577 : (Jvm.Cond.soleField "LifeKeys$Parting" "curve") ∈ lw_all := lw_g (lw_at lw_m3 15 rfl) rfl
theorem q578 : (Jvm.Cond.lays "LifeKeys$Parting" "LifeKeys$Parting" "need" "I") ∈ lw_all := lw_g (lw_at lw_m3 16 rfl) rfl
theorem q579 : (Jvm.Cond.soleField "LifeKeys$Parting" "need") ∈ lw_all := lw_g (lw_at lw_m3 17 rfl) rfl
theorem q580 : (Jvm.Cond.laysFinal "LifeKeys$Parting" "LifeKeys$Way" "from" "I") ∈ lw_all := lw_g (lw_at lw_m3 18 rfl) rfl
theorem q581 : (Jvm.Cond.laysFinal "LifeKeys$Parting" "LifeKeys$Way" "key" "LLifeKeys$Key;") ∈ lw_all := lw_g (lw_at lw_m3 19 rfl) rfl
theorem q582 : (Jvm.Cond.laysFinal "LifeKeys$Parting" "LifeKeys$Way" "before" "LLifeKeys$Way;") ∈ lw_all := lw_g (lw_at lw_m3 20 rfl) rfl
theorem q583 : (Jvm.Cond.lays "LifeKeys$Parting" "LifeKeys$Way" "to" "I") ∈ lw_all := lw_g (lw_at lw_m3 21 rfl) rfl
theorem q584 : (Jvm.Cond.superclass "LifeKeys$Parting" "LifeKeys$Way") ∈ lw_all := lw_g (lw_at lw_m3 22 rfl) rfl
theorem q602 : (Jvm.Cond.instanceMethod ({ cls := "LifeKeys$Parting", name := "has", desc := "(I)Z" } : Jvm.MethodName)) ∈ lw_all := lw_g (lw_at lw_m3 40 rfl) rfl
theorem q603 : (Jvm.Cond.selects "LifeKeys$Parting" ({ cls := "LifeKeys$Parting", name := "has", desc := "(I)Z" } : Jvm.MethodName) ({ cls := "LifeKeys$Parting", name := "has", desc := "(I)Z" } : Jvm.MethodName)) ∈ lw_all := lw_g (lw_at lw_m3 41 rfl) rfl
theorem q604 : (Jvm.Cond.code ({ cls := "LifeKeys$Parting", name := "has", desc := "(I)Z" } : Jvm.MethodName) prog_9_method_3_code (2 : Nat) (Option.some Jvm.ClassFile.FieldType.boolean)) ∈ lw_all := lw_g (lw_at lw_m3 42 rfl) rfl
theorem q606 : (Jvm.Cond.instanceMethod ({ cls := "LifeKeys$Parting", name := "piece", desc := "(I)I" } : Jvm.MethodName)) ∈ lw_all := lw_g (lw_at lw_m3 44 rfl) rfl
theorem q607 : (Jvm.Cond.selects "LifeKeys$Parting" ({ cls := "LifeKeys$Parting", name := "piece", desc := "(I)I" } : Jvm.MethodName) ({ cls := "LifeKeys$Parting", name := "piece", desc := "(I)I" } : Jvm.MethodName)) ∈ lw_all := lw_g (lw_at lw_m3 45 rfl) rfl
theorem q608 : (Jvm.Cond.code ({ cls := "LifeKeys$Parting", name := "piece", desc := "(I)I" } : Jvm.MethodName) prog_9_method_4_code (4 : Nat) (Option.some Jvm.ClassFile.FieldType.int)) ∈ lw_all := lw_g (lw_at lw_m3 46 rfl) rfl
theorem q614 : (Jvm.Cond.instanceMethod ({ cls := "LifeKeys$Parting", name := "check", desc := "(I)I" } : Jvm.MethodName)) ∈ lw_all := lw_g (lw_at lw_m3 52 rfl) rfl
theorem q615 : (Jvm.Cond.selects "LifeKeys$Parting" ({ cls := "LifeKeys$Parting", name := "check", desc := "(I)I" } : Jvm.MethodName) ({ cls := "LifeKeys$Parting", name := "check", desc := "(I)I" } : Jvm.MethodName)) ∈ lw_all := lw_g (lw_at lw_m3 53 rfl) rfl
theorem q616 : (Jvm.Cond.code ({ cls := "LifeKeys$Parting", name := "check", desc := "(I)I" } : Jvm.MethodName) prog_9_method_5_code (2 : Nat) (Option.some Jvm.ClassFile.FieldType.int)) ∈ lw_all := lw_g (lw_at lw_m3 54 rfl) rfl
theorem q617 : (Jvm.Cond.methodLinkNest "LifeKeys$Parting" (42 : Nat) ({ cls := "LifeKeys", name := "powe\x72", desc := "(II)I" } : Jvm.MethodName) "LifeKeys") ∈ lw_tbl := lw_at lw_m3 55 rfl
theorem q626 : (Jvm.Cond.instanceMethod ({ cls := "LifeKeys$Parting", name := "open", desc := "(I)I" } : Jvm.MethodName)) ∈ lw_all := lw_g (lw_at lw_m3 64 rfl) rfl
theorem q627 : (Jvm.Cond.selects "LifeKeys$Parting" ({ cls := "LifeKeys$Parting", name := "open", desc := "(I)I" } : Jvm.MethodName) ({ cls := "LifeKeys$Parting", name := "open", desc := "(I)I" } : Jvm.MethodName)) ∈ lw_all := lw_g (lw_at lw_m3 65 rfl) rfl
theorem q628 : (Jvm.Cond.code ({ cls := "LifeKeys$Parting", name := "open", desc := "(I)I" } : Jvm.MethodName) prog_9_method_6_code (5 : Nat) (Option.some Jvm.ClassFile.FieldType.int)) ∈ lw_all := lw_g (lw_at lw_m3 66 rfl) rfl
theorem q629 : (Jvm.Cond.methodLink "LifeKeys$Parting" (46 : Nat) ({ cls := "LifeKeys$Parting", name := "check", desc := "(I)I" } : Jvm.MethodName)) ∈ lw_all := lw_g (lw_at lw_m3 67 rfl) rfl
theorem q670 : (Jvm.Cond.selects "LifeKeys$Parting" ({ cls := "LifeKeys$Way", name := "leads", desc := "(IJ)Z" } : Jvm.MethodName) ({ cls := "LifeKeys$Parting", name := "leads", desc := "(IJ)Z" } : Jvm.MethodName)) ∈ lw_all := lw_g (lw_at lw_m3 108 rfl) rfl
theorem q671 : (Jvm.Cond.instanceMethod ({ cls := "LifeKeys$Parting", name := "leads", desc := "(IJ)Z" } : Jvm.MethodName)) ∈ lw_all := lw_g (lw_at lw_m3 109 rfl) rfl
theorem q672 : (Jvm.Cond.code ({ cls := "LifeKeys$Parting", name := "leads", desc := "(IJ)Z" } : Jvm.MethodName) prog_9_method_2_code (4 : Nat) (Option.some Jvm.ClassFile.FieldType.boolean)) ∈ lw_all := lw_g (lw_at lw_m3 110 rfl) rfl
theorem q673 : (Jvm.Cond.methodLink "LifeKeys$Parting" (36 : Nat) ({ cls := "java/lang/Intege\x72", name := "bitCount", desc := "(I)I" } : Jvm.MethodName)) ∈ lw_all := lw_g (lw_at lw_m3 111 rfl) rfl
theorem q1887 : (Jvm.Cond.castable "LifeKeys$Parting" "java/lang/Object") ∈ lw_tbl := lw_at lw_m8 125 rfl
theorem in_X11 : ∀ w ∈ wsX110, w ∈ lw_all := lw_in wsX110 [580, 581, 582, 583, 572, 574, 576, 578] (by decide +kernel) (by decide +kernel)
/-! LifeKeys$Test -/
set_option maxRecDepth 100000
def RX12 : String := "LifeKeys$Test"
abbrev cX12_init : ByteArray := prog_16_method_1_code
def yX12_init : MethodName := ⟨RX12, "<init>", "()V"⟩
theorem dX12_init_0 : decode cX12_init 0 = .ok (.aload_n 0, 1) := by decide +kernel
theorem dX12_init_1 : decode cX12_init 1 = .ok (.invokespecial 1, 3) := by decide +kernel
theorem dX12_init_4 : decode cX12_init 4 = .ok (.return_, 1) := by decide +kernel
theorem q100 : (Jvm.Cond.initialized "LifeKeys$Test") ∈ lw_all := lw_g (lw_at lw_m1 18 rfl) rfl
theorem q725 : (Jvm.Cond.instanceMethod ({ cls := "LifeKeys$Test", name := "<init>", desc := "()V" } : Jvm.MethodName)) ∈ lw_all := lw_g (lw_at lw_m3 163 rfl) rfl
theorem q726 : (Jvm.Cond.code ({ cls := "LifeKeys$Test", name := "<init>", desc := "()V" } : Jvm.MethodName) prog_16_method_1_code (1 : Nat) (Option.none : Option Jvm.ClassFile.FieldType)) ∈ lw_all := lw_g (lw_at lw_m3 164 rfl) rfl
theorem q727 : (Jvm.Cond.methodLink "LifeKeys$Test" (1 : Nat) ({ cls := "java/lang/Object", name := "<init>", desc := "()V" } : Jvm.MethodName)) ∈ lw_all := lw_g (lw_at lw_m3 165 rfl) rfl
theorem q733 : (Jvm.Cond.soleField "LifeKeys$Test" "next") ∈ lw_all := lw_g (lw_at lw_m3 171 rfl) rfl
theorem q830 : (Jvm.Cond.declares ({ cls := "LifeKeys$Test", name := "holds", desc := "(LLifeKeys$Question;)Z" } : Jvm.MethodName)) ∈ lw_tbl := lw_at lw_m4 28 rfl
theorem q831 : (Jvm.Cond.sameMethod "LifeKeys$Test" "LifeKeys$Test" "holds" "(LLifeKeys$Question;)Z") ∈ lw_all := lw_g (lw_at lw_m4 29 rfl) rfl
/-! LifeKeys$Not -/
set_option maxRecDepth 100000
def RX13 : String := "LifeKeys$Not"
def TX13 : u_T := fun k => match k with
  | 0 => ("LifeKeys$Test", "next", "LLifeKeys$Test;", false)
  | _ => ("LifeKeys$Not", "test", "LLifeKeys$Test;", true)
def tyX13 : Nat → FieldType := fun k => match k with
  | 0 => .object "LifeKeys$Test"
  | _ => .object "LifeKeys$Test"
abbrev wsX130 : List Cond := u_ws RX13 TX13 2
theorem nmX13 : ∀ a, a < 2 → ∀ b, b < 2 → a ≠ b → (TX13 a).2.1 ≠ (TX13 b).2.1 := by decide +kernel
theorem tyX13_ok : ∀ k, k < 2 → parseFieldDescriptor (TX13 k).2.2.1 = some (tyX13 k) := by decide +kernel
abbrev cX13_init : ByteArray := prog_8_method_1_code
def yX13_init : MethodName := ⟨RX13, "<init>", "(LLifeKeys$Test;)V"⟩
def dkwX13_init_0 : List UInt8 := [42, 183, 0, 1, 42, 43, 181, 0, 7, 177]
abbrev dktX13_init_0 : List UInt8 := dkwX13_init_0 ++ []
theorem dksX13_init_0 : cX13_init.data.toList.drop 0 = dktX13_init_0 := by decide +kernel
theorem dX13_init_0 : decode cX13_init 0 = .ok (.aload_n 0, 1) := dk_42 (dk_at dksX13_init_0 0 rfl rfl)
theorem dX13_init_1 : decode cX13_init 1 = .ok (.invokespecial 1, 3) := dk_183 0 1 (dk_at dksX13_init_0 1 rfl rfl)
theorem dX13_init_4 : decode cX13_init 4 = .ok (.aload_n 0, 1) := dk_42 (dk_at dksX13_init_0 4 rfl rfl)
theorem dX13_init_5 : decode cX13_init 5 = .ok (.aload_n 1, 1) := dk_43 (dk_at dksX13_init_0 5 rfl rfl)
theorem dX13_init_6 : decode cX13_init 6 = .ok (.putfield 7, 3) := dk_181 0 7 (dk_at dksX13_init_0 6 rfl rfl)
theorem dX13_init_9 : decode cX13_init 9 = .ok (.return_, 1) := dk_177 (dk_at dksX13_init_0 9 rfl rfl)
abbrev cX13_holds : ByteArray := prog_8_method_2_code
def yX13_holds : MethodName := ⟨RX13, "holds", "(LLifeKeys$Question;)Z"⟩
def dkwX13_holds_0 : List UInt8 := [42, 180, 0, 7, 43, 182, 0, 13, 154, 0, 7, 4, 167, 0, 4, 3, 172]
abbrev dktX13_holds_0 : List UInt8 := dkwX13_holds_0 ++ []
theorem dksX13_holds_0 : cX13_holds.data.toList.drop 0 = dktX13_holds_0 := by decide +kernel
theorem dX13_holds_0 : decode cX13_holds 0 = .ok (.aload_n 0, 1) := dk_42 (dk_at dksX13_holds_0 0 rfl rfl)
theorem dX13_holds_1 : decode cX13_holds 1 = .ok (.getfield 7, 3) := dk_180 0 7 (dk_at dksX13_holds_0 1 rfl rfl)
theorem dX13_holds_4 : decode cX13_holds 4 = .ok (.aload_n 1, 1) := dk_43 (dk_at dksX13_holds_0 4 rfl rfl)
theorem dX13_holds_5 : decode cX13_holds 5 = .ok (.invokevirtual 13, 3) := dk_182 0 13 (dk_at dksX13_holds_0 5 rfl rfl)
theorem dX13_holds_8 : decode cX13_holds 8 = .ok (.ifCond .ne 7, 3) := dk_154 0 7 (dk_at dksX13_holds_0 8 rfl rfl)
theorem dX13_holds_11 : decode cX13_holds 11 = .ok (.iconst 1, 1) := dk_4 (dk_at dksX13_holds_0 11 rfl rfl)
theorem dX13_holds_12 : decode cX13_holds 12 = .ok (.goto 4, 3) := dk_167 0 4 (dk_at dksX13_holds_0 12 rfl rfl)
theorem dX13_holds_15 : decode cX13_holds 15 = .ok (.iconst 0, 1) := dk_3 (dk_at dksX13_holds_0 15 rfl rfl)
theorem dX13_holds_16 : decode cX13_holds 16 = .ok (.ireturn, 1) := dk_172 (dk_at dksX13_holds_0 16 rfl rfl)
theorem q101 : (Jvm.Cond.initialized "LifeKeys$Not") ∈ lw_all := lw_g (lw_at lw_m1 19 rfl) rfl
theorem q720 : (Jvm.Cond.instantiable "LifeKeys$Not" (2 : Nat)) ∈ lw_all := lw_g (lw_at lw_m3 158 rfl) rfl
theorem q722 : (Jvm.Cond.instanceMethod ({ cls := "LifeKeys$Not", name := "<init>", desc := "(LLifeKeys$Test;)V" } : Jvm.MethodName)) ∈ lw_all := lw_g (lw_at lw_m3 160 rfl) rfl
theorem q723 : (Jvm.Cond.code ({ cls := "LifeKeys$Not", name := "<init>", desc := "(LLifeKeys$Test;)V" } : Jvm.MethodName) prog_8_method_1_code (2 : Nat) (Option.none : Option Jvm.ClassFile.FieldType)) ∈ lw_all := lw_g (lw_at lw_m3 161 rfl) rfl
theorem q724 : (Jvm.Cond.methodLinkNest "LifeKeys$Not" (1 : Nat) ({ cls := "LifeKeys$Test", name := "<init>", desc := "()V" } : Jvm.MethodName) "LifeKeys") ∈ lw_tbl := lw_at lw_m3 162 rfl
theorem q728 : (Jvm.Cond.fieldLink "LifeKeys$Not" (7 : Nat) "LifeKeys$Not" "test" "LLifeKeys$Test;") ∈ lw_all := lw_g (lw_at lw_m3 166 rfl) rfl
theorem q730 : (Jvm.Cond.laysFinal "LifeKeys$Not" "LifeKeys$Not" "test" "LLifeKeys$Test;") ∈ lw_all := lw_g (lw_at lw_m3 168 rfl) rfl
theorem q731 : (Jvm.Cond.soleField "LifeKeys$Not" "test") ∈ lw_all := lw_g (lw_at lw_m3 169 rfl) rfl
theorem q732 : (Jvm.Cond.lays "LifeKeys$Not" "LifeKeys$Test" "next" "LLifeKeys$Test;") ∈ lw_all := lw_g (lw_at lw_m3 170 rfl) rfl
theorem q734 : (Jvm.Cond.superclass "LifeKeys$Not" "LifeKeys$Test") ∈ lw_all := lw_g (lw_at lw_m3 172 rfl) rfl
theorem q832 : (Jvm.Cond.selects "LifeKeys$Not" ({ cls := "LifeKeys$Test", name := "holds", desc := "(LLifeKeys$Question;)Z" } : Jvm.MethodName) ({ cls := "LifeKeys$Not", name := "holds", desc := "(LLifeKeys$Question;)Z" } : Jvm.MethodName)) ∈ lw_all := lw_g (lw_at lw_m4 30 rfl) rfl
theorem q833 : (Jvm.Cond.instanceMethod ({ cls := "LifeKeys$Not", name := "holds", desc := "(LLifeKeys$Question;)Z" } : Jvm.MethodName)) ∈ lw_all := lw_g (lw_at lw_m4 31 rfl) rfl
theorem q834 : (Jvm.Cond.code ({ cls := "LifeKeys$Not", name := "holds", desc := "(LLifeKeys$Question;)Z" } : Jvm.MethodName) prog_8_method_2_code (2 : Nat) (Option.some Jvm.ClassFile.FieldType.boolean)) ∈ lw_all := lw_g (lw_at lw_m4 32 rfl) rfl
theorem q835 : (Jvm.Cond.methodLink "LifeKeys$Not" (13 : Nat) ({ cls := "LifeKeys$Test", name := "holds", desc := "(LLifeKeys$Question;)Z" } : Jvm.MethodName)) ∈ lw_all := lw_g (lw_at lw_m4 33 rfl) rfl
theorem q1888 : (Jvm.Cond.castable "LifeKeys$Not" "java/lang/Object") ∈ lw_tbl := lw_at lw_m8 126 rfl
theorem q1901 : (Jvm.Cond.castable "LifeKeys$Not" "LifeKeys$Test") ∈ lw_tbl := lw_at lw_m8 139 rfl
theorem in_X13 : ∀ w ∈ wsX130, w ∈ lw_all := lw_in wsX130 [732, 730] (by decide +kernel) (by decide +kernel)
/-! LifeKeys$Word -/
set_option maxRecDepth 100000
def RX14 : String := "LifeKeys$Word"
def TX14 : u_T := fun k => match k with
  | 0 => ("LifeKeys$Test", "next", "LLifeKeys$Test;", false)
  | 1 => ("LifeKeys$Word", "lette\x72", "I", true)
  | _ => ("LifeKeys$Word", "n", "I", true)
def tyX14 : Nat → FieldType := fun k => match k with
  | 0 => .object "LifeKeys$Test"
  | 1 => .int
  | _ => .int
abbrev wsX140 : List Cond := u_ws RX14 TX14 3
theorem nmX14 : ∀ a, a < 3 → ∀ b, b < 3 → a ≠ b → (TX14 a).2.1 ≠ (TX14 b).2.1 := by decide +kernel
theorem tyX14_ok : ∀ k, k < 3 → parseFieldDescriptor (TX14 k).2.2.1 = some (tyX14 k) := by decide +kernel
abbrev cX14_init : ByteArray := prog_19_method_1_code
def yX14_init : MethodName := ⟨RX14, "<init>", "(II)V"⟩
def dkwX14_init_0 : List UInt8 := [42, 183, 0, 1, 42, 27, 181, 0, 7, 42, 28, 181, 0, 13, 177]
abbrev dktX14_init_0 : List UInt8 := dkwX14_init_0 ++ []
theorem dksX14_init_0 : cX14_init.data.toList.drop 0 = dktX14_init_0 := by decide +kernel
theorem dX14_init_0 : decode cX14_init 0 = .ok (.aload_n 0, 1) := dk_42 (dk_at dksX14_init_0 0 rfl rfl)
theorem dX14_init_1 : decode cX14_init 1 = .ok (.invokespecial 1, 3) := dk_183 0 1 (dk_at dksX14_init_0 1 rfl rfl)
theorem dX14_init_4 : decode cX14_init 4 = .ok (.aload_n 0, 1) := dk_42 (dk_at dksX14_init_0 4 rfl rfl)
theorem dX14_init_5 : decode cX14_init 5 = .ok (.iload_n 1, 1) := dk_27 (dk_at dksX14_init_0 5 rfl rfl)
theorem dX14_init_6 : decode cX14_init 6 = .ok (.putfield 7, 3) := dk_181 0 7 (dk_at dksX14_init_0 6 rfl rfl)
theorem dX14_init_9 : decode cX14_init 9 = .ok (.aload_n 0, 1) := dk_42 (dk_at dksX14_init_0 9 rfl rfl)
theorem dX14_init_10 : decode cX14_init 10 = .ok (.iload_n 2, 1) := dk_28 (dk_at dksX14_init_0 10 rfl rfl)
theorem dX14_init_11 : decode cX14_init 11 = .ok (.putfield 13, 3) := dk_181 0 13 (dk_at dksX14_init_0 11 rfl rfl)
theorem dX14_init_14 : decode cX14_init 14 = .ok (.return_, 1) := dk_177 (dk_at dksX14_init_0 14 rfl rfl)
abbrev cX14_holds : ByteArray := prog_19_method_2_code
def yX14_holds : MethodName := ⟨RX14, "holds", "(LLifeKeys$Question;)Z"⟩
def dkwX14_holds_4 : List UInt8 := [180, 0, 13, 182, 0, 26, 172]
abbrev dktX14_holds_4 : List UInt8 := dkwX14_holds_4 ++ []
def dkwX14_holds_3 : List UInt8 := [182, 0, 16, 154, 0, 7, 4, 167, 0, 4, 3, 172, 43, 42, 180, 0, 13, 182, 0, 22, 172, 43, 42]
abbrev dktX14_holds_3 : List UInt8 := dkwX14_holds_3 ++ dktX14_holds_4
def dkwX14_holds_2 : List UInt8 := [43, 42, 180, 0, 13, 182, 0, 16, 4, 160, 0, 7, 4, 167, 0, 4, 3, 172, 43, 42, 180, 0, 13]
abbrev dktX14_holds_2 : List UInt8 := dkwX14_holds_2 ++ dktX14_holds_3
def dkwX14_holds_1 : List UInt8 := [171, 0, 0, 0, 0, 0, 0, 80, 0, 0, 0, 3, 0, 0, 0, 100, 0, 0, 0, 71, 0, 0, 0, 104, 0, 0, 0, 36, 0, 0, 0, 110, 0, 0, 0, 54]
abbrev dktX14_holds_1 : List UInt8 := dkwX14_holds_1 ++ dktX14_holds_2
def dkwX14_holds_0 : List UInt8 := [42, 180, 0, 7]
abbrev dktX14_holds_0 : List UInt8 := dkwX14_holds_0 ++ dktX14_holds_1
theorem dksX14_holds_0 : cX14_holds.data.toList.drop 0 = dktX14_holds_0 := by decide +kernel
theorem dksX14_holds_1 : cX14_holds.data.toList.drop 4 = dktX14_holds_1 := dk_seg dksX14_holds_0 4 rfl rfl
theorem dksX14_holds_2 : cX14_holds.data.toList.drop 40 = dktX14_holds_2 := dk_seg dksX14_holds_1 36 rfl rfl
theorem dksX14_holds_3 : cX14_holds.data.toList.drop 63 = dktX14_holds_3 := dk_seg dksX14_holds_2 23 rfl rfl
theorem dksX14_holds_4 : cX14_holds.data.toList.drop 86 = dktX14_holds_4 := dk_seg dksX14_holds_3 23 rfl rfl
theorem dX14_holds_0 : decode cX14_holds 0 = .ok (.aload_n 0, 1) := dk_42 (dk_at dksX14_holds_0 0 rfl rfl)
theorem dX14_holds_1 : decode cX14_holds 1 = .ok (.getfield 7, 3) := dk_180 0 7 (dk_at dksX14_holds_0 1 rfl rfl)
theorem dX14_holds_4 : decode cX14_holds 4 = .ok (.lookupswitch 80 #[(100, 71), (104, 36), (110, 54)], 36) := by decide +kernel
theorem dX14_holds_40 : decode cX14_holds 40 = .ok (.aload_n 1, 1) := dk_43 (dk_at dksX14_holds_2 0 rfl rfl)
theorem dX14_holds_41 : decode cX14_holds 41 = .ok (.aload_n 0, 1) := dk_42 (dk_at dksX14_holds_2 1 rfl rfl)
theorem dX14_holds_42 : decode cX14_holds 42 = .ok (.getfield 13, 3) := dk_180 0 13 (dk_at dksX14_holds_2 2 rfl rfl)
theorem dX14_holds_45 : decode cX14_holds 45 = .ok (.invokevirtual 16, 3) := dk_182 0 16 (dk_at dksX14_holds_2 5 rfl rfl)
theorem dX14_holds_48 : decode cX14_holds 48 = .ok (.iconst 1, 1) := dk_4 (dk_at dksX14_holds_2 8 rfl rfl)
theorem dX14_holds_49 : decode cX14_holds 49 = .ok (.if_icmp .ne 7, 3) := dk_160 0 7 (dk_at dksX14_holds_2 9 rfl rfl)
theorem dX14_holds_52 : decode cX14_holds 52 = .ok (.iconst 1, 1) := dk_4 (dk_at dksX14_holds_2 12 rfl rfl)
theorem dX14_holds_53 : decode cX14_holds 53 = .ok (.goto 4, 3) := dk_167 0 4 (dk_at dksX14_holds_2 13 rfl rfl)
theorem dX14_holds_56 : decode cX14_holds 56 = .ok (.iconst 0, 1) := dk_3 (dk_at dksX14_holds_2 16 rfl rfl)
theorem dX14_holds_57 : decode cX14_holds 57 = .ok (.ireturn, 1) := dk_172 (dk_at dksX14_holds_2 17 rfl rfl)
theorem dX14_holds_58 : decode cX14_holds 58 = .ok (.aload_n 1, 1) := dk_43 (dk_at dksX14_holds_2 18 rfl rfl)
theorem dX14_holds_59 : decode cX14_holds 59 = .ok (.aload_n 0, 1) := dk_42 (dk_at dksX14_holds_2 19 rfl rfl)
theorem dX14_holds_60 : decode cX14_holds 60 = .ok (.getfield 13, 3) := dk_180 0 13 (dk_at dksX14_holds_2 20 rfl rfl)
theorem dX14_holds_63 : decode cX14_holds 63 = .ok (.invokevirtual 16, 3) := dk_182 0 16 (dk_at dksX14_holds_3 0 rfl rfl)
theorem dX14_holds_66 : decode cX14_holds 66 = .ok (.ifCond .ne 7, 3) := dk_154 0 7 (dk_at dksX14_holds_3 3 rfl rfl)
theorem dX14_holds_69 : decode cX14_holds 69 = .ok (.iconst 1, 1) := dk_4 (dk_at dksX14_holds_3 6 rfl rfl)
theorem dX14_holds_70 : decode cX14_holds 70 = .ok (.goto 4, 3) := dk_167 0 4 (dk_at dksX14_holds_3 7 rfl rfl)
theorem dX14_holds_73 : decode cX14_holds 73 = .ok (.iconst 0, 1) := dk_3 (dk_at dksX14_holds_3 10 rfl rfl)
theorem dX14_holds_74 : decode cX14_holds 74 = .ok (.ireturn, 1) := dk_172 (dk_at dksX14_holds_3 11 rfl rfl)
theorem dX14_holds_75 : decode cX14_holds 75 = .ok (.aload_n 1, 1) := dk_43 (dk_at dksX14_holds_3 12 rfl rfl)
theorem dX14_holds_76 : decode cX14_holds 76 = .ok (.aload_n 0, 1) := dk_42 (dk_at dksX14_holds_3 13 rfl rfl)
theorem dX14_holds_77 : decode cX14_holds 77 = .ok (.getfield 13, 3) := dk_180 0 13 (dk_at dksX14_holds_3 14 rfl rfl)
theorem dX14_holds_80 : decode cX14_holds 80 = .ok (.invokevirtual 22, 3) := dk_182 0 22 (dk_at dksX14_holds_3 17 rfl rfl)
theorem dX14_holds_83 : decode cX14_holds 83 = .ok (.ireturn, 1) := dk_172 (dk_at dksX14_holds_3 20 rfl rfl)
theorem dX14_holds_84 : decode cX14_holds 84 = .ok (.aload_n 1, 1) := dk_43 (dk_at dksX14_holds_3 21 rfl rfl)
theorem dX14_holds_85 : decode cX14_holds 85 = .ok (.aload_n 0, 1) := dk_42 (dk_at dksX14_holds_3 22 rfl rfl)
theorem dX14_holds_86 : decode cX14_holds 86 = .ok (.getfield 13, 3) := dk_180 0 13 (dk_at dksX14_holds_4 0 rfl rfl)
theorem dX14_holds_89 : decode cX14_holds 89 = .ok (.invokevirtual 26, 3) := dk_182 0 26 (dk_at dksX14_holds_4 3 rfl rfl)
theorem dX14_holds_92 : decode cX14_holds 92 = .ok (.ireturn, 1) := dk_172 (dk_at dksX14_holds_4 6 rfl rfl)
theorem q102 : (Jvm.Cond.initialized "LifeKeys$Word") ∈ lw_all := lw_g (lw_at lw_m1 20 rfl) rfl
theorem q740 : (Jvm.Cond.instantiable "LifeKeys$Word" (3 : Nat)) ∈ lw_all := lw_g (lw_at lw_m3 178 rfl) rfl
theorem q749 : (Jvm.Cond.instanceMethod ({ cls := "LifeKeys$Word", name := "<init>", desc := "(II)V" } : Jvm.MethodName)) ∈ lw_all := lw_g (lw_at lw_m3 187 rfl) rfl
theorem q750 : (Jvm.Cond.code ({ cls := "LifeKeys$Word", name := "<init>", desc := "(II)V" } : Jvm.MethodName) prog_19_method_1_code (3 : Nat) (Option.none : Option Jvm.ClassFile.FieldType)) ∈ lw_all := lw_g (lw_at lw_m3 188 rfl) rfl
theorem q751 : (Jvm.Cond.methodLinkNest "LifeKeys$Word" (1 : Nat) ({ cls := "LifeKeys$Test", name := "<init>", desc := "()V" } : Jvm.MethodName) "LifeKeys") ∈ lw_tbl := lw_at lw_m3 189 rfl
theorem q752 : (Jvm.Cond.fieldLink "LifeKeys$Word" (7 : Nat) "LifeKeys$Word" "lette\x72" "I") ∈ lw_all := lw_g (lw_at lw_m3 190 rfl) rfl
theorem q753 : (Jvm.Cond.fieldLink "LifeKeys$Word" (13 : Nat) "LifeKeys$Word" "n" "I") ∈ lw_all := lw_g (lw_at lw_m3 191 rfl) rfl
theorem q754 : (Jvm.Cond.laysFinal "LifeKeys$Word" "LifeKeys$Word" "lette\x72" "I") ∈ lw_all := lw_g (lw_at lw_m3 192 rfl) rfl
theorem q755 : (Jvm.Cond.soleField "LifeKeys$Word" "lette\x72") ∈ lw_all := lw_g (lw_at lw_m3 193 rfl) rfl
theorem q756 : (Jvm.Cond.laysFinal "LifeKeys$Word" "LifeKeys$Word" "n" "I") ∈ lw_all := lw_g (lw_at lw_m3 194 rfl) rfl
theorem q757 : (Jvm.Cond.soleField "LifeKeys$Word" "n") ∈ lw_all := lw_g (lw_at lw_m3 195 rfl) rfl
theorem q758 : (Jvm.Cond.lays "LifeKeys$Word" "LifeKeys$Test" "next" "LLifeKeys$Test;") ∈ lw_all := lw_g (lw_at lw_m3 196 rfl) rfl
theorem q759 : (Jvm.Cond.superclass "LifeKeys$Word" "LifeKeys$Test") ∈ lw_all := lw_g (lw_at lw_m3 197 rfl) rfl
theorem q839 : (Jvm.Cond.instanceMethod ({ cls := "LifeKeys$Word", name := "holds", desc := "(LLifeKeys$Question;)Z" } : Jvm.MethodName)) ∈ lw_all := lw_g (lw_at lw_m4 37 rfl) rfl
theorem q840 : (Jvm.Cond.code ({ cls := "LifeKeys$Word", name := "holds", desc := "(LLifeKeys$Question;)Z" } : Jvm.MethodName) prog_19_method_2_code (2 : Nat) (Option.some Jvm.ClassFile.FieldType.boolean)) ∈ lw_all := lw_g (lw_at lw_m4 38 rfl) rfl
theorem q841 : (Jvm.Cond.methodLink "LifeKeys$Word" (16 : Nat) ({ cls := "LifeKeys$Question", name := "word", desc := "(I)I" } : Jvm.MethodName)) ∈ lw_all := lw_g (lw_at lw_m4 39 rfl) rfl
theorem q845 : (Jvm.Cond.methodLink "LifeKeys$Word" (22 : Nat) ({ cls := "LifeKeys$Question", name := "isDead", desc := "(I)Z" } : Jvm.MethodName)) ∈ lw_all := lw_g (lw_at lw_m4 43 rfl) rfl
theorem q850 : (Jvm.Cond.methodLink "LifeKeys$Word" (26 : Nat) ({ cls := "LifeKeys$Question", name := "waited", desc := "(I)Z" } : Jvm.MethodName)) ∈ lw_all := lw_g (lw_at lw_m4 48 rfl) rfl
theorem q855 : (Jvm.Cond.selects "LifeKeys$Word" ({ cls := "LifeKeys$Test", name := "holds", desc := "(LLifeKeys$Question;)Z" } : Jvm.MethodName) ({ cls := "LifeKeys$Word", name := "holds", desc := "(LLifeKeys$Question;)Z" } : Jvm.MethodName)) ∈ lw_all := lw_g (lw_at lw_m4 53 rfl) rfl
theorem q1889 : (Jvm.Cond.castable "LifeKeys$Word" "java/lang/Object") ∈ lw_tbl := lw_at lw_m8 127 rfl
theorem q1902 : (Jvm.Cond.castable "LifeKeys$Word" "LifeKeys$Test") ∈ lw_tbl := lw_at lw_m8 140 rfl
theorem in_X14 : ∀ w ∈ wsX140, w ∈ lw_all := lw_in wsX140 [758, 754, 756] (by decide +kernel) (by decide +kernel)
/-! LifeKeys$Several -/
set_option maxRecDepth 100000
def RX15 : String := "LifeKeys$Several"
def TX15 : u_T := fun k => match k with
  | 0 => ("LifeKeys$Test", "next", "LLifeKeys$Test;", false)
  | 1 => ("LifeKeys$Several", "need", "I", true)
  | 2 => ("LifeKeys$Several", "first", "LLifeKeys$Test;", false)
  | 3 => ("LifeKeys$Several", "last", "LLifeKeys$Test;", false)
  | _ => ("LifeKeys$Several", "many", "I", false)
def tyX15 : Nat → FieldType := fun k => match k with
  | 0 => .object "LifeKeys$Test"
  | 1 => .int
  | 2 => .object "LifeKeys$Test"
  | 3 => .object "LifeKeys$Test"
  | _ => .int
abbrev wsX150 : List Cond := u_ws RX15 TX15 5
theorem nmX15 : ∀ a, a < 5 → ∀ b, b < 5 → a ≠ b → (TX15 a).2.1 ≠ (TX15 b).2.1 := by decide +kernel
theorem tyX15_ok : ∀ k, k < 5 → parseFieldDescriptor (TX15 k).2.2.1 = some (tyX15 k) := by decide +kernel
abbrev cX15_init : ByteArray := prog_14_method_1_code
def yX15_init : MethodName := ⟨RX15, "<init>", "(I)V"⟩
def dkwX15_init_0 : List UInt8 := [42, 183, 0, 3, 42, 27, 181, 0, 9, 177]
abbrev dktX15_init_0 : List UInt8 := dkwX15_init_0 ++ []
theorem dksX15_init_0 : cX15_init.data.toList.drop 0 = dktX15_init_0 := by decide +kernel
theorem dX15_init_0 : decode cX15_init 0 = .ok (.aload_n 0, 1) := dk_42 (dk_at dksX15_init_0 0 rfl rfl)
theorem dX15_init_1 : decode cX15_init 1 = .ok (.invokespecial 3, 3) := dk_183 0 3 (dk_at dksX15_init_0 1 rfl rfl)
theorem dX15_init_4 : decode cX15_init 4 = .ok (.aload_n 0, 1) := dk_42 (dk_at dksX15_init_0 4 rfl rfl)
theorem dX15_init_5 : decode cX15_init 5 = .ok (.iload_n 1, 1) := dk_27 (dk_at dksX15_init_0 5 rfl rfl)
theorem dX15_init_6 : decode cX15_init 6 = .ok (.putfield 9, 3) := dk_181 0 9 (dk_at dksX15_init_0 6 rfl rfl)
theorem dX15_init_9 : decode cX15_init 9 = .ok (.return_, 1) := dk_177 (dk_at dksX15_init_0 9 rfl rfl)
abbrev cX15_add : ByteArray := prog_14_method_2_code
def yX15_add : MethodName := ⟨RX15, "add", "(LLifeKeys$Test;)V"⟩
def dkwX15_add_1 : List UInt8 := [43, 181, 0, 19, 42, 89, 180, 0, 25, 4, 96, 181, 0, 25, 177]
abbrev dktX15_add_1 : List UInt8 := dkwX15_add_1 ++ []
def dkwX15_add_0 : List UInt8 := [42, 180, 0, 15, 199, 0, 11, 42, 43, 181, 0, 15, 167, 0, 11, 42, 180, 0, 19, 43, 181, 0, 22, 42]
abbrev dktX15_add_0 : List UInt8 := dkwX15_add_0 ++ dktX15_add_1
theorem dksX15_add_0 : cX15_add.data.toList.drop 0 = dktX15_add_0 := by decide +kernel
theorem dksX15_add_1 : cX15_add.data.toList.drop 24 = dktX15_add_1 := dk_seg dksX15_add_0 24 rfl rfl
theorem dX15_add_0 : decode cX15_add 0 = .ok (.aload_n 0, 1) := dk_42 (dk_at dksX15_add_0 0 rfl rfl)
theorem dX15_add_1 : decode cX15_add 1 = .ok (.getfield 15, 3) := dk_180 0 15 (dk_at dksX15_add_0 1 rfl rfl)
theorem dX15_add_4 : decode cX15_add 4 = .ok (.ifnonnull 11, 3) := dk_199 0 11 (dk_at dksX15_add_0 4 rfl rfl)
theorem dX15_add_7 : decode cX15_add 7 = .ok (.aload_n 0, 1) := dk_42 (dk_at dksX15_add_0 7 rfl rfl)
theorem dX15_add_8 : decode cX15_add 8 = .ok (.aload_n 1, 1) := dk_43 (dk_at dksX15_add_0 8 rfl rfl)
theorem dX15_add_9 : decode cX15_add 9 = .ok (.putfield 15, 3) := dk_181 0 15 (dk_at dksX15_add_0 9 rfl rfl)
theorem dX15_add_12 : decode cX15_add 12 = .ok (.goto 11, 3) := dk_167 0 11 (dk_at dksX15_add_0 12 rfl rfl)
theorem dX15_add_15 : decode cX15_add 15 = .ok (.aload_n 0, 1) := dk_42 (dk_at dksX15_add_0 15 rfl rfl)
theorem dX15_add_16 : decode cX15_add 16 = .ok (.getfield 19, 3) := dk_180 0 19 (dk_at dksX15_add_0 16 rfl rfl)
theorem dX15_add_19 : decode cX15_add 19 = .ok (.aload_n 1, 1) := dk_43 (dk_at dksX15_add_0 19 rfl rfl)
theorem dX15_add_20 : decode cX15_add 20 = .ok (.putfield 22, 3) := dk_181 0 22 (dk_at dksX15_add_0 20 rfl rfl)
theorem dX15_add_23 : decode cX15_add 23 = .ok (.aload_n 0, 1) := dk_42 (dk_at dksX15_add_0 23 rfl rfl)
theorem dX15_add_24 : decode cX15_add 24 = .ok (.aload_n 1, 1) := dk_43 (dk_at dksX15_add_1 0 rfl rfl)
theorem dX15_add_25 : decode cX15_add 25 = .ok (.putfield 19, 3) := dk_181 0 19 (dk_at dksX15_add_1 1 rfl rfl)
theorem dX15_add_28 : decode cX15_add 28 = .ok (.aload_n 0, 1) := dk_42 (dk_at dksX15_add_1 4 rfl rfl)
theorem dX15_add_29 : decode cX15_add 29 = .ok (.dup, 1) := dk_89 (dk_at dksX15_add_1 5 rfl rfl)
theorem dX15_add_30 : decode cX15_add 30 = .ok (.getfield 25, 3) := dk_180 0 25 (dk_at dksX15_add_1 6 rfl rfl)
theorem dX15_add_33 : decode cX15_add 33 = .ok (.iconst 1, 1) := dk_4 (dk_at dksX15_add_1 9 rfl rfl)
theorem dX15_add_34 : decode cX15_add 34 = .ok (.iadd, 1) := dk_96 (dk_at dksX15_add_1 10 rfl rfl)
theorem dX15_add_35 : decode cX15_add 35 = .ok (.putfield 25, 3) := dk_181 0 25 (dk_at dksX15_add_1 11 rfl rfl)
theorem dX15_add_38 : decode cX15_add 38 = .ok (.return_, 1) := dk_177 (dk_at dksX15_add_1 14 rfl rfl)
abbrev cX15_holds : ByteArray := prog_14_method_3_code
def yX15_holds : MethodName := ⟨RX15, "holds", "(LLifeKeys$Question;)Z"⟩
def dkwX15_holds_2 : List UInt8 := [180, 0, 9, 161, 0, 7, 4, 167, 0, 4, 3, 172]
abbrev dktX15_holds_2 : List UInt8 := dkwX15_holds_2 ++ []
def dkwX15_holds_1 : List UInt8 := [180, 0, 22, 78, 167, 255, 236, 28, 42, 180, 0, 9, 2, 160, 0, 10, 42, 180, 0, 25, 167, 0, 7, 42]
abbrev dktX15_holds_1 : List UInt8 := dkwX15_holds_1 ++ dktX15_holds_2
def dkwX15_holds_0 : List UInt8 := [3, 61, 42, 180, 0, 15, 78, 45, 198, 0, 22, 45, 43, 182, 0, 28, 153, 0, 6, 132, 2, 1, 45]
abbrev dktX15_holds_0 : List UInt8 := dkwX15_holds_0 ++ dktX15_holds_1
theorem dksX15_holds_0 : cX15_holds.data.toList.drop 0 = dktX15_holds_0 := by decide +kernel
theorem dksX15_holds_1 : cX15_holds.data.toList.drop 23 = dktX15_holds_1 := dk_seg dksX15_holds_0 23 rfl rfl
theorem dksX15_holds_2 : cX15_holds.data.toList.drop 47 = dktX15_holds_2 := dk_seg dksX15_holds_1 24 rfl rfl
theorem dX15_holds_0 : decode cX15_holds 0 = .ok (.iconst 0, 1) := dk_3 (dk_at dksX15_holds_0 0 rfl rfl)
theorem dX15_holds_1 : decode cX15_holds 1 = .ok (.istore_n 2, 1) := dk_61 (dk_at dksX15_holds_0 1 rfl rfl)
theorem dX15_holds_2 : decode cX15_holds 2 = .ok (.aload_n 0, 1) := dk_42 (dk_at dksX15_holds_0 2 rfl rfl)
theorem dX15_holds_3 : decode cX15_holds 3 = .ok (.getfield 15, 3) := dk_180 0 15 (dk_at dksX15_holds_0 3 rfl rfl)
theorem dX15_holds_6 : decode cX15_holds 6 = .ok (.astore_n 3, 1) := dk_78 (dk_at dksX15_holds_0 6 rfl rfl)
theorem dX15_holds_7 : decode cX15_holds 7 = .ok (.aload_n 3, 1) := dk_45 (dk_at dksX15_holds_0 7 rfl rfl)
theorem dX15_holds_8 : decode cX15_holds 8 = .ok (.ifnull 22, 3) := dk_198 0 22 (dk_at dksX15_holds_0 8 rfl rfl)
theorem dX15_holds_11 : decode cX15_holds 11 = .ok (.aload_n 3, 1) := dk_45 (dk_at dksX15_holds_0 11 rfl rfl)
theorem dX15_holds_12 : decode cX15_holds 12 = .ok (.aload_n 1, 1) := dk_43 (dk_at dksX15_holds_0 12 rfl rfl)
theorem dX15_holds_13 : decode cX15_holds 13 = .ok (.invokevirtual 28, 3) := dk_182 0 28 (dk_at dksX15_holds_0 13 rfl rfl)
theorem dX15_holds_16 : decode cX15_holds 16 = .ok (.ifCond .eq 6, 3) := dk_153 0 6 (dk_at dksX15_holds_0 16 rfl rfl)
theorem dX15_holds_19 : decode cX15_holds 19 = .ok (.iinc 2 1, 3) := dk_132 2 1 (dk_at dksX15_holds_0 19 rfl rfl)
theorem dX15_holds_22 : decode cX15_holds 22 = .ok (.aload_n 3, 1) := dk_45 (dk_at dksX15_holds_0 22 rfl rfl)
theorem dX15_holds_23 : decode cX15_holds 23 = .ok (.getfield 22, 3) := dk_180 0 22 (dk_at dksX15_holds_1 0 rfl rfl)
theorem dX15_holds_26 : decode cX15_holds 26 = .ok (.astore_n 3, 1) := dk_78 (dk_at dksX15_holds_1 3 rfl rfl)
theorem dX15_holds_27 : decode cX15_holds 27 = .ok (.goto (-20), 3) := dk_167 255 236 (dk_at dksX15_holds_1 4 rfl rfl)
theorem dX15_holds_30 : decode cX15_holds 30 = .ok (.iload_n 2, 1) := dk_28 (dk_at dksX15_holds_1 7 rfl rfl)
theorem dX15_holds_31 : decode cX15_holds 31 = .ok (.aload_n 0, 1) := dk_42 (dk_at dksX15_holds_1 8 rfl rfl)
theorem dX15_holds_32 : decode cX15_holds 32 = .ok (.getfield 9, 3) := dk_180 0 9 (dk_at dksX15_holds_1 9 rfl rfl)
theorem dX15_holds_35 : decode cX15_holds 35 = .ok (.iconst (-1), 1) := dk_2 (dk_at dksX15_holds_1 12 rfl rfl)
theorem dX15_holds_36 : decode cX15_holds 36 = .ok (.if_icmp .ne 10, 3) := dk_160 0 10 (dk_at dksX15_holds_1 13 rfl rfl)
theorem dX15_holds_39 : decode cX15_holds 39 = .ok (.aload_n 0, 1) := dk_42 (dk_at dksX15_holds_1 16 rfl rfl)
theorem dX15_holds_40 : decode cX15_holds 40 = .ok (.getfield 25, 3) := dk_180 0 25 (dk_at dksX15_holds_1 17 rfl rfl)
theorem dX15_holds_43 : decode cX15_holds 43 = .ok (.goto 7, 3) := dk_167 0 7 (dk_at dksX15_holds_1 20 rfl rfl)
theorem dX15_holds_46 : decode cX15_holds 46 = .ok (.aload_n 0, 1) := dk_42 (dk_at dksX15_holds_1 23 rfl rfl)
theorem dX15_holds_47 : decode cX15_holds 47 = .ok (.getfield 9, 3) := dk_180 0 9 (dk_at dksX15_holds_2 0 rfl rfl)
theorem dX15_holds_50 : decode cX15_holds 50 = .ok (.if_icmp .lt 7, 3) := dk_161 0 7 (dk_at dksX15_holds_2 3 rfl rfl)
theorem dX15_holds_53 : decode cX15_holds 53 = .ok (.iconst 1, 1) := dk_4 (dk_at dksX15_holds_2 6 rfl rfl)
theorem dX15_holds_54 : decode cX15_holds 54 = .ok (.goto 4, 3) := dk_167 0 4 (dk_at dksX15_holds_2 7 rfl rfl)
theorem dX15_holds_57 : decode cX15_holds 57 = .ok (.iconst 0, 1) := dk_3 (dk_at dksX15_holds_2 10 rfl rfl)
theorem dX15_holds_58 : decode cX15_holds 58 = .ok (.ireturn, 1) := dk_172 (dk_at dksX15_holds_2 11 rfl rfl)
theorem q103 : (Jvm.Cond.initialized "LifeKeys$Several") ∈ lw_all := lw_g (lw_at lw_m1 21 rfl) rfl
theorem q729 : (Jvm.Cond.fieldLinkNest "LifeKeys$Several" (22 : Nat) "LifeKeys$Test" "next" "LLifeKeys$Test;" "LifeKeys") ∈ lw_tbl := lw_at lw_m3 167 rfl
theorem q761 : (Jvm.Cond.instantiable "LifeKeys$Several" (5 : Nat)) ∈ lw_all := lw_g (lw_at lw_m3 199 rfl) rfl
theorem q763 : (Jvm.Cond.instanceMethod ({ cls := "LifeKeys$Several", name := "<init>", desc := "(I)V" } : Jvm.MethodName)) ∈ lw_all := lw_g (lw_at lw_m3 201 rfl) rfl
theorem q764 : (Jvm.Cond.code ({ cls := "LifeKeys$Several", name := "<init>", desc := "(I)V" } : Jvm.MethodName) prog_14_method_1_code (2 : Nat) (Option.none : Option Jvm.ClassFile.FieldType)) ∈ lw_all := lw_g (lw_at lw_m3 202 rfl) rfl
theorem q765 : (Jvm.Cond.methodLinkNest "LifeKeys$Several" (3 : Nat) ({ cls := "LifeKeys$Test", name := "<init>", desc := "()V" } : Jvm.MethodName) "LifeKeys") ∈ lw_tbl := lw_at lw_m3 203 rfl
theorem q766 : (Jvm.Cond.fieldLink "LifeKeys$Several" (9 : Nat) "LifeKeys$Several" "need" "I") ∈ lw_all := lw_g (lw_at lw_m3 204 rfl) rfl
theorem q767 : (Jvm.Cond.fieldLink "LifeKeys$Several" (15 : Nat) "LifeKeys$Several" "first" "LLifeKeys$Test;") ∈ lw_all := lw_g (lw_at lw_m3 205 rfl) rfl
theorem q768 : (Jvm.Cond.fieldLink "LifeKeys$Several" (19 : Nat) "LifeKeys$Several" "last" "LLifeKeys$Test;") ∈ lw_all := lw_g (lw_at lw_m3 206 rfl) rfl
theorem q769 : (Jvm.Cond.fieldLink "LifeKeys$Several" (25 : Nat) "LifeKeys$Several" "many" "I") ∈ lw_all := lw_g (lw_at lw_m3 207 rfl) rfl
theorem q770 : (Jvm.Cond.laysFinal "LifeKeys$Several" "LifeKeys$Several" "need" "I") ∈ lw_all := lw_g (lw_at lw_m3 208 rfl) rfl
theorem q771 : (Jvm.Cond.soleField "LifeKeys$Several" "need") ∈ lw_all := lw_g (lw_at lw_m3 209 rfl) rfl
theorem q772 : (Jvm.Cond.lays "LifeKeys$Several" "LifeKeys$Several" "first" "LLifeKeys$Test;") ∈ lw_all := lw_g (lw_at lw_m3 210 rfl) rfl
theorem q773 : (Jvm.Cond.soleField "LifeKeys$Several" "first") ∈ lw_all := lw_g (lw_at lw_m3 211 rfl) rfl
theorem q774 : (Jvm.Cond.lays "LifeKeys$Several" "LifeKeys$Several" "last" "LLifeKeys$Test;") ∈ lw_all := lw_g (lw_at lw_m3 212 rfl) rfl
theorem q775 : (Jvm.Cond.soleField "LifeKeys$Several" "last") ∈ lw_all := lw_g (lw_at lw_m3 213 rfl) rfl
theorem q776 : (Jvm.Cond.lays "LifeKeys$Several" "LifeKeys$Several" "many" "I") ∈ lw_all := lw_g (lw_at lw_m3 214 rfl) rfl
theorem q777 : (Jvm.Cond.soleField "LifeKeys$Several" "many") ∈ lw_all := lw_g (lw_at lw_m3 215 rfl) rfl
theorem q778 : (Jvm.Cond.lays "LifeKeys$Several" "LifeKeys$Test" "next" "LLifeKeys$Test;") ∈ lw_all := lw_g (lw_at lw_m3 216 rfl) rfl
theorem q779 : (Jvm.Cond.superclass "LifeKeys$Several" "LifeKeys$Test") ∈ lw_all := lw_g (lw_at lw_m3 217 rfl) rfl
theorem q781 : (Jvm.Cond.instanceMethod ({ cls := "LifeKeys$Several", name := "add", desc := "(LLifeKeys$Test;)V" } : Jvm.MethodName)) ∈ lw_all := lw_g (lw_at lw_m3 219 rfl) rfl
theorem q782 : (Jvm.Cond.selects "LifeKeys$Several" ({ cls := "LifeKeys$Several", name := "add", desc := "(LLifeKeys$Test;)V" } : Jvm.MethodName) ({ cls := "LifeKeys$Several", name := "add", desc := "(LLifeKeys$Test;)V" } : Jvm.MethodName)) ∈ lw_all := lw_g (lw_at lw_m3 220 rfl) rfl
theorem q783 : (Jvm.Cond.code ({ cls := "LifeKeys$Several", name := "add", desc := "(LLifeKeys$Test;)V" } : Jvm.MethodName) prog_14_method_2_code (2 : Nat) (Option.none : Option Jvm.ClassFile.FieldType)) ∈ lw_all := lw_g (lw_at lw_m3 221 rfl) rfl
theorem q836 : (Jvm.Cond.instanceMethod ({ cls := "LifeKeys$Several", name := "holds", desc := "(LLifeKeys$Question;)Z" } : Jvm.MethodName)) ∈ lw_all := lw_g (lw_at lw_m4 34 rfl) rfl
theorem q837 : (Jvm.Cond.code ({ cls := "LifeKeys$Several", name := "holds", desc := "(LLifeKeys$Question;)Z" } : Jvm.MethodName) prog_14_method_3_code (4 : Nat) (Option.some Jvm.ClassFile.FieldType.boolean)) ∈ lw_all := lw_g (lw_at lw_m4 35 rfl) rfl
theorem q838 : (Jvm.Cond.methodLink "LifeKeys$Several" (28 : Nat) ({ cls := "LifeKeys$Test", name := "holds", desc := "(LLifeKeys$Question;)Z" } : Jvm.MethodName)) ∈ lw_all := lw_g (lw_at lw_m4 36 rfl) rfl
theorem q854 : (Jvm.Cond.selects "LifeKeys$Several" ({ cls := "LifeKeys$Test", name := "holds", desc := "(LLifeKeys$Question;)Z" } : Jvm.MethodName) ({ cls := "LifeKeys$Several", name := "holds", desc := "(LLifeKeys$Question;)Z" } : Jvm.MethodName)) ∈ lw_all := lw_g (lw_at lw_m4 52 rfl) rfl
theorem q1890 : (Jvm.Cond.castable "LifeKeys$Several" "java/lang/Object") ∈ lw_tbl := lw_at lw_m8 128 rfl
theorem q1903 : (Jvm.Cond.castable "LifeKeys$Several" "LifeKeys$Test") ∈ lw_tbl := lw_at lw_m8 141 rfl
theorem in_X15 : ∀ w ∈ wsX150, w ∈ lw_all := lw_in wsX150 [778, 770, 772, 774, 776] (by decide +kernel) (by decide +kernel)
/-! LifeKeys$Thing -/
set_option maxRecDepth 100000
def RX16 : String := "LifeKeys$Thing"
def TX16 : u_T := fun k => match k with
  | 0 => ("LifeKeys$Thing", "digest", "I", true)
  | 1 => ("LifeKeys$Thing", "key", "I", true)
  | 2 => ("LifeKeys$Thing", "rule", "I", true)
  | 3 => ("LifeKeys$Thing", "born", "I", true)
  | 4 => ("LifeKeys$Thing", "last", "LLifeKeys$Saying;", false)
  | 5 => ("LifeKeys$Thing", "asked", "I", false)
  | _ => ("LifeKeys$Thing", "opened", "I", false)
def tyX16 : Nat → FieldType := fun k => match k with
  | 0 => .int
  | 1 => .int
  | 2 => .int
  | 3 => .int
  | 4 => .object "LifeKeys$Saying"
  | 5 => .int
  | _ => .int
abbrev wsX160 : List Cond := u_ws RX16 TX16 7
theorem nmX16 : ∀ a, a < 7 → ∀ b, b < 7 → a ≠ b → (TX16 a).2.1 ≠ (TX16 b).2.1 := by decide +kernel
theorem tyX16_ok : ∀ k, k < 7 → parseFieldDescriptor (TX16 k).2.2.1 = some (tyX16 k) := by decide +kernel
abbrev cX16_init : ByteArray := prog_17_method_1_code
def yX16_init : MethodName := ⟨RX16, "<init>", "(IIII)V"⟩
def dkwX16_init_1 : List UInt8 := [42, 29, 181, 0, 24, 42, 21, 4, 181, 0, 27, 177]
abbrev dktX16_init_1 : List UInt8 := dkwX16_init_1 ++ []
def dkwX16_init_0 : List UInt8 := [42, 183, 0, 3, 42, 2, 181, 0, 9, 42, 2, 181, 0, 15, 42, 27, 181, 0, 18, 42, 28, 181, 0, 21]
abbrev dktX16_init_0 : List UInt8 := dkwX16_init_0 ++ dktX16_init_1
theorem dksX16_init_0 : cX16_init.data.toList.drop 0 = dktX16_init_0 := by decide +kernel
theorem dksX16_init_1 : cX16_init.data.toList.drop 24 = dktX16_init_1 := dk_seg dksX16_init_0 24 rfl rfl
theorem dX16_init_0 : decode cX16_init 0 = .ok (.aload_n 0, 1) := dk_42 (dk_at dksX16_init_0 0 rfl rfl)
theorem dX16_init_1 : decode cX16_init 1 = .ok (.invokespecial 3, 3) := dk_183 0 3 (dk_at dksX16_init_0 1 rfl rfl)
theorem dX16_init_4 : decode cX16_init 4 = .ok (.aload_n 0, 1) := dk_42 (dk_at dksX16_init_0 4 rfl rfl)
theorem dX16_init_5 : decode cX16_init 5 = .ok (.iconst (-1), 1) := dk_2 (dk_at dksX16_init_0 5 rfl rfl)
theorem dX16_init_6 : decode cX16_init 6 = .ok (.putfield 9, 3) := dk_181 0 9 (dk_at dksX16_init_0 6 rfl rfl)
theorem dX16_init_9 : decode cX16_init 9 = .ok (.aload_n 0, 1) := dk_42 (dk_at dksX16_init_0 9 rfl rfl)
theorem dX16_init_10 : decode cX16_init 10 = .ok (.iconst (-1), 1) := dk_2 (dk_at dksX16_init_0 10 rfl rfl)
theorem dX16_init_11 : decode cX16_init 11 = .ok (.putfield 15, 3) := dk_181 0 15 (dk_at dksX16_init_0 11 rfl rfl)
theorem dX16_init_14 : decode cX16_init 14 = .ok (.aload_n 0, 1) := dk_42 (dk_at dksX16_init_0 14 rfl rfl)
theorem dX16_init_15 : decode cX16_init 15 = .ok (.iload_n 1, 1) := dk_27 (dk_at dksX16_init_0 15 rfl rfl)
theorem dX16_init_16 : decode cX16_init 16 = .ok (.putfield 18, 3) := dk_181 0 18 (dk_at dksX16_init_0 16 rfl rfl)
theorem dX16_init_19 : decode cX16_init 19 = .ok (.aload_n 0, 1) := dk_42 (dk_at dksX16_init_0 19 rfl rfl)
theorem dX16_init_20 : decode cX16_init 20 = .ok (.iload_n 2, 1) := dk_28 (dk_at dksX16_init_0 20 rfl rfl)
theorem dX16_init_21 : decode cX16_init 21 = .ok (.putfield 21, 3) := dk_181 0 21 (dk_at dksX16_init_0 21 rfl rfl)
theorem dX16_init_24 : decode cX16_init 24 = .ok (.aload_n 0, 1) := dk_42 (dk_at dksX16_init_1 0 rfl rfl)
theorem dX16_init_25 : decode cX16_init 25 = .ok (.iload_n 3, 1) := dk_29 (dk_at dksX16_init_1 1 rfl rfl)
theorem dX16_init_26 : decode cX16_init 26 = .ok (.putfield 24, 3) := dk_181 0 24 (dk_at dksX16_init_1 2 rfl rfl)
theorem dX16_init_29 : decode cX16_init 29 = .ok (.aload_n 0, 1) := dk_42 (dk_at dksX16_init_1 5 rfl rfl)
theorem dX16_init_30 : decode cX16_init 30 = .ok (.iload 4, 2) := dk_21 4 (dk_at dksX16_init_1 6 rfl rfl)
theorem dX16_init_32 : decode cX16_init 32 = .ok (.putfield 27, 3) := dk_181 0 27 (dk_at dksX16_init_1 8 rfl rfl)
theorem dX16_init_35 : decode cX16_init 35 = .ok (.return_, 1) := dk_177 (dk_at dksX16_init_1 11 rfl rfl)
theorem q104 : (Jvm.Cond.initialized "LifeKeys$Thing") ∈ lw_all := lw_g (lw_at lw_m1 22 rfl) rfl
theorem q886 : (Jvm.Cond.instantiable "LifeKeys$Thing" (7 : Nat)) ∈ lw_all := lw_g (lw_at lw_m4 84 rfl) rfl
theorem q888 : (Jvm.Cond.instanceMethod ({ cls := "LifeKeys$Thing", name := "<init>", desc := "(IIII)V" } : Jvm.MethodName)) ∈ lw_all := lw_g (lw_at lw_m4 86 rfl) rfl
theorem q889 : (Jvm.Cond.code ({ cls := "LifeKeys$Thing", name := "<init>", desc := "(IIII)V" } : Jvm.MethodName) prog_17_method_1_code (5 : Nat) (Option.none : Option Jvm.ClassFile.FieldType)) ∈ lw_all := lw_g (lw_at lw_m4 87 rfl) rfl
theorem q890 : (Jvm.Cond.methodLink "LifeKeys$Thing" (3 : Nat) ({ cls := "java/lang/Object", name := "<init>", desc := "()V" } : Jvm.MethodName)) ∈ lw_all := lw_g (lw_at lw_m4 88 rfl) rfl
theorem q891 : (Jvm.Cond.fieldLink "LifeKeys$Thing" (18 : Nat) "LifeKeys$Thing" "digest" "I") ∈ lw_all := lw_g (lw_at lw_m4 89 rfl) rfl
theorem q893 : (Jvm.Cond.fieldLink "LifeKeys$Thing" (21 : Nat) "LifeKeys$Thing" "key" "I") ∈ lw_all := lw_g (lw_at lw_m4 91 rfl) rfl
theorem q894 : (Jvm.Cond.fieldLink "LifeKeys$Thing" (24 : Nat) "LifeKeys$Thing" "rule" "I") ∈ lw_all := lw_g (lw_at lw_m4 92 rfl) rfl
theorem q896 : (Jvm.Cond.fieldLink "LifeKeys$Thing" (27 : Nat) "LifeKeys$Thing" "born" "I") ∈ lw_all := lw_g (lw_at lw_m4 94 rfl) rfl
theorem q898 : (Jvm.Cond.fieldLink "LifeKeys$Thing" (9 : Nat) "LifeKeys$Thing" "asked" "I") ∈ lw_all := lw_g (lw_at lw_m4 96 rfl) rfl
theorem q900 : (Jvm.Cond.fieldLink "LifeKeys$Thing" (15 : Nat) "LifeKeys$Thing" "opened" "I") ∈ lw_all := lw_g (lw_at lw_m4 98 rfl) rfl
theorem q902 : (Jvm.Cond.laysFinal "LifeKeys$Thing" "LifeKeys$Thing" "digest" "I") ∈ lw_all := lw_g (lw_at lw_m4 100 rfl) rfl
theorem q903 : (Jvm.Cond.soleField "LifeKeys$Thing" "digest") ∈ lw_all := lw_g (lw_at lw_m4 101 rfl) rfl
theorem q904 : (Jvm.Cond.laysFinal "LifeKeys$Thing" "LifeKeys$Thing" "key" "I") ∈ lw_all := lw_g (lw_at lw_m4 102 rfl) rfl
theorem q905 : (Jvm.Cond.soleField "LifeKeys$Thing" "key") ∈ lw_all := lw_g (lw_at lw_m4 103 rfl) rfl
theorem q906 : (Jvm.Cond.laysFinal "LifeKeys$Thing" "LifeKeys$Thing" "rule" "I") ∈ lw_all := lw_g (lw_at lw_m4 104 rfl) rfl
theorem q907 : (Jvm.Cond.soleField "LifeKeys$Thing" "rule") ∈ lw_all := lw_g (lw_at lw_m4 105 rfl) rfl
theorem q908 : (Jvm.Cond.laysFinal "LifeKeys$Thing" "LifeKeys$Thing" "born" "I") ∈ lw_all := lw_g (lw_at lw_m4 106 rfl) rfl
theorem q909 : (Jvm.Cond.soleField "LifeKeys$Thing" "born") ∈ lw_all := lw_g (lw_at lw_m4 107 rfl) rfl
theorem q910 : (Jvm.Cond.lays "LifeKeys$Thing" "LifeKeys$Thing" "last" "LLifeKeys$Saying;") ∈ lw_all := lw_g (lw_at lw_m4 108 rfl) rfl
theorem q911 : (Jvm.Cond.soleField "LifeKeys$Thing" "last") ∈ lw_all := lw_g (lw_at lw_m4 109 rfl) rfl
theorem q912 : (Jvm.Cond.lays "LifeKeys$Thing" "LifeKeys$Thing" "asked" "I") ∈ lw_all := lw_g (lw_at lw_m4 110 rfl) rfl
theorem q913 : (Jvm.Cond.soleField "LifeKeys$Thing" "asked") ∈ lw_all := lw_g (lw_at lw_m4 111 rfl) rfl
theorem q914 : (Jvm.Cond.lays "LifeKeys$Thing" "LifeKeys$Thing" "opened" "I") ∈ lw_all := lw_g (lw_at lw_m4 112 rfl) rfl
theorem q915 : (Jvm.Cond.soleField "LifeKeys$Thing" "opened") ∈ lw_all := lw_g (lw_at lw_m4 113 rfl) rfl
theorem q916 : (Jvm.Cond.superclass "LifeKeys$Thing" "java/lang/Object") ∈ lw_all := lw_g (lw_at lw_m4 114 rfl) rfl
theorem q1891 : (Jvm.Cond.castable "LifeKeys$Thing" "java/lang/Object") ∈ lw_tbl := lw_at lw_m8 129 rfl
theorem in_X16 : ∀ w ∈ wsX160, w ∈ lw_all := lw_in wsX160 [902, 904, 906, 908, 910, 912, 914] (by decide +kernel) (by decide +kernel)
/-! LifeKeys$Saying -/
set_option maxRecDepth 100000
def RX17 : String := "LifeKeys$Saying"
def TX17 : u_T := fun k => match k with
  | 0 => ("LifeKeys$Saying", "holde\x72", "I", true)
  | 1 => ("LifeKeys$Saying", "told", "I", true)
  | 2 => ("LifeKeys$Saying", "yes", "Z", true)
  | _ => ("LifeKeys$Saying", "before", "LLifeKeys$Saying;", true)
def tyX17 : Nat → FieldType := fun k => match k with
  | 0 => .int
  | 1 => .int
  | 2 => .boolean
  | _ => .object "LifeKeys$Saying"
abbrev wsX170 : List Cond := u_ws RX17 TX17 4
theorem nmX17 : ∀ a, a < 4 → ∀ b, b < 4 → a ≠ b → (TX17 a).2.1 ≠ (TX17 b).2.1 := by decide +kernel
theorem tyX17_ok : ∀ k, k < 4 → parseFieldDescriptor (TX17 k).2.2.1 = some (tyX17 k) := by decide +kernel
abbrev cX17_init : ByteArray := prog_13_method_1_code
def yX17_init : MethodName := ⟨RX17, "<init>", "(IIZLLifeKeys$Saying;)V"⟩
def dkwX17_init_1 : List UInt8 := [181, 0, 20, 177]
abbrev dktX17_init_1 : List UInt8 := dkwX17_init_1 ++ []
def dkwX17_init_0 : List UInt8 := [42, 183, 0, 1, 42, 27, 181, 0, 7, 42, 28, 181, 0, 13, 42, 29, 181, 0, 16, 42, 25, 4]
abbrev dktX17_init_0 : List UInt8 := dkwX17_init_0 ++ dktX17_init_1
theorem dksX17_init_0 : cX17_init.data.toList.drop 0 = dktX17_init_0 := by decide +kernel
theorem dksX17_init_1 : cX17_init.data.toList.drop 22 = dktX17_init_1 := dk_seg dksX17_init_0 22 rfl rfl
theorem dX17_init_0 : decode cX17_init 0 = .ok (.aload_n 0, 1) := dk_42 (dk_at dksX17_init_0 0 rfl rfl)
theorem dX17_init_1 : decode cX17_init 1 = .ok (.invokespecial 1, 3) := dk_183 0 1 (dk_at dksX17_init_0 1 rfl rfl)
theorem dX17_init_4 : decode cX17_init 4 = .ok (.aload_n 0, 1) := dk_42 (dk_at dksX17_init_0 4 rfl rfl)
theorem dX17_init_5 : decode cX17_init 5 = .ok (.iload_n 1, 1) := dk_27 (dk_at dksX17_init_0 5 rfl rfl)
theorem dX17_init_6 : decode cX17_init 6 = .ok (.putfield 7, 3) := dk_181 0 7 (dk_at dksX17_init_0 6 rfl rfl)
theorem dX17_init_9 : decode cX17_init 9 = .ok (.aload_n 0, 1) := dk_42 (dk_at dksX17_init_0 9 rfl rfl)
theorem dX17_init_10 : decode cX17_init 10 = .ok (.iload_n 2, 1) := dk_28 (dk_at dksX17_init_0 10 rfl rfl)
theorem dX17_init_11 : decode cX17_init 11 = .ok (.putfield 13, 3) := dk_181 0 13 (dk_at dksX17_init_0 11 rfl rfl)
theorem dX17_init_14 : decode cX17_init 14 = .ok (.aload_n 0, 1) := dk_42 (dk_at dksX17_init_0 14 rfl rfl)
theorem dX17_init_15 : decode cX17_init 15 = .ok (.iload_n 3, 1) := dk_29 (dk_at dksX17_init_0 15 rfl rfl)
theorem dX17_init_16 : decode cX17_init 16 = .ok (.putfield 16, 3) := dk_181 0 16 (dk_at dksX17_init_0 16 rfl rfl)
theorem dX17_init_19 : decode cX17_init 19 = .ok (.aload_n 0, 1) := dk_42 (dk_at dksX17_init_0 19 rfl rfl)
theorem dX17_init_20 : decode cX17_init 20 = .ok (.aload 4, 2) := dk_25 4 (dk_at dksX17_init_0 20 rfl rfl)
theorem dX17_init_22 : decode cX17_init 22 = .ok (.putfield 20, 3) := dk_181 0 20 (dk_at dksX17_init_1 0 rfl rfl)
theorem dX17_init_25 : decode cX17_init 25 = .ok (.return_, 1) := dk_177 (dk_at dksX17_init_1 3 rfl rfl)
theorem q105 : (Jvm.Cond.initialized "LifeKeys$Saying") ∈ lw_all := lw_g (lw_at lw_m1 23 rfl) rfl
theorem q860 : (Jvm.Cond.instantiable "LifeKeys$Saying" (4 : Nat)) ∈ lw_all := lw_g (lw_at lw_m4 58 rfl) rfl
theorem q862 : (Jvm.Cond.instanceMethod ({ cls := "LifeKeys$Saying", name := "<init>", desc := "(IIZLLifeKeys$Saying;)V" } : Jvm.MethodName)) ∈ lw_all := lw_g (lw_at lw_m4 60 rfl) rfl
theorem q863 : (Jvm.Cond.code ({ cls := "LifeKeys$Saying", name := "<init>", desc := "(IIZLLifeKeys$Saying;)V" } : Jvm.MethodName) prog_13_method_1_code (5 : Nat) (Option.none : Option Jvm.ClassFile.FieldType)) ∈ lw_all := lw_g (lw_at lw_m4 61 rfl) rfl
theorem q864 : (Jvm.Cond.methodLink "LifeKeys$Saying" (1 : Nat) ({ cls := "java/lang/Object", name := "<init>", desc := "()V" } : Jvm.MethodName)) ∈ lw_all := lw_g (lw_at lw_m4 62 rfl) rfl
theorem q865 : (Jvm.Cond.fieldLink "LifeKeys$Saying" (7 : Nat) "LifeKeys$Saying" "holde\x72" "I") ∈ lw_all := lw_g (lw_at lw_m4 63 rfl) rfl
theorem q867 : (Jvm.Cond.fieldLink "LifeKeys$Saying" (13 : Nat) "LifeKeys$Saying" "told" "I") ∈ lw_all := lw_g (lw_at lw_m4 65 rfl) rfl
theorem q869 : (Jvm.Cond.fieldLink "LifeKeys$Saying" (16 : Nat) "LifeKeys$Saying" "yes" "Z") ∈ lw_all := lw_g (lw_at lw_m4 67 rfl) rfl
theorem q871 : (Jvm.Cond.fieldLink "LifeKeys$Saying" (20 : Nat) "LifeKeys$Saying" "before" "LLifeKeys$Saying;") ∈ lw_all := lw_g (lw_at lw_m4 69 rfl) rfl
theorem q873 : (Jvm.Cond.laysFinal "LifeKeys$Saying" "LifeKeys$Saying" "holde\x72" "I") ∈ lw_all := lw_g (lw_at lw_m4 71 rfl) rfl
theorem q874 : (Jvm.Cond.soleField "LifeKeys$Saying" "holde\x72") ∈ lw_all := lw_g (lw_at lw_m4 72 rfl) rfl
theorem q875 : (Jvm.Cond.laysFinal "LifeKeys$Saying" "LifeKeys$Saying" "told" "I") ∈ lw_all := lw_g (lw_at lw_m4 73 rfl) rfl
theorem q876 : (Jvm.Cond.soleField "LifeKeys$Saying" "told") ∈ lw_all := lw_g (lw_at lw_m4 74 rfl) rfl
theorem q877 : (Jvm.Cond.laysFinal "LifeKeys$Saying" "LifeKeys$Saying" "yes" "Z") ∈ lw_all := lw_g (lw_at lw_m4 75 rfl) rfl
theorem q878 : (Jvm.Cond.soleField "LifeKeys$Saying" "yes") ∈ lw_all := lw_g (lw_at lw_m4 76 rfl) rfl
theorem q879 : (Jvm.Cond.laysFinal "LifeKeys$Saying" "LifeKeys$Saying" "before" "LLifeKeys$Saying;") ∈ lw_all := lw_g (lw_at lw_m4 77 rfl) rfl
theorem q880 : (Jvm.Cond.soleField "LifeKeys$Saying" "before") ∈ lw_all := lw_g (lw_at lw_m4 78 rfl) rfl
theorem q881 : (Jvm.Cond.superclass "LifeKeys$Saying" "java/lang/Object") ∈ lw_all := lw_g (lw_at lw_m4 79 rfl) rfl
theorem q1892 : (Jvm.Cond.castable "LifeKeys$Saying" "java/lang/Object") ∈ lw_tbl := lw_at lw_m8 130 rfl
theorem in_X17 : ∀ w ∈ wsX170, w ∈ lw_all := lw_in wsX170 [873, 875, 877, 879] (by decide +kernel) (by decide +kernel)
/-! LifeKeys$Question -/
set_option maxRecDepth 100000
def RX18 : String := "LifeKeys$Question"
def TX18 : u_T := fun k => match k with
  | 0 => ("LifeKeys$Question", "last", "LLifeKeys$Saying;", true)
  | 1 => ("LifeKeys$Question", "asked", "I", true)
  | 2 => ("LifeKeys$Question", "day", "I", true)
  | 3 => ("LifeKeys$Question", "q", "I", true)
  | 4 => ("LifeKeys$Question", "isDeath", "Z", true)
  | _ => ("LifeKeys$Question", "of", "LLifeKeys;", true)
def tyX18 : Nat → FieldType := fun k => match k with
  | 0 => .object "LifeKeys$Saying"
  | 1 => .int
  | 2 => .int
  | 3 => .int
  | 4 => .boolean
  | _ => .object "LifeKeys"
abbrev wsX180 : List Cond := u_ws RX18 TX18 6
theorem nmX18 : ∀ a, a < 6 → ∀ b, b < 6 → a ≠ b → (TX18 a).2.1 ≠ (TX18 b).2.1 := by decide +kernel
theorem tyX18_ok : ∀ k, k < 6 → parseFieldDescriptor (TX18 k).2.2.1 = some (tyX18 k) := by decide +kernel
abbrev cX18_init : ByteArray := prog_11_method_1_code
def yX18_init : MethodName := ⟨RX18, "<init>", "(LLifeKeys;LLifeKeys$Saying;IIIZ)V"⟩
def dkwX18_init_1 : List UInt8 := [181, 0, 23, 42, 21, 5, 181, 0, 26, 42, 21, 6, 181, 0, 29, 177]
abbrev dktX18_init_1 : List UInt8 := dkwX18_init_1 ++ []
def dkwX18_init_0 : List UInt8 := [42, 183, 0, 3, 42, 43, 181, 0, 9, 42, 44, 181, 0, 15, 42, 29, 181, 0, 19, 42, 21, 4]
abbrev dktX18_init_0 : List UInt8 := dkwX18_init_0 ++ dktX18_init_1
theorem dksX18_init_0 : cX18_init.data.toList.drop 0 = dktX18_init_0 := by decide +kernel
theorem dksX18_init_1 : cX18_init.data.toList.drop 22 = dktX18_init_1 := dk_seg dksX18_init_0 22 rfl rfl
theorem dX18_init_0 : decode cX18_init 0 = .ok (.aload_n 0, 1) := dk_42 (dk_at dksX18_init_0 0 rfl rfl)
theorem dX18_init_1 : decode cX18_init 1 = .ok (.invokespecial 3, 3) := dk_183 0 3 (dk_at dksX18_init_0 1 rfl rfl)
theorem dX18_init_4 : decode cX18_init 4 = .ok (.aload_n 0, 1) := dk_42 (dk_at dksX18_init_0 4 rfl rfl)
theorem dX18_init_5 : decode cX18_init 5 = .ok (.aload_n 1, 1) := dk_43 (dk_at dksX18_init_0 5 rfl rfl)
theorem dX18_init_6 : decode cX18_init 6 = .ok (.putfield 9, 3) := dk_181 0 9 (dk_at dksX18_init_0 6 rfl rfl)
theorem dX18_init_9 : decode cX18_init 9 = .ok (.aload_n 0, 1) := dk_42 (dk_at dksX18_init_0 9 rfl rfl)
theorem dX18_init_10 : decode cX18_init 10 = .ok (.aload_n 2, 1) := dk_44 (dk_at dksX18_init_0 10 rfl rfl)
theorem dX18_init_11 : decode cX18_init 11 = .ok (.putfield 15, 3) := dk_181 0 15 (dk_at dksX18_init_0 11 rfl rfl)
theorem dX18_init_14 : decode cX18_init 14 = .ok (.aload_n 0, 1) := dk_42 (dk_at dksX18_init_0 14 rfl rfl)
theorem dX18_init_15 : decode cX18_init 15 = .ok (.iload_n 3, 1) := dk_29 (dk_at dksX18_init_0 15 rfl rfl)
theorem dX18_init_16 : decode cX18_init 16 = .ok (.putfield 19, 3) := dk_181 0 19 (dk_at dksX18_init_0 16 rfl rfl)
theorem dX18_init_19 : decode cX18_init 19 = .ok (.aload_n 0, 1) := dk_42 (dk_at dksX18_init_0 19 rfl rfl)
theorem dX18_init_20 : decode cX18_init 20 = .ok (.iload 4, 2) := dk_21 4 (dk_at dksX18_init_0 20 rfl rfl)
theorem dX18_init_22 : decode cX18_init 22 = .ok (.putfield 23, 3) := dk_181 0 23 (dk_at dksX18_init_1 0 rfl rfl)
theorem dX18_init_25 : decode cX18_init 25 = .ok (.aload_n 0, 1) := dk_42 (dk_at dksX18_init_1 3 rfl rfl)
theorem dX18_init_26 : decode cX18_init 26 = .ok (.iload 5, 2) := dk_21 5 (dk_at dksX18_init_1 4 rfl rfl)
theorem dX18_init_28 : decode cX18_init 28 = .ok (.putfield 26, 3) := dk_181 0 26 (dk_at dksX18_init_1 6 rfl rfl)
theorem dX18_init_31 : decode cX18_init 31 = .ok (.aload_n 0, 1) := dk_42 (dk_at dksX18_init_1 9 rfl rfl)
theorem dX18_init_32 : decode cX18_init 32 = .ok (.iload 6, 2) := dk_21 6 (dk_at dksX18_init_1 10 rfl rfl)
theorem dX18_init_34 : decode cX18_init 34 = .ok (.putfield 29, 3) := dk_181 0 29 (dk_at dksX18_init_1 12 rfl rfl)
theorem dX18_init_37 : decode cX18_init 37 = .ok (.return_, 1) := dk_177 (dk_at dksX18_init_1 15 rfl rfl)
abbrev cX18_word : ByteArray := prog_11_method_2_code
def yX18_word : MethodName := ⟨RX18, "word", "(I)I"⟩
def dkwX18_word_2 : List UInt8 := [4, 167, 0, 4, 3, 172, 44, 180, 0, 44, 77, 167, 255, 204, 2, 172]
abbrev dktX18_word_2 : List UInt8 := dkwX18_word_2 ++ []
def dkwX18_word_1 : List UInt8 := [180, 0, 23, 163, 0, 27, 44, 180, 0, 38, 42, 180, 0, 26, 163, 0, 16, 44, 180, 0, 41, 153, 0, 7]
abbrev dktX18_word_1 : List UInt8 := dkwX18_word_1 ++ dktX18_word_2
def dkwX18_word_0 : List UInt8 := [42, 180, 0, 15, 77, 44, 198, 0, 54, 44, 180, 0, 33, 27, 160, 0, 38, 44, 180, 0, 38, 42]
abbrev dktX18_word_0 : List UInt8 := dkwX18_word_0 ++ dktX18_word_1
theorem dksX18_word_0 : cX18_word.data.toList.drop 0 = dktX18_word_0 := by decide +kernel
theorem dksX18_word_1 : cX18_word.data.toList.drop 22 = dktX18_word_1 := dk_seg dksX18_word_0 22 rfl rfl
theorem dksX18_word_2 : cX18_word.data.toList.drop 46 = dktX18_word_2 := dk_seg dksX18_word_1 24 rfl rfl
theorem dX18_word_0 : decode cX18_word 0 = .ok (.aload_n 0, 1) := dk_42 (dk_at dksX18_word_0 0 rfl rfl)
theorem dX18_word_1 : decode cX18_word 1 = .ok (.getfield 15, 3) := dk_180 0 15 (dk_at dksX18_word_0 1 rfl rfl)
theorem dX18_word_4 : decode cX18_word 4 = .ok (.astore_n 2, 1) := dk_77 (dk_at dksX18_word_0 4 rfl rfl)
theorem dX18_word_5 : decode cX18_word 5 = .ok (.aload_n 2, 1) := dk_44 (dk_at dksX18_word_0 5 rfl rfl)
theorem dX18_word_6 : decode cX18_word 6 = .ok (.ifnull 54, 3) := dk_198 0 54 (dk_at dksX18_word_0 6 rfl rfl)
theorem dX18_word_9 : decode cX18_word 9 = .ok (.aload_n 2, 1) := dk_44 (dk_at dksX18_word_0 9 rfl rfl)
theorem dX18_word_10 : decode cX18_word 10 = .ok (.getfield 33, 3) := dk_180 0 33 (dk_at dksX18_word_0 10 rfl rfl)
theorem dX18_word_13 : decode cX18_word 13 = .ok (.iload_n 1, 1) := dk_27 (dk_at dksX18_word_0 13 rfl rfl)
theorem dX18_word_14 : decode cX18_word 14 = .ok (.if_icmp .ne 38, 3) := dk_160 0 38 (dk_at dksX18_word_0 14 rfl rfl)
theorem dX18_word_17 : decode cX18_word 17 = .ok (.aload_n 2, 1) := dk_44 (dk_at dksX18_word_0 17 rfl rfl)
theorem dX18_word_18 : decode cX18_word 18 = .ok (.getfield 38, 3) := dk_180 0 38 (dk_at dksX18_word_0 18 rfl rfl)
theorem dX18_word_21 : decode cX18_word 21 = .ok (.aload_n 0, 1) := dk_42 (dk_at dksX18_word_0 21 rfl rfl)
theorem dX18_word_22 : decode cX18_word 22 = .ok (.getfield 23, 3) := dk_180 0 23 (dk_at dksX18_word_1 0 rfl rfl)
theorem dX18_word_25 : decode cX18_word 25 = .ok (.if_icmp .gt 27, 3) := dk_163 0 27 (dk_at dksX18_word_1 3 rfl rfl)
theorem dX18_word_28 : decode cX18_word 28 = .ok (.aload_n 2, 1) := dk_44 (dk_at dksX18_word_1 6 rfl rfl)
theorem dX18_word_29 : decode cX18_word 29 = .ok (.getfield 38, 3) := dk_180 0 38 (dk_at dksX18_word_1 7 rfl rfl)
theorem dX18_word_32 : decode cX18_word 32 = .ok (.aload_n 0, 1) := dk_42 (dk_at dksX18_word_1 10 rfl rfl)
theorem dX18_word_33 : decode cX18_word 33 = .ok (.getfield 26, 3) := dk_180 0 26 (dk_at dksX18_word_1 11 rfl rfl)
theorem dX18_word_36 : decode cX18_word 36 = .ok (.if_icmp .gt 16, 3) := dk_163 0 16 (dk_at dksX18_word_1 14 rfl rfl)
theorem dX18_word_39 : decode cX18_word 39 = .ok (.aload_n 2, 1) := dk_44 (dk_at dksX18_word_1 17 rfl rfl)
theorem dX18_word_40 : decode cX18_word 40 = .ok (.getfield 41, 3) := dk_180 0 41 (dk_at dksX18_word_1 18 rfl rfl)
theorem dX18_word_43 : decode cX18_word 43 = .ok (.ifCond .eq 7, 3) := dk_153 0 7 (dk_at dksX18_word_1 21 rfl rfl)
theorem dX18_word_46 : decode cX18_word 46 = .ok (.iconst 1, 1) := dk_4 (dk_at dksX18_word_2 0 rfl rfl)
theorem dX18_word_47 : decode cX18_word 47 = .ok (.goto 4, 3) := dk_167 0 4 (dk_at dksX18_word_2 1 rfl rfl)
theorem dX18_word_50 : decode cX18_word 50 = .ok (.iconst 0, 1) := dk_3 (dk_at dksX18_word_2 4 rfl rfl)
theorem dX18_word_51 : decode cX18_word 51 = .ok (.ireturn, 1) := dk_172 (dk_at dksX18_word_2 5 rfl rfl)
theorem dX18_word_52 : decode cX18_word 52 = .ok (.aload_n 2, 1) := dk_44 (dk_at dksX18_word_2 6 rfl rfl)
theorem dX18_word_53 : decode cX18_word 53 = .ok (.getfield 44, 3) := dk_180 0 44 (dk_at dksX18_word_2 7 rfl rfl)
theorem dX18_word_56 : decode cX18_word 56 = .ok (.astore_n 2, 1) := dk_77 (dk_at dksX18_word_2 10 rfl rfl)
theorem dX18_word_57 : decode cX18_word 57 = .ok (.goto (-52), 3) := dk_167 255 204 (dk_at dksX18_word_2 11 rfl rfl)
theorem dX18_word_60 : decode cX18_word 60 = .ok (.iconst (-1), 1) := dk_2 (dk_at dksX18_word_2 14 rfl rfl)
theorem dX18_word_61 : decode cX18_word 61 = .ok (.ireturn, 1) := dk_172 (dk_at dksX18_word_2 15 rfl rfl)
abbrev cX18_isDead : ByteArray := prog_11_method_3_code
def yX18_isDead : MethodName := ⟨RX18, "isDead", "(I)Z"⟩
def dkwX18_isDead_1 : List UInt8 := [153, 0, 7, 4, 167, 0, 4, 3, 172]
abbrev dktX18_isDead_1 : List UInt8 := dkwX18_isDead_1 ++ []
def dkwX18_isDead_0 : List UInt8 := [42, 180, 0, 29, 154, 0, 26, 42, 180, 0, 9, 27, 42, 180, 0, 23, 42, 180, 0, 26, 182, 0, 47]
abbrev dktX18_isDead_0 : List UInt8 := dkwX18_isDead_0 ++ dktX18_isDead_1
theorem dksX18_isDead_0 : cX18_isDead.data.toList.drop 0 = dktX18_isDead_0 := by decide +kernel
theorem dksX18_isDead_1 : cX18_isDead.data.toList.drop 23 = dktX18_isDead_1 := dk_seg dksX18_isDead_0 23 rfl rfl
theorem dX18_isDead_0 : decode cX18_isDead 0 = .ok (.aload_n 0, 1) := dk_42 (dk_at dksX18_isDead_0 0 rfl rfl)
theorem dX18_isDead_1 : decode cX18_isDead 1 = .ok (.getfield 29, 3) := dk_180 0 29 (dk_at dksX18_isDead_0 1 rfl rfl)
theorem dX18_isDead_4 : decode cX18_isDead 4 = .ok (.ifCond .ne 26, 3) := dk_154 0 26 (dk_at dksX18_isDead_0 4 rfl rfl)
theorem dX18_isDead_7 : decode cX18_isDead 7 = .ok (.aload_n 0, 1) := dk_42 (dk_at dksX18_isDead_0 7 rfl rfl)
theorem dX18_isDead_8 : decode cX18_isDead 8 = .ok (.getfield 9, 3) := dk_180 0 9 (dk_at dksX18_isDead_0 8 rfl rfl)
theorem dX18_isDead_11 : decode cX18_isDead 11 = .ok (.iload_n 1, 1) := dk_27 (dk_at dksX18_isDead_0 11 rfl rfl)
theorem dX18_isDead_12 : decode cX18_isDead 12 = .ok (.aload_n 0, 1) := dk_42 (dk_at dksX18_isDead_0 12 rfl rfl)
theorem dX18_isDead_13 : decode cX18_isDead 13 = .ok (.getfield 23, 3) := dk_180 0 23 (dk_at dksX18_isDead_0 13 rfl rfl)
theorem dX18_isDead_16 : decode cX18_isDead 16 = .ok (.aload_n 0, 1) := dk_42 (dk_at dksX18_isDead_0 16 rfl rfl)
theorem dX18_isDead_17 : decode cX18_isDead 17 = .ok (.getfield 26, 3) := dk_180 0 26 (dk_at dksX18_isDead_0 17 rfl rfl)
theorem dX18_isDead_20 : decode cX18_isDead 20 = .ok (.invokevirtual 47, 3) := dk_182 0 47 (dk_at dksX18_isDead_0 20 rfl rfl)
theorem dX18_isDead_23 : decode cX18_isDead 23 = .ok (.ifCond .eq 7, 3) := dk_153 0 7 (dk_at dksX18_isDead_1 0 rfl rfl)
theorem dX18_isDead_26 : decode cX18_isDead 26 = .ok (.iconst 1, 1) := dk_4 (dk_at dksX18_isDead_1 3 rfl rfl)
theorem dX18_isDead_27 : decode cX18_isDead 27 = .ok (.goto 4, 3) := dk_167 0 4 (dk_at dksX18_isDead_1 4 rfl rfl)
theorem dX18_isDead_30 : decode cX18_isDead 30 = .ok (.iconst 0, 1) := dk_3 (dk_at dksX18_isDead_1 7 rfl rfl)
theorem dX18_isDead_31 : decode cX18_isDead 31 = .ok (.ireturn, 1) := dk_172 (dk_at dksX18_isDead_1 8 rfl rfl)
abbrev cX18_waited : ByteArray := prog_11_method_4_code
def yX18_waited : MethodName := ⟨RX18, "waited", "(I)Z"⟩
def dkwX18_waited_1 : List UInt8 := [96, 42, 180, 0, 23, 163, 0, 7, 4, 167, 0, 4, 3, 172]
abbrev dktX18_waited_1 : List UInt8 := dkwX18_waited_1 ++ []
def dkwX18_waited_0 : List UInt8 := [42, 180, 0, 19, 2, 159, 0, 31, 42, 180, 0, 19, 42, 180, 0, 26, 163, 0, 20, 42, 180, 0, 19, 27]
abbrev dktX18_waited_0 : List UInt8 := dkwX18_waited_0 ++ dktX18_waited_1
theorem dksX18_waited_0 : cX18_waited.data.toList.drop 0 = dktX18_waited_0 := by decide +kernel
theorem dksX18_waited_1 : cX18_waited.data.toList.drop 24 = dktX18_waited_1 := dk_seg dksX18_waited_0 24 rfl rfl
theorem dX18_waited_0 : decode cX18_waited 0 = .ok (.aload_n 0, 1) := dk_42 (dk_at dksX18_waited_0 0 rfl rfl)
theorem dX18_waited_1 : decode cX18_waited 1 = .ok (.getfield 19, 3) := dk_180 0 19 (dk_at dksX18_waited_0 1 rfl rfl)
theorem dX18_waited_4 : decode cX18_waited 4 = .ok (.iconst (-1), 1) := dk_2 (dk_at dksX18_waited_0 4 rfl rfl)
theorem dX18_waited_5 : decode cX18_waited 5 = .ok (.if_icmp .eq 31, 3) := dk_159 0 31 (dk_at dksX18_waited_0 5 rfl rfl)
theorem dX18_waited_8 : decode cX18_waited 8 = .ok (.aload_n 0, 1) := dk_42 (dk_at dksX18_waited_0 8 rfl rfl)
theorem dX18_waited_9 : decode cX18_waited 9 = .ok (.getfield 19, 3) := dk_180 0 19 (dk_at dksX18_waited_0 9 rfl rfl)
theorem dX18_waited_12 : decode cX18_waited 12 = .ok (.aload_n 0, 1) := dk_42 (dk_at dksX18_waited_0 12 rfl rfl)
theorem dX18_waited_13 : decode cX18_waited 13 = .ok (.getfield 26, 3) := dk_180 0 26 (dk_at dksX18_waited_0 13 rfl rfl)
theorem dX18_waited_16 : decode cX18_waited 16 = .ok (.if_icmp .gt 20, 3) := dk_163 0 20 (dk_at dksX18_waited_0 16 rfl rfl)
theorem dX18_waited_19 : decode cX18_waited 19 = .ok (.aload_n 0, 1) := dk_42 (dk_at dksX18_waited_0 19 rfl rfl)
theorem dX18_waited_20 : decode cX18_waited 20 = .ok (.getfield 19, 3) := dk_180 0 19 (dk_at dksX18_waited_0 20 rfl rfl)
theorem dX18_waited_23 : decode cX18_waited 23 = .ok (.iload_n 1, 1) := dk_27 (dk_at dksX18_waited_0 23 rfl rfl)
theorem dX18_waited_24 : decode cX18_waited 24 = .ok (.iadd, 1) := dk_96 (dk_at dksX18_waited_1 0 rfl rfl)
theorem dX18_waited_25 : decode cX18_waited 25 = .ok (.aload_n 0, 1) := dk_42 (dk_at dksX18_waited_1 1 rfl rfl)
theorem dX18_waited_26 : decode cX18_waited 26 = .ok (.getfield 23, 3) := dk_180 0 23 (dk_at dksX18_waited_1 2 rfl rfl)
theorem dX18_waited_29 : decode cX18_waited 29 = .ok (.if_icmp .gt 7, 3) := dk_163 0 7 (dk_at dksX18_waited_1 5 rfl rfl)
theorem dX18_waited_32 : decode cX18_waited 32 = .ok (.iconst 1, 1) := dk_4 (dk_at dksX18_waited_1 8 rfl rfl)
theorem dX18_waited_33 : decode cX18_waited 33 = .ok (.goto 4, 3) := dk_167 0 4 (dk_at dksX18_waited_1 9 rfl rfl)
theorem dX18_waited_36 : decode cX18_waited 36 = .ok (.iconst 0, 1) := dk_3 (dk_at dksX18_waited_1 12 rfl rfl)
theorem dX18_waited_37 : decode cX18_waited 37 = .ok (.ireturn, 1) := dk_172 (dk_at dksX18_waited_1 13 rfl rfl)
theorem q106 : (Jvm.Cond.initialized "LifeKeys$Question") ∈ lw_all := lw_g (lw_at lw_m1 24 rfl) rfl
theorem q805 : (Jvm.Cond.instantiable "LifeKeys$Question" (6 : Nat)) ∈ lw_all := lw_g (lw_at lw_m4 3 rfl) rfl
theorem q807 : (Jvm.Cond.instanceMethod ({ cls := "LifeKeys$Question", name := "<init>", desc := "(LLifeKeys;LLifeKeys$Saying;IIIZ)V" } : Jvm.MethodName)) ∈ lw_all := lw_g (lw_at lw_m4 5 rfl) rfl
theorem q808 : (Jvm.Cond.code ({ cls := "LifeKeys$Question", name := "<init>", desc := "(LLifeKeys;LLifeKeys$Saying;IIIZ)V" } : Jvm.MethodName) prog_11_method_1_code (7 : Nat) (Option.none : Option Jvm.ClassFile.FieldType)) ∈ lw_all := lw_g (lw_at lw_m4 6 rfl) rfl
theorem q809 : (Jvm.Cond.methodLink "LifeKeys$Question" (3 : Nat) ({ cls := "java/lang/Object", name := "<init>", desc := "()V" } : Jvm.MethodName)) ∈ lw_all := lw_g (lw_at lw_m4 7 rfl) rfl
theorem q810 : (Jvm.Cond.fieldLink "LifeKeys$Question" (15 : Nat) "LifeKeys$Question" "last" "LLifeKeys$Saying;") ∈ lw_all := lw_g (lw_at lw_m4 8 rfl) rfl
theorem q811 : (Jvm.Cond.fieldLink "LifeKeys$Question" (19 : Nat) "LifeKeys$Question" "asked" "I") ∈ lw_all := lw_g (lw_at lw_m4 9 rfl) rfl
theorem q812 : (Jvm.Cond.fieldLink "LifeKeys$Question" (23 : Nat) "LifeKeys$Question" "day" "I") ∈ lw_all := lw_g (lw_at lw_m4 10 rfl) rfl
theorem q813 : (Jvm.Cond.fieldLink "LifeKeys$Question" (26 : Nat) "LifeKeys$Question" "q" "I") ∈ lw_all := lw_g (lw_at lw_m4 11 rfl) rfl
theorem q814 : (Jvm.Cond.fieldLink "LifeKeys$Question" (29 : Nat) "LifeKeys$Question" "isDeath" "Z") ∈ lw_all := lw_g (lw_at lw_m4 12 rfl) rfl
theorem q815 : (Jvm.Cond.fieldLink "LifeKeys$Question" (9 : Nat) "LifeKeys$Question" "of" "LLifeKeys;") ∈ lw_all := lw_g (lw_at lw_m4 13 rfl) rfl
theorem q816 : (Jvm.Cond.laysFinal "LifeKeys$Question" "LifeKeys$Question" "last" "LLifeKeys$Saying;") ∈ lw_all := lw_g (lw_at lw_m4 14 rfl) rfl
theorem q817 : (Jvm.Cond.soleField "LifeKeys$Question" "last") ∈ lw_all := lw_g (lw_at lw_m4 15 rfl) rfl
theorem q818 : (Jvm.Cond.laysFinal "LifeKeys$Question" "LifeKeys$Question" "asked" "I") ∈ lw_all := lw_g (lw_at lw_m4 16 rfl) rfl
theorem q819 : (Jvm.Cond.soleField "LifeKeys$Question" "asked") ∈ lw_all := lw_g (lw_at lw_m4 17 rfl) rfl
theorem q820 : (Jvm.Cond.laysFinal "LifeKeys$Question" "LifeKeys$Question" "day" "I") ∈ lw_all := lw_g (lw_at lw_m4 18 rfl) rfl
theorem q821 : (Jvm.Cond.soleField "LifeKeys$Question" "day") ∈ lw_all := lw_g (lw_at lw_m4 19 rfl) rfl
theorem q822 : (Jvm.Cond.laysFinal "LifeKeys$Question" "LifeKeys$Question" "q" "I") ∈ lw_all := lw_g (lw_at lw_m4 20 rfl) rfl
theorem q823 : (Jvm.Cond.soleField "LifeKeys$Question" "q") ∈ lw_all := lw_g (lw_at lw_m4 21 rfl) rfl
theorem q824 : (Jvm.Cond.laysFinal "LifeKeys$Question" "LifeKeys$Question" "isDeath" "Z") ∈ lw_all := lw_g (lw_at lw_m4 22 rfl) rfl
theorem q825 : (Jvm.Cond.soleField "LifeKeys$Question" "isDeath") ∈ lw_all := lw_g (lw_at lw_m4 23 rfl) rfl
theorem q826 : (Jvm.Cond.laysFinal "LifeKeys$Question" "LifeKeys$Question" "of" "LLifeKeys;") ∈ lw_all := lw_g (lw_at lw_m4 24 rfl) rfl
theorem q827 : (Jvm.Cond.soleField "LifeKeys$Question" "of") ∈ lw_all := lw_g (lw_at lw_m4 25 rfl) rfl
theorem q828 : (Jvm.Cond.superclass "LifeKeys$Question" "java/lang/Object") ∈ lw_all := lw_g (lw_at lw_m4 26 rfl) rfl
theorem q842 : (Jvm.Cond.instanceMethod ({ cls := "LifeKeys$Question", name := "word", desc := "(I)I" } : Jvm.MethodName)) ∈ lw_all := lw_g (lw_at lw_m4 40 rfl) rfl
theorem q843 : (Jvm.Cond.selects "LifeKeys$Question" ({ cls := "LifeKeys$Question", name := "word", desc := "(I)I" } : Jvm.MethodName) ({ cls := "LifeKeys$Question", name := "word", desc := "(I)I" } : Jvm.MethodName)) ∈ lw_all := lw_g (lw_at lw_m4 41 rfl) rfl
theorem q844 : (Jvm.Cond.code ({ cls := "LifeKeys$Question", name := "word", desc := "(I)I" } : Jvm.MethodName) prog_11_method_2_code (3 : Nat) (Option.some Jvm.ClassFile.FieldType.int)) ∈ lw_all := lw_g (lw_at lw_m4 42 rfl) rfl
theorem q846 : (Jvm.Cond.instanceMethod ({ cls := "LifeKeys$Question", name := "isDead", desc := "(I)Z" } : Jvm.MethodName)) ∈ lw_all := lw_g (lw_at lw_m4 44 rfl) rfl
theorem q847 : (Jvm.Cond.selects "LifeKeys$Question" ({ cls := "LifeKeys$Question", name := "isDead", desc := "(I)Z" } : Jvm.MethodName) ({ cls := "LifeKeys$Question", name := "isDead", desc := "(I)Z" } : Jvm.MethodName)) ∈ lw_all := lw_g (lw_at lw_m4 45 rfl) rfl
theorem q848 : (Jvm.Cond.code ({ cls := "LifeKeys$Question", name := "isDead", desc := "(I)Z" } : Jvm.MethodName) prog_11_method_3_code (2 : Nat) (Option.some Jvm.ClassFile.FieldType.boolean)) ∈ lw_all := lw_g (lw_at lw_m4 46 rfl) rfl
theorem q849 : (Jvm.Cond.methodLinkNest "LifeKeys$Question" (47 : Nat) ({ cls := "LifeKeys", name := "isDead", desc := "(III)Z" } : Jvm.MethodName) "LifeKeys") ∈ lw_tbl := lw_at lw_m4 47 rfl
theorem q851 : (Jvm.Cond.instanceMethod ({ cls := "LifeKeys$Question", name := "waited", desc := "(I)Z" } : Jvm.MethodName)) ∈ lw_all := lw_g (lw_at lw_m4 49 rfl) rfl
theorem q852 : (Jvm.Cond.selects "LifeKeys$Question" ({ cls := "LifeKeys$Question", name := "waited", desc := "(I)Z" } : Jvm.MethodName) ({ cls := "LifeKeys$Question", name := "waited", desc := "(I)Z" } : Jvm.MethodName)) ∈ lw_all := lw_g (lw_at lw_m4 50 rfl) rfl
theorem q853 : (Jvm.Cond.code ({ cls := "LifeKeys$Question", name := "waited", desc := "(I)Z" } : Jvm.MethodName) prog_11_method_4_code (2 : Nat) (Option.some Jvm.ClassFile.FieldType.boolean)) ∈ lw_all := lw_g (lw_at lw_m4 51 rfl) rfl
theorem q866 : (Jvm.Cond.fieldLinkNest "LifeKeys$Question" (33 : Nat) "LifeKeys$Saying" "holde\x72" "I" "LifeKeys") ∈ lw_tbl := lw_at lw_m4 64 rfl
theorem q868 : (Jvm.Cond.fieldLinkNest "LifeKeys$Question" (38 : Nat) "LifeKeys$Saying" "told" "I" "LifeKeys") ∈ lw_tbl := lw_at lw_m4 66 rfl
theorem q870 : (Jvm.Cond.fieldLinkNest "LifeKeys$Question" (41 : Nat) "LifeKeys$Saying" "yes" "Z" "LifeKeys") ∈ lw_tbl := lw_at lw_m4 68 rfl
theorem q872 : (Jvm.Cond.fieldLinkNest "LifeKeys$Question" (44 : Nat) "LifeKeys$Saying" "before" "LLifeKeys$Saying;" "LifeKeys") ∈ lw_tbl := lw_at lw_m4 70 rfl
theorem q1893 : (Jvm.Cond.castable "LifeKeys$Question" "java/lang/Object") ∈ lw_tbl := lw_at lw_m8 131 rfl
theorem in_X18 : ∀ w ∈ wsX180, w ∈ lw_all := lw_in wsX180 [816, 818, 820, 822, 824, 826] (by decide +kernel) (by decide +kernel)
/-! LifeKeys$Signature -/
set_option maxRecDepth 100000
def RX19 : String := "LifeKeys$Signature"
def TX19 : u_T := fun k => match k with
  | 0 => ("LifeKeys$Signature", "\x72", "I", true)
  | 1 => ("LifeKeys$Signature", "s", "I", true)
  | 2 => ("LifeKeys$Signature", "thing", "I", true)
  | 3 => ("LifeKeys$Signature", "day", "I", true)
  | _ => ("LifeKeys$Signature", "key", "LLifeKeys$Key;", true)
def tyX19 : Nat → FieldType := fun k => match k with
  | 0 => .int
  | 1 => .int
  | 2 => .int
  | 3 => .int
  | _ => .object "LifeKeys$Key"
abbrev wsX190 : List Cond := u_ws RX19 TX19 5
theorem nmX19 : ∀ a, a < 5 → ∀ b, b < 5 → a ≠ b → (TX19 a).2.1 ≠ (TX19 b).2.1 := by decide +kernel
theorem tyX19_ok : ∀ k, k < 5 → parseFieldDescriptor (TX19 k).2.2.1 = some (tyX19 k) := by decide +kernel
abbrev cX19_init : ByteArray := prog_15_method_1_code
def yX19_init : MethodName := ⟨RX19, "<init>", "(IILLifeKeys$Key;II)V"⟩
def dkwX19_init_1 : List UInt8 := [181, 0, 20, 42, 21, 5, 181, 0, 23, 177]
abbrev dktX19_init_1 : List UInt8 := dkwX19_init_1 ++ []
def dkwX19_init_0 : List UInt8 := [42, 183, 0, 1, 42, 27, 181, 0, 7, 42, 28, 181, 0, 13, 42, 45, 181, 0, 16, 42, 21, 4]
abbrev dktX19_init_0 : List UInt8 := dkwX19_init_0 ++ dktX19_init_1
theorem dksX19_init_0 : cX19_init.data.toList.drop 0 = dktX19_init_0 := by decide +kernel
theorem dksX19_init_1 : cX19_init.data.toList.drop 22 = dktX19_init_1 := dk_seg dksX19_init_0 22 rfl rfl
theorem dX19_init_0 : decode cX19_init 0 = .ok (.aload_n 0, 1) := dk_42 (dk_at dksX19_init_0 0 rfl rfl)
theorem dX19_init_1 : decode cX19_init 1 = .ok (.invokespecial 1, 3) := dk_183 0 1 (dk_at dksX19_init_0 1 rfl rfl)
theorem dX19_init_4 : decode cX19_init 4 = .ok (.aload_n 0, 1) := dk_42 (dk_at dksX19_init_0 4 rfl rfl)
theorem dX19_init_5 : decode cX19_init 5 = .ok (.iload_n 1, 1) := dk_27 (dk_at dksX19_init_0 5 rfl rfl)
theorem dX19_init_6 : decode cX19_init 6 = .ok (.putfield 7, 3) := dk_181 0 7 (dk_at dksX19_init_0 6 rfl rfl)
theorem dX19_init_9 : decode cX19_init 9 = .ok (.aload_n 0, 1) := dk_42 (dk_at dksX19_init_0 9 rfl rfl)
theorem dX19_init_10 : decode cX19_init 10 = .ok (.iload_n 2, 1) := dk_28 (dk_at dksX19_init_0 10 rfl rfl)
theorem dX19_init_11 : decode cX19_init 11 = .ok (.putfield 13, 3) := dk_181 0 13 (dk_at dksX19_init_0 11 rfl rfl)
theorem dX19_init_14 : decode cX19_init 14 = .ok (.aload_n 0, 1) := dk_42 (dk_at dksX19_init_0 14 rfl rfl)
theorem dX19_init_15 : decode cX19_init 15 = .ok (.aload_n 3, 1) := dk_45 (dk_at dksX19_init_0 15 rfl rfl)
theorem dX19_init_16 : decode cX19_init 16 = .ok (.putfield 16, 3) := dk_181 0 16 (dk_at dksX19_init_0 16 rfl rfl)
theorem dX19_init_19 : decode cX19_init 19 = .ok (.aload_n 0, 1) := dk_42 (dk_at dksX19_init_0 19 rfl rfl)
theorem dX19_init_20 : decode cX19_init 20 = .ok (.iload 4, 2) := dk_21 4 (dk_at dksX19_init_0 20 rfl rfl)
theorem dX19_init_22 : decode cX19_init 22 = .ok (.putfield 20, 3) := dk_181 0 20 (dk_at dksX19_init_1 0 rfl rfl)
theorem dX19_init_25 : decode cX19_init 25 = .ok (.aload_n 0, 1) := dk_42 (dk_at dksX19_init_1 3 rfl rfl)
theorem dX19_init_26 : decode cX19_init 26 = .ok (.iload 5, 2) := dk_21 5 (dk_at dksX19_init_1 4 rfl rfl)
theorem dX19_init_28 : decode cX19_init 28 = .ok (.putfield 23, 3) := dk_181 0 23 (dk_at dksX19_init_1 6 rfl rfl)
theorem dX19_init_31 : decode cX19_init 31 = .ok (.return_, 1) := dk_177 (dk_at dksX19_init_1 9 rfl rfl)
abbrev cX19_stands : ByteArray := prog_15_method_2_code
def yX19_stands : MethodName := ⟨RX19, "stands", "(I)I"⟩
def dkwX19_stands_1 : List UInt8 := [180, 0, 23, 42, 180, 0, 23, 27, 184, 0, 32, 182, 0, 26, 153, 0, 7, 6, 167, 0, 4, 5, 172]
abbrev dktX19_stands_1 : List UInt8 := dkwX19_stands_1 ++ []
def dkwX19_stands_0 : List UInt8 := [42, 180, 0, 16, 42, 180, 0, 23, 27, 182, 0, 26, 154, 0, 5, 4, 172, 42, 180, 0, 16, 42]
abbrev dktX19_stands_0 : List UInt8 := dkwX19_stands_0 ++ dktX19_stands_1
theorem dksX19_stands_0 : cX19_stands.data.toList.drop 0 = dktX19_stands_0 := by decide +kernel
theorem dksX19_stands_1 : cX19_stands.data.toList.drop 22 = dktX19_stands_1 := dk_seg dksX19_stands_0 22 rfl rfl
theorem dX19_stands_0 : decode cX19_stands 0 = .ok (.aload_n 0, 1) := dk_42 (dk_at dksX19_stands_0 0 rfl rfl)
theorem dX19_stands_1 : decode cX19_stands 1 = .ok (.getfield 16, 3) := dk_180 0 16 (dk_at dksX19_stands_0 1 rfl rfl)
theorem dX19_stands_4 : decode cX19_stands 4 = .ok (.aload_n 0, 1) := dk_42 (dk_at dksX19_stands_0 4 rfl rfl)
theorem dX19_stands_5 : decode cX19_stands 5 = .ok (.getfield 23, 3) := dk_180 0 23 (dk_at dksX19_stands_0 5 rfl rfl)
theorem dX19_stands_8 : decode cX19_stands 8 = .ok (.iload_n 1, 1) := dk_27 (dk_at dksX19_stands_0 8 rfl rfl)
theorem dX19_stands_9 : decode cX19_stands 9 = .ok (.invokevirtual 26, 3) := dk_182 0 26 (dk_at dksX19_stands_0 9 rfl rfl)
theorem dX19_stands_12 : decode cX19_stands 12 = .ok (.ifCond .ne 5, 3) := dk_154 0 5 (dk_at dksX19_stands_0 12 rfl rfl)
theorem dX19_stands_15 : decode cX19_stands 15 = .ok (.iconst 1, 1) := dk_4 (dk_at dksX19_stands_0 15 rfl rfl)
theorem dX19_stands_16 : decode cX19_stands 16 = .ok (.ireturn, 1) := dk_172 (dk_at dksX19_stands_0 16 rfl rfl)
theorem dX19_stands_17 : decode cX19_stands 17 = .ok (.aload_n 0, 1) := dk_42 (dk_at dksX19_stands_0 17 rfl rfl)
theorem dX19_stands_18 : decode cX19_stands 18 = .ok (.getfield 16, 3) := dk_180 0 16 (dk_at dksX19_stands_0 18 rfl rfl)
theorem dX19_stands_21 : decode cX19_stands 21 = .ok (.aload_n 0, 1) := dk_42 (dk_at dksX19_stands_0 21 rfl rfl)
theorem dX19_stands_22 : decode cX19_stands 22 = .ok (.getfield 23, 3) := dk_180 0 23 (dk_at dksX19_stands_1 0 rfl rfl)
theorem dX19_stands_25 : decode cX19_stands 25 = .ok (.aload_n 0, 1) := dk_42 (dk_at dksX19_stands_1 3 rfl rfl)
theorem dX19_stands_26 : decode cX19_stands 26 = .ok (.getfield 23, 3) := dk_180 0 23 (dk_at dksX19_stands_1 4 rfl rfl)
theorem dX19_stands_29 : decode cX19_stands 29 = .ok (.iload_n 1, 1) := dk_27 (dk_at dksX19_stands_1 7 rfl rfl)
theorem dX19_stands_30 : decode cX19_stands 30 = .ok (.invokestatic 32, 3) := dk_184 0 32 (dk_at dksX19_stands_1 8 rfl rfl)
theorem dX19_stands_33 : decode cX19_stands 33 = .ok (.invokevirtual 26, 3) := dk_182 0 26 (dk_at dksX19_stands_1 11 rfl rfl)
theorem dX19_stands_36 : decode cX19_stands 36 = .ok (.ifCond .eq 7, 3) := dk_153 0 7 (dk_at dksX19_stands_1 14 rfl rfl)
theorem dX19_stands_39 : decode cX19_stands 39 = .ok (.iconst 3, 1) := dk_6 (dk_at dksX19_stands_1 17 rfl rfl)
theorem dX19_stands_40 : decode cX19_stands 40 = .ok (.goto 4, 3) := dk_167 0 4 (dk_at dksX19_stands_1 18 rfl rfl)
theorem dX19_stands_43 : decode cX19_stands 43 = .ok (.iconst 2, 1) := dk_5 (dk_at dksX19_stands_1 21 rfl rfl)
theorem dX19_stands_44 : decode cX19_stands 44 = .ok (.ireturn, 1) := dk_172 (dk_at dksX19_stands_1 22 rfl rfl)
theorem q107 : (Jvm.Cond.initialized "LifeKeys$Signature") ∈ lw_all := lw_g (lw_at lw_m1 25 rfl) rfl
theorem q977 : (Jvm.Cond.instantiable "LifeKeys$Signature" (5 : Nat)) ∈ lw_all := lw_g (lw_at lw_m4 175 rfl) rfl
theorem q979 : (Jvm.Cond.instanceMethod ({ cls := "LifeKeys$Signature", name := "<init>", desc := "(IILLifeKeys$Key;II)V" } : Jvm.MethodName)) ∈ lw_all := lw_g (lw_at lw_m4 177 rfl) rfl
theorem q980 : (Jvm.Cond.code ({ cls := "LifeKeys$Signature", name := "<init>", desc := "(IILLifeKeys$Key;II)V" } : Jvm.MethodName) prog_15_method_1_code (6 : Nat) (Option.none : Option Jvm.ClassFile.FieldType)) ∈ lw_all := lw_g (lw_at lw_m4 178 rfl) rfl
theorem q981 : (Jvm.Cond.methodLink "LifeKeys$Signature" (1 : Nat) ({ cls := "java/lang/Object", name := "<init>", desc := "()V" } : Jvm.MethodName)) ∈ lw_all := lw_g (lw_at lw_m4 179 rfl) rfl
theorem q982 : (Jvm.Cond.fieldLink "LifeKeys$Signature" (7 : Nat) "LifeKeys$Signature" "\x72" "I") ∈ lw_all := lw_g (lw_at lw_m4 180 rfl) rfl
theorem q984 : (Jvm.Cond.fieldLink "LifeKeys$Signature" (13 : Nat) "LifeKeys$Signature" "s" "I") ∈ lw_all := lw_g (lw_at lw_m4 182 rfl) rfl
theorem q986 : (Jvm.Cond.fieldLink "LifeKeys$Signature" (20 : Nat) "LifeKeys$Signature" "thing" "I") ∈ lw_all := lw_g (lw_at lw_m4 184 rfl) rfl
theorem q988 : (Jvm.Cond.fieldLink "LifeKeys$Signature" (23 : Nat) "LifeKeys$Signature" "day" "I") ∈ lw_all := lw_g (lw_at lw_m4 186 rfl) rfl
theorem q990 : (Jvm.Cond.fieldLink "LifeKeys$Signature" (16 : Nat) "LifeKeys$Signature" "key" "LLifeKeys$Key;") ∈ lw_all := lw_g (lw_at lw_m4 188 rfl) rfl
theorem q992 : (Jvm.Cond.laysFinal "LifeKeys$Signature" "LifeKeys$Signature" "\x72" "I") ∈ lw_all := lw_g (lw_at lw_m4 190 rfl) rfl
theorem q993 : (Jvm.Cond.soleField "LifeKeys$Signature" "\x72") ∈ lw_all := lw_g (lw_at lw_m4 191 rfl) rfl
theorem q994 : (Jvm.Cond.laysFinal "LifeKeys$Signature" "LifeKeys$Signature" "s" "I") ∈ lw_all := lw_g (lw_at lw_m4 192 rfl) rfl
theorem q995 : (Jvm.Cond.soleField "LifeKeys$Signature" "s") ∈ lw_all := lw_g (lw_at lw_m4 193 rfl) rfl
theorem q996 : (Jvm.Cond.laysFinal "LifeKeys$Signature" "LifeKeys$Signature" "thing" "I") ∈ lw_all := lw_g (lw_at lw_m4 194 rfl) rfl
theorem q997 : (Jvm.Cond.soleField "LifeKeys$Signature" "thing") ∈ lw_all := lw_g (lw_at lw_m4 195 rfl) rfl
theorem q998 : (Jvm.Cond.laysFinal "LifeKeys$Signature" "LifeKeys$Signature" "day" "I") ∈ lw_all := lw_g (lw_at lw_m4 196 rfl) rfl
theorem q999 : (Jvm.Cond.soleField "LifeKeys$Signature" "day") ∈ lw_all := lw_g (lw_at lw_m4 197 rfl) rfl
theorem q1000 : (Jvm.Cond.laysFinal "LifeKeys$Signature" "LifeKeys$Signature" "key" "LLifeKeys$Key;") ∈ lw_all := lw_g (lw_at lw_m4 198 rfl) rfl
theorem q1001 : (Jvm.Cond.soleField "LifeKeys$Signature" "key") ∈ lw_all := lw_g (lw_at lw_m4 199 rfl) rfl
theorem q1002 : (Jvm.Cond.superclass "LifeKeys$Signature" "java/lang/Object") ∈ lw_all := lw_g (lw_at lw_m4 200 rfl) rfl
theorem q1053 : (Jvm.Cond.instanceMethod ({ cls := "LifeKeys$Signature", name := "stands", desc := "(I)I" } : Jvm.MethodName)) ∈ lw_all := lw_g (lw_at lw_m5 11 rfl) rfl
theorem q1054 : (Jvm.Cond.selects "LifeKeys$Signature" ({ cls := "LifeKeys$Signature", name := "stands", desc := "(I)I" } : Jvm.MethodName) ({ cls := "LifeKeys$Signature", name := "stands", desc := "(I)I" } : Jvm.MethodName)) ∈ lw_all := lw_g (lw_at lw_m5 12 rfl) rfl
theorem q1055 : (Jvm.Cond.code ({ cls := "LifeKeys$Signature", name := "stands", desc := "(I)I" } : Jvm.MethodName) prog_15_method_2_code (2 : Nat) (Option.some Jvm.ClassFile.FieldType.int)) ∈ lw_all := lw_g (lw_at lw_m5 13 rfl) rfl
theorem q1056 : (Jvm.Cond.methodLink "LifeKeys$Signature" (26 : Nat) ({ cls := "LifeKeys$Key", name := "isBurnt", desc := "(II)Z" } : Jvm.MethodName)) ∈ lw_all := lw_g (lw_at lw_m5 14 rfl) rfl
theorem q1057 : (Jvm.Cond.methodLink "LifeKeys$Signature" (32 : Nat) ({ cls := "java/lang/Math", name := "min", desc := "(II)I" } : Jvm.MethodName)) ∈ lw_all := lw_g (lw_at lw_m5 15 rfl) rfl
theorem q1894 : (Jvm.Cond.castable "LifeKeys$Signature" "java/lang/Object") ∈ lw_tbl := lw_at lw_m8 132 rfl
theorem in_X19 : ∀ w ∈ wsX190, w ∈ lw_all := lw_in wsX190 [992, 994, 996, 998, 1000] (by decide +kernel) (by decide +kernel)
/-! LifeKeys$Burn -/
set_option maxRecDepth 100000
def RX20 : String := "LifeKeys$Burn"
def TX20 : u_T := fun k => match k with
  | 0 => ("LifeKeys$Burn", "from", "I", true)
  | 1 => ("LifeKeys$Burn", "told", "I", true)
  | _ => ("LifeKeys$Burn", "before", "LLifeKeys$Burn;", true)
def tyX20 : Nat → FieldType := fun k => match k with
  | 0 => .int
  | 1 => .int
  | _ => .object "LifeKeys$Burn"
abbrev wsX200 : List Cond := u_ws RX20 TX20 3
theorem nmX20 : ∀ a, a < 3 → ∀ b, b < 3 → a ≠ b → (TX20 a).2.1 ≠ (TX20 b).2.1 := by decide +kernel
theorem tyX20_ok : ∀ k, k < 3 → parseFieldDescriptor (TX20 k).2.2.1 = some (tyX20 k) := by decide +kernel
abbrev cX20_init : ByteArray := prog_2_method_1_code
def yX20_init : MethodName := ⟨RX20, "<init>", "(IILLifeKeys$Burn;)V"⟩
def dkwX20_init_0 : List UInt8 := [42, 183, 0, 1, 42, 27, 181, 0, 7, 42, 28, 181, 0, 13, 42, 45, 181, 0, 16, 177]
abbrev dktX20_init_0 : List UInt8 := dkwX20_init_0 ++ []
theorem dksX20_init_0 : cX20_init.data.toList.drop 0 = dktX20_init_0 := by decide +kernel
theorem dX20_init_0 : decode cX20_init 0 = .ok (.aload_n 0, 1) := dk_42 (dk_at dksX20_init_0 0 rfl rfl)
theorem dX20_init_1 : decode cX20_init 1 = .ok (.invokespecial 1, 3) := dk_183 0 1 (dk_at dksX20_init_0 1 rfl rfl)
theorem dX20_init_4 : decode cX20_init 4 = .ok (.aload_n 0, 1) := dk_42 (dk_at dksX20_init_0 4 rfl rfl)
theorem dX20_init_5 : decode cX20_init 5 = .ok (.iload_n 1, 1) := dk_27 (dk_at dksX20_init_0 5 rfl rfl)
theorem dX20_init_6 : decode cX20_init 6 = .ok (.putfield 7, 3) := dk_181 0 7 (dk_at dksX20_init_0 6 rfl rfl)
theorem dX20_init_9 : decode cX20_init 9 = .ok (.aload_n 0, 1) := dk_42 (dk_at dksX20_init_0 9 rfl rfl)
theorem dX20_init_10 : decode cX20_init 10 = .ok (.iload_n 2, 1) := dk_28 (dk_at dksX20_init_0 10 rfl rfl)
theorem dX20_init_11 : decode cX20_init 11 = .ok (.putfield 13, 3) := dk_181 0 13 (dk_at dksX20_init_0 11 rfl rfl)
theorem dX20_init_14 : decode cX20_init 14 = .ok (.aload_n 0, 1) := dk_42 (dk_at dksX20_init_0 14 rfl rfl)
theorem dX20_init_15 : decode cX20_init 15 = .ok (.aload_n 3, 1) := dk_45 (dk_at dksX20_init_0 15 rfl rfl)
theorem dX20_init_16 : decode cX20_init 16 = .ok (.putfield 16, 3) := dk_181 0 16 (dk_at dksX20_init_0 16 rfl rfl)
theorem dX20_init_19 : decode cX20_init 19 = .ok (.return_, 1) := dk_177 (dk_at dksX20_init_0 19 rfl rfl)
theorem q108 : (Jvm.Cond.initialized "LifeKeys$Burn") ∈ lw_all := lw_g (lw_at lw_m1 26 rfl) rfl
theorem q1026 : (Jvm.Cond.instantiable "LifeKeys$Burn" (3 : Nat)) ∈ lw_all := lw_g (lw_at lw_m4 224 rfl) rfl
theorem q1028 : (Jvm.Cond.instanceMethod ({ cls := "LifeKeys$Burn", name := "<init>", desc := "(IILLifeKeys$Burn;)V" } : Jvm.MethodName)) ∈ lw_all := lw_g (lw_at lw_m4 226 rfl) rfl
theorem q1029 : (Jvm.Cond.code ({ cls := "LifeKeys$Burn", name := "<init>", desc := "(IILLifeKeys$Burn;)V" } : Jvm.MethodName) prog_2_method_1_code (4 : Nat) (Option.none : Option Jvm.ClassFile.FieldType)) ∈ lw_all := lw_g (lw_at lw_m4 227 rfl) rfl
theorem q1030 : (Jvm.Cond.methodLink "LifeKeys$Burn" (1 : Nat) ({ cls := "java/lang/Object", name := "<init>", desc := "()V" } : Jvm.MethodName)) ∈ lw_all := lw_g (lw_at lw_m4 228 rfl) rfl
theorem q1031 : (Jvm.Cond.fieldLink "LifeKeys$Burn" (7 : Nat) "LifeKeys$Burn" "from" "I") ∈ lw_all := lw_g (lw_at lw_m4 229 rfl) rfl
theorem q1033 : (Jvm.Cond.fieldLink "LifeKeys$Burn" (13 : Nat) "LifeKeys$Burn" "told" "I") ∈ lw_all := lw_g (lw_at lw_m4 231 rfl) rfl
theorem q1035 : (Jvm.Cond.fieldLink "LifeKeys$Burn" (16 : Nat) "LifeKeys$Burn" "before" "LLifeKeys$Burn;") ∈ lw_all := lw_g (lw_at lw_m4 233 rfl) rfl
theorem q1037 : (Jvm.Cond.laysFinal "LifeKeys$Burn" "LifeKeys$Burn" "from" "I") ∈ lw_all := lw_g (lw_at lw_m4 235 rfl) rfl
theorem q1038 : (Jvm.Cond.soleField "LifeKeys$Burn" "from") ∈ lw_all := lw_g (lw_at lw_m4 236 rfl) rfl
theorem q1039 : (Jvm.Cond.laysFinal "LifeKeys$Burn" "LifeKeys$Burn" "told" "I") ∈ lw_all := lw_g (lw_at lw_m4 237 rfl) rfl
theorem q1040 : (Jvm.Cond.soleField "LifeKeys$Burn" "told") ∈ lw_all := lw_g (lw_at lw_m4 238 rfl) rfl
theorem q1041 : (Jvm.Cond.laysFinal "LifeKeys$Burn" "LifeKeys$Burn" "before" "LLifeKeys$Burn;") ∈ lw_all := lw_g (lw_at lw_m4 239 rfl) rfl
theorem q1042 : (Jvm.Cond.soleField "LifeKeys$Burn" "before") ∈ lw_all := lw_g (lw_at lw_m5 0 rfl) rfl
theorem q1043 : (Jvm.Cond.superclass "LifeKeys$Burn" "java/lang/Object") ∈ lw_all := lw_g (lw_at lw_m5 1 rfl) rfl
theorem q1895 : (Jvm.Cond.castable "LifeKeys$Burn" "java/lang/Object") ∈ lw_tbl := lw_at lw_m8 133 rfl
theorem in_X20 : ∀ w ∈ wsX200, w ∈ lw_all := lw_in wsX200 [1037, 1039, 1041] (by decide +kernel) (by decide +kernel)
/-! LifeKeys$Lent -/
set_option maxRecDepth 100000
def RX21 : String := "LifeKeys$Lent"
def TX21 : u_T := fun k => match k with
  | 0 => ("LifeKeys$Lent", "key", "LLifeKeys$Key;", true)
  | 1 => ("LifeKeys$Lent", "to", "I", true)
  | 2 => ("LifeKeys$Lent", "thing", "I", true)
  | 3 => ("LifeKeys$Lent", "uses", "I", false)
  | _ => ("LifeKeys$Lent", "isBack", "Z", false)
def tyX21 : Nat → FieldType := fun k => match k with
  | 0 => .object "LifeKeys$Key"
  | 1 => .int
  | 2 => .int
  | 3 => .int
  | _ => .boolean
abbrev wsX210 : List Cond := u_ws RX21 TX21 5
theorem nmX21 : ∀ a, a < 5 → ∀ b, b < 5 → a ≠ b → (TX21 a).2.1 ≠ (TX21 b).2.1 := by decide +kernel
theorem tyX21_ok : ∀ k, k < 5 → parseFieldDescriptor (TX21 k).2.2.1 = some (tyX21 k) := by decide +kernel
abbrev cX21_init : ByteArray := prog_6_method_1_code
def yX21_init : MethodName := ⟨RX21, "<init>", "(LLifeKeys$Key;III)V"⟩
def dkwX21_init_1 : List UInt8 := [181, 0, 22, 177]
abbrev dktX21_init_1 : List UInt8 := dkwX21_init_1 ++ []
def dkwX21_init_0 : List UInt8 := [42, 183, 0, 3, 42, 43, 181, 0, 9, 42, 28, 181, 0, 15, 42, 29, 181, 0, 19, 42, 21, 4]
abbrev dktX21_init_0 : List UInt8 := dkwX21_init_0 ++ dktX21_init_1
theorem dksX21_init_0 : cX21_init.data.toList.drop 0 = dktX21_init_0 := by decide +kernel
theorem dksX21_init_1 : cX21_init.data.toList.drop 22 = dktX21_init_1 := dk_seg dksX21_init_0 22 rfl rfl
theorem dX21_init_0 : decode cX21_init 0 = .ok (.aload_n 0, 1) := dk_42 (dk_at dksX21_init_0 0 rfl rfl)
theorem dX21_init_1 : decode cX21_init 1 = .ok (.invokespecial 3, 3) := dk_183 0 3 (dk_at dksX21_init_0 1 rfl rfl)
theorem dX21_init_4 : decode cX21_init 4 = .ok (.aload_n 0, 1) := dk_42 (dk_at dksX21_init_0 4 rfl rfl)
theorem dX21_init_5 : decode cX21_init 5 = .ok (.aload_n 1, 1) := dk_43 (dk_at dksX21_init_0 5 rfl rfl)
theorem dX21_init_6 : decode cX21_init 6 = .ok (.putfield 9, 3) := dk_181 0 9 (dk_at dksX21_init_0 6 rfl rfl)
theorem dX21_init_9 : decode cX21_init 9 = .ok (.aload_n 0, 1) := dk_42 (dk_at dksX21_init_0 9 rfl rfl)
theorem dX21_init_10 : decode cX21_init 10 = .ok (.iload_n 2, 1) := dk_28 (dk_at dksX21_init_0 10 rfl rfl)
theorem dX21_init_11 : decode cX21_init 11 = .ok (.putfield 15, 3) := dk_181 0 15 (dk_at dksX21_init_0 11 rfl rfl)
theorem dX21_init_14 : decode cX21_init 14 = .ok (.aload_n 0, 1) := dk_42 (dk_at dksX21_init_0 14 rfl rfl)
theorem dX21_init_15 : decode cX21_init 15 = .ok (.iload_n 3, 1) := dk_29 (dk_at dksX21_init_0 15 rfl rfl)
theorem dX21_init_16 : decode cX21_init 16 = .ok (.putfield 19, 3) := dk_181 0 19 (dk_at dksX21_init_0 16 rfl rfl)
theorem dX21_init_19 : decode cX21_init 19 = .ok (.aload_n 0, 1) := dk_42 (dk_at dksX21_init_0 19 rfl rfl)
theorem dX21_init_20 : decode cX21_init 20 = .ok (.iload 4, 2) := dk_21 4 (dk_at dksX21_init_0 20 rfl rfl)
theorem dX21_init_22 : decode cX21_init 22 = .ok (.putfield 22, 3) := dk_181 0 22 (dk_at dksX21_init_1 0 rfl rfl)
theorem dX21_init_25 : decode cX21_init 25 = .ok (.return_, 1) := dk_177 (dk_at dksX21_init_1 3 rfl rfl)
abbrev cX21_mayUse : ByteArray := prog_6_method_2_code
def yX21_mayUse : MethodName := ⟨RX21, "mayUse", "(II)Z"⟩
def dkwX21_mayUse_1 : List UInt8 := [180, 0, 22, 2, 159, 0, 11, 42, 180, 0, 22, 28, 160, 0, 7, 4, 167, 0, 4, 3, 172]
abbrev dktX21_mayUse_1 : List UInt8 := dkwX21_mayUse_1 ++ []
def dkwX21_mayUse_0 : List UInt8 := [42, 180, 0, 25, 154, 0, 38, 27, 42, 180, 0, 15, 163, 0, 30, 42, 180, 0, 19, 158, 0, 23, 42]
abbrev dktX21_mayUse_0 : List UInt8 := dkwX21_mayUse_0 ++ dktX21_mayUse_1
theorem dksX21_mayUse_0 : cX21_mayUse.data.toList.drop 0 = dktX21_mayUse_0 := by decide +kernel
theorem dksX21_mayUse_1 : cX21_mayUse.data.toList.drop 23 = dktX21_mayUse_1 := dk_seg dksX21_mayUse_0 23 rfl rfl
theorem dX21_mayUse_0 : decode cX21_mayUse 0 = .ok (.aload_n 0, 1) := dk_42 (dk_at dksX21_mayUse_0 0 rfl rfl)
theorem dX21_mayUse_1 : decode cX21_mayUse 1 = .ok (.getfield 25, 3) := dk_180 0 25 (dk_at dksX21_mayUse_0 1 rfl rfl)
theorem dX21_mayUse_4 : decode cX21_mayUse 4 = .ok (.ifCond .ne 38, 3) := dk_154 0 38 (dk_at dksX21_mayUse_0 4 rfl rfl)
theorem dX21_mayUse_7 : decode cX21_mayUse 7 = .ok (.iload_n 1, 1) := dk_27 (dk_at dksX21_mayUse_0 7 rfl rfl)
theorem dX21_mayUse_8 : decode cX21_mayUse 8 = .ok (.aload_n 0, 1) := dk_42 (dk_at dksX21_mayUse_0 8 rfl rfl)
theorem dX21_mayUse_9 : decode cX21_mayUse 9 = .ok (.getfield 15, 3) := dk_180 0 15 (dk_at dksX21_mayUse_0 9 rfl rfl)
theorem dX21_mayUse_12 : decode cX21_mayUse 12 = .ok (.if_icmp .gt 30, 3) := dk_163 0 30 (dk_at dksX21_mayUse_0 12 rfl rfl)
theorem dX21_mayUse_15 : decode cX21_mayUse 15 = .ok (.aload_n 0, 1) := dk_42 (dk_at dksX21_mayUse_0 15 rfl rfl)
theorem dX21_mayUse_16 : decode cX21_mayUse 16 = .ok (.getfield 19, 3) := dk_180 0 19 (dk_at dksX21_mayUse_0 16 rfl rfl)
theorem dX21_mayUse_19 : decode cX21_mayUse 19 = .ok (.ifCond .le 23, 3) := dk_158 0 23 (dk_at dksX21_mayUse_0 19 rfl rfl)
theorem dX21_mayUse_22 : decode cX21_mayUse 22 = .ok (.aload_n 0, 1) := dk_42 (dk_at dksX21_mayUse_0 22 rfl rfl)
theorem dX21_mayUse_23 : decode cX21_mayUse 23 = .ok (.getfield 22, 3) := dk_180 0 22 (dk_at dksX21_mayUse_1 0 rfl rfl)
theorem dX21_mayUse_26 : decode cX21_mayUse 26 = .ok (.iconst (-1), 1) := dk_2 (dk_at dksX21_mayUse_1 3 rfl rfl)
theorem dX21_mayUse_27 : decode cX21_mayUse 27 = .ok (.if_icmp .eq 11, 3) := dk_159 0 11 (dk_at dksX21_mayUse_1 4 rfl rfl)
theorem dX21_mayUse_30 : decode cX21_mayUse 30 = .ok (.aload_n 0, 1) := dk_42 (dk_at dksX21_mayUse_1 7 rfl rfl)
theorem dX21_mayUse_31 : decode cX21_mayUse 31 = .ok (.getfield 22, 3) := dk_180 0 22 (dk_at dksX21_mayUse_1 8 rfl rfl)
theorem dX21_mayUse_34 : decode cX21_mayUse 34 = .ok (.iload_n 2, 1) := dk_28 (dk_at dksX21_mayUse_1 11 rfl rfl)
theorem dX21_mayUse_35 : decode cX21_mayUse 35 = .ok (.if_icmp .ne 7, 3) := dk_160 0 7 (dk_at dksX21_mayUse_1 12 rfl rfl)
theorem dX21_mayUse_38 : decode cX21_mayUse 38 = .ok (.iconst 1, 1) := dk_4 (dk_at dksX21_mayUse_1 15 rfl rfl)
theorem dX21_mayUse_39 : decode cX21_mayUse 39 = .ok (.goto 4, 3) := dk_167 0 4 (dk_at dksX21_mayUse_1 16 rfl rfl)
theorem dX21_mayUse_42 : decode cX21_mayUse 42 = .ok (.iconst 0, 1) := dk_3 (dk_at dksX21_mayUse_1 19 rfl rfl)
theorem dX21_mayUse_43 : decode cX21_mayUse 43 = .ok (.ireturn, 1) := dk_172 (dk_at dksX21_mayUse_1 20 rfl rfl)
theorem q109 : (Jvm.Cond.initialized "LifeKeys$Lent") ∈ lw_all := lw_g (lw_at lw_m1 27 rfl) rfl
theorem q1064 : (Jvm.Cond.instantiable "LifeKeys$Lent" (5 : Nat)) ∈ lw_all := lw_g (lw_at lw_m5 22 rfl) rfl
theorem q1066 : (Jvm.Cond.instanceMethod ({ cls := "LifeKeys$Lent", name := "<init>", desc := "(LLifeKeys$Key;III)V" } : Jvm.MethodName)) ∈ lw_all := lw_g (lw_at lw_m5 24 rfl) rfl
theorem q1067 : (Jvm.Cond.code ({ cls := "LifeKeys$Lent", name := "<init>", desc := "(LLifeKeys$Key;III)V" } : Jvm.MethodName) prog_6_method_1_code (5 : Nat) (Option.none : Option Jvm.ClassFile.FieldType)) ∈ lw_all := lw_g (lw_at lw_m5 25 rfl) rfl
theorem q1068 : (Jvm.Cond.methodLink "LifeKeys$Lent" (3 : Nat) ({ cls := "java/lang/Object", name := "<init>", desc := "()V" } : Jvm.MethodName)) ∈ lw_all := lw_g (lw_at lw_m5 26 rfl) rfl
theorem q1069 : (Jvm.Cond.fieldLink "LifeKeys$Lent" (9 : Nat) "LifeKeys$Lent" "key" "LLifeKeys$Key;") ∈ lw_all := lw_g (lw_at lw_m5 27 rfl) rfl
theorem q1071 : (Jvm.Cond.fieldLink "LifeKeys$Lent" (15 : Nat) "LifeKeys$Lent" "to" "I") ∈ lw_all := lw_g (lw_at lw_m5 29 rfl) rfl
theorem q1072 : (Jvm.Cond.fieldLink "LifeKeys$Lent" (22 : Nat) "LifeKeys$Lent" "thing" "I") ∈ lw_all := lw_g (lw_at lw_m5 30 rfl) rfl
theorem q1073 : (Jvm.Cond.fieldLink "LifeKeys$Lent" (19 : Nat) "LifeKeys$Lent" "uses" "I") ∈ lw_all := lw_g (lw_at lw_m5 31 rfl) rfl
theorem q1075 : (Jvm.Cond.fieldLink "LifeKeys$Lent" (25 : Nat) "LifeKeys$Lent" "isBack" "Z") ∈ lw_all := lw_g (lw_at lw_m5 33 rfl) rfl
theorem q1077 : (Jvm.Cond.laysFinal "LifeKeys$Lent" "LifeKeys$Lent" "key" "LLifeKeys$Key;") ∈ lw_all := lw_g (lw_at lw_m5 35 rfl) rfl
theorem q1078 : (Jvm.Cond.soleField "LifeKeys$Lent" "key") ∈ lw_all := lw_g (lw_at lw_m5 36 rfl) rfl
theorem q1079 : (Jvm.Cond.laysFinal "LifeKeys$Lent" "LifeKeys$Lent" "to" "I") ∈ lw_all := lw_g (lw_at lw_m5 37 rfl) rfl
theorem q1080 : (Jvm.Cond.soleField "LifeKeys$Lent" "to") ∈ lw_all := lw_g (lw_at lw_m5 38 rfl) rfl
theorem q1081 : (Jvm.Cond.laysFinal "LifeKeys$Lent" "LifeKeys$Lent" "thing" "I") ∈ lw_all := lw_g (lw_at lw_m5 39 rfl) rfl
theorem q1082 : (Jvm.Cond.soleField "LifeKeys$Lent" "thing") ∈ lw_all := lw_g (lw_at lw_m5 40 rfl) rfl
theorem q1083 : (Jvm.Cond.lays "LifeKeys$Lent" "LifeKeys$Lent" "uses" "I") ∈ lw_all := lw_g (lw_at lw_m5 41 rfl) rfl
theorem q1084 : (Jvm.Cond.soleField "LifeKeys$Lent" "uses") ∈ lw_all := lw_g (lw_at lw_m5 42 rfl) rfl
theorem q1085 : (Jvm.Cond.lays "LifeKeys$Lent" "LifeKeys$Lent" "isBack" "Z") ∈ lw_all := lw_g (lw_at lw_m5 43 rfl) rfl
theorem q1086 : (Jvm.Cond.soleField "LifeKeys$Lent" "isBack") ∈ lw_all := lw_g (lw_at lw_m5 44 rfl) rfl
theorem q1087 : (Jvm.Cond.superclass "LifeKeys$Lent" "java/lang/Object") ∈ lw_all := lw_g (lw_at lw_m5 45 rfl) rfl
theorem q1093 : (Jvm.Cond.instanceMethod ({ cls := "LifeKeys$Lent", name := "mayUse", desc := "(II)Z" } : Jvm.MethodName)) ∈ lw_all := lw_g (lw_at lw_m5 51 rfl) rfl
theorem q1094 : (Jvm.Cond.selects "LifeKeys$Lent" ({ cls := "LifeKeys$Lent", name := "mayUse", desc := "(II)Z" } : Jvm.MethodName) ({ cls := "LifeKeys$Lent", name := "mayUse", desc := "(II)Z" } : Jvm.MethodName)) ∈ lw_all := lw_g (lw_at lw_m5 52 rfl) rfl
theorem q1095 : (Jvm.Cond.code ({ cls := "LifeKeys$Lent", name := "mayUse", desc := "(II)Z" } : Jvm.MethodName) prog_6_method_2_code (3 : Nat) (Option.some Jvm.ClassFile.FieldType.boolean)) ∈ lw_all := lw_g (lw_at lw_m5 53 rfl) rfl
theorem q1896 : (Jvm.Cond.castable "LifeKeys$Lent" "java/lang/Object") ∈ lw_tbl := lw_at lw_m8 134 rfl
theorem in_X21 : ∀ w ∈ wsX210, w ∈ lw_all := lw_in wsX210 [1077, 1079, 1081, 1083, 1085] (by decide +kernel) (by decide +kernel)
theorem q119 : (Jvm.Cond.arrayOver (Jvm.ClassFile.FieldType.object "LifeKeys$Key")) ∈ lw_tbl := lw_at lw_m1 37 rfl
set_option maxRecDepth 100000
theorem q121 : (Jvm.Cond.arrayOver (Jvm.ClassFile.FieldType.object "LifeKeys$Wrap")) ∈ lw_tbl := lw_at lw_m1 39 rfl
theorem q123 : (Jvm.Cond.arrayOver (Jvm.ClassFile.FieldType.object "LifeKeys$Parting")) ∈ lw_tbl := lw_at lw_m1 41 rfl
theorem q181 : (Jvm.Cond.arrayClass Jvm.ClassFile.FieldType.byte) ∈ lw_all := lw_g (lw_at lw_m1 99 rfl) rfl
theorem q182 : (Jvm.Cond.arrayClass Jvm.ClassFile.FieldType.int) ∈ lw_all := lw_g (lw_at lw_m1 100 rfl) rfl
theorem q184 : (Jvm.Cond.arrayOver (Jvm.ClassFile.FieldType.object "LifeKeys$Test")) ∈ lw_tbl := lw_at lw_m1 102 rfl
theorem q186 : (Jvm.Cond.arrayOver (Jvm.ClassFile.FieldType.object "LifeKeys$Saying")) ∈ lw_tbl := lw_at lw_m1 104 rfl
theorem q188 : (Jvm.Cond.arrayOver (Jvm.ClassFile.FieldType.object "LifeKeys$Thing")) ∈ lw_tbl := lw_at lw_m1 106 rfl
theorem q190 : (Jvm.Cond.arrayOver (Jvm.ClassFile.FieldType.object "LifeKeys$Signature")) ∈ lw_tbl := lw_at lw_m1 108 rfl
theorem q192 : (Jvm.Cond.arrayOver (Jvm.ClassFile.FieldType.object "LifeKeys$Lent")) ∈ lw_tbl := lw_at lw_m1 110 rfl
theorem q308 : (Jvm.Cond.arrayClass Jvm.ClassFile.FieldType.boolean) ∈ lw_all := lw_g (lw_at lw_m1 226 rfl) rfl
theorem q1449 : (Jvm.Cond.arrayClass Jvm.ClassFile.FieldType.long) ∈ lw_all := lw_g (lw_at lw_m6 167 rfl) rfl
