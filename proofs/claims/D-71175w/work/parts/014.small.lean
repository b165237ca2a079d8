/-! java/lang/Throwable -/
set_option maxRecDepth 100000
def RJ0 : String := "java/lang/Throwable"
def TJ0 : u_T := fun k => match k with
  | 0 => ("java/lang/Throwable", "cause", "Ljava/lang/Throwable;", false)
  | 1 => ("java/lang/Throwable", "stackTrace", "[Ljava/lang/StackTraceElement;", false)
  | 2 => ("java/lang/Throwable", "suppressedExceptions", "Ljava/util/List;", false)
  | 3 => ("java/lang/Throwable", "detailMessage", "Ljava/lang/String;", false)
  | _ => ("java/lang/Throwable", "backtrace", "Ljava/lang/Object;", false)
def tyJ0 : Nat → FieldType := fun k => match k with
  | 0 => .object "java/lang/Throwable"
  | 1 => .array (.object "java/lang/StackTraceElement")
  | 2 => .object "java/util/List"
  | 3 => .object "java/lang/String"
  | _ => .object "java/lang/Object"
abbrev wsJ00 : List Cond := u_ws RJ0 TJ0 5
theorem nmJ0 : ∀ a, a < 5 → ∀ b, b < 5 → a ≠ b → (TJ0 a).2.1 ≠ (TJ0 b).2.1 := by decide +kernel
theorem tyJ0_ok : ∀ k, k < 5 → parseFieldDescriptor (TJ0 k).2.2.1 = some (tyJ0 k) := by decide +kernel
abbrev cJ0_init : ByteArray := prog_26_method_1_code
def yJ0_init : MethodName := ⟨RJ0, "<init>", "()V"⟩
def dkwJ0_init_1 : List UInt8 := [182, 0, 27, 87, 177]
abbrev dktJ0_init_1 : List UInt8 := dkwJ0_init_1 ++ []
def dkwJ0_init_0 : List UInt8 := [42, 183, 0, 1, 42, 42, 181, 0, 7, 42, 178, 0, 13, 181, 0, 17, 42, 178, 0, 20, 181, 0, 24, 42]
abbrev dktJ0_init_0 : List UInt8 := dkwJ0_init_0 ++ dktJ0_init_1
theorem dksJ0_init_0 : cJ0_init.data.toList.drop 0 = dktJ0_init_0 := by decide +kernel
theorem dksJ0_init_1 : cJ0_init.data.toList.drop 24 = dktJ0_init_1 := dk_seg dksJ0_init_0 24 rfl rfl
theorem dJ0_init_0 : decode cJ0_init 0 = .ok (.aload_n 0, 1) := dk_42 (dk_at dksJ0_init_0 0 rfl rfl)
theorem dJ0_init_1 : decode cJ0_init 1 = .ok (.invokespecial 1, 3) := dk_183 0 1 (dk_at dksJ0_init_0 1 rfl rfl)
theorem dJ0_init_4 : decode cJ0_init 4 = .ok (.aload_n 0, 1) := dk_42 (dk_at dksJ0_init_0 4 rfl rfl)
theorem dJ0_init_5 : decode cJ0_init 5 = .ok (.aload_n 0, 1) := dk_42 (dk_at dksJ0_init_0 5 rfl rfl)
theorem dJ0_init_6 : decode cJ0_init 6 = .ok (.putfield 7, 3) := dk_181 0 7 (dk_at dksJ0_init_0 6 rfl rfl)
theorem dJ0_init_9 : decode cJ0_init 9 = .ok (.aload_n 0, 1) := dk_42 (dk_at dksJ0_init_0 9 rfl rfl)
theorem dJ0_init_10 : decode cJ0_init 10 = .ok (.getstatic 13, 3) := dk_178 0 13 (dk_at dksJ0_init_0 10 rfl rfl)
theorem dJ0_init_13 : decode cJ0_init 13 = .ok (.putfield 17, 3) := dk_181 0 17 (dk_at dksJ0_init_0 13 rfl rfl)
theorem dJ0_init_16 : decode cJ0_init 16 = .ok (.aload_n 0, 1) := dk_42 (dk_at dksJ0_init_0 16 rfl rfl)
theorem dJ0_init_17 : decode cJ0_init 17 = .ok (.getstatic 20, 3) := dk_178 0 20 (dk_at dksJ0_init_0 17 rfl rfl)
theorem dJ0_init_20 : decode cJ0_init 20 = .ok (.putfield 24, 3) := dk_181 0 24 (dk_at dksJ0_init_0 20 rfl rfl)
theorem dJ0_init_23 : decode cJ0_init 23 = .ok (.aload_n 0, 1) := dk_42 (dk_at dksJ0_init_0 23 rfl rfl)
theorem dJ0_init_24 : decode cJ0_init 24 = .ok (.invokevirtual 27, 3) := dk_182 0 27 (dk_at dksJ0_init_1 0 rfl rfl)
theorem dJ0_init_27 : decode cJ0_init 27 = .ok (.pop, 1) := dk_87 (dk_at dksJ0_init_1 3 rfl rfl)
theorem dJ0_init_28 : decode cJ0_init 28 = .ok (.return_, 1) := dk_177 (dk_at dksJ0_init_1 4 rfl rfl)
abbrev cJ0_init_2 : ByteArray := prog_26_method_5_code
def yJ0_init_2 : MethodName := ⟨RJ0, "<init>", "(Ljava/lang/String;Ljava/lang/Throwable;ZZ)V"⟩
def dkwJ0_init_2_2 : List UInt8 := [44, 181, 0, 7, 29, 154, 0, 8, 42, 1, 181, 0, 24, 177]
abbrev dktJ0_init_2_2 : List UInt8 := dkwJ0_init_2_2 ++ []
def dkwJ0_init_2_1 : List UInt8 := [21, 4, 153, 0, 11, 42, 182, 0, 27, 87, 167, 0, 8, 42, 1, 181, 0, 17, 42, 43, 181, 0, 31, 42]
abbrev dktJ0_init_2_1 : List UInt8 := dkwJ0_init_2_1 ++ dktJ0_init_2_2
def dkwJ0_init_2_0 : List UInt8 := [42, 183, 0, 1, 42, 42, 181, 0, 7, 42, 178, 0, 13, 181, 0, 17, 42, 178, 0, 20, 181, 0, 24]
abbrev dktJ0_init_2_0 : List UInt8 := dkwJ0_init_2_0 ++ dktJ0_init_2_1
theorem dksJ0_init_2_0 : cJ0_init_2.data.toList.drop 0 = dktJ0_init_2_0 := by decide +kernel
theorem dksJ0_init_2_1 : cJ0_init_2.data.toList.drop 23 = dktJ0_init_2_1 := dk_seg dksJ0_init_2_0 23 rfl rfl
theorem dksJ0_init_2_2 : cJ0_init_2.data.toList.drop 47 = dktJ0_init_2_2 := dk_seg dksJ0_init_2_1 24 rfl rfl
theorem dJ0_init_2_0 : decode cJ0_init_2 0 = .ok (.aload_n 0, 1) := dk_42 (dk_at dksJ0_init_2_0 0 rfl rfl)
theorem dJ0_init_2_1 : decode cJ0_init_2 1 = .ok (.invokespecial 1, 3) := dk_183 0 1 (dk_at dksJ0_init_2_0 1 rfl rfl)
theorem dJ0_init_2_4 : decode cJ0_init_2 4 = .ok (.aload_n 0, 1) := dk_42 (dk_at dksJ0_init_2_0 4 rfl rfl)
theorem dJ0_init_2_5 : decode cJ0_init_2 5 = .ok (.aload_n 0, 1) := dk_42 (dk_at dksJ0_init_2_0 5 rfl rfl)
theorem dJ0_init_2_6 : decode cJ0_init_2 6 = .ok (.putfield 7, 3) := dk_181 0 7 (dk_at dksJ0_init_2_0 6 rfl rfl)
theorem dJ0_init_2_9 : decode cJ0_init_2 9 = .ok (.aload_n 0, 1) := dk_42 (dk_at dksJ0_init_2_0 9 rfl rfl)
theorem dJ0_init_2_10 : decode cJ0_init_2 10 = .ok (.getstatic 13, 3) := dk_178 0 13 (dk_at dksJ0_init_2_0 10 rfl rfl)
theorem dJ0_init_2_13 : decode cJ0_init_2 13 = .ok (.putfield 17, 3) := dk_181 0 17 (dk_at dksJ0_init_2_0 13 rfl rfl)
theorem dJ0_init_2_16 : decode cJ0_init_2 16 = .ok (.aload_n 0, 1) := dk_42 (dk_at dksJ0_init_2_0 16 rfl rfl)
theorem dJ0_init_2_17 : decode cJ0_init_2 17 = .ok (.getstatic 20, 3) := dk_178 0 20 (dk_at dksJ0_init_2_0 17 rfl rfl)
theorem dJ0_init_2_20 : decode cJ0_init_2 20 = .ok (.putfield 24, 3) := dk_181 0 24 (dk_at dksJ0_init_2_0 20 rfl rfl)
theorem dJ0_init_2_23 : decode cJ0_init_2 23 = .ok (.iload 4, 2) := dk_21 4 (dk_at dksJ0_init_2_1 0 rfl rfl)
theorem dJ0_init_2_25 : decode cJ0_init_2 25 = .ok (.ifCond .eq 11, 3) := dk_153 0 11 (dk_at dksJ0_init_2_1 2 rfl rfl)
theorem dJ0_init_2_28 : decode cJ0_init_2 28 = .ok (.aload_n 0, 1) := dk_42 (dk_at dksJ0_init_2_1 5 rfl rfl)
theorem dJ0_init_2_29 : decode cJ0_init_2 29 = .ok (.invokevirtual 27, 3) := dk_182 0 27 (dk_at dksJ0_init_2_1 6 rfl rfl)
theorem dJ0_init_2_32 : decode cJ0_init_2 32 = .ok (.pop, 1) := dk_87 (dk_at dksJ0_init_2_1 9 rfl rfl)
theorem dJ0_init_2_33 : decode cJ0_init_2 33 = .ok (.goto 8, 3) := dk_167 0 8 (dk_at dksJ0_init_2_1 10 rfl rfl)
theorem dJ0_init_2_36 : decode cJ0_init_2 36 = .ok (.aload_n 0, 1) := dk_42 (dk_at dksJ0_init_2_1 13 rfl rfl)
theorem dJ0_init_2_37 : decode cJ0_init_2 37 = .ok (.aconst_null, 1) := dk_1 (dk_at dksJ0_init_2_1 14 rfl rfl)
theorem dJ0_init_2_38 : decode cJ0_init_2 38 = .ok (.putfield 17, 3) := dk_181 0 17 (dk_at dksJ0_init_2_1 15 rfl rfl)
theorem dJ0_init_2_41 : decode cJ0_init_2 41 = .ok (.aload_n 0, 1) := dk_42 (dk_at dksJ0_init_2_1 18 rfl rfl)
theorem dJ0_init_2_42 : decode cJ0_init_2 42 = .ok (.aload_n 1, 1) := dk_43 (dk_at dksJ0_init_2_1 19 rfl rfl)
theorem dJ0_init_2_43 : decode cJ0_init_2 43 = .ok (.putfield 31, 3) := dk_181 0 31 (dk_at dksJ0_init_2_1 20 rfl rfl)
theorem dJ0_init_2_46 : decode cJ0_init_2 46 = .ok (.aload_n 0, 1) := dk_42 (dk_at dksJ0_init_2_1 23 rfl rfl)
theorem dJ0_init_2_47 : decode cJ0_init_2 47 = .ok (.aload_n 2, 1) := dk_44 (dk_at dksJ0_init_2_2 0 rfl rfl)
theorem dJ0_init_2_48 : decode cJ0_init_2 48 = .ok (.putfield 7, 3) := dk_181 0 7 (dk_at dksJ0_init_2_2 1 rfl rfl)
theorem dJ0_init_2_51 : decode cJ0_init_2 51 = .ok (.iload_n 3, 1) := dk_29 (dk_at dksJ0_init_2_2 4 rfl rfl)
theorem dJ0_init_2_52 : decode cJ0_init_2 52 = .ok (.ifCond .ne 8, 3) := dk_154 0 8 (dk_at dksJ0_init_2_2 5 rfl rfl)
theorem dJ0_init_2_55 : decode cJ0_init_2 55 = .ok (.aload_n 0, 1) := dk_42 (dk_at dksJ0_init_2_2 8 rfl rfl)
theorem dJ0_init_2_56 : decode cJ0_init_2 56 = .ok (.aconst_null, 1) := dk_1 (dk_at dksJ0_init_2_2 9 rfl rfl)
theorem dJ0_init_2_57 : decode cJ0_init_2 57 = .ok (.putfield 24, 3) := dk_181 0 24 (dk_at dksJ0_init_2_2 10 rfl rfl)
theorem dJ0_init_2_60 : decode cJ0_init_2 60 = .ok (.return_, 1) := dk_177 (dk_at dksJ0_init_2_2 13 rfl rfl)
abbrev cJ0_init_3 : ByteArray := prog_26_method_2_code
def yJ0_init_3 : MethodName := ⟨RJ0, "<init>", "(Ljava/lang/String;)V"⟩
def dkwJ0_init_3_1 : List UInt8 := [182, 0, 27, 87, 42, 43, 181, 0, 31, 177]
abbrev dktJ0_init_3_1 : List UInt8 := dkwJ0_init_3_1 ++ []
def dkwJ0_init_3_0 : List UInt8 := [42, 183, 0, 1, 42, 42, 181, 0, 7, 42, 178, 0, 13, 181, 0, 17, 42, 178, 0, 20, 181, 0, 24, 42]
abbrev dktJ0_init_3_0 : List UInt8 := dkwJ0_init_3_0 ++ dktJ0_init_3_1
theorem dksJ0_init_3_0 : cJ0_init_3.data.toList.drop 0 = dktJ0_init_3_0 := by decide +kernel
theorem dksJ0_init_3_1 : cJ0_init_3.data.toList.drop 24 = dktJ0_init_3_1 := dk_seg dksJ0_init_3_0 24 rfl rfl
theorem dJ0_init_3_0 : decode cJ0_init_3 0 = .ok (.aload_n 0, 1) := dk_42 (dk_at dksJ0_init_3_0 0 rfl rfl)
theorem dJ0_init_3_1 : decode cJ0_init_3 1 = .ok (.invokespecial 1, 3) := dk_183 0 1 (dk_at dksJ0_init_3_0 1 rfl rfl)
theorem dJ0_init_3_4 : decode cJ0_init_3 4 = .ok (.aload_n 0, 1) := dk_42 (dk_at dksJ0_init_3_0 4 rfl rfl)
theorem dJ0_init_3_5 : decode cJ0_init_3 5 = .ok (.aload_n 0, 1) := dk_42 (dk_at dksJ0_init_3_0 5 rfl rfl)
theorem dJ0_init_3_6 : decode cJ0_init_3 6 = .ok (.putfield 7, 3) := dk_181 0 7 (dk_at dksJ0_init_3_0 6 rfl rfl)
theorem dJ0_init_3_9 : decode cJ0_init_3 9 = .ok (.aload_n 0, 1) := dk_42 (dk_at dksJ0_init_3_0 9 rfl rfl)
theorem dJ0_init_3_10 : decode cJ0_init_3 10 = .ok (.getstatic 13, 3) := dk_178 0 13 (dk_at dksJ0_init_3_0 10 rfl rfl)
theorem dJ0_init_3_13 : decode cJ0_init_3 13 = .ok (.putfield 17, 3) := dk_181 0 17 (dk_at dksJ0_init_3_0 13 rfl rfl)
theorem dJ0_init_3_16 : decode cJ0_init_3 16 = .ok (.aload_n 0, 1) := dk_42 (dk_at dksJ0_init_3_0 16 rfl rfl)
theorem dJ0_init_3_17 : decode cJ0_init_3 17 = .ok (.getstatic 20, 3) := dk_178 0 20 (dk_at dksJ0_init_3_0 17 rfl rfl)
theorem dJ0_init_3_20 : decode cJ0_init_3 20 = .ok (.putfield 24, 3) := dk_181 0 24 (dk_at dksJ0_init_3_0 20 rfl rfl)
theorem dJ0_init_3_23 : decode cJ0_init_3 23 = .ok (.aload_n 0, 1) := dk_42 (dk_at dksJ0_init_3_0 23 rfl rfl)
theorem dJ0_init_3_24 : decode cJ0_init_3 24 = .ok (.invokevirtual 27, 3) := dk_182 0 27 (dk_at dksJ0_init_3_1 0 rfl rfl)
theorem dJ0_init_3_27 : decode cJ0_init_3 27 = .ok (.pop, 1) := dk_87 (dk_at dksJ0_init_3_1 3 rfl rfl)
theorem dJ0_init_3_28 : decode cJ0_init_3 28 = .ok (.aload_n 0, 1) := dk_42 (dk_at dksJ0_init_3_1 4 rfl rfl)
theorem dJ0_init_3_29 : decode cJ0_init_3 29 = .ok (.aload_n 1, 1) := dk_43 (dk_at dksJ0_init_3_1 5 rfl rfl)
theorem dJ0_init_3_30 : decode cJ0_init_3 30 = .ok (.putfield 31, 3) := dk_181 0 31 (dk_at dksJ0_init_3_1 6 rfl rfl)
theorem dJ0_init_3_33 : decode cJ0_init_3 33 = .ok (.return_, 1) := dk_177 (dk_at dksJ0_init_3_1 9 rfl rfl)
theorem q75 : (Jvm.Cond.initialized "java/lang/Throwable") ∈ lw_all := lw_g (lw_at lw_m1 8 rfl) rfl
theorem q187 : (Jvm.Cond.declares ({ cls := "java/lang/Throwable", name := "<init>", desc := "()V" } : Jvm.MethodName)) ∈ lw_tbl := lw_at lw_m1 120 rfl
theorem q188 : (Jvm.Cond.declares ({ cls := "java/lang/Throwable", name := "<init>", desc := "(Ljava/lang/String;)V" } : Jvm.MethodName)) ∈ lw_tbl := lw_at lw_m1 121 rfl
theorem q192 : (Jvm.Cond.lays "java/lang/Throwable" "java/lang/Throwable" "cause" "Ljava/lang/Throwable;") ∈ lw_all := lw_g (lw_at lw_m1 125 rfl) rfl
theorem q194 : (Jvm.Cond.lays "java/lang/Throwable" "java/lang/Throwable" "stackTrace" "[Ljava/lang/StackTraceElement;") ∈ lw_all := lw_g (lw_at lw_m1 127 rfl) rfl
theorem q196 : (Jvm.Cond.lays "java/lang/Throwable" "java/lang/Throwable" "suppressedExceptions" "Ljava/util/List;") ∈ lw_all := lw_g (lw_at lw_m1 129 rfl) rfl
theorem q198 : (Jvm.Cond.lays "java/lang/Throwable" "java/lang/Throwable" "detailMessage" "Ljava/lang/String;") ∈ lw_all := lw_g (lw_at lw_m1 131 rfl) rfl
theorem q200 : (Jvm.Cond.lays "java/lang/Throwable" "java/lang/Throwable" "backtrace" "Ljava/lang/Object;") ∈ lw_all := lw_g (lw_at lw_m1 133 rfl) rfl
theorem q201 : (Jvm.Cond.fieldLink "java/lang/Throwable" (198 : Nat) "java/lang/Throwable" "backtrace" "Ljava/lang/Object;") ∈ lw_all := lw_g (lw_at lw_m1 134 rfl) rfl
theorem q202 : (Jvm.Cond.superclass "java/lang/Throwable" "java/lang/Object") ∈ lw_all := lw_g (lw_at lw_m1 135 rfl) rfl
theorem q203 : (Jvm.Cond.instanceMethod ({ cls := "java/lang/Throwable", name := "<init>", desc := "()V" } : Jvm.MethodName)) ∈ lw_all := lw_g (lw_at lw_m1 136 rfl) rfl
theorem q204 : (Jvm.Cond.code ({ cls := "java/lang/Throwable", name := "<init>", desc := "()V" } : Jvm.MethodName) prog_26_method_1_code (1 : Nat) (Option.none : Option Jvm.ClassFile.FieldType)) ∈ lw_all := lw_g (lw_at lw_m1 137 rfl) rfl
theorem q205 : (Jvm.Cond.methodLink "java/lang/Throwable" (1 : Nat) ({ cls := "java/lang/Object", name := "<init>", desc := "()V" } : Jvm.MethodName)) ∈ lw_all := lw_g (lw_at lw_m1 138 rfl) rfl
theorem q206 : (Jvm.Cond.fieldLink "java/lang/Throwable" (13 : Nat) "java/lang/Throwable" "UNASSIGNED_STACK" "[Ljava/lang/StackTraceElement;") ∈ lw_all := lw_g (lw_at lw_m1 139 rfl) rfl
theorem q207 : (Jvm.Cond.laysStatic "java/lang/Throwable" "UNASSIGNED_STACK" "[Ljava/lang/StackTraceElement;") ∈ lw_tbl := lw_at lw_m1 140 rfl
theorem q208 : (Jvm.Cond.fieldLink "java/lang/Throwable" (20 : Nat) "java/lang/Throwable" "SUPPRESSED_SENTINEL" "Ljava/util/List;") ∈ lw_all := lw_g (lw_at lw_m1 141 rfl) rfl
theorem q209 : (Jvm.Cond.laysStatic "java/lang/Throwable" "SUPPRESSED_SENTINEL" "Ljava/util/List;") ∈ lw_tbl := lw_at lw_m1 142 rfl
theorem q210 : (Jvm.Cond.methodLink "java/lang/Throwable" (27 : Nat) ({ cls := "java/lang/Throwable", name := "fillInStackTrace", desc := "()Ljava/lang/Throwable;" } : Jvm.MethodName)) ∈ lw_all := lw_g (lw_at lw_m1 143 rfl) rfl
theorem q211 : (Jvm.Cond.instanceMethod ({ cls := "java/lang/Throwable", name := "fillInStackTrace", desc := "()Ljava/lang/Throwable;" } : Jvm.MethodName)) ∈ lw_all := lw_g (lw_at lw_m1 144 rfl) rfl
theorem q212 : (Jvm.Cond.sameMethod "java/lang/Throwable" "java/lang/Throwable" "fillInStackTrace" "()Ljava/lang/Throwable;") ∈ lw_all := lw_g (lw_at lw_m1 145 rfl) rfl
theorem q226 : (Jvm.Cond.declares ({ cls := "java/lang/Throwable", name := "fillInStackTrace", desc := "()Ljava/lang/Throwable;" } : Jvm.MethodName)) ∈ lw_tbl := lw_at lw_m1 159 rfl
theorem q230 : (Jvm.Cond.codeSync ({ cls := "java/lang/Throwable", name := "fillInStackTrace", desc := "()Ljava/lang/Throwable;" } : Jvm.MethodName) prog_26_method_18_code (1 : Nat) (Option.some (Jvm.ClassFile.FieldType.object "java/lang/Throwable"))) ∈ lw_all := lw_g (lw_at lw_m1 163 rfl) rfl
theorem q231 : (Jvm.Cond.methodLink "java/lang/Throwable" (202 : Nat) ({ cls := "java/lang/Throwable", name := "fillInStackTrace", desc := "(I)Ljava/lang/Throwable;" } : Jvm.MethodName)) ∈ lw_all := lw_g (lw_at lw_m1 164 rfl) rfl
theorem q232 : (Jvm.Cond.privateMethod ({ cls := "java/lang/Throwable", name := "fillInStackTrace", desc := "(I)Ljava/lang/Throwable;" } : Jvm.MethodName)) ∈ lw_tbl := lw_at lw_m1 165 rfl
theorem q233 : (Jvm.Cond.instanceMethod ({ cls := "java/lang/Throwable", name := "fillInStackTrace", desc := "(I)Ljava/lang/Throwable;" } : Jvm.MethodName)) ∈ lw_all := lw_g (lw_at lw_m1 166 rfl) rfl
theorem q234 : (Jvm.Cond.instantiable "java/lang/Throwable" (6 : Nat)) ∈ lw_all := lw_g (lw_at lw_m1 167 rfl) rfl
theorem q235 : (Jvm.Cond.native ({ cls := "java/lang/Throwable", name := "fillInStackTrace", desc := "(I)Ljava/lang/Throwable;" } : Jvm.MethodName)) ∈ lw_all := lw_g (lw_at lw_m1 168 rfl) rfl
theorem q246 : (Jvm.Cond.instanceMethod ({ cls := "java/lang/Throwable", name := "<init>", desc := "(Ljava/lang/String;Ljava/lang/Throwable;ZZ)V" } : Jvm.MethodName)) ∈ lw_all := lw_g (lw_at lw_m1 179 rfl) rfl
theorem q247 : (Jvm.Cond.code ({ cls := "java/lang/Throwable", name := "<init>", desc := "(Ljava/lang/String;Ljava/lang/Throwable;ZZ)V" } : Jvm.MethodName) prog_26_method_5_code (5 : Nat) (Option.none : Option Jvm.ClassFile.FieldType)) ∈ lw_all := lw_g (lw_at lw_m1 180 rfl) rfl
theorem q252 : (Jvm.Cond.fieldLink "java/lang/Throwable" (198 : Nat) "java/lang/Throwable" "backtrace" "Ljava/lang/Object;") ∈ lw_all := lw_g (lw_at lw_m1 185 rfl) rfl
theorem q253 : (Jvm.Cond.fieldLink "java/lang/Throwable" (31 : Nat) "java/lang/Throwable" "detailMessage" "Ljava/lang/String;") ∈ lw_all := lw_g (lw_at lw_m1 186 rfl) rfl
theorem q254 : (Jvm.Cond.fieldLink "java/lang/Throwable" (7 : Nat) "java/lang/Throwable" "cause" "Ljava/lang/Throwable;") ∈ lw_all := lw_g (lw_at lw_m1 187 rfl) rfl
theorem q255 : (Jvm.Cond.fieldLink "java/lang/Throwable" (17 : Nat) "java/lang/Throwable" "stackTrace" "[Ljava/lang/StackTraceElement;") ∈ lw_all := lw_g (lw_at lw_m1 188 rfl) rfl
theorem q256 : (Jvm.Cond.fieldLink "java/lang/Throwable" (24 : Nat) "java/lang/Throwable" "suppressedExceptions" "Ljava/util/List;") ∈ lw_all := lw_g (lw_at lw_m1 189 rfl) rfl
theorem q261 : (Jvm.Cond.soleField "java/lang/Throwable" "backtrace") ∈ lw_all := lw_g (lw_at lw_m1 194 rfl) rfl
theorem q262 : (Jvm.Cond.soleField "java/lang/Throwable" "detailMessage") ∈ lw_all := lw_g (lw_at lw_m1 195 rfl) rfl
theorem q263 : (Jvm.Cond.soleField "java/lang/Throwable" "cause") ∈ lw_all := lw_g (lw_at lw_m1 196 rfl) rfl
theorem q264 : (Jvm.Cond.soleField "java/lang/Throwable" "stackTrace") ∈ lw_all := lw_g (lw_at lw_m1 197 rfl) rfl
theorem q266 : (Jvm.Cond.soleField "java/lang/Throwable" "depth") ∈ lw_all := lw_g (lw_at lw_m1 199 rfl) rfl
theorem q267 : (Jvm.Cond.soleField "java/lang/Throwable" "suppressedExceptions") ∈ lw_all := lw_g (lw_at lw_m1 200 rfl) rfl
theorem q788 : (Jvm.Cond.instanceMethod ({ cls := "java/lang/Throwable", name := "<init>", desc := "(Ljava/lang/String;)V" } : Jvm.MethodName)) ∈ lw_all := lw_g (lw_at lw_m4 1 rfl) rfl
theorem q789 : (Jvm.Cond.code ({ cls := "java/lang/Throwable", name := "<init>", desc := "(Ljava/lang/String;)V" } : Jvm.MethodName) prog_26_method_2_code (2 : Nat) (Option.none : Option Jvm.ClassFile.FieldType)) ∈ lw_all := lw_g (lw_at lw_m4 2 rfl) rfl
theorem q1372 : (Jvm.Cond.sameMethod "java/lang/Throwable" "java/lang/Throwable" "fillInStackTrace" "(I)Ljava/lang/Throwable;") ∈ lw_all := lw_g (lw_at lw_m6 105 rfl) rfl
theorem in_J0 : ∀ w ∈ wsJ00, w ∈ lw_all := lw_in wsJ00 [192, 194, 196, 198, 200] (by decide +kernel) (by decide +kernel)
/-! java/lang/Exception -/
set_option maxRecDepth 100000
def RJ1 : String := "java/lang/Exception"
abbrev cJ1_init : ByteArray := prog_15_method_5_code
def yJ1_init : MethodName := ⟨RJ1, "<init>", "(Ljava/lang/String;Ljava/lang/Throwable;ZZ)V"⟩
def dkwJ1_init_0 : List UInt8 := [42, 43, 44, 29, 21, 4, 183, 0, 16, 177]
abbrev dktJ1_init_0 : List UInt8 := dkwJ1_init_0 ++ []
theorem dksJ1_init_0 : cJ1_init.data.toList.drop 0 = dktJ1_init_0 := by decide +kernel
theorem dJ1_init_0 : decode cJ1_init 0 = .ok (.aload_n 0, 1) := dk_42 (dk_at dksJ1_init_0 0 rfl rfl)
theorem dJ1_init_1 : decode cJ1_init 1 = .ok (.aload_n 1, 1) := dk_43 (dk_at dksJ1_init_0 1 rfl rfl)
theorem dJ1_init_2 : decode cJ1_init 2 = .ok (.aload_n 2, 1) := dk_44 (dk_at dksJ1_init_0 2 rfl rfl)
theorem dJ1_init_3 : decode cJ1_init 3 = .ok (.iload_n 3, 1) := dk_29 (dk_at dksJ1_init_0 3 rfl rfl)
theorem dJ1_init_4 : decode cJ1_init 4 = .ok (.iload 4, 2) := dk_21 4 (dk_at dksJ1_init_0 4 rfl rfl)
theorem dJ1_init_6 : decode cJ1_init 6 = .ok (.invokespecial 16, 3) := dk_183 0 16 (dk_at dksJ1_init_0 6 rfl rfl)
theorem dJ1_init_9 : decode cJ1_init 9 = .ok (.return_, 1) := dk_177 (dk_at dksJ1_init_0 9 rfl rfl)
abbrev cJ1_init_2 : ByteArray := prog_15_method_2_code
def yJ1_init_2 : MethodName := ⟨RJ1, "<init>", "(Ljava/lang/String;)V"⟩
def dkwJ1_init_2_0 : List UInt8 := [42, 43, 183, 0, 7, 177]
abbrev dktJ1_init_2_0 : List UInt8 := dkwJ1_init_2_0 ++ []
theorem dksJ1_init_2_0 : cJ1_init_2.data.toList.drop 0 = dktJ1_init_2_0 := by decide +kernel
theorem dJ1_init_2_0 : decode cJ1_init_2 0 = .ok (.aload_n 0, 1) := dk_42 (dk_at dksJ1_init_2_0 0 rfl rfl)
theorem dJ1_init_2_1 : decode cJ1_init_2 1 = .ok (.aload_n 1, 1) := dk_43 (dk_at dksJ1_init_2_0 1 rfl rfl)
theorem dJ1_init_2_2 : decode cJ1_init_2 2 = .ok (.invokespecial 7, 3) := dk_183 0 7 (dk_at dksJ1_init_2_0 2 rfl rfl)
theorem dJ1_init_2_5 : decode cJ1_init_2 5 = .ok (.return_, 1) := dk_177 (dk_at dksJ1_init_2_0 5 rfl rfl)
abbrev cJ1_init_3 : ByteArray := prog_15_method_1_code
def yJ1_init_3 : MethodName := ⟨RJ1, "<init>", "()V"⟩
theorem dJ1_init_3_0 : decode cJ1_init_3 0 = .ok (.aload_n 0, 1) := by decide +kernel
theorem dJ1_init_3_1 : decode cJ1_init_3 1 = .ok (.invokespecial 1, 3) := by decide +kernel
theorem dJ1_init_3_4 : decode cJ1_init_3 4 = .ok (.return_, 1) := by decide +kernel
theorem q76 : (Jvm.Cond.initialized "java/lang/Exception") ∈ lw_all := lw_g (lw_at lw_m1 9 rfl) rfl
theorem q185 : (Jvm.Cond.declares ({ cls := "java/lang/Exception", name := "<init>", desc := "()V" } : Jvm.MethodName)) ∈ lw_tbl := lw_at lw_m1 118 rfl
theorem q186 : (Jvm.Cond.declares ({ cls := "java/lang/Exception", name := "<init>", desc := "(Ljava/lang/String;)V" } : Jvm.MethodName)) ∈ lw_tbl := lw_at lw_m1 119 rfl
theorem q229 : (Jvm.Cond.superclass "java/lang/Exception" "java/lang/Throwable") ∈ lw_all := lw_g (lw_at lw_m1 162 rfl) rfl
theorem q243 : (Jvm.Cond.instanceMethod ({ cls := "java/lang/Exception", name := "<init>", desc := "(Ljava/lang/String;Ljava/lang/Throwable;ZZ)V" } : Jvm.MethodName)) ∈ lw_all := lw_g (lw_at lw_m1 176 rfl) rfl
theorem q244 : (Jvm.Cond.code ({ cls := "java/lang/Exception", name := "<init>", desc := "(Ljava/lang/String;Ljava/lang/Throwable;ZZ)V" } : Jvm.MethodName) prog_15_method_5_code (5 : Nat) (Option.none : Option Jvm.ClassFile.FieldType)) ∈ lw_all := lw_g (lw_at lw_m1 177 rfl) rfl
theorem q245 : (Jvm.Cond.methodLink "java/lang/Exception" (16 : Nat) ({ cls := "java/lang/Throwable", name := "<init>", desc := "(Ljava/lang/String;Ljava/lang/Throwable;ZZ)V" } : Jvm.MethodName)) ∈ lw_all := lw_g (lw_at lw_m1 178 rfl) rfl
theorem q785 : (Jvm.Cond.instanceMethod ({ cls := "java/lang/Exception", name := "<init>", desc := "(Ljava/lang/String;)V" } : Jvm.MethodName)) ∈ lw_all := lw_g (lw_at lw_m3 238 rfl) rfl
theorem q786 : (Jvm.Cond.code ({ cls := "java/lang/Exception", name := "<init>", desc := "(Ljava/lang/String;)V" } : Jvm.MethodName) prog_15_method_2_code (2 : Nat) (Option.none : Option Jvm.ClassFile.FieldType)) ∈ lw_all := lw_g (lw_at lw_m3 239 rfl) rfl
theorem q787 : (Jvm.Cond.methodLink "java/lang/Exception" (7 : Nat) ({ cls := "java/lang/Throwable", name := "<init>", desc := "(Ljava/lang/String;)V" } : Jvm.MethodName)) ∈ lw_all := lw_g (lw_at lw_m4 0 rfl) rfl
theorem q820 : (Jvm.Cond.instanceMethod ({ cls := "java/lang/Exception", name := "<init>", desc := "()V" } : Jvm.MethodName)) ∈ lw_all := lw_g (lw_at lw_m4 33 rfl) rfl
theorem q821 : (Jvm.Cond.code ({ cls := "java/lang/Exception", name := "<init>", desc := "()V" } : Jvm.MethodName) prog_15_method_1_code (1 : Nat) (Option.none : Option Jvm.ClassFile.FieldType)) ∈ lw_all := lw_g (lw_at lw_m4 34 rfl) rfl
theorem q822 : (Jvm.Cond.methodLink "java/lang/Exception" (1 : Nat) ({ cls := "java/lang/Throwable", name := "<init>", desc := "()V" } : Jvm.MethodName)) ∈ lw_all := lw_g (lw_at lw_m4 35 rfl) rfl
/-! java/lang/NullPointerException -/
set_option maxRecDepth 100000
def RJ10 : String := "java/lang/NullPointerException"
def TJ10 : u_T := fun k => match k with
  | 0 => ("java/lang/Throwable", "backtrace", "Ljava/lang/Object;", false)
  | 1 => ("java/lang/Throwable", "detailMessage", "Ljava/lang/String;", false)
  | 2 => ("java/lang/Throwable", "cause", "Ljava/lang/Throwable;", false)
  | 3 => ("java/lang/Throwable", "stackTrace", "[Ljava/lang/StackTraceElement;", false)
  | 4 => ("java/lang/Throwable", "depth", "I", false)
  | 5 => ("java/lang/Throwable", "suppressedExceptions", "Ljava/util/List;", false)
  | 6 => ("java/lang/NullPointerException", "extendedMessageState", "I", false)
  | _ => ("java/lang/NullPointerException", "extendedMessage", "Ljava/lang/String;", false)
def tyJ10 : Nat → FieldType := fun k => match k with
  | 0 => .object "java/lang/Object"
  | 1 => .object "java/lang/String"
  | 2 => .object "java/lang/Throwable"
  | 3 => .array (.object "java/lang/StackTraceElement")
  | 4 => .int
  | 5 => .object "java/util/List"
  | 6 => .int
  | _ => .object "java/lang/String"
abbrev wsJ100 : List Cond := u_ws RJ10 TJ10 8
theorem nmJ10 : ∀ a, a < 8 → ∀ b, b < 8 → a ≠ b → (TJ10 a).2.1 ≠ (TJ10 b).2.1 := by decide +kernel
theorem tyJ10_ok : ∀ k, k < 8 → parseFieldDescriptor (TJ10 k).2.2.1 = some (tyJ10 k) := by decide +kernel
abbrev cJ10_init : ByteArray := prog_20_method_1_code
def yJ10_init : MethodName := ⟨RJ10, "<init>", "()V"⟩
theorem dJ10_init_0 : decode cJ10_init 0 = .ok (.aload_n 0, 1) := by decide +kernel
theorem dJ10_init_1 : decode cJ10_init 1 = .ok (.invokespecial 1, 3) := by decide +kernel
theorem dJ10_init_4 : decode cJ10_init 4 = .ok (.return_, 1) := by decide +kernel
theorem q86 : (Jvm.Cond.initialized "java/lang/NullPointerException") ∈ lw_all := lw_g (lw_at lw_m1 19 rfl) rfl
theorem q216 : (Jvm.Cond.selects "java/lang/NullPointerException" ({ cls := "java/lang/Throwable", name := "fillInStackTrace", desc := "()Ljava/lang/Throwable;" } : Jvm.MethodName) ({ cls := "java/lang/NullPointerException", name := "fillInStackTrace", desc := "()Ljava/lang/Throwable;" } : Jvm.MethodName)) ∈ lw_all := lw_g (lw_at lw_m1 149 rfl) rfl
theorem q217 : (Jvm.Cond.instanceMethod ({ cls := "java/lang/NullPointerException", name := "fillInStackTrace", desc := "()Ljava/lang/Throwable;" } : Jvm.MethodName)) ∈ lw_all := lw_g (lw_at lw_m1 150 rfl) rfl
theorem q218 : (Jvm.Cond.codeSync ({ cls := "java/lang/NullPointerException", name := "fillInStackTrace", desc := "()Ljava/lang/Throwable;" } : Jvm.MethodName) prog_20_method_3_code (1 : Nat) (Option.some (Jvm.ClassFile.FieldType.object "java/lang/Throwable"))) ∈ lw_all := lw_g (lw_at lw_m1 151 rfl) rfl
theorem q219 : (Jvm.Cond.methodLink "java/lang/NullPointerException" (16 : Nat) ({ cls := "java/lang/NullPointerException", name := "getExtendedNPEMessage", desc := "()Ljava/lang/String;" } : Jvm.MethodName)) ∈ lw_all := lw_g (lw_at lw_m1 152 rfl) rfl
theorem q220 : (Jvm.Cond.privateMethod ({ cls := "java/lang/NullPointerException", name := "getExtendedNPEMessage", desc := "()Ljava/lang/String;" } : Jvm.MethodName)) ∈ lw_tbl := lw_at lw_m1 153 rfl
theorem q221 : (Jvm.Cond.instanceMethod ({ cls := "java/lang/NullPointerException", name := "getExtendedNPEMessage", desc := "()Ljava/lang/String;" } : Jvm.MethodName)) ∈ lw_all := lw_g (lw_at lw_m1 154 rfl) rfl
theorem q222 : (Jvm.Cond.instantiable "java/lang/NullPointerException" (8 : Nat)) ∈ lw_all := lw_g (lw_at lw_m1 155 rfl) rfl
theorem q223 : (Jvm.Cond.native ({ cls := "java/lang/NullPointerException", name := "getExtendedNPEMessage", desc := "()Ljava/lang/String;" } : Jvm.MethodName)) ∈ lw_all := lw_g (lw_at lw_m1 156 rfl) rfl
theorem q224 : (Jvm.Cond.methodLink "java/lang/NullPointerException" (24 : Nat) ({ cls := "java/lang/RuntimeException", name := "fillInStackTrace", desc := "()Ljava/lang/Throwable;" } : Jvm.MethodName)) ∈ lw_all := lw_g (lw_at lw_m1 157 rfl) rfl
theorem q227 : (Jvm.Cond.superclass "java/lang/NullPointerException" "java/lang/RuntimeException") ∈ lw_all := lw_g (lw_at lw_m1 160 rfl) rfl
theorem q814 : (Jvm.Cond.instanceMethod ({ cls := "java/lang/NullPointerException", name := "<init>", desc := "()V" } : Jvm.MethodName)) ∈ lw_all := lw_g (lw_at lw_m4 27 rfl) rfl
theorem q815 : (Jvm.Cond.code ({ cls := "java/lang/NullPointerException", name := "<init>", desc := "()V" } : Jvm.MethodName) prog_20_method_1_code (1 : Nat) (Option.none : Option Jvm.ClassFile.FieldType)) ∈ lw_all := lw_g (lw_at lw_m4 28 rfl) rfl
theorem q816 : (Jvm.Cond.methodLink "java/lang/NullPointerException" (1 : Nat) ({ cls := "java/lang/RuntimeException", name := "<init>", desc := "()V" } : Jvm.MethodName)) ∈ lw_all := lw_g (lw_at lw_m4 29 rfl) rfl
theorem q823 : (Jvm.Cond.fieldLink "java/lang/NullPointerException" (10 : Nat) "java/lang/NullPointerException" "extendedMessageState" "I") ∈ lw_all := lw_g (lw_at lw_m4 36 rfl) rfl
theorem q824 : (Jvm.Cond.fieldLink "java/lang/NullPointerException" (20 : Nat) "java/lang/NullPointerException" "extendedMessage" "Ljava/lang/String;") ∈ lw_all := lw_g (lw_at lw_m4 37 rfl) rfl
theorem q825 : (Jvm.Cond.lays "java/lang/NullPointerException" "java/lang/NullPointerException" "extendedMessageState" "I") ∈ lw_all := lw_g (lw_at lw_m4 38 rfl) rfl
theorem q826 : (Jvm.Cond.soleField "java/lang/NullPointerException" "extendedMessageState") ∈ lw_all := lw_g (lw_at lw_m4 39 rfl) rfl
theorem q827 : (Jvm.Cond.lays "java/lang/NullPointerException" "java/lang/NullPointerException" "extendedMessage" "Ljava/lang/String;") ∈ lw_all := lw_g (lw_at lw_m4 40 rfl) rfl
theorem q828 : (Jvm.Cond.soleField "java/lang/NullPointerException" "extendedMessage") ∈ lw_all := lw_g (lw_at lw_m4 41 rfl) rfl
theorem q829 : (Jvm.Cond.lays "java/lang/NullPointerException" "java/lang/Throwable" "backtrace" "Ljava/lang/Object;") ∈ lw_all := lw_g (lw_at lw_m4 42 rfl) rfl
theorem q830 : (Jvm.Cond.lays "java/lang/NullPointerException" "java/lang/Throwable" "detailMessage" "Ljava/lang/String;") ∈ lw_all := lw_g (lw_at lw_m4 43 rfl) rfl
theorem q831 : (Jvm.Cond.lays "java/lang/NullPointerException" "java/lang/Throwable" "cause" "Ljava/lang/Throwable;") ∈ lw_all := lw_g (lw_at lw_m4 44 rfl) rfl
theorem q832 : (Jvm.Cond.lays "java/lang/NullPointerException" "java/lang/Throwable" "stackTrace" "[Ljava/lang/StackTraceElement;") ∈ lw_all := lw_g (lw_at lw_m4 45 rfl) rfl
theorem q833 : (Jvm.Cond.lays "java/lang/NullPointerException" "java/lang/Throwable" "depth" "I") ∈ lw_all := lw_g (lw_at lw_m4 46 rfl) rfl
theorem q834 : (Jvm.Cond.lays "java/lang/NullPointerException" "java/lang/Throwable" "suppressedExceptions" "Ljava/util/List;") ∈ lw_all := lw_g (lw_at lw_m4 47 rfl) rfl
theorem q835 : (Jvm.Cond.castable "java/lang/NullPointerException" "java/lang/NullPointerException") ∈ lw_tbl := lw_at lw_m4 48 rfl
theorem q836 : (Jvm.Cond.selects "java/lang/NullPointerException" ({ cls := "java/lang/Throwable", name := "fillInStackTrace", desc := "(I)Ljava/lang/Throwable;" } : Jvm.MethodName) ({ cls := "java/lang/Throwable", name := "fillInStackTrace", desc := "(I)Ljava/lang/Throwable;" } : Jvm.MethodName)) ∈ lw_all := lw_g (lw_at lw_m4 49 rfl) rfl
theorem in_J10 : ∀ w ∈ wsJ100, w ∈ lw_all := lw_in wsJ100 [829, 830, 831, 832, 833, 834, 825, 827] (by decide +kernel) (by decide +kernel)
/-! java/lang/IndexOutOfBoundsException -/
set_option maxRecDepth 100000
def RJ11 : String := "java/lang/IndexOutOfBoundsException"
abbrev cJ11_init : ByteArray := prog_16_method_2_code
def yJ11_init : MethodName := ⟨RJ11, "<init>", "(Ljava/lang/String;)V"⟩
def dkwJ11_init_0 : List UInt8 := [42, 43, 183, 0, 7, 177]
abbrev dktJ11_init_0 : List UInt8 := dkwJ11_init_0 ++ []
theorem dksJ11_init_0 : cJ11_init.data.toList.drop 0 = dktJ11_init_0 := by decide +kernel
theorem dJ11_init_0 : decode cJ11_init 0 = .ok (.aload_n 0, 1) := dk_42 (dk_at dksJ11_init_0 0 rfl rfl)
theorem dJ11_init_1 : decode cJ11_init 1 = .ok (.aload_n 1, 1) := dk_43 (dk_at dksJ11_init_0 1 rfl rfl)
theorem dJ11_init_2 : decode cJ11_init 2 = .ok (.invokespecial 7, 3) := dk_183 0 7 (dk_at dksJ11_init_0 2 rfl rfl)
theorem dJ11_init_5 : decode cJ11_init 5 = .ok (.return_, 1) := dk_177 (dk_at dksJ11_init_0 5 rfl rfl)
theorem q87 : (Jvm.Cond.initialized "java/lang/IndexOutOfBoundsException") ∈ lw_all := lw_g (lw_at lw_m1 20 rfl) rfl
theorem q843 : (Jvm.Cond.instanceMethod ({ cls := "java/lang/IndexOutOfBoundsException", name := "<init>", desc := "(Ljava/lang/String;)V" } : Jvm.MethodName)) ∈ lw_all := lw_g (lw_at lw_m4 56 rfl) rfl
theorem q844 : (Jvm.Cond.code ({ cls := "java/lang/IndexOutOfBoundsException", name := "<init>", desc := "(Ljava/lang/String;)V" } : Jvm.MethodName) prog_16_method_2_code (2 : Nat) (Option.none : Option Jvm.ClassFile.FieldType)) ∈ lw_all := lw_g (lw_at lw_m4 57 rfl) rfl
theorem q845 : (Jvm.Cond.methodLink "java/lang/IndexOutOfBoundsException" (7 : Nat) ({ cls := "java/lang/RuntimeException", name := "<init>", desc := "(Ljava/lang/String;)V" } : Jvm.MethodName)) ∈ lw_all := lw_g (lw_at lw_m4 58 rfl) rfl
theorem q854 : (Jvm.Cond.declares ({ cls := "java/lang/IndexOutOfBoundsException", name := "<init>", desc := "()V" } : Jvm.MethodName)) ∈ lw_tbl := lw_at lw_m4 67 rfl
theorem q855 : (Jvm.Cond.declares ({ cls := "java/lang/IndexOutOfBoundsException", name := "<init>", desc := "(Ljava/lang/String;)V" } : Jvm.MethodName)) ∈ lw_tbl := lw_at lw_m4 68 rfl
/-! java/lang/ArrayIndexOutOfBoundsException -/
set_option maxRecDepth 100000
def RJ12 : String := "java/lang/ArrayIndexOutOfBoundsException"
def TJ12 : u_T := fun k => match k with
  | 0 => ("java/lang/Throwable", "backtrace", "Ljava/lang/Object;", false)
  | 1 => ("java/lang/Throwable", "detailMessage", "Ljava/lang/String;", false)
  | 2 => ("java/lang/Throwable", "cause", "Ljava/lang/Throwable;", false)
  | 3 => ("java/lang/Throwable", "stackTrace", "[Ljava/lang/StackTraceElement;", false)
  | 4 => ("java/lang/Throwable", "depth", "I", false)
  | _ => ("java/lang/Throwable", "suppressedExceptions", "Ljava/util/List;", false)
def tyJ12 : Nat → FieldType := fun k => match k with
  | 0 => .object "java/lang/Object"
  | 1 => .object "java/lang/String"
  | 2 => .object "java/lang/Throwable"
  | 3 => .array (.object "java/lang/StackTraceElement")
  | 4 => .int
  | _ => .object "java/util/List"
abbrev wsJ120 : List Cond := u_ws RJ12 TJ12 6
theorem nmJ12 : ∀ a, a < 6 → ∀ b, b < 6 → a ≠ b → (TJ12 a).2.1 ≠ (TJ12 b).2.1 := by decide +kernel
theorem tyJ12_ok : ∀ k, k < 6 → parseFieldDescriptor (TJ12 k).2.2.1 = some (tyJ12 k) := by decide +kernel
abbrev cJ12_init : ByteArray := prog_13_method_2_code
def yJ12_init : MethodName := ⟨RJ12, "<init>", "(Ljava/lang/String;)V"⟩
def dkwJ12_init_0 : List UInt8 := [42, 43, 183, 0, 7, 177]
abbrev dktJ12_init_0 : List UInt8 := dkwJ12_init_0 ++ []
theorem dksJ12_init_0 : cJ12_init.data.toList.drop 0 = dktJ12_init_0 := by decide +kernel
theorem dJ12_init_0 : decode cJ12_init 0 = .ok (.aload_n 0, 1) := dk_42 (dk_at dksJ12_init_0 0 rfl rfl)
theorem dJ12_init_1 : decode cJ12_init 1 = .ok (.aload_n 1, 1) := dk_43 (dk_at dksJ12_init_0 1 rfl rfl)
theorem dJ12_init_2 : decode cJ12_init 2 = .ok (.invokespecial 7, 3) := dk_183 0 7 (dk_at dksJ12_init_0 2 rfl rfl)
theorem dJ12_init_5 : decode cJ12_init 5 = .ok (.return_, 1) := dk_177 (dk_at dksJ12_init_0 5 rfl rfl)
theorem q88 : (Jvm.Cond.initialized "java/lang/ArrayIndexOutOfBoundsException") ∈ lw_all := lw_g (lw_at lw_m1 21 rfl) rfl
theorem q213 : (Jvm.Cond.selects "java/lang/ArrayIndexOutOfBoundsException" ({ cls := "java/lang/Throwable", name := "fillInStackTrace", desc := "()Ljava/lang/Throwable;" } : Jvm.MethodName) ({ cls := "java/lang/Throwable", name := "fillInStackTrace", desc := "()Ljava/lang/Throwable;" } : Jvm.MethodName)) ∈ lw_all := lw_g (lw_at lw_m1 146 rfl) rfl
theorem q839 : (Jvm.Cond.instantiable "java/lang/ArrayIndexOutOfBoundsException" (6 : Nat)) ∈ lw_all := lw_g (lw_at lw_m4 52 rfl) rfl
theorem q840 : (Jvm.Cond.instanceMethod ({ cls := "java/lang/ArrayIndexOutOfBoundsException", name := "<init>", desc := "(Ljava/lang/String;)V" } : Jvm.MethodName)) ∈ lw_all := lw_g (lw_at lw_m4 53 rfl) rfl
theorem q841 : (Jvm.Cond.code ({ cls := "java/lang/ArrayIndexOutOfBoundsException", name := "<init>", desc := "(Ljava/lang/String;)V" } : Jvm.MethodName) prog_13_method_2_code (2 : Nat) (Option.none : Option Jvm.ClassFile.FieldType)) ∈ lw_all := lw_g (lw_at lw_m4 54 rfl) rfl
theorem q842 : (Jvm.Cond.methodLink "java/lang/ArrayIndexOutOfBoundsException" (7 : Nat) ({ cls := "java/lang/IndexOutOfBoundsException", name := "<init>", desc := "(Ljava/lang/String;)V" } : Jvm.MethodName)) ∈ lw_all := lw_g (lw_at lw_m4 55 rfl) rfl
theorem q846 : (Jvm.Cond.lays "java/lang/ArrayIndexOutOfBoundsException" "java/lang/Throwable" "backtrace" "Ljava/lang/Object;") ∈ lw_all := lw_g (lw_at lw_m4 59 rfl) rfl
theorem q847 : (Jvm.Cond.lays "java/lang/ArrayIndexOutOfBoundsException" "java/lang/Throwable" "detailMessage" "Ljava/lang/String;") ∈ lw_all := lw_g (lw_at lw_m4 60 rfl) rfl
theorem q848 : (Jvm.Cond.lays "java/lang/ArrayIndexOutOfBoundsException" "java/lang/Throwable" "cause" "Ljava/lang/Throwable;") ∈ lw_all := lw_g (lw_at lw_m4 61 rfl) rfl
theorem q849 : (Jvm.Cond.lays "java/lang/ArrayIndexOutOfBoundsException" "java/lang/Throwable" "stackTrace" "[Ljava/lang/StackTraceElement;") ∈ lw_all := lw_g (lw_at lw_m4 62 rfl) rfl
theorem q850 : (Jvm.Cond.lays "java/lang/ArrayIndexOutOfBoundsException" "java/lang/Throwable" "depth" "I") ∈ lw_all := lw_g (lw_at lw_m4 63 rfl) rfl
theorem q851 : (Jvm.Cond.lays "java/lang/ArrayIndexOutOfBoundsException" "java/lang/Throwable" "suppressedExceptions" "Ljava/util/List;") ∈ lw_all := lw_g (lw_at lw_m4 64 rfl) rfl
theorem q852 : (Jvm.Cond.superclass "java/lang/ArrayIndexOutOfBoundsException" "java/lang/IndexOutOfBoundsException") ∈ lw_all := lw_g (lw_at lw_m4 65 rfl) rfl
theorem q853 : (Jvm.Cond.castable "java/lang/ArrayIndexOutOfBoundsException" "java/lang/ArrayIndexOutOfBoundsException") ∈ lw_tbl := lw_at lw_m4 66 rfl
theorem q856 : (Jvm.Cond.selects "java/lang/ArrayIndexOutOfBoundsException" ({ cls := "java/lang/Throwable", name := "fillInStackTrace", desc := "(I)Ljava/lang/Throwable;" } : Jvm.MethodName) ({ cls := "java/lang/Throwable", name := "fillInStackTrace", desc := "(I)Ljava/lang/Throwable;" } : Jvm.MethodName)) ∈ lw_all := lw_g (lw_at lw_m4 69 rfl) rfl
theorem in_J12 : ∀ w ∈ wsJ120, w ∈ lw_all := lw_in wsJ120 [846, 847, 848, 849, 850, 851] (by decide +kernel) (by decide +kernel)
/-! java/lang/ClassCastException -/
set_option maxRecDepth 100000
def RJ13 : String := "java/lang/ClassCastException"
def TJ13 : u_T := fun k => match k with
  | 0 => ("java/lang/Throwable", "backtrace", "Ljava/lang/Object;", false)
  | 1 => ("java/lang/Throwable", "detailMessage", "Ljava/lang/String;", false)
  | 2 => ("java/lang/Throwable", "cause", "Ljava/lang/Throwable;", false)
  | 3 => ("java/lang/Throwable", "stackTrace", "[Ljava/lang/StackTraceElement;", false)
  | 4 => ("java/lang/Throwable", "depth", "I", false)
  | _ => ("java/lang/Throwable", "suppressedExceptions", "Ljava/util/List;", false)
def tyJ13 : Nat → FieldType := fun k => match k with
  | 0 => .object "java/lang/Object"
  | 1 => .object "java/lang/String"
  | 2 => .object "java/lang/Throwable"
  | 3 => .array (.object "java/lang/StackTraceElement")
  | 4 => .int
  | _ => .object "java/util/List"
abbrev wsJ130 : List Cond := u_ws RJ13 TJ13 6
theorem nmJ13 : ∀ a, a < 6 → ∀ b, b < 6 → a ≠ b → (TJ13 a).2.1 ≠ (TJ13 b).2.1 := by decide +kernel
theorem tyJ13_ok : ∀ k, k < 6 → parseFieldDescriptor (TJ13 k).2.2.1 = some (tyJ13 k) := by decide +kernel
abbrev cJ13_init : ByteArray := prog_14_method_2_code
def yJ13_init : MethodName := ⟨RJ13, "<init>", "(Ljava/lang/String;)V"⟩
def dkwJ13_init_0 : List UInt8 := [42, 43, 183, 0, 7, 177]
abbrev dktJ13_init_0 : List UInt8 := dkwJ13_init_0 ++ []
theorem dksJ13_init_0 : cJ13_init.data.toList.drop 0 = dktJ13_init_0 := by decide +kernel
theorem dJ13_init_0 : decode cJ13_init 0 = .ok (.aload_n 0, 1) := dk_42 (dk_at dksJ13_init_0 0 rfl rfl)
theorem dJ13_init_1 : decode cJ13_init 1 = .ok (.aload_n 1, 1) := dk_43 (dk_at dksJ13_init_0 1 rfl rfl)
theorem dJ13_init_2 : decode cJ13_init 2 = .ok (.invokespecial 7, 3) := dk_183 0 7 (dk_at dksJ13_init_0 2 rfl rfl)
theorem dJ13_init_5 : decode cJ13_init 5 = .ok (.return_, 1) := dk_177 (dk_at dksJ13_init_0 5 rfl rfl)
theorem q89 : (Jvm.Cond.initialized "java/lang/ClassCastException") ∈ lw_all := lw_g (lw_at lw_m1 22 rfl) rfl
theorem q214 : (Jvm.Cond.selects "java/lang/ClassCastException" ({ cls := "java/lang/Throwable", name := "fillInStackTrace", desc := "()Ljava/lang/Throwable;" } : Jvm.MethodName) ({ cls := "java/lang/Throwable", name := "fillInStackTrace", desc := "()Ljava/lang/Throwable;" } : Jvm.MethodName)) ∈ lw_all := lw_g (lw_at lw_m1 147 rfl) rfl
theorem q870 : (Jvm.Cond.instantiable "java/lang/ClassCastException" (6 : Nat)) ∈ lw_all := lw_g (lw_at lw_m4 83 rfl) rfl
theorem q871 : (Jvm.Cond.instanceMethod ({ cls := "java/lang/ClassCastException", name := "<init>", desc := "(Ljava/lang/String;)V" } : Jvm.MethodName)) ∈ lw_all := lw_g (lw_at lw_m4 84 rfl) rfl
theorem q872 : (Jvm.Cond.code ({ cls := "java/lang/ClassCastException", name := "<init>", desc := "(Ljava/lang/String;)V" } : Jvm.MethodName) prog_14_method_2_code (2 : Nat) (Option.none : Option Jvm.ClassFile.FieldType)) ∈ lw_all := lw_g (lw_at lw_m4 85 rfl) rfl
theorem q873 : (Jvm.Cond.methodLink "java/lang/ClassCastException" (7 : Nat) ({ cls := "java/lang/RuntimeException", name := "<init>", desc := "(Ljava/lang/String;)V" } : Jvm.MethodName)) ∈ lw_all := lw_g (lw_at lw_m4 86 rfl) rfl
theorem q874 : (Jvm.Cond.lays "java/lang/ClassCastException" "java/lang/Throwable" "backtrace" "Ljava/lang/Object;") ∈ lw_all := lw_g (lw_at lw_m4 87 rfl) rfl
theorem q875 : (Jvm.Cond.lays "java/lang/ClassCastException" "java/lang/Throwable" "detailMessage" "Ljava/lang/String;") ∈ lw_all := lw_g (lw_at lw_m4 88 rfl) rfl
theorem q876 : (Jvm.Cond.lays "java/lang/ClassCastException" "java/lang/Throwable" "cause" "Ljava/lang/Throwable;") ∈ lw_all := lw_g (lw_at lw_m4 89 rfl) rfl
theorem q877 : (Jvm.Cond.lays "java/lang/ClassCastException" "java/lang/Throwable" "stackTrace" "[Ljava/lang/StackTraceElement;") ∈ lw_all := lw_g (lw_at lw_m4 90 rfl) rfl
theorem q878 : (Jvm.Cond.lays "java/lang/ClassCastException" "java/lang/Throwable" "depth" "I") ∈ lw_all := lw_g (lw_at lw_m4 91 rfl) rfl
theorem q879 : (Jvm.Cond.lays "java/lang/ClassCastException" "java/lang/Throwable" "suppressedExceptions" "Ljava/util/List;") ∈ lw_all := lw_g (lw_at lw_m4 92 rfl) rfl
theorem q880 : (Jvm.Cond.superclass "java/lang/ClassCastException" "java/lang/RuntimeException") ∈ lw_all := lw_g (lw_at lw_m4 93 rfl) rfl
theorem q881 : (Jvm.Cond.castable "java/lang/ClassCastException" "java/lang/ClassCastException") ∈ lw_tbl := lw_at lw_m4 94 rfl
theorem q882 : (Jvm.Cond.selects "java/lang/ClassCastException" ({ cls := "java/lang/Throwable", name := "fillInStackTrace", desc := "(I)Ljava/lang/Throwable;" } : Jvm.MethodName) ({ cls := "java/lang/Throwable", name := "fillInStackTrace", desc := "(I)Ljava/lang/Throwable;" } : Jvm.MethodName)) ∈ lw_all := lw_g (lw_at lw_m4 95 rfl) rfl
theorem in_J13 : ∀ w ∈ wsJ130, w ∈ lw_all := lw_in wsJ130 [874, 875, 876, 877, 878, 879] (by decide +kernel) (by decide +kernel)
/-! java/lang/Object -/
set_option maxRecDepth 100000
def RJ14 : String := "java/lang/Object"
abbrev cJ14_init : ByteArray := object_method_1_code
def yJ14_init : MethodName := ⟨RJ14, "<init>", "()V"⟩
theorem dJ14_init_0 : decode cJ14_init 0 = .ok (.return_, 1) := by decide +kernel
theorem q116 : (Jvm.Cond.instanceMethod ({ cls := "java/lang/Object", name := "<init>", desc := "()V" } : Jvm.MethodName)) ∈ lw_all := lw_g (lw_at lw_m1 49 rfl) rfl
theorem q117 : (Jvm.Cond.code ({ cls := "java/lang/Object", name := "<init>", desc := "()V" } : Jvm.MethodName) object_method_1_code (1 : Nat) (Option.none : Option Jvm.ClassFile.FieldType)) ∈ lw_all := lw_g (lw_at lw_m1 50 rfl) rfl
/-! java/lang/RuntimeException -/
set_option maxRecDepth 100000
def RJ2 : String := "java/lang/RuntimeException"
abbrev cJ2_init : ByteArray := prog_21_method_5_code
def yJ2_init : MethodName := ⟨RJ2, "<init>", "(Ljava/lang/String;Ljava/lang/Throwable;ZZ)V"⟩
def dkwJ2_init_0 : List UInt8 := [42, 43, 44, 29, 21, 4, 183, 0, 16, 177]
abbrev dktJ2_init_0 : List UInt8 := dkwJ2_init_0 ++ []
theorem dksJ2_init_0 : cJ2_init.data.toList.drop 0 = dktJ2_init_0 := by decide +kernel
theorem dJ2_init_0 : decode cJ2_init 0 = .ok (.aload_n 0, 1) := dk_42 (dk_at dksJ2_init_0 0 rfl rfl)
theorem dJ2_init_1 : decode cJ2_init 1 = .ok (.aload_n 1, 1) := dk_43 (dk_at dksJ2_init_0 1 rfl rfl)
theorem dJ2_init_2 : decode cJ2_init 2 = .ok (.aload_n 2, 1) := dk_44 (dk_at dksJ2_init_0 2 rfl rfl)
theorem dJ2_init_3 : decode cJ2_init 3 = .ok (.iload_n 3, 1) := dk_29 (dk_at dksJ2_init_0 3 rfl rfl)
theorem dJ2_init_4 : decode cJ2_init 4 = .ok (.iload 4, 2) := dk_21 4 (dk_at dksJ2_init_0 4 rfl rfl)
theorem dJ2_init_6 : decode cJ2_init 6 = .ok (.invokespecial 16, 3) := dk_183 0 16 (dk_at dksJ2_init_0 6 rfl rfl)
theorem dJ2_init_9 : decode cJ2_init 9 = .ok (.return_, 1) := dk_177 (dk_at dksJ2_init_0 9 rfl rfl)
abbrev cJ2_init_2 : ByteArray := prog_21_method_2_code
def yJ2_init_2 : MethodName := ⟨RJ2, "<init>", "(Ljava/lang/String;)V"⟩
def dkwJ2_init_2_0 : List UInt8 := [42, 43, 183, 0, 7, 177]
abbrev dktJ2_init_2_0 : List UInt8 := dkwJ2_init_2_0 ++ []
theorem dksJ2_init_2_0 : cJ2_init_2.data.toList.drop 0 = dktJ2_init_2_0 := by decide +kernel
theorem dJ2_init_2_0 : decode cJ2_init_2 0 = .ok (.aload_n 0, 1) := dk_42 (dk_at dksJ2_init_2_0 0 rfl rfl)
theorem dJ2_init_2_1 : decode cJ2_init_2 1 = .ok (.aload_n 1, 1) := dk_43 (dk_at dksJ2_init_2_0 1 rfl rfl)
theorem dJ2_init_2_2 : decode cJ2_init_2 2 = .ok (.invokespecial 7, 3) := dk_183 0 7 (dk_at dksJ2_init_2_0 2 rfl rfl)
theorem dJ2_init_2_5 : decode cJ2_init_2 5 = .ok (.return_, 1) := dk_177 (dk_at dksJ2_init_2_0 5 rfl rfl)
abbrev cJ2_init_3 : ByteArray := prog_21_method_1_code
def yJ2_init_3 : MethodName := ⟨RJ2, "<init>", "()V"⟩
theorem dJ2_init_3_0 : decode cJ2_init_3 0 = .ok (.aload_n 0, 1) := by decide +kernel
theorem dJ2_init_3_1 : decode cJ2_init_3 1 = .ok (.invokespecial 1, 3) := by decide +kernel
theorem dJ2_init_3_4 : decode cJ2_init_3 4 = .ok (.return_, 1) := by decide +kernel
theorem q77 : (Jvm.Cond.initialized "java/lang/RuntimeException") ∈ lw_all := lw_g (lw_at lw_m1 10 rfl) rfl
theorem q183 : (Jvm.Cond.declares ({ cls := "java/lang/RuntimeException", name := "<init>", desc := "()V" } : Jvm.MethodName)) ∈ lw_tbl := lw_at lw_m1 116 rfl
theorem q184 : (Jvm.Cond.declares ({ cls := "java/lang/RuntimeException", name := "<init>", desc := "(Ljava/lang/String;)V" } : Jvm.MethodName)) ∈ lw_tbl := lw_at lw_m1 117 rfl
theorem q225 : (Jvm.Cond.sameMethod "java/lang/RuntimeException" "java/lang/Throwable" "fillInStackTrace" "()Ljava/lang/Throwable;") ∈ lw_all := lw_g (lw_at lw_m1 158 rfl) rfl
theorem q228 : (Jvm.Cond.superclass "java/lang/RuntimeException" "java/lang/Exception") ∈ lw_all := lw_g (lw_at lw_m1 161 rfl) rfl
theorem q240 : (Jvm.Cond.instanceMethod ({ cls := "java/lang/RuntimeException", name := "<init>", desc := "(Ljava/lang/String;Ljava/lang/Throwable;ZZ)V" } : Jvm.MethodName)) ∈ lw_all := lw_g (lw_at lw_m1 173 rfl) rfl
theorem q241 : (Jvm.Cond.code ({ cls := "java/lang/RuntimeException", name := "<init>", desc := "(Ljava/lang/String;Ljava/lang/Throwable;ZZ)V" } : Jvm.MethodName) prog_21_method_5_code (5 : Nat) (Option.none : Option Jvm.ClassFile.FieldType)) ∈ lw_all := lw_g (lw_at lw_m1 174 rfl) rfl
theorem q242 : (Jvm.Cond.methodLink "java/lang/RuntimeException" (16 : Nat) ({ cls := "java/lang/Exception", name := "<init>", desc := "(Ljava/lang/String;Ljava/lang/Throwable;ZZ)V" } : Jvm.MethodName)) ∈ lw_all := lw_g (lw_at lw_m1 175 rfl) rfl
theorem q782 : (Jvm.Cond.instanceMethod ({ cls := "java/lang/RuntimeException", name := "<init>", desc := "(Ljava/lang/String;)V" } : Jvm.MethodName)) ∈ lw_all := lw_g (lw_at lw_m3 235 rfl) rfl
theorem q783 : (Jvm.Cond.code ({ cls := "java/lang/RuntimeException", name := "<init>", desc := "(Ljava/lang/String;)V" } : Jvm.MethodName) prog_21_method_2_code (2 : Nat) (Option.none : Option Jvm.ClassFile.FieldType)) ∈ lw_all := lw_g (lw_at lw_m3 236 rfl) rfl
theorem q784 : (Jvm.Cond.methodLink "java/lang/RuntimeException" (7 : Nat) ({ cls := "java/lang/Exception", name := "<init>", desc := "(Ljava/lang/String;)V" } : Jvm.MethodName)) ∈ lw_all := lw_g (lw_at lw_m3 237 rfl) rfl
theorem q817 : (Jvm.Cond.instanceMethod ({ cls := "java/lang/RuntimeException", name := "<init>", desc := "()V" } : Jvm.MethodName)) ∈ lw_all := lw_g (lw_at lw_m4 30 rfl) rfl
theorem q818 : (Jvm.Cond.code ({ cls := "java/lang/RuntimeException", name := "<init>", desc := "()V" } : Jvm.MethodName) prog_21_method_1_code (1 : Nat) (Option.none : Option Jvm.ClassFile.FieldType)) ∈ lw_all := lw_g (lw_at lw_m4 31 rfl) rfl
theorem q819 : (Jvm.Cond.methodLink "java/lang/RuntimeException" (1 : Nat) ({ cls := "java/lang/Exception", name := "<init>", desc := "()V" } : Jvm.MethodName)) ∈ lw_all := lw_g (lw_at lw_m4 32 rfl) rfl
theorem q837 : (Jvm.Cond.castable "java/lang/RuntimeException" "java/lang/Throwable") ∈ lw_tbl := lw_at lw_m4 50 rfl
/-! java/lang/String -/
set_option maxRecDepth 100000
def RJ3 : String := "java/lang/String"
def TJ3 : u_T := fun k => match k with
  | 0 => ("java/lang/String", "value", "[B", true)
  | _ => ("java/lang/String", "coder", "B", true)
def tyJ3 : Nat → FieldType := fun k => match k with
  | 0 => .array .byte
  | _ => .byte
abbrev wsJ30 : List Cond := u_ws RJ3 TJ3 2
theorem nmJ3 : ∀ a, a < 2 → ∀ b, b < 2 → a ≠ b → (TJ3 a).2.1 ≠ (TJ3 b).2.1 := by decide +kernel
theorem tyJ3_ok : ∀ k, k < 2 → parseFieldDescriptor (TJ3 k).2.2.1 = some (tyJ3 k) := by decide +kernel
abbrev cJ3_length : ByteArray := prog_22_method_54_code
def yJ3_length : MethodName := ⟨RJ3, "length", "()I"⟩
def dkwJ3_length_0 : List UInt8 := [42, 180, 0, 9, 190, 42, 182, 1, 79, 122, 172]
abbrev dktJ3_length_0 : List UInt8 := dkwJ3_length_0 ++ []
theorem dksJ3_length_0 : cJ3_length.data.toList.drop 0 = dktJ3_length_0 := by decide +kernel
theorem dJ3_length_0 : decode cJ3_length 0 = .ok (.aload_n 0, 1) := dk_42 (dk_at dksJ3_length_0 0 rfl rfl)
theorem dJ3_length_1 : decode cJ3_length 1 = .ok (.getfield 9, 3) := dk_180 0 9 (dk_at dksJ3_length_0 1 rfl rfl)
theorem dJ3_length_4 : decode cJ3_length 4 = .ok (.arraylength, 1) := dk_190 (dk_at dksJ3_length_0 4 rfl rfl)
theorem dJ3_length_5 : decode cJ3_length 5 = .ok (.aload_n 0, 1) := dk_42 (dk_at dksJ3_length_0 5 rfl rfl)
theorem dJ3_length_6 : decode cJ3_length 6 = .ok (.invokevirtual 335, 3) := dk_182 1 79 (dk_at dksJ3_length_0 6 rfl rfl)
theorem dJ3_length_9 : decode cJ3_length 9 = .ok (.ishr, 1) := dk_122 (dk_at dksJ3_length_0 9 rfl rfl)
theorem dJ3_length_10 : decode cJ3_length 10 = .ok (.ireturn, 1) := dk_172 (dk_at dksJ3_length_0 10 rfl rfl)
abbrev cJ3_coder : ByteArray := prog_22_method_152_code
def yJ3_coder : MethodName := ⟨RJ3, "coder", "()B"⟩
def dkwJ3_coder_0 : List UInt8 := [178, 0, 38, 153, 0, 10, 42, 180, 0, 15, 167, 0, 4, 4, 172]
abbrev dktJ3_coder_0 : List UInt8 := dkwJ3_coder_0 ++ []
theorem dksJ3_coder_0 : cJ3_coder.data.toList.drop 0 = dktJ3_coder_0 := by decide +kernel
theorem dJ3_coder_0 : decode cJ3_coder 0 = .ok (.getstatic 38, 3) := dk_178 0 38 (dk_at dksJ3_coder_0 0 rfl rfl)
theorem dJ3_coder_3 : decode cJ3_coder 3 = .ok (.ifCond .eq 10, 3) := dk_153 0 10 (dk_at dksJ3_coder_0 3 rfl rfl)
theorem dJ3_coder_6 : decode cJ3_coder 6 = .ok (.aload_n 0, 1) := dk_42 (dk_at dksJ3_coder_0 6 rfl rfl)
theorem dJ3_coder_7 : decode cJ3_coder 7 = .ok (.getfield 15, 3) := dk_180 0 15 (dk_at dksJ3_coder_0 7 rfl rfl)
theorem dJ3_coder_10 : decode cJ3_coder 10 = .ok (.goto 4, 3) := dk_167 0 4 (dk_at dksJ3_coder_0 10 rfl rfl)
theorem dJ3_coder_13 : decode cJ3_coder 13 = .ok (.iconst 1, 1) := dk_4 (dk_at dksJ3_coder_0 13 rfl rfl)
theorem dJ3_coder_14 : decode cJ3_coder 14 = .ok (.ireturn, 1) := dk_172 (dk_at dksJ3_coder_0 14 rfl rfl)
abbrev cJ3_charAt : ByteArray := prog_22_method_56_code
def yJ3_charAt : MethodName := ⟨RJ3, "charAt", "(I)C"⟩
def dkwJ3_charAt_1 : List UInt8 := [172]
abbrev dktJ3_charAt_1 : List UInt8 := dkwJ3_charAt_1 ++ []
def dkwJ3_charAt_0 : List UInt8 := [42, 182, 1, 236, 153, 0, 12, 42, 180, 0, 9, 27, 184, 1, 239, 172, 42, 180, 0, 9, 27, 184, 1, 242]
abbrev dktJ3_charAt_0 : List UInt8 := dkwJ3_charAt_0 ++ dktJ3_charAt_1
theorem dksJ3_charAt_0 : cJ3_charAt.data.toList.drop 0 = dktJ3_charAt_0 := by decide +kernel
theorem dksJ3_charAt_1 : cJ3_charAt.data.toList.drop 24 = dktJ3_charAt_1 := dk_seg dksJ3_charAt_0 24 rfl rfl
theorem dJ3_charAt_0 : decode cJ3_charAt 0 = .ok (.aload_n 0, 1) := dk_42 (dk_at dksJ3_charAt_0 0 rfl rfl)
theorem dJ3_charAt_1 : decode cJ3_charAt 1 = .ok (.invokevirtual 492, 3) := dk_182 1 236 (dk_at dksJ3_charAt_0 1 rfl rfl)
theorem dJ3_charAt_4 : decode cJ3_charAt 4 = .ok (.ifCond .eq 12, 3) := dk_153 0 12 (dk_at dksJ3_charAt_0 4 rfl rfl)
theorem dJ3_charAt_7 : decode cJ3_charAt 7 = .ok (.aload_n 0, 1) := dk_42 (dk_at dksJ3_charAt_0 7 rfl rfl)
theorem dJ3_charAt_8 : decode cJ3_charAt 8 = .ok (.getfield 9, 3) := dk_180 0 9 (dk_at dksJ3_charAt_0 8 rfl rfl)
theorem dJ3_charAt_11 : decode cJ3_charAt 11 = .ok (.iload_n 1, 1) := dk_27 (dk_at dksJ3_charAt_0 11 rfl rfl)
theorem dJ3_charAt_12 : decode cJ3_charAt 12 = .ok (.invokestatic 495, 3) := dk_184 1 239 (dk_at dksJ3_charAt_0 12 rfl rfl)
theorem dJ3_charAt_15 : decode cJ3_charAt 15 = .ok (.ireturn, 1) := dk_172 (dk_at dksJ3_charAt_0 15 rfl rfl)
theorem dJ3_charAt_16 : decode cJ3_charAt 16 = .ok (.aload_n 0, 1) := dk_42 (dk_at dksJ3_charAt_0 16 rfl rfl)
theorem dJ3_charAt_17 : decode cJ3_charAt 17 = .ok (.getfield 9, 3) := dk_180 0 9 (dk_at dksJ3_charAt_0 17 rfl rfl)
theorem dJ3_charAt_20 : decode cJ3_charAt 20 = .ok (.iload_n 1, 1) := dk_27 (dk_at dksJ3_charAt_0 20 rfl rfl)
theorem dJ3_charAt_21 : decode cJ3_charAt 21 = .ok (.invokestatic 498, 3) := dk_184 1 242 (dk_at dksJ3_charAt_0 21 rfl rfl)
theorem dJ3_charAt_24 : decode cJ3_charAt 24 = .ok (.ireturn, 1) := dk_172 (dk_at dksJ3_charAt_1 0 rfl rfl)
abbrev cJ3_isLatin1 : ByteArray := prog_22_method_154_code
def yJ3_isLatin1 : MethodName := ⟨RJ3, "isLatin1", "()Z"⟩
def dkwJ3_isLatin1_0 : List UInt8 := [178, 0, 38, 153, 0, 14, 42, 180, 0, 15, 154, 0, 7, 4, 167, 0, 4, 3, 172]
abbrev dktJ3_isLatin1_0 : List UInt8 := dkwJ3_isLatin1_0 ++ []
theorem dksJ3_isLatin1_0 : cJ3_isLatin1.data.toList.drop 0 = dktJ3_isLatin1_0 := by decide +kernel
theorem dJ3_isLatin1_0 : decode cJ3_isLatin1 0 = .ok (.getstatic 38, 3) := dk_178 0 38 (dk_at dksJ3_isLatin1_0 0 rfl rfl)
theorem dJ3_isLatin1_3 : decode cJ3_isLatin1 3 = .ok (.ifCond .eq 14, 3) := dk_153 0 14 (dk_at dksJ3_isLatin1_0 3 rfl rfl)
theorem dJ3_isLatin1_6 : decode cJ3_isLatin1 6 = .ok (.aload_n 0, 1) := dk_42 (dk_at dksJ3_isLatin1_0 6 rfl rfl)
theorem dJ3_isLatin1_7 : decode cJ3_isLatin1 7 = .ok (.getfield 15, 3) := dk_180 0 15 (dk_at dksJ3_isLatin1_0 7 rfl rfl)
theorem dJ3_isLatin1_10 : decode cJ3_isLatin1 10 = .ok (.ifCond .ne 7, 3) := dk_154 0 7 (dk_at dksJ3_isLatin1_0 10 rfl rfl)
theorem dJ3_isLatin1_13 : decode cJ3_isLatin1 13 = .ok (.iconst 1, 1) := dk_4 (dk_at dksJ3_isLatin1_0 13 rfl rfl)
theorem dJ3_isLatin1_14 : decode cJ3_isLatin1 14 = .ok (.goto 4, 3) := dk_167 0 4 (dk_at dksJ3_isLatin1_0 14 rfl rfl)
theorem dJ3_isLatin1_17 : decode cJ3_isLatin1 17 = .ok (.iconst 0, 1) := dk_3 (dk_at dksJ3_isLatin1_0 17 rfl rfl)
theorem dJ3_isLatin1_18 : decode cJ3_isLatin1 18 = .ok (.ireturn, 1) := dk_172 (dk_at dksJ3_isLatin1_0 18 rfl rfl)
abbrev cJ3_checkIndex : ByteArray := prog_22_method_155_code
def yJ3_checkIndex : MethodName := ⟨RJ3, "checkIndex", "(II)V"⟩
def dkwJ3_checkIndex_0 : List UInt8 := [26, 27, 178, 4, 29, 184, 4, 35, 87, 177]
abbrev dktJ3_checkIndex_0 : List UInt8 := dkwJ3_checkIndex_0 ++ []
theorem dksJ3_checkIndex_0 : cJ3_checkIndex.data.toList.drop 0 = dktJ3_checkIndex_0 := by decide +kernel
theorem dJ3_checkIndex_0 : decode cJ3_checkIndex 0 = .ok (.iload_n 0, 1) := dk_26 (dk_at dksJ3_checkIndex_0 0 rfl rfl)
theorem dJ3_checkIndex_1 : decode cJ3_checkIndex 1 = .ok (.iload_n 1, 1) := dk_27 (dk_at dksJ3_checkIndex_0 1 rfl rfl)
theorem dJ3_checkIndex_2 : decode cJ3_checkIndex 2 = .ok (.getstatic 1053, 3) := dk_178 4 29 (dk_at dksJ3_checkIndex_0 2 rfl rfl)
theorem dJ3_checkIndex_5 : decode cJ3_checkIndex 5 = .ok (.invokestatic 1059, 3) := dk_184 4 35 (dk_at dksJ3_checkIndex_0 5 rfl rfl)
theorem dJ3_checkIndex_8 : decode cJ3_checkIndex 8 = .ok (.pop, 1) := dk_87 (dk_at dksJ3_checkIndex_0 8 rfl rfl)
theorem dJ3_checkIndex_9 : decode cJ3_checkIndex 9 = .ok (.return_, 1) := dk_177 (dk_at dksJ3_checkIndex_0 9 rfl rfl)
theorem q79 : (Jvm.Cond.initialized "java/lang/String") ∈ lw_all := lw_g (lw_at lw_m1 12 rfl) rfl
theorem q311 : (Jvm.Cond.instanceMethod ({ cls := "java/lang/String", name := "length", desc := "()I" } : Jvm.MethodName)) ∈ lw_all := lw_g (lw_at lw_m2 4 rfl) rfl
theorem q312 : (Jvm.Cond.selects "java/lang/String" ({ cls := "java/lang/String", name := "length", desc := "()I" } : Jvm.MethodName) ({ cls := "java/lang/String", name := "length", desc := "()I" } : Jvm.MethodName)) ∈ lw_all := lw_g (lw_at lw_m2 5 rfl) rfl
theorem q313 : (Jvm.Cond.code ({ cls := "java/lang/String", name := "length", desc := "()I" } : Jvm.MethodName) prog_22_method_54_code (1 : Nat) (Option.some Jvm.ClassFile.FieldType.int)) ∈ lw_all := lw_g (lw_at lw_m2 6 rfl) rfl
theorem q314 : (Jvm.Cond.methodLink "java/lang/String" (335 : Nat) ({ cls := "java/lang/String", name := "coder", desc := "()B" } : Jvm.MethodName)) ∈ lw_all := lw_g (lw_at lw_m2 7 rfl) rfl
theorem q315 : (Jvm.Cond.instanceMethod ({ cls := "java/lang/String", name := "coder", desc := "()B" } : Jvm.MethodName)) ∈ lw_all := lw_g (lw_at lw_m2 8 rfl) rfl
theorem q316 : (Jvm.Cond.selects "java/lang/String" ({ cls := "java/lang/String", name := "coder", desc := "()B" } : Jvm.MethodName) ({ cls := "java/lang/String", name := "coder", desc := "()B" } : Jvm.MethodName)) ∈ lw_all := lw_g (lw_at lw_m2 9 rfl) rfl
theorem q317 : (Jvm.Cond.code ({ cls := "java/lang/String", name := "coder", desc := "()B" } : Jvm.MethodName) prog_22_method_152_code (1 : Nat) (Option.some Jvm.ClassFile.FieldType.byte)) ∈ lw_all := lw_g (lw_at lw_m2 10 rfl) rfl
theorem q318 : (Jvm.Cond.fieldLink "java/lang/String" (38 : Nat) "java/lang/String" "COMPACT_STRINGS" "Z") ∈ lw_all := lw_g (lw_at lw_m2 11 rfl) rfl
theorem q319 : (Jvm.Cond.laysStatic "java/lang/String" "COMPACT_STRINGS" "Z") ∈ lw_tbl := lw_at lw_m2 12 rfl
theorem q321 : (Jvm.Cond.instanceMethod ({ cls := "java/lang/String", name := "charAt", desc := "(I)C" } : Jvm.MethodName)) ∈ lw_all := lw_g (lw_at lw_m2 14 rfl) rfl
theorem q322 : (Jvm.Cond.selects "java/lang/String" ({ cls := "java/lang/String", name := "charAt", desc := "(I)C" } : Jvm.MethodName) ({ cls := "java/lang/String", name := "charAt", desc := "(I)C" } : Jvm.MethodName)) ∈ lw_all := lw_g (lw_at lw_m2 15 rfl) rfl
theorem q323 : (Jvm.Cond.code ({ cls := "java/lang/String", name := "charAt", desc := "(I)C" } : Jvm.MethodName) prog_22_method_56_code (2 : Nat) (Option.some Jvm.ClassFile.FieldType.char)) ∈ lw_all := lw_g (lw_at lw_m2 16 rfl) rfl
theorem q324 : (Jvm.Cond.methodLink "java/lang/String" (492 : Nat) ({ cls := "java/lang/String", name := "isLatin1", desc := "()Z" } : Jvm.MethodName)) ∈ lw_all := lw_g (lw_at lw_m2 17 rfl) rfl
theorem q325 : (Jvm.Cond.instanceMethod ({ cls := "java/lang/String", name := "isLatin1", desc := "()Z" } : Jvm.MethodName)) ∈ lw_all := lw_g (lw_at lw_m2 18 rfl) rfl
theorem q326 : (Jvm.Cond.selects "java/lang/String" ({ cls := "java/lang/String", name := "isLatin1", desc := "()Z" } : Jvm.MethodName) ({ cls := "java/lang/String", name := "isLatin1", desc := "()Z" } : Jvm.MethodName)) ∈ lw_all := lw_g (lw_at lw_m2 19 rfl) rfl
theorem q327 : (Jvm.Cond.code ({ cls := "java/lang/String", name := "isLatin1", desc := "()Z" } : Jvm.MethodName) prog_22_method_154_code (1 : Nat) (Option.some Jvm.ClassFile.FieldType.boolean)) ∈ lw_all := lw_g (lw_at lw_m2 20 rfl) rfl
theorem q328 : (Jvm.Cond.methodLink "java/lang/String" (495 : Nat) ({ cls := "java/lang/StringLatin1", name := "charAt", desc := "([BI)C" } : Jvm.MethodName)) ∈ lw_all := lw_g (lw_at lw_m2 21 rfl) rfl
theorem q332 : (Jvm.Cond.static ({ cls := "java/lang/String", name := "checkIndex", desc := "(II)V" } : Jvm.MethodName)) ∈ lw_all := lw_g (lw_at lw_m2 25 rfl) rfl
theorem q333 : (Jvm.Cond.code ({ cls := "java/lang/String", name := "checkIndex", desc := "(II)V" } : Jvm.MethodName) prog_22_method_155_code (2 : Nat) (Option.none : Option Jvm.ClassFile.FieldType)) ∈ lw_all := lw_g (lw_at lw_m2 26 rfl) rfl
theorem q334 : (Jvm.Cond.fieldLink "java/lang/String" (1053 : Nat) "jdk/internal/util/Preconditions" "SIOOBE_FORMATTER" "Ljava/util/function/BiFunction;") ∈ lw_all := lw_g (lw_at lw_m2 27 rfl) rfl
theorem q336 : (Jvm.Cond.methodLink "java/lang/String" (1059 : Nat) ({ cls := "jdk/internal/util/Preconditions", name := "checkIndex", desc := "(IILjava/util/function/BiFunction;)I" } : Jvm.MethodName)) ∈ lw_all := lw_g (lw_at lw_m2 29 rfl) rfl
theorem q339 : (Jvm.Cond.methodLink "java/lang/String" (498 : Nat) ({ cls := "java/lang/StringUTF16", name := "charAt", desc := "([BI)C" } : Jvm.MethodName)) ∈ lw_all := lw_g (lw_at lw_m2 32 rfl) rfl
theorem q799 : (Jvm.Cond.instantiable "java/lang/String" (4 : Nat)) ∈ lw_all := lw_g (lw_at lw_m4 12 rfl) rfl
theorem q800 : (Jvm.Cond.laysFinal "java/lang/String" "java/lang/String" "value" "[B") ∈ lw_all := lw_g (lw_at lw_m4 13 rfl) rfl
theorem q801 : (Jvm.Cond.soleField "java/lang/String" "value") ∈ lw_all := lw_g (lw_at lw_m4 14 rfl) rfl
theorem q802 : (Jvm.Cond.laysFinal "java/lang/String" "java/lang/String" "coder" "B") ∈ lw_all := lw_g (lw_at lw_m4 15 rfl) rfl
theorem q803 : (Jvm.Cond.soleField "java/lang/String" "coder") ∈ lw_all := lw_g (lw_at lw_m4 16 rfl) rfl
theorem q1374 : (Jvm.Cond.fieldLink "java/lang/String" (9 : Nat) "java/lang/String" "value" "[B") ∈ lw_all := lw_g (lw_at lw_m6 107 rfl) rfl
theorem q1375 : (Jvm.Cond.fieldLink "java/lang/String" (15 : Nat) "java/lang/String" "coder" "B") ∈ lw_all := lw_g (lw_at lw_m6 108 rfl) rfl
theorem in_J3 : ∀ w ∈ wsJ30, w ∈ lw_all := lw_in wsJ30 [800, 802] (by decide +kernel) (by decide +kernel)
/-! java/lang/StringLatin1 -/
set_option maxRecDepth 100000
def RJ4 : String := "java/lang/StringLatin1"
abbrev cJ4_charAt : ByteArray := prog_23_method_2_code
def yJ4_charAt : MethodName := ⟨RJ4, "charAt", "([BI)C"⟩
def dkwJ4_charAt_0 : List UInt8 := [27, 42, 190, 184, 0, 9, 42, 27, 51, 17, 0, 255, 126, 146, 172]
abbrev dktJ4_charAt_0 : List UInt8 := dkwJ4_charAt_0 ++ []
theorem dksJ4_charAt_0 : cJ4_charAt.data.toList.drop 0 = dktJ4_charAt_0 := by decide +kernel
theorem dJ4_charAt_0 : decode cJ4_charAt 0 = .ok (.iload_n 1, 1) := dk_27 (dk_at dksJ4_charAt_0 0 rfl rfl)
theorem dJ4_charAt_1 : decode cJ4_charAt 1 = .ok (.aload_n 0, 1) := dk_42 (dk_at dksJ4_charAt_0 1 rfl rfl)
theorem dJ4_charAt_2 : decode cJ4_charAt 2 = .ok (.arraylength, 1) := dk_190 (dk_at dksJ4_charAt_0 2 rfl rfl)
theorem dJ4_charAt_3 : decode cJ4_charAt 3 = .ok (.invokestatic 9, 3) := dk_184 0 9 (dk_at dksJ4_charAt_0 3 rfl rfl)
theorem dJ4_charAt_6 : decode cJ4_charAt 6 = .ok (.aload_n 0, 1) := dk_42 (dk_at dksJ4_charAt_0 6 rfl rfl)
theorem dJ4_charAt_7 : decode cJ4_charAt 7 = .ok (.iload_n 1, 1) := dk_27 (dk_at dksJ4_charAt_0 7 rfl rfl)
theorem dJ4_charAt_8 : decode cJ4_charAt 8 = .ok (.baload, 1) := dk_51 (dk_at dksJ4_charAt_0 8 rfl rfl)
theorem dJ4_charAt_9 : decode cJ4_charAt 9 = .ok (.sipush 255, 3) := dk_17 0 255 (dk_at dksJ4_charAt_0 9 rfl rfl)
theorem dJ4_charAt_12 : decode cJ4_charAt 12 = .ok (.iand, 1) := dk_126 (dk_at dksJ4_charAt_0 12 rfl rfl)
theorem dJ4_charAt_13 : decode cJ4_charAt 13 = .ok (.i2c, 1) := dk_146 (dk_at dksJ4_charAt_0 13 rfl rfl)
theorem dJ4_charAt_14 : decode cJ4_charAt 14 = .ok (.ireturn, 1) := dk_172 (dk_at dksJ4_charAt_0 14 rfl rfl)
theorem q80 : (Jvm.Cond.initialized "java/lang/StringLatin1") ∈ lw_all := lw_g (lw_at lw_m1 13 rfl) rfl
theorem q329 : (Jvm.Cond.static ({ cls := "java/lang/StringLatin1", name := "charAt", desc := "([BI)C" } : Jvm.MethodName)) ∈ lw_all := lw_g (lw_at lw_m2 22 rfl) rfl
theorem q330 : (Jvm.Cond.code ({ cls := "java/lang/StringLatin1", name := "charAt", desc := "([BI)C" } : Jvm.MethodName) prog_23_method_2_code (2 : Nat) (Option.some Jvm.ClassFile.FieldType.char)) ∈ lw_all := lw_g (lw_at lw_m2 23 rfl) rfl
theorem q331 : (Jvm.Cond.methodLink "java/lang/StringLatin1" (9 : Nat) ({ cls := "java/lang/String", name := "checkIndex", desc := "(II)V" } : Jvm.MethodName)) ∈ lw_all := lw_g (lw_at lw_m2 24 rfl) rfl
/-! jdk/internal/util/Preconditions -/
set_option maxRecDepth 100000
def RJ5 : String := "jdk/internal/util/Preconditions"
abbrev cJ5_checkIndex : ByteArray := prog_27_method_11_code
def yJ5_checkIndex : MethodName := ⟨RJ5, "checkIndex", "(IILjava/util/function/BiFunction;)I"⟩
def dkwJ5_checkIndex_0 : List UInt8 := [26, 155, 0, 8, 26, 27, 161, 0, 10, 44, 26, 27, 184, 0, 95, 191, 26, 172]
abbrev dktJ5_checkIndex_0 : List UInt8 := dkwJ5_checkIndex_0 ++ []
theorem dksJ5_checkIndex_0 : cJ5_checkIndex.data.toList.drop 0 = dktJ5_checkIndex_0 := by decide +kernel
theorem dJ5_checkIndex_0 : decode cJ5_checkIndex 0 = .ok (.iload_n 0, 1) := dk_26 (dk_at dksJ5_checkIndex_0 0 rfl rfl)
theorem dJ5_checkIndex_1 : decode cJ5_checkIndex 1 = .ok (.ifCond .lt 8, 3) := dk_155 0 8 (dk_at dksJ5_checkIndex_0 1 rfl rfl)
theorem dJ5_checkIndex_4 : decode cJ5_checkIndex 4 = .ok (.iload_n 0, 1) := dk_26 (dk_at dksJ5_checkIndex_0 4 rfl rfl)
theorem dJ5_checkIndex_5 : decode cJ5_checkIndex 5 = .ok (.iload_n 1, 1) := dk_27 (dk_at dksJ5_checkIndex_0 5 rfl rfl)
theorem dJ5_checkIndex_6 : decode cJ5_checkIndex 6 = .ok (.if_icmp .lt 10, 3) := dk_161 0 10 (dk_at dksJ5_checkIndex_0 6 rfl rfl)
theorem dJ5_checkIndex_9 : decode cJ5_checkIndex 9 = .ok (.aload_n 2, 1) := dk_44 (dk_at dksJ5_checkIndex_0 9 rfl rfl)
theorem dJ5_checkIndex_10 : decode cJ5_checkIndex 10 = .ok (.iload_n 0, 1) := dk_26 (dk_at dksJ5_checkIndex_0 10 rfl rfl)
theorem dJ5_checkIndex_11 : decode cJ5_checkIndex 11 = .ok (.iload_n 1, 1) := dk_27 (dk_at dksJ5_checkIndex_0 11 rfl rfl)
theorem dJ5_checkIndex_12 : decode cJ5_checkIndex 12 = .ok (.invokestatic 95, 3) := dk_184 0 95 (dk_at dksJ5_checkIndex_0 12 rfl rfl)
theorem dJ5_checkIndex_15 : decode cJ5_checkIndex 15 = .ok (.athrow, 1) := dk_191 (dk_at dksJ5_checkIndex_0 15 rfl rfl)
theorem dJ5_checkIndex_16 : decode cJ5_checkIndex 16 = .ok (.iload_n 0, 1) := dk_26 (dk_at dksJ5_checkIndex_0 16 rfl rfl)
theorem dJ5_checkIndex_17 : decode cJ5_checkIndex 17 = .ok (.ireturn, 1) := dk_172 (dk_at dksJ5_checkIndex_0 17 rfl rfl)
theorem q81 : (Jvm.Cond.initialized "jdk/internal/util/Preconditions") ∈ lw_all := lw_g (lw_at lw_m1 14 rfl) rfl
theorem q335 : (Jvm.Cond.laysStatic "jdk/internal/util/Preconditions" "SIOOBE_FORMATTER" "Ljava/util/function/BiFunction;") ∈ lw_tbl := lw_at lw_m2 28 rfl
theorem q337 : (Jvm.Cond.static ({ cls := "jdk/internal/util/Preconditions", name := "checkIndex", desc := "(IILjava/util/function/BiFunction;)I" } : Jvm.MethodName)) ∈ lw_all := lw_g (lw_at lw_m2 30 rfl) rfl
theorem q338 : (Jvm.Cond.code ({ cls := "jdk/internal/util/Preconditions", name := "checkIndex", desc := "(IILjava/util/function/BiFunction;)I" } : Jvm.MethodName) prog_27_method_11_code (3 : Nat) (Option.some Jvm.ClassFile.FieldType.int)) ∈ lw_all := lw_g (lw_at lw_m2 31 rfl) rfl
/-! java/lang/StringUTF16 -/
set_option maxRecDepth 100000
def RJ6 : String := "java/lang/StringUTF16"
abbrev cJ6_charAt : ByteArray := prog_24_method_83_code
def yJ6_charAt : MethodName := ⟨RJ6, "charAt", "([BI)C"⟩
def dkwJ6_charAt_0 : List UInt8 := [27, 42, 184, 0, 67, 42, 27, 184, 0, 71, 172]
abbrev dktJ6_charAt_0 : List UInt8 := dkwJ6_charAt_0 ++ []
theorem dksJ6_charAt_0 : cJ6_charAt.data.toList.drop 0 = dktJ6_charAt_0 := by decide +kernel
theorem dJ6_charAt_0 : decode cJ6_charAt 0 = .ok (.iload_n 1, 1) := dk_27 (dk_at dksJ6_charAt_0 0 rfl rfl)
theorem dJ6_charAt_1 : decode cJ6_charAt 1 = .ok (.aload_n 0, 1) := dk_42 (dk_at dksJ6_charAt_0 1 rfl rfl)
theorem dJ6_charAt_2 : decode cJ6_charAt 2 = .ok (.invokestatic 67, 3) := dk_184 0 67 (dk_at dksJ6_charAt_0 2 rfl rfl)
theorem dJ6_charAt_5 : decode cJ6_charAt 5 = .ok (.aload_n 0, 1) := dk_42 (dk_at dksJ6_charAt_0 5 rfl rfl)
theorem dJ6_charAt_6 : decode cJ6_charAt 6 = .ok (.iload_n 1, 1) := dk_27 (dk_at dksJ6_charAt_0 6 rfl rfl)
theorem dJ6_charAt_7 : decode cJ6_charAt 7 = .ok (.invokestatic 71, 3) := dk_184 0 71 (dk_at dksJ6_charAt_0 7 rfl rfl)
theorem dJ6_charAt_10 : decode cJ6_charAt 10 = .ok (.ireturn, 1) := dk_172 (dk_at dksJ6_charAt_0 10 rfl rfl)
abbrev cJ6_checkIndex : ByteArray := prog_24_method_91_code
def yJ6_checkIndex : MethodName := ⟨RJ6, "checkIndex", "(I[B)V"⟩
def dkwJ6_checkIndex_0 : List UInt8 := [26, 43, 184, 0, 48, 184, 1, 158, 177]
abbrev dktJ6_checkIndex_0 : List UInt8 := dkwJ6_checkIndex_0 ++ []
theorem dksJ6_checkIndex_0 : cJ6_checkIndex.data.toList.drop 0 = dktJ6_checkIndex_0 := by decide +kernel
theorem dJ6_checkIndex_0 : decode cJ6_checkIndex 0 = .ok (.iload_n 0, 1) := dk_26 (dk_at dksJ6_checkIndex_0 0 rfl rfl)
theorem dJ6_checkIndex_1 : decode cJ6_checkIndex 1 = .ok (.aload_n 1, 1) := dk_43 (dk_at dksJ6_checkIndex_0 1 rfl rfl)
theorem dJ6_checkIndex_2 : decode cJ6_checkIndex 2 = .ok (.invokestatic 48, 3) := dk_184 0 48 (dk_at dksJ6_checkIndex_0 2 rfl rfl)
theorem dJ6_checkIndex_5 : decode cJ6_checkIndex 5 = .ok (.invokestatic 414, 3) := dk_184 1 158 (dk_at dksJ6_checkIndex_0 5 rfl rfl)
theorem dJ6_checkIndex_8 : decode cJ6_checkIndex 8 = .ok (.return_, 1) := dk_177 (dk_at dksJ6_checkIndex_0 8 rfl rfl)
abbrev cJ6_length : ByteArray := prog_24_method_6_code
def yJ6_length : MethodName := ⟨RJ6, "length", "([B)I"⟩
def dkwJ6_length_0 : List UInt8 := [42, 190, 4, 122, 172]
abbrev dktJ6_length_0 : List UInt8 := dkwJ6_length_0 ++ []
theorem dksJ6_length_0 : cJ6_length.data.toList.drop 0 = dktJ6_length_0 := by decide +kernel
theorem dJ6_length_0 : decode cJ6_length 0 = .ok (.aload_n 0, 1) := dk_42 (dk_at dksJ6_length_0 0 rfl rfl)
theorem dJ6_length_1 : decode cJ6_length 1 = .ok (.arraylength, 1) := dk_190 (dk_at dksJ6_length_0 1 rfl rfl)
theorem dJ6_length_2 : decode cJ6_length 2 = .ok (.iconst 1, 1) := dk_4 (dk_at dksJ6_length_0 2 rfl rfl)
theorem dJ6_length_3 : decode cJ6_length 3 = .ok (.ishr, 1) := dk_122 (dk_at dksJ6_length_0 3 rfl rfl)
theorem dJ6_length_4 : decode cJ6_length 4 = .ok (.ireturn, 1) := dk_172 (dk_at dksJ6_length_0 4 rfl rfl)
abbrev cJ6_getChar : ByteArray := prog_24_method_5_code
def yJ6_getChar : MethodName := ⟨RJ6, "getChar", "([BI)C"⟩
def dkwJ6_getChar_2 : List UInt8 := [51, 17, 0, 255, 126, 178, 0, 63, 120, 128, 146, 172]
abbrev dktJ6_getChar_2 : List UInt8 := dkwJ6_getChar_2 ++ []
def dkwJ6_getChar_1 : List UInt8 := [183, 0, 56, 191, 27, 4, 120, 60, 42, 27, 132, 1, 1, 51, 17, 0, 255, 126, 178, 0, 59, 120, 42, 27]
abbrev dktJ6_getChar_1 : List UInt8 := dkwJ6_getChar_1 ++ dktJ6_getChar_2
def dkwJ6_getChar_0 : List UInt8 := [178, 0, 44, 154, 0, 25, 27, 155, 0, 11, 27, 42, 184, 0, 48, 161, 0, 13, 187, 0, 52, 89, 18, 54]
abbrev dktJ6_getChar_0 : List UInt8 := dkwJ6_getChar_0 ++ dktJ6_getChar_1
theorem dksJ6_getChar_0 : cJ6_getChar.data.toList.drop 0 = dktJ6_getChar_0 := by decide +kernel
theorem dksJ6_getChar_1 : cJ6_getChar.data.toList.drop 24 = dktJ6_getChar_1 := dk_seg dksJ6_getChar_0 24 rfl rfl
theorem dksJ6_getChar_2 : cJ6_getChar.data.toList.drop 48 = dktJ6_getChar_2 := dk_seg dksJ6_getChar_1 24 rfl rfl
theorem dJ6_getChar_0 : decode cJ6_getChar 0 = .ok (.getstatic 44, 3) := dk_178 0 44 (dk_at dksJ6_getChar_0 0 rfl rfl)
theorem dJ6_getChar_3 : decode cJ6_getChar 3 = .ok (.ifCond .ne 25, 3) := dk_154 0 25 (dk_at dksJ6_getChar_0 3 rfl rfl)
theorem dJ6_getChar_6 : decode cJ6_getChar 6 = .ok (.iload_n 1, 1) := dk_27 (dk_at dksJ6_getChar_0 6 rfl rfl)
theorem dJ6_getChar_7 : decode cJ6_getChar 7 = .ok (.ifCond .lt 11, 3) := dk_155 0 11 (dk_at dksJ6_getChar_0 7 rfl rfl)
theorem dJ6_getChar_10 : decode cJ6_getChar 10 = .ok (.iload_n 1, 1) := dk_27 (dk_at dksJ6_getChar_0 10 rfl rfl)
theorem dJ6_getChar_11 : decode cJ6_getChar 11 = .ok (.aload_n 0, 1) := dk_42 (dk_at dksJ6_getChar_0 11 rfl rfl)
theorem dJ6_getChar_12 : decode cJ6_getChar 12 = .ok (.invokestatic 48, 3) := dk_184 0 48 (dk_at dksJ6_getChar_0 12 rfl rfl)
theorem dJ6_getChar_15 : decode cJ6_getChar 15 = .ok (.if_icmp .lt 13, 3) := dk_161 0 13 (dk_at dksJ6_getChar_0 15 rfl rfl)
theorem dJ6_getChar_18 : decode cJ6_getChar 18 = .ok (.new 52, 3) := dk_187 0 52 (dk_at dksJ6_getChar_0 18 rfl rfl)
theorem dJ6_getChar_21 : decode cJ6_getChar 21 = .ok (.dup, 1) := dk_89 (dk_at dksJ6_getChar_0 21 rfl rfl)
theorem dJ6_getChar_22 : decode cJ6_getChar 22 = .ok (.ldc 54, 2) := dk_18 54 (dk_at dksJ6_getChar_0 22 rfl rfl)
theorem dJ6_getChar_24 : decode cJ6_getChar 24 = .ok (.invokespecial 56, 3) := dk_183 0 56 (dk_at dksJ6_getChar_1 0 rfl rfl)
theorem dJ6_getChar_27 : decode cJ6_getChar 27 = .ok (.athrow, 1) := dk_191 (dk_at dksJ6_getChar_1 3 rfl rfl)
theorem dJ6_getChar_28 : decode cJ6_getChar 28 = .ok (.iload_n 1, 1) := dk_27 (dk_at dksJ6_getChar_1 4 rfl rfl)
theorem dJ6_getChar_29 : decode cJ6_getChar 29 = .ok (.iconst 1, 1) := dk_4 (dk_at dksJ6_getChar_1 5 rfl rfl)
theorem dJ6_getChar_30 : decode cJ6_getChar 30 = .ok (.ishl, 1) := dk_120 (dk_at dksJ6_getChar_1 6 rfl rfl)
theorem dJ6_getChar_31 : decode cJ6_getChar 31 = .ok (.istore_n 1, 1) := dk_60 (dk_at dksJ6_getChar_1 7 rfl rfl)
theorem dJ6_getChar_32 : decode cJ6_getChar 32 = .ok (.aload_n 0, 1) := dk_42 (dk_at dksJ6_getChar_1 8 rfl rfl)
theorem dJ6_getChar_33 : decode cJ6_getChar 33 = .ok (.iload_n 1, 1) := dk_27 (dk_at dksJ6_getChar_1 9 rfl rfl)
theorem dJ6_getChar_34 : decode cJ6_getChar 34 = .ok (.iinc 1 1, 3) := dk_132 1 1 (dk_at dksJ6_getChar_1 10 rfl rfl)
theorem dJ6_getChar_37 : decode cJ6_getChar 37 = .ok (.baload, 1) := dk_51 (dk_at dksJ6_getChar_1 13 rfl rfl)
theorem dJ6_getChar_38 : decode cJ6_getChar 38 = .ok (.sipush 255, 3) := dk_17 0 255 (dk_at dksJ6_getChar_1 14 rfl rfl)
theorem dJ6_getChar_41 : decode cJ6_getChar 41 = .ok (.iand, 1) := dk_126 (dk_at dksJ6_getChar_1 17 rfl rfl)
theorem dJ6_getChar_42 : decode cJ6_getChar 42 = .ok (.getstatic 59, 3) := dk_178 0 59 (dk_at dksJ6_getChar_1 18 rfl rfl)
theorem dJ6_getChar_45 : decode cJ6_getChar 45 = .ok (.ishl, 1) := dk_120 (dk_at dksJ6_getChar_1 21 rfl rfl)
theorem dJ6_getChar_46 : decode cJ6_getChar 46 = .ok (.aload_n 0, 1) := dk_42 (dk_at dksJ6_getChar_1 22 rfl rfl)
theorem dJ6_getChar_47 : decode cJ6_getChar 47 = .ok (.iload_n 1, 1) := dk_27 (dk_at dksJ6_getChar_1 23 rfl rfl)
theorem dJ6_getChar_48 : decode cJ6_getChar 48 = .ok (.baload, 1) := dk_51 (dk_at dksJ6_getChar_2 0 rfl rfl)
theorem dJ6_getChar_49 : decode cJ6_getChar 49 = .ok (.sipush 255, 3) := dk_17 0 255 (dk_at dksJ6_getChar_2 1 rfl rfl)
theorem dJ6_getChar_52 : decode cJ6_getChar 52 = .ok (.iand, 1) := dk_126 (dk_at dksJ6_getChar_2 4 rfl rfl)
theorem dJ6_getChar_53 : decode cJ6_getChar 53 = .ok (.getstatic 63, 3) := dk_178 0 63 (dk_at dksJ6_getChar_2 5 rfl rfl)
theorem dJ6_getChar_56 : decode cJ6_getChar 56 = .ok (.ishl, 1) := dk_120 (dk_at dksJ6_getChar_2 8 rfl rfl)
theorem dJ6_getChar_57 : decode cJ6_getChar 57 = .ok (.ior, 1) := dk_128 (dk_at dksJ6_getChar_2 9 rfl rfl)
theorem dJ6_getChar_58 : decode cJ6_getChar 58 = .ok (.i2c, 1) := dk_146 (dk_at dksJ6_getChar_2 10 rfl rfl)
theorem dJ6_getChar_59 : decode cJ6_getChar 59 = .ok (.ireturn, 1) := dk_172 (dk_at dksJ6_getChar_2 11 rfl rfl)
theorem q82 : (Jvm.Cond.initialized "java/lang/StringUTF16") ∈ lw_all := lw_g (lw_at lw_m1 15 rfl) rfl
theorem q340 : (Jvm.Cond.static ({ cls := "java/lang/StringUTF16", name := "charAt", desc := "([BI)C" } : Jvm.MethodName)) ∈ lw_all := lw_g (lw_at lw_m2 33 rfl) rfl
theorem q341 : (Jvm.Cond.code ({ cls := "java/lang/StringUTF16", name := "charAt", desc := "([BI)C" } : Jvm.MethodName) prog_24_method_83_code (2 : Nat) (Option.some Jvm.ClassFile.FieldType.char)) ∈ lw_all := lw_g (lw_at lw_m2 34 rfl) rfl
theorem q342 : (Jvm.Cond.methodLink "java/lang/StringUTF16" (67 : Nat) ({ cls := "java/lang/StringUTF16", name := "checkIndex", desc := "(I[B)V" } : Jvm.MethodName)) ∈ lw_all := lw_g (lw_at lw_m2 35 rfl) rfl
theorem q343 : (Jvm.Cond.static ({ cls := "java/lang/StringUTF16", name := "checkIndex", desc := "(I[B)V" } : Jvm.MethodName)) ∈ lw_all := lw_g (lw_at lw_m2 36 rfl) rfl
theorem q344 : (Jvm.Cond.code ({ cls := "java/lang/StringUTF16", name := "checkIndex", desc := "(I[B)V" } : Jvm.MethodName) prog_24_method_91_code (2 : Nat) (Option.none : Option Jvm.ClassFile.FieldType)) ∈ lw_all := lw_g (lw_at lw_m2 37 rfl) rfl
theorem q345 : (Jvm.Cond.methodLink "java/lang/StringUTF16" (48 : Nat) ({ cls := "java/lang/StringUTF16", name := "length", desc := "([B)I" } : Jvm.MethodName)) ∈ lw_all := lw_g (lw_at lw_m2 38 rfl) rfl
theorem q346 : (Jvm.Cond.static ({ cls := "java/lang/StringUTF16", name := "length", desc := "([B)I" } : Jvm.MethodName)) ∈ lw_all := lw_g (lw_at lw_m2 39 rfl) rfl
theorem q347 : (Jvm.Cond.code ({ cls := "java/lang/StringUTF16", name := "length", desc := "([B)I" } : Jvm.MethodName) prog_24_method_6_code (1 : Nat) (Option.some Jvm.ClassFile.FieldType.int)) ∈ lw_all := lw_g (lw_at lw_m2 40 rfl) rfl
theorem q348 : (Jvm.Cond.methodLink "java/lang/StringUTF16" (414 : Nat) ({ cls := "java/lang/String", name := "checkIndex", desc := "(II)V" } : Jvm.MethodName)) ∈ lw_all := lw_g (lw_at lw_m2 41 rfl) rfl
theorem q349 : (Jvm.Cond.methodLink "java/lang/StringUTF16" (71 : Nat) ({ cls := "java/lang/StringUTF16", name := "getChar", desc := "([BI)C" } : Jvm.MethodName)) ∈ lw_all := lw_g (lw_at lw_m2 42 rfl) rfl
theorem q350 : (Jvm.Cond.static ({ cls := "java/lang/StringUTF16", name := "getChar", desc := "([BI)C" } : Jvm.MethodName)) ∈ lw_all := lw_g (lw_at lw_m2 43 rfl) rfl
theorem q351 : (Jvm.Cond.code ({ cls := "java/lang/StringUTF16", name := "getChar", desc := "([BI)C" } : Jvm.MethodName) prog_24_method_5_code (2 : Nat) (Option.some Jvm.ClassFile.FieldType.char)) ∈ lw_all := lw_g (lw_at lw_m2 44 rfl) rfl
theorem q352 : (Jvm.Cond.fieldLink "java/lang/StringUTF16" (44 : Nat) "java/lang/StringUTF16" "$assertionsDisabled" "Z") ∈ lw_all := lw_g (lw_at lw_m2 45 rfl) rfl
theorem q353 : (Jvm.Cond.laysStatic "java/lang/StringUTF16" "$assertionsDisabled" "Z") ∈ lw_tbl := lw_at lw_m2 46 rfl
theorem q354 : (Jvm.Cond.fieldLink "java/lang/StringUTF16" (59 : Nat) "java/lang/StringUTF16" "HI_BYTE_SHIFT" "I") ∈ lw_all := lw_g (lw_at lw_m2 47 rfl) rfl
theorem q355 : (Jvm.Cond.laysStatic "java/lang/StringUTF16" "HI_BYTE_SHIFT" "I") ∈ lw_tbl := lw_at lw_m2 48 rfl
theorem q356 : (Jvm.Cond.fieldLink "java/lang/StringUTF16" (63 : Nat) "java/lang/StringUTF16" "LO_BYTE_SHIFT" "I") ∈ lw_all := lw_g (lw_at lw_m2 49 rfl) rfl
theorem q357 : (Jvm.Cond.laysStatic "java/lang/StringUTF16" "LO_BYTE_SHIFT" "I") ∈ lw_tbl := lw_at lw_m2 50 rfl
/-! java/lang/Math -/
set_option maxRecDepth 100000
def RJ7 : String := "java/lang/Math"
abbrev cJ7_max : ByteArray := prog_18_method_65_code
def yJ7_max : MethodName := ⟨RJ7, "max", "(II)I"⟩
def dkwJ7_max_0 : List UInt8 := [26, 27, 161, 0, 7, 26, 167, 0, 4, 27, 172]
abbrev dktJ7_max_0 : List UInt8 := dkwJ7_max_0 ++ []
theorem dksJ7_max_0 : cJ7_max.data.toList.drop 0 = dktJ7_max_0 := by decide +kernel
theorem dJ7_max_0 : decode cJ7_max 0 = .ok (.iload_n 0, 1) := dk_26 (dk_at dksJ7_max_0 0 rfl rfl)
theorem dJ7_max_1 : decode cJ7_max 1 = .ok (.iload_n 1, 1) := dk_27 (dk_at dksJ7_max_0 1 rfl rfl)
theorem dJ7_max_2 : decode cJ7_max 2 = .ok (.if_icmp .lt 7, 3) := dk_161 0 7 (dk_at dksJ7_max_0 2 rfl rfl)
theorem dJ7_max_5 : decode cJ7_max 5 = .ok (.iload_n 0, 1) := dk_26 (dk_at dksJ7_max_0 5 rfl rfl)
theorem dJ7_max_6 : decode cJ7_max 6 = .ok (.goto 4, 3) := dk_167 0 4 (dk_at dksJ7_max_0 6 rfl rfl)
theorem dJ7_max_9 : decode cJ7_max 9 = .ok (.iload_n 1, 1) := dk_27 (dk_at dksJ7_max_0 9 rfl rfl)
theorem dJ7_max_10 : decode cJ7_max 10 = .ok (.ireturn, 1) := dk_172 (dk_at dksJ7_max_0 10 rfl rfl)
abbrev cJ7_min : ByteArray := prog_18_method_69_code
def yJ7_min : MethodName := ⟨RJ7, "min", "(II)I"⟩
def dkwJ7_min_0 : List UInt8 := [26, 27, 163, 0, 7, 26, 167, 0, 4, 27, 172]
abbrev dktJ7_min_0 : List UInt8 := dkwJ7_min_0 ++ []
theorem dksJ7_min_0 : cJ7_min.data.toList.drop 0 = dktJ7_min_0 := by decide +kernel
theorem dJ7_min_0 : decode cJ7_min 0 = .ok (.iload_n 0, 1) := dk_26 (dk_at dksJ7_min_0 0 rfl rfl)
theorem dJ7_min_1 : decode cJ7_min 1 = .ok (.iload_n 1, 1) := dk_27 (dk_at dksJ7_min_0 1 rfl rfl)
theorem dJ7_min_2 : decode cJ7_min 2 = .ok (.if_icmp .gt 7, 3) := dk_163 0 7 (dk_at dksJ7_min_0 2 rfl rfl)
theorem dJ7_min_5 : decode cJ7_min 5 = .ok (.iload_n 0, 1) := dk_26 (dk_at dksJ7_min_0 5 rfl rfl)
theorem dJ7_min_6 : decode cJ7_min 6 = .ok (.goto 4, 3) := dk_167 0 4 (dk_at dksJ7_min_0 6 rfl rfl)
theorem dJ7_min_9 : decode cJ7_min 9 = .ok (.iload_n 1, 1) := dk_27 (dk_at dksJ7_min_0 9 rfl rfl)
theorem dJ7_min_10 : decode cJ7_min 10 = .ok (.ireturn, 1) := dk_172 (dk_at dksJ7_min_0 10 rfl rfl)
theorem q83 : (Jvm.Cond.initialized "java/lang/Math") ∈ lw_all := lw_g (lw_at lw_m1 16 rfl) rfl
theorem q415 : (Jvm.Cond.static ({ cls := "java/lang/Math", name := "max", desc := "(II)I" } : Jvm.MethodName)) ∈ lw_all := lw_g (lw_at lw_m2 108 rfl) rfl
theorem q416 : (Jvm.Cond.code ({ cls := "java/lang/Math", name := "max", desc := "(II)I" } : Jvm.MethodName) prog_18_method_65_code (2 : Nat) (Option.some Jvm.ClassFile.FieldType.int)) ∈ lw_all := lw_g (lw_at lw_m2 109 rfl) rfl
theorem q522 : (Jvm.Cond.static ({ cls := "java/lang/Math", name := "min", desc := "(II)I" } : Jvm.MethodName)) ∈ lw_all := lw_g (lw_at lw_m2 215 rfl) rfl
theorem q523 : (Jvm.Cond.code ({ cls := "java/lang/Math", name := "min", desc := "(II)I" } : Jvm.MethodName) prog_18_method_69_code (2 : Nat) (Option.some Jvm.ClassFile.FieldType.int)) ∈ lw_all := lw_g (lw_at lw_m2 216 rfl) rfl
/-! java/lang/Integer -/
set_option maxRecDepth 100000
def RJ8 : String := "java/lang/Integer"
abbrev cJ8_bitCount : ByteArray := prog_17_method_49_code
def yJ8_bitCount : MethodName := ⟨RJ8, "bitCount", "(I)I"⟩
def dkwJ8_bitCount_2 : List UInt8 := [26, 16, 63, 126, 172]
abbrev dktJ8_bitCount_2 : List UInt8 := dkwJ8_bitCount_2 ++ []
def dkwJ8_bitCount_1 : List UInt8 := [26, 26, 7, 124, 96, 19, 1, 11, 126, 59, 26, 26, 16, 8, 124, 96, 59, 26, 26, 16, 16, 124, 96, 59]
abbrev dktJ8_bitCount_1 : List UInt8 := dkwJ8_bitCount_1 ++ dktJ8_bitCount_2
def dkwJ8_bitCount_0 : List UInt8 := [26, 26, 4, 124, 19, 1, 9, 126, 100, 59, 26, 19, 1, 10, 126, 26, 5, 124, 19, 1, 10, 126, 96, 59]
abbrev dktJ8_bitCount_0 : List UInt8 := dkwJ8_bitCount_0 ++ dktJ8_bitCount_1
theorem dksJ8_bitCount_0 : cJ8_bitCount.data.toList.drop 0 = dktJ8_bitCount_0 := by decide +kernel
theorem dksJ8_bitCount_1 : cJ8_bitCount.data.toList.drop 24 = dktJ8_bitCount_1 := dk_seg dksJ8_bitCount_0 24 rfl rfl
theorem dksJ8_bitCount_2 : cJ8_bitCount.data.toList.drop 48 = dktJ8_bitCount_2 := dk_seg dksJ8_bitCount_1 24 rfl rfl
theorem dJ8_bitCount_0 : decode cJ8_bitCount 0 = .ok (.iload_n 0, 1) := dk_26 (dk_at dksJ8_bitCount_0 0 rfl rfl)
theorem dJ8_bitCount_1 : decode cJ8_bitCount 1 = .ok (.iload_n 0, 1) := dk_26 (dk_at dksJ8_bitCount_0 1 rfl rfl)
theorem dJ8_bitCount_2 : decode cJ8_bitCount 2 = .ok (.iconst 1, 1) := dk_4 (dk_at dksJ8_bitCount_0 2 rfl rfl)
theorem dJ8_bitCount_3 : decode cJ8_bitCount 3 = .ok (.iushr, 1) := dk_124 (dk_at dksJ8_bitCount_0 3 rfl rfl)
theorem dJ8_bitCount_4 : decode cJ8_bitCount 4 = .ok (.ldc_w 265, 3) := dk_19 1 9 (dk_at dksJ8_bitCount_0 4 rfl rfl)
theorem dJ8_bitCount_7 : decode cJ8_bitCount 7 = .ok (.iand, 1) := dk_126 (dk_at dksJ8_bitCount_0 7 rfl rfl)
theorem dJ8_bitCount_8 : decode cJ8_bitCount 8 = .ok (.isub, 1) := dk_100 (dk_at dksJ8_bitCount_0 8 rfl rfl)
theorem dJ8_bitCount_9 : decode cJ8_bitCount 9 = .ok (.istore_n 0, 1) := dk_59 (dk_at dksJ8_bitCount_0 9 rfl rfl)
theorem dJ8_bitCount_10 : decode cJ8_bitCount 10 = .ok (.iload_n 0, 1) := dk_26 (dk_at dksJ8_bitCount_0 10 rfl rfl)
theorem dJ8_bitCount_11 : decode cJ8_bitCount 11 = .ok (.ldc_w 266, 3) := dk_19 1 10 (dk_at dksJ8_bitCount_0 11 rfl rfl)
theorem dJ8_bitCount_14 : decode cJ8_bitCount 14 = .ok (.iand, 1) := dk_126 (dk_at dksJ8_bitCount_0 14 rfl rfl)
theorem dJ8_bitCount_15 : decode cJ8_bitCount 15 = .ok (.iload_n 0, 1) := dk_26 (dk_at dksJ8_bitCount_0 15 rfl rfl)
theorem dJ8_bitCount_16 : decode cJ8_bitCount 16 = .ok (.iconst 2, 1) := dk_5 (dk_at dksJ8_bitCount_0 16 rfl rfl)
theorem dJ8_bitCount_17 : decode cJ8_bitCount 17 = .ok (.iushr, 1) := dk_124 (dk_at dksJ8_bitCount_0 17 rfl rfl)
theorem dJ8_bitCount_18 : decode cJ8_bitCount 18 = .ok (.ldc_w 266, 3) := dk_19 1 10 (dk_at dksJ8_bitCount_0 18 rfl rfl)
theorem dJ8_bitCount_21 : decode cJ8_bitCount 21 = .ok (.iand, 1) := dk_126 (dk_at dksJ8_bitCount_0 21 rfl rfl)
theorem dJ8_bitCount_22 : decode cJ8_bitCount 22 = .ok (.iadd, 1) := dk_96 (dk_at dksJ8_bitCount_0 22 rfl rfl)
theorem dJ8_bitCount_23 : decode cJ8_bitCount 23 = .ok (.istore_n 0, 1) := dk_59 (dk_at dksJ8_bitCount_0 23 rfl rfl)
theorem dJ8_bitCount_24 : decode cJ8_bitCount 24 = .ok (.iload_n 0, 1) := dk_26 (dk_at dksJ8_bitCount_1 0 rfl rfl)
theorem dJ8_bitCount_25 : decode cJ8_bitCount 25 = .ok (.iload_n 0, 1) := dk_26 (dk_at dksJ8_bitCount_1 1 rfl rfl)
theorem dJ8_bitCount_26 : decode cJ8_bitCount 26 = .ok (.iconst 4, 1) := dk_7 (dk_at dksJ8_bitCount_1 2 rfl rfl)
theorem dJ8_bitCount_27 : decode cJ8_bitCount 27 = .ok (.iushr, 1) := dk_124 (dk_at dksJ8_bitCount_1 3 rfl rfl)
theorem dJ8_bitCount_28 : decode cJ8_bitCount 28 = .ok (.iadd, 1) := dk_96 (dk_at dksJ8_bitCount_1 4 rfl rfl)
theorem dJ8_bitCount_29 : decode cJ8_bitCount 29 = .ok (.ldc_w 267, 3) := dk_19 1 11 (dk_at dksJ8_bitCount_1 5 rfl rfl)
theorem dJ8_bitCount_32 : decode cJ8_bitCount 32 = .ok (.iand, 1) := dk_126 (dk_at dksJ8_bitCount_1 8 rfl rfl)
theorem dJ8_bitCount_33 : decode cJ8_bitCount 33 = .ok (.istore_n 0, 1) := dk_59 (dk_at dksJ8_bitCount_1 9 rfl rfl)
theorem dJ8_bitCount_34 : decode cJ8_bitCount 34 = .ok (.iload_n 0, 1) := dk_26 (dk_at dksJ8_bitCount_1 10 rfl rfl)
theorem dJ8_bitCount_35 : decode cJ8_bitCount 35 = .ok (.iload_n 0, 1) := dk_26 (dk_at dksJ8_bitCount_1 11 rfl rfl)
theorem dJ8_bitCount_36 : decode cJ8_bitCount 36 = .ok (.bipush 8, 2) := dk_16 8 (dk_at dksJ8_bitCount_1 12 rfl rfl)
theorem dJ8_bitCount_38 : decode cJ8_bitCount 38 = .ok (.iushr, 1) := dk_124 (dk_at dksJ8_bitCount_1 14 rfl rfl)
theorem dJ8_bitCount_39 : decode cJ8_bitCount 39 = .ok (.iadd, 1) := dk_96 (dk_at dksJ8_bitCount_1 15 rfl rfl)
theorem dJ8_bitCount_40 : decode cJ8_bitCount 40 = .ok (.istore_n 0, 1) := dk_59 (dk_at dksJ8_bitCount_1 16 rfl rfl)
theorem dJ8_bitCount_41 : decode cJ8_bitCount 41 = .ok (.iload_n 0, 1) := dk_26 (dk_at dksJ8_bitCount_1 17 rfl rfl)
theorem dJ8_bitCount_42 : decode cJ8_bitCount 42 = .ok (.iload_n 0, 1) := dk_26 (dk_at dksJ8_bitCount_1 18 rfl rfl)
theorem dJ8_bitCount_43 : decode cJ8_bitCount 43 = .ok (.bipush 16, 2) := dk_16 16 (dk_at dksJ8_bitCount_1 19 rfl rfl)
theorem dJ8_bitCount_45 : decode cJ8_bitCount 45 = .ok (.iushr, 1) := dk_124 (dk_at dksJ8_bitCount_1 21 rfl rfl)
theorem dJ8_bitCount_46 : decode cJ8_bitCount 46 = .ok (.iadd, 1) := dk_96 (dk_at dksJ8_bitCount_1 22 rfl rfl)
theorem dJ8_bitCount_47 : decode cJ8_bitCount 47 = .ok (.istore_n 0, 1) := dk_59 (dk_at dksJ8_bitCount_1 23 rfl rfl)
theorem dJ8_bitCount_48 : decode cJ8_bitCount 48 = .ok (.iload_n 0, 1) := dk_26 (dk_at dksJ8_bitCount_2 0 rfl rfl)
theorem dJ8_bitCount_49 : decode cJ8_bitCount 49 = .ok (.bipush 63, 2) := dk_16 63 (dk_at dksJ8_bitCount_2 1 rfl rfl)
theorem dJ8_bitCount_51 : decode cJ8_bitCount 51 = .ok (.iand, 1) := dk_126 (dk_at dksJ8_bitCount_2 3 rfl rfl)
theorem dJ8_bitCount_52 : decode cJ8_bitCount 52 = .ok (.ireturn, 1) := dk_172 (dk_at dksJ8_bitCount_2 4 rfl rfl)
theorem q84 : (Jvm.Cond.initialized "java/lang/Integer") ∈ lw_all := lw_g (lw_at lw_m1 17 rfl) rfl
theorem q640 : (Jvm.Cond.static ({ cls := "java/lang/Integer", name := "bitCount", desc := "(I)I" } : Jvm.MethodName)) ∈ lw_all := lw_g (lw_at lw_m3 93 rfl) rfl
theorem q641 : (Jvm.Cond.code ({ cls := "java/lang/Integer", name := "bitCount", desc := "(I)I" } : Jvm.MethodName) prog_17_method_49_code (1 : Nat) (Option.some Jvm.ClassFile.FieldType.int)) ∈ lw_all := lw_g (lw_at lw_m3 94 rfl) rfl
theorem q642 : (Jvm.Cond.constant "java/lang/Integer" (265 : Nat) (1431655765 : Int32)) ∈ lw_all := lw_g (lw_at lw_m3 95 rfl) rfl
theorem q643 : (Jvm.Cond.constant "java/lang/Integer" (266 : Nat) (858993459 : Int32)) ∈ lw_all := lw_g (lw_at lw_m3 96 rfl) rfl
theorem q644 : (Jvm.Cond.constant "java/lang/Integer" (267 : Nat) (252645135 : Int32)) ∈ lw_all := lw_g (lw_at lw_m3 97 rfl) rfl
/-! java/lang/NegativeArraySizeException -/
set_option maxRecDepth 100000
def RJ9 : String := "java/lang/NegativeArraySizeException"
def TJ9 : u_T := fun k => match k with
  | 0 => ("java/lang/Throwable", "backtrace", "Ljava/lang/Object;", false)
  | 1 => ("java/lang/Throwable", "detailMessage", "Ljava/lang/String;", false)
  | 2 => ("java/lang/Throwable", "cause", "Ljava/lang/Throwable;", false)
  | 3 => ("java/lang/Throwable", "stackTrace", "[Ljava/lang/StackTraceElement;", false)
  | 4 => ("java/lang/Throwable", "depth", "I", false)
  | _ => ("java/lang/Throwable", "suppressedExceptions", "Ljava/util/List;", false)
def tyJ9 : Nat → FieldType := fun k => match k with
  | 0 => .object "java/lang/Object"
  | 1 => .object "java/lang/String"
  | 2 => .object "java/lang/Throwable"
  | 3 => .array (.object "java/lang/StackTraceElement")
  | 4 => .int
  | _ => .object "java/util/List"
abbrev wsJ90 : List Cond := u_ws RJ9 TJ9 6
theorem nmJ9 : ∀ a, a < 6 → ∀ b, b < 6 → a ≠ b → (TJ9 a).2.1 ≠ (TJ9 b).2.1 := by decide +kernel
theorem tyJ9_ok : ∀ k, k < 6 → parseFieldDescriptor (TJ9 k).2.2.1 = some (tyJ9 k) := by decide +kernel
abbrev cJ9_init : ByteArray := prog_19_method_2_code
def yJ9_init : MethodName := ⟨RJ9, "<init>", "(Ljava/lang/String;)V"⟩
def dkwJ9_init_0 : List UInt8 := [42, 43, 183, 0, 7, 177]
abbrev dktJ9_init_0 : List UInt8 := dkwJ9_init_0 ++ []
theorem dksJ9_init_0 : cJ9_init.data.toList.drop 0 = dktJ9_init_0 := by decide +kernel
theorem dJ9_init_0 : decode cJ9_init 0 = .ok (.aload_n 0, 1) := dk_42 (dk_at dksJ9_init_0 0 rfl rfl)
theorem dJ9_init_1 : decode cJ9_init 1 = .ok (.aload_n 1, 1) := dk_43 (dk_at dksJ9_init_0 1 rfl rfl)
theorem dJ9_init_2 : decode cJ9_init 2 = .ok (.invokespecial 7, 3) := dk_183 0 7 (dk_at dksJ9_init_0 2 rfl rfl)
theorem dJ9_init_5 : decode cJ9_init 5 = .ok (.return_, 1) := dk_177 (dk_at dksJ9_init_0 5 rfl rfl)
theorem q85 : (Jvm.Cond.initialized "java/lang/NegativeArraySizeException") ∈ lw_all := lw_g (lw_at lw_m1 18 rfl) rfl
theorem q215 : (Jvm.Cond.selects "java/lang/NegativeArraySizeException" ({ cls := "java/lang/Throwable", name := "fillInStackTrace", desc := "()Ljava/lang/Throwable;" } : Jvm.MethodName) ({ cls := "java/lang/Throwable", name := "fillInStackTrace", desc := "()Ljava/lang/Throwable;" } : Jvm.MethodName)) ∈ lw_all := lw_g (lw_at lw_m1 148 rfl) rfl
theorem q778 : (Jvm.Cond.instantiable "java/lang/NegativeArraySizeException" (6 : Nat)) ∈ lw_all := lw_g (lw_at lw_m3 231 rfl) rfl
theorem q779 : (Jvm.Cond.instanceMethod ({ cls := "java/lang/NegativeArraySizeException", name := "<init>", desc := "(Ljava/lang/String;)V" } : Jvm.MethodName)) ∈ lw_all := lw_g (lw_at lw_m3 232 rfl) rfl
theorem q780 : (Jvm.Cond.code ({ cls := "java/lang/NegativeArraySizeException", name := "<init>", desc := "(Ljava/lang/String;)V" } : Jvm.MethodName) prog_19_method_2_code (2 : Nat) (Option.none : Option Jvm.ClassFile.FieldType)) ∈ lw_all := lw_g (lw_at lw_m3 233 rfl) rfl
theorem q781 : (Jvm.Cond.methodLink "java/lang/NegativeArraySizeException" (7 : Nat) ({ cls := "java/lang/RuntimeException", name := "<init>", desc := "(Ljava/lang/String;)V" } : Jvm.MethodName)) ∈ lw_all := lw_g (lw_at lw_m3 234 rfl) rfl
theorem q790 : (Jvm.Cond.lays "java/lang/NegativeArraySizeException" "java/lang/Throwable" "backtrace" "Ljava/lang/Object;") ∈ lw_all := lw_g (lw_at lw_m4 3 rfl) rfl
theorem q791 : (Jvm.Cond.lays "java/lang/NegativeArraySizeException" "java/lang/Throwable" "detailMessage" "Ljava/lang/String;") ∈ lw_all := lw_g (lw_at lw_m4 4 rfl) rfl
theorem q792 : (Jvm.Cond.lays "java/lang/NegativeArraySizeException" "java/lang/Throwable" "cause" "Ljava/lang/Throwable;") ∈ lw_all := lw_g (lw_at lw_m4 5 rfl) rfl
theorem q793 : (Jvm.Cond.lays "java/lang/NegativeArraySizeException" "java/lang/Throwable" "stackTrace" "[Ljava/lang/StackTraceElement;") ∈ lw_all := lw_g (lw_at lw_m4 6 rfl) rfl
theorem q794 : (Jvm.Cond.lays "java/lang/NegativeArraySizeException" "java/lang/Throwable" "depth" "I") ∈ lw_all := lw_g (lw_at lw_m4 7 rfl) rfl
theorem q795 : (Jvm.Cond.lays "java/lang/NegativeArraySizeException" "java/lang/Throwable" "suppressedExceptions" "Ljava/util/List;") ∈ lw_all := lw_g (lw_at lw_m4 8 rfl) rfl
theorem q796 : (Jvm.Cond.superclass "java/lang/NegativeArraySizeException" "java/lang/RuntimeException") ∈ lw_all := lw_g (lw_at lw_m4 9 rfl) rfl
theorem q797 : (Jvm.Cond.castable "java/lang/NegativeArraySizeException" "java/lang/NegativeArraySizeException") ∈ lw_tbl := lw_at lw_m4 10 rfl
theorem q798 : (Jvm.Cond.selects "java/lang/NegativeArraySizeException" ({ cls := "java/lang/Throwable", name := "fillInStackTrace", desc := "(I)Ljava/lang/Throwable;" } : Jvm.MethodName) ({ cls := "java/lang/Throwable", name := "fillInStackTrace", desc := "(I)Ljava/lang/Throwable;" } : Jvm.MethodName)) ∈ lw_all := lw_g (lw_at lw_m4 11 rfl) rfl
theorem in_J9 : ∀ w ∈ wsJ90, w ∈ lw_all := lw_in wsJ90 [790, 791, 792, 793, 794, 795] (by decide +kernel) (by decide +kernel)
/-! TrapdoorVotes$Stage -/
set_option maxRecDepth 100000
def RX1 : String := "TrapdoorVotes$Stage"
def TX1 : u_T := fun k => match k with
  | 0 => ("TrapdoorVotes$Stage", "squares", "[[I", true)
  | 1 => ("TrapdoorVotes$Stage", "hands", "[[I", true)
  | 2 => ("TrapdoorVotes$Stage", "ministers", "[[I", true)
  | 3 => ("TrapdoorVotes$Stage", "handMany", "I", false)
  | 4 => ("TrapdoorVotes$Stage", "ministerMany", "I", false)
  | 5 => ("TrapdoorVotes$Stage", "turn", "I", false)
  | _ => ("TrapdoorVotes$Stage", "falls", "I", false)
def tyX1 : Nat → FieldType := fun k => match k with
  | 0 => .array (.array .int)
  | 1 => .array (.array .int)
  | 2 => .array (.array .int)
  | 3 => .int
  | 4 => .int
  | 5 => .int
  | _ => .int
abbrev wsX10 : List Cond := u_ws RX1 TX1 7
theorem nmX1 : ∀ a, a < 7 → ∀ b, b < 7 → a ≠ b → (TX1 a).2.1 ≠ (TX1 b).2.1 := by decide +kernel
theorem tyX1_ok : ∀ k, k < 7 → parseFieldDescriptor (TX1 k).2.2.1 = some (tyX1 k) := by decide +kernel
abbrev cX1_init : ByteArray := prog_10_method_1_code
def yX1_init : MethodName := ⟨RX1, "<init>", "()V"⟩
def dkwX1_init_5 : List UInt8 := [177]
abbrev dktX1_init_5 : List UInt8 := dkwX1_init_5 ++ []
def dkwX1_init_4 : List UInt8 := [181, 0, 11, 42, 16, 6, 6, 197, 0, 17, 2, 181, 0, 18, 42, 7, 5, 197, 0, 17, 2, 181, 0, 21]
abbrev dktX1_init_4 : List UInt8 := dkwX1_init_4 ++ dktX1_init_5
def dkwX1_init_3 : List UInt8 := [3, 3, 79, 89, 4, 4, 79, 83, 89, 8, 5, 188, 10, 89, 3, 3, 79, 89, 4, 4, 79, 83]
abbrev dktX1_init_3 : List UInt8 := dkwX1_init_3 ++ dktX1_init_4
def dkwX1_init_2 : List UInt8 := [4, 4, 79, 83, 89, 6, 5, 188, 10, 89, 3, 3, 79, 89, 4, 4, 79, 83, 89, 7, 5, 188, 10, 89]
abbrev dktX1_init_2 : List UInt8 := dkwX1_init_2 ++ dktX1_init_3
def dkwX1_init_1 : List UInt8 := [89, 4, 5, 188, 10, 89, 3, 3, 79, 89, 4, 4, 79, 83, 89, 5, 5, 188, 10, 89, 3, 3, 79, 89]
abbrev dktX1_init_1 : List UInt8 := dkwX1_init_1 ++ dktX1_init_2
def dkwX1_init_0 : List UInt8 := [42, 183, 0, 3, 42, 16, 6, 189, 0, 9, 89, 3, 5, 188, 10, 89, 3, 3, 79, 89, 4, 4, 79, 83]
abbrev dktX1_init_0 : List UInt8 := dkwX1_init_0 ++ dktX1_init_1
theorem dksX1_init_0 : cX1_init.data.toList.drop 0 = dktX1_init_0 := by decide +kernel
theorem dksX1_init_1 : cX1_init.data.toList.drop 24 = dktX1_init_1 := dk_seg dksX1_init_0 24 rfl rfl
theorem dksX1_init_2 : cX1_init.data.toList.drop 48 = dktX1_init_2 := dk_seg dksX1_init_1 24 rfl rfl
theorem dksX1_init_3 : cX1_init.data.toList.drop 72 = dktX1_init_3 := dk_seg dksX1_init_2 24 rfl rfl
theorem dksX1_init_4 : cX1_init.data.toList.drop 94 = dktX1_init_4 := dk_seg dksX1_init_3 22 rfl rfl
theorem dksX1_init_5 : cX1_init.data.toList.drop 118 = dktX1_init_5 := dk_seg dksX1_init_4 24 rfl rfl
theorem dX1_init_0 : decode cX1_init 0 = .ok (.aload_n 0, 1) := dk_42 (dk_at dksX1_init_0 0 rfl rfl)
theorem dX1_init_1 : decode cX1_init 1 = .ok (.invokespecial 3, 3) := dk_183 0 3 (dk_at dksX1_init_0 1 rfl rfl)
theorem dX1_init_4 : decode cX1_init 4 = .ok (.aload_n 0, 1) := dk_42 (dk_at dksX1_init_0 4 rfl rfl)
theorem dX1_init_5 : decode cX1_init 5 = .ok (.bipush 6, 2) := dk_16 6 (dk_at dksX1_init_0 5 rfl rfl)
theorem dX1_init_7 : decode cX1_init 7 = .ok (.anewarray 9, 3) := dk_189 0 9 (dk_at dksX1_init_0 7 rfl rfl)
theorem dX1_init_10 : decode cX1_init 10 = .ok (.dup, 1) := dk_89 (dk_at dksX1_init_0 10 rfl rfl)
theorem dX1_init_11 : decode cX1_init 11 = .ok (.iconst 0, 1) := dk_3 (dk_at dksX1_init_0 11 rfl rfl)
theorem dX1_init_12 : decode cX1_init 12 = .ok (.iconst 2, 1) := dk_5 (dk_at dksX1_init_0 12 rfl rfl)
theorem dX1_init_13 : decode cX1_init 13 = .ok (.newarray .int, 2) := dk_188_10 (dk_at dksX1_init_0 13 rfl rfl)
theorem dX1_init_15 : decode cX1_init 15 = .ok (.dup, 1) := dk_89 (dk_at dksX1_init_0 15 rfl rfl)
theorem dX1_init_16 : decode cX1_init 16 = .ok (.iconst 0, 1) := dk_3 (dk_at dksX1_init_0 16 rfl rfl)
theorem dX1_init_17 : decode cX1_init 17 = .ok (.iconst 0, 1) := dk_3 (dk_at dksX1_init_0 17 rfl rfl)
theorem dX1_init_18 : decode cX1_init 18 = .ok (.iastore, 1) := dk_79 (dk_at dksX1_init_0 18 rfl rfl)
theorem dX1_init_19 : decode cX1_init 19 = .ok (.dup, 1) := dk_89 (dk_at dksX1_init_0 19 rfl rfl)
theorem dX1_init_20 : decode cX1_init 20 = .ok (.iconst 1, 1) := dk_4 (dk_at dksX1_init_0 20 rfl rfl)
theorem dX1_init_21 : decode cX1_init 21 = .ok (.iconst 1, 1) := dk_4 (dk_at dksX1_init_0 21 rfl rfl)
theorem dX1_init_22 : decode cX1_init 22 = .ok (.iastore, 1) := dk_79 (dk_at dksX1_init_0 22 rfl rfl)
theorem dX1_init_23 : decode cX1_init 23 = .ok (.aastore, 1) := dk_83 (dk_at dksX1_init_0 23 rfl rfl)
theorem dX1_init_24 : decode cX1_init 24 = .ok (.dup, 1) := dk_89 (dk_at dksX1_init_1 0 rfl rfl)
theorem dX1_init_25 : decode cX1_init 25 = .ok (.iconst 1, 1) := dk_4 (dk_at dksX1_init_1 1 rfl rfl)
theorem dX1_init_26 : decode cX1_init 26 = .ok (.iconst 2, 1) := dk_5 (dk_at dksX1_init_1 2 rfl rfl)
theorem dX1_init_27 : decode cX1_init 27 = .ok (.newarray .int, 2) := dk_188_10 (dk_at dksX1_init_1 3 rfl rfl)
theorem dX1_init_29 : decode cX1_init 29 = .ok (.dup, 1) := dk_89 (dk_at dksX1_init_1 5 rfl rfl)
theorem dX1_init_30 : decode cX1_init 30 = .ok (.iconst 0, 1) := dk_3 (dk_at dksX1_init_1 6 rfl rfl)
theorem dX1_init_31 : decode cX1_init 31 = .ok (.iconst 0, 1) := dk_3 (dk_at dksX1_init_1 7 rfl rfl)
theorem dX1_init_32 : decode cX1_init 32 = .ok (.iastore, 1) := dk_79 (dk_at dksX1_init_1 8 rfl rfl)
theorem dX1_init_33 : decode cX1_init 33 = .ok (.dup, 1) := dk_89 (dk_at dksX1_init_1 9 rfl rfl)
theorem dX1_init_34 : decode cX1_init 34 = .ok (.iconst 1, 1) := dk_4 (dk_at dksX1_init_1 10 rfl rfl)
theorem dX1_init_35 : decode cX1_init 35 = .ok (.iconst 1, 1) := dk_4 (dk_at dksX1_init_1 11 rfl rfl)
theorem dX1_init_36 : decode cX1_init 36 = .ok (.iastore, 1) := dk_79 (dk_at dksX1_init_1 12 rfl rfl)
theorem dX1_init_37 : decode cX1_init 37 = .ok (.aastore, 1) := dk_83 (dk_at dksX1_init_1 13 rfl rfl)
theorem dX1_init_38 : decode cX1_init 38 = .ok (.dup, 1) := dk_89 (dk_at dksX1_init_1 14 rfl rfl)
theorem dX1_init_39 : decode cX1_init 39 = .ok (.iconst 2, 1) := dk_5 (dk_at dksX1_init_1 15 rfl rfl)
theorem dX1_init_40 : decode cX1_init 40 = .ok (.iconst 2, 1) := dk_5 (dk_at dksX1_init_1 16 rfl rfl)
theorem dX1_init_41 : decode cX1_init 41 = .ok (.newarray .int, 2) := dk_188_10 (dk_at dksX1_init_1 17 rfl rfl)
theorem dX1_init_43 : decode cX1_init 43 = .ok (.dup, 1) := dk_89 (dk_at dksX1_init_1 19 rfl rfl)
theorem dX1_init_44 : decode cX1_init 44 = .ok (.iconst 0, 1) := dk_3 (dk_at dksX1_init_1 20 rfl rfl)
theorem dX1_init_45 : decode cX1_init 45 = .ok (.iconst 0, 1) := dk_3 (dk_at dksX1_init_1 21 rfl rfl)
theorem dX1_init_46 : decode cX1_init 46 = .ok (.iastore, 1) := dk_79 (dk_at dksX1_init_1 22 rfl rfl)
theorem dX1_init_47 : decode cX1_init 47 = .ok (.dup, 1) := dk_89 (dk_at dksX1_init_1 23 rfl rfl)
theorem dX1_init_48 : decode cX1_init 48 = .ok (.iconst 1, 1) := dk_4 (dk_at dksX1_init_2 0 rfl rfl)
theorem dX1_init_49 : decode cX1_init 49 = .ok (.iconst 1, 1) := dk_4 (dk_at dksX1_init_2 1 rfl rfl)
theorem dX1_init_50 : decode cX1_init 50 = .ok (.iastore, 1) := dk_79 (dk_at dksX1_init_2 2 rfl rfl)
theorem dX1_init_51 : decode cX1_init 51 = .ok (.aastore, 1) := dk_83 (dk_at dksX1_init_2 3 rfl rfl)
theorem dX1_init_52 : decode cX1_init 52 = .ok (.dup, 1) := dk_89 (dk_at dksX1_init_2 4 rfl rfl)
theorem dX1_init_53 : decode cX1_init 53 = .ok (.iconst 3, 1) := dk_6 (dk_at dksX1_init_2 5 rfl rfl)
theorem dX1_init_54 : decode cX1_init 54 = .ok (.iconst 2, 1) := dk_5 (dk_at dksX1_init_2 6 rfl rfl)
theorem dX1_init_55 : decode cX1_init 55 = .ok (.newarray .int, 2) := dk_188_10 (dk_at dksX1_init_2 7 rfl rfl)
theorem dX1_init_57 : decode cX1_init 57 = .ok (.dup, 1) := dk_89 (dk_at dksX1_init_2 9 rfl rfl)
theorem dX1_init_58 : decode cX1_init 58 = .ok (.iconst 0, 1) := dk_3 (dk_at dksX1_init_2 10 rfl rfl)
theorem dX1_init_59 : decode cX1_init 59 = .ok (.iconst 0, 1) := dk_3 (dk_at dksX1_init_2 11 rfl rfl)
theorem dX1_init_60 : decode cX1_init 60 = .ok (.iastore, 1) := dk_79 (dk_at dksX1_init_2 12 rfl rfl)
theorem dX1_init_61 : decode cX1_init 61 = .ok (.dup, 1) := dk_89 (dk_at dksX1_init_2 13 rfl rfl)
theorem dX1_init_62 : decode cX1_init 62 = .ok (.iconst 1, 1) := dk_4 (dk_at dksX1_init_2 14 rfl rfl)
theorem dX1_init_63 : decode cX1_init 63 = .ok (.iconst 1, 1) := dk_4 (dk_at dksX1_init_2 15 rfl rfl)
theorem dX1_init_64 : decode cX1_init 64 = .ok (.iastore, 1) := dk_79 (dk_at dksX1_init_2 16 rfl rfl)
theorem dX1_init_65 : decode cX1_init 65 = .ok (.aastore, 1) := dk_83 (dk_at dksX1_init_2 17 rfl rfl)
theorem dX1_init_66 : decode cX1_init 66 = .ok (.dup, 1) := dk_89 (dk_at dksX1_init_2 18 rfl rfl)
theorem dX1_init_67 : decode cX1_init 67 = .ok (.iconst 4, 1) := dk_7 (dk_at dksX1_init_2 19 rfl rfl)
theorem dX1_init_68 : decode cX1_init 68 = .ok (.iconst 2, 1) := dk_5 (dk_at dksX1_init_2 20 rfl rfl)
theorem dX1_init_69 : decode cX1_init 69 = .ok (.newarray .int, 2) := dk_188_10 (dk_at dksX1_init_2 21 rfl rfl)
theorem dX1_init_71 : decode cX1_init 71 = .ok (.dup, 1) := dk_89 (dk_at dksX1_init_2 23 rfl rfl)
theorem dX1_init_72 : decode cX1_init 72 = .ok (.iconst 0, 1) := dk_3 (dk_at dksX1_init_3 0 rfl rfl)
theorem dX1_init_73 : decode cX1_init 73 = .ok (.iconst 0, 1) := dk_3 (dk_at dksX1_init_3 1 rfl rfl)
theorem dX1_init_74 : decode cX1_init 74 = .ok (.iastore, 1) := dk_79 (dk_at dksX1_init_3 2 rfl rfl)
theorem dX1_init_75 : decode cX1_init 75 = .ok (.dup, 1) := dk_89 (dk_at dksX1_init_3 3 rfl rfl)
theorem dX1_init_76 : decode cX1_init 76 = .ok (.iconst 1, 1) := dk_4 (dk_at dksX1_init_3 4 rfl rfl)
theorem dX1_init_77 : decode cX1_init 77 = .ok (.iconst 1, 1) := dk_4 (dk_at dksX1_init_3 5 rfl rfl)
theorem dX1_init_78 : decode cX1_init 78 = .ok (.iastore, 1) := dk_79 (dk_at dksX1_init_3 6 rfl rfl)
theorem dX1_init_79 : decode cX1_init 79 = .ok (.aastore, 1) := dk_83 (dk_at dksX1_init_3 7 rfl rfl)
theorem dX1_init_80 : decode cX1_init 80 = .ok (.dup, 1) := dk_89 (dk_at dksX1_init_3 8 rfl rfl)
theorem dX1_init_81 : decode cX1_init 81 = .ok (.iconst 5, 1) := dk_8 (dk_at dksX1_init_3 9 rfl rfl)
theorem dX1_init_82 : decode cX1_init 82 = .ok (.iconst 2, 1) := dk_5 (dk_at dksX1_init_3 10 rfl rfl)
theorem dX1_init_83 : decode cX1_init 83 = .ok (.newarray .int, 2) := dk_188_10 (dk_at dksX1_init_3 11 rfl rfl)
theorem dX1_init_85 : decode cX1_init 85 = .ok (.dup, 1) := dk_89 (dk_at dksX1_init_3 13 rfl rfl)
theorem dX1_init_86 : decode cX1_init 86 = .ok (.iconst 0, 1) := dk_3 (dk_at dksX1_init_3 14 rfl rfl)
theorem dX1_init_87 : decode cX1_init 87 = .ok (.iconst 0, 1) := dk_3 (dk_at dksX1_init_3 15 rfl rfl)
theorem dX1_init_88 : decode cX1_init 88 = .ok (.iastore, 1) := dk_79 (dk_at dksX1_init_3 16 rfl rfl)
theorem dX1_init_89 : decode cX1_init 89 = .ok (.dup, 1) := dk_89 (dk_at dksX1_init_3 17 rfl rfl)
theorem dX1_init_90 : decode cX1_init 90 = .ok (.iconst 1, 1) := dk_4 (dk_at dksX1_init_3 18 rfl rfl)
theorem dX1_init_91 : decode cX1_init 91 = .ok (.iconst 1, 1) := dk_4 (dk_at dksX1_init_3 19 rfl rfl)
theorem dX1_init_92 : decode cX1_init 92 = .ok (.iastore, 1) := dk_79 (dk_at dksX1_init_3 20 rfl rfl)
theorem dX1_init_93 : decode cX1_init 93 = .ok (.aastore, 1) := dk_83 (dk_at dksX1_init_3 21 rfl rfl)
theorem dX1_init_94 : decode cX1_init 94 = .ok (.putfield 11, 3) := dk_181 0 11 (dk_at dksX1_init_4 0 rfl rfl)
theorem dX1_init_97 : decode cX1_init 97 = .ok (.aload_n 0, 1) := dk_42 (dk_at dksX1_init_4 3 rfl rfl)
theorem dX1_init_98 : decode cX1_init 98 = .ok (.bipush 6, 2) := dk_16 6 (dk_at dksX1_init_4 4 rfl rfl)
theorem dX1_init_100 : decode cX1_init 100 = .ok (.iconst 3, 1) := dk_6 (dk_at dksX1_init_4 6 rfl rfl)
theorem dX1_init_101 : decode cX1_init 101 = .ok (.multianewarray 17 2, 4) := by decide +kernel
theorem dX1_init_105 : decode cX1_init 105 = .ok (.putfield 18, 3) := dk_181 0 18 (dk_at dksX1_init_4 11 rfl rfl)
theorem dX1_init_108 : decode cX1_init 108 = .ok (.aload_n 0, 1) := dk_42 (dk_at dksX1_init_4 14 rfl rfl)
theorem dX1_init_109 : decode cX1_init 109 = .ok (.iconst 4, 1) := dk_7 (dk_at dksX1_init_4 15 rfl rfl)
theorem dX1_init_110 : decode cX1_init 110 = .ok (.iconst 2, 1) := dk_5 (dk_at dksX1_init_4 16 rfl rfl)
theorem dX1_init_111 : decode cX1_init 111 = .ok (.multianewarray 17 2, 4) := by decide +kernel
theorem dX1_init_115 : decode cX1_init 115 = .ok (.putfield 21, 3) := dk_181 0 21 (dk_at dksX1_init_4 21 rfl rfl)
theorem dX1_init_118 : decode cX1_init 118 = .ok (.return_, 1) := dk_177 (dk_at dksX1_init_5 0 rfl rfl)
abbrev cX1_takes : ByteArray := prog_10_method_2_code
def yX1_takes : MethodName := ⟨RX1, "takes", "(LTrapdoorVotes$Stage;)V"⟩
def dkwX1_takes_5 : List UInt8 := [42, 3, 181, 0, 40, 177]
abbrev dktX1_takes_5 : List UInt8 := dkwX1_takes_5 ++ []
def dkwX1_takes_4 : List UInt8 := [42, 43, 180, 0, 30, 181, 0, 30, 42, 43, 180, 0, 34, 181, 0, 34, 42, 43, 180, 0, 37, 181, 0, 37]
abbrev dktX1_takes_4 : List UInt8 := dkwX1_takes_4 ++ dktX1_takes_5
def dkwX1_takes_3 : List UInt8 := [43, 180, 0, 21, 28, 50, 3, 42, 180, 0, 21, 28, 50, 3, 5, 184, 0, 24, 132, 2, 1, 167, 255, 230]
abbrev dktX1_takes_3 : List UInt8 := dkwX1_takes_3 ++ dktX1_takes_4
def dkwX1_takes_2 : List UInt8 := [42, 180, 0, 18, 28, 50, 3, 6, 184, 0, 24, 132, 2, 1, 167, 255, 229, 3, 61, 28, 7, 162, 0, 27]
abbrev dktX1_takes_2 : List UInt8 := dkwX1_takes_2 ++ dktX1_takes_3
def dkwX1_takes_1 : List UInt8 := [184, 0, 24, 132, 2, 1, 167, 255, 229, 3, 61, 28, 16, 6, 162, 0, 27, 43, 180, 0, 18, 28, 50, 3]
abbrev dktX1_takes_1 : List UInt8 := dkwX1_takes_1 ++ dktX1_takes_2
def dkwX1_takes_0 : List UInt8 := [3, 61, 28, 16, 6, 162, 0, 27, 43, 180, 0, 11, 28, 50, 3, 42, 180, 0, 11, 28, 50, 3, 5]
abbrev dktX1_takes_0 : List UInt8 := dkwX1_takes_0 ++ dktX1_takes_1
theorem dksX1_takes_0 : cX1_takes.data.toList.drop 0 = dktX1_takes_0 := by decide +kernel
theorem dksX1_takes_1 : cX1_takes.data.toList.drop 23 = dktX1_takes_1 := dk_seg dksX1_takes_0 23 rfl rfl
theorem dksX1_takes_2 : cX1_takes.data.toList.drop 47 = dktX1_takes_2 := dk_seg dksX1_takes_1 24 rfl rfl
theorem dksX1_takes_3 : cX1_takes.data.toList.drop 71 = dktX1_takes_3 := dk_seg dksX1_takes_2 24 rfl rfl
theorem dksX1_takes_4 : cX1_takes.data.toList.drop 95 = dktX1_takes_4 := dk_seg dksX1_takes_3 24 rfl rfl
theorem dksX1_takes_5 : cX1_takes.data.toList.drop 119 = dktX1_takes_5 := dk_seg dksX1_takes_4 24 rfl rfl
theorem dX1_takes_0 : decode cX1_takes 0 = .ok (.iconst 0, 1) := dk_3 (dk_at dksX1_takes_0 0 rfl rfl)
theorem dX1_takes_1 : decode cX1_takes 1 = .ok (.istore_n 2, 1) := dk_61 (dk_at dksX1_takes_0 1 rfl rfl)
theorem dX1_takes_2 : decode cX1_takes 2 = .ok (.iload_n 2, 1) := dk_28 (dk_at dksX1_takes_0 2 rfl rfl)
theorem dX1_takes_3 : decode cX1_takes 3 = .ok (.bipush 6, 2) := dk_16 6 (dk_at dksX1_takes_0 3 rfl rfl)
theorem dX1_takes_5 : decode cX1_takes 5 = .ok (.if_icmp .ge 27, 3) := dk_162 0 27 (dk_at dksX1_takes_0 5 rfl rfl)
theorem dX1_takes_8 : decode cX1_takes 8 = .ok (.aload_n 1, 1) := dk_43 (dk_at dksX1_takes_0 8 rfl rfl)
theorem dX1_takes_9 : decode cX1_takes 9 = .ok (.getfield 11, 3) := dk_180 0 11 (dk_at dksX1_takes_0 9 rfl rfl)
theorem dX1_takes_12 : decode cX1_takes 12 = .ok (.iload_n 2, 1) := dk_28 (dk_at dksX1_takes_0 12 rfl rfl)
theorem dX1_takes_13 : decode cX1_takes 13 = .ok (.aaload, 1) := dk_50 (dk_at dksX1_takes_0 13 rfl rfl)
theorem dX1_takes_14 : decode cX1_takes 14 = .ok (.iconst 0, 1) := dk_3 (dk_at dksX1_takes_0 14 rfl rfl)
theorem dX1_takes_15 : decode cX1_takes 15 = .ok (.aload_n 0, 1) := dk_42 (dk_at dksX1_takes_0 15 rfl rfl)
theorem dX1_takes_16 : decode cX1_takes 16 = .ok (.getfield 11, 3) := dk_180 0 11 (dk_at dksX1_takes_0 16 rfl rfl)
theorem dX1_takes_19 : decode cX1_takes 19 = .ok (.iload_n 2, 1) := dk_28 (dk_at dksX1_takes_0 19 rfl rfl)
theorem dX1_takes_20 : decode cX1_takes 20 = .ok (.aaload, 1) := dk_50 (dk_at dksX1_takes_0 20 rfl rfl)
theorem dX1_takes_21 : decode cX1_takes 21 = .ok (.iconst 0, 1) := dk_3 (dk_at dksX1_takes_0 21 rfl rfl)
theorem dX1_takes_22 : decode cX1_takes 22 = .ok (.iconst 2, 1) := dk_5 (dk_at dksX1_takes_0 22 rfl rfl)
theorem dX1_takes_23 : decode cX1_takes 23 = .ok (.invokestatic 24, 3) := dk_184 0 24 (dk_at dksX1_takes_1 0 rfl rfl)
theorem dX1_takes_26 : decode cX1_takes 26 = .ok (.iinc 2 1, 3) := dk_132 2 1 (dk_at dksX1_takes_1 3 rfl rfl)
theorem dX1_takes_29 : decode cX1_takes 29 = .ok (.goto (-27), 3) := dk_167 255 229 (dk_at dksX1_takes_1 6 rfl rfl)
theorem dX1_takes_32 : decode cX1_takes 32 = .ok (.iconst 0, 1) := dk_3 (dk_at dksX1_takes_1 9 rfl rfl)
theorem dX1_takes_33 : decode cX1_takes 33 = .ok (.istore_n 2, 1) := dk_61 (dk_at dksX1_takes_1 10 rfl rfl)
theorem dX1_takes_34 : decode cX1_takes 34 = .ok (.iload_n 2, 1) := dk_28 (dk_at dksX1_takes_1 11 rfl rfl)
theorem dX1_takes_35 : decode cX1_takes 35 = .ok (.bipush 6, 2) := dk_16 6 (dk_at dksX1_takes_1 12 rfl rfl)
theorem dX1_takes_37 : decode cX1_takes 37 = .ok (.if_icmp .ge 27, 3) := dk_162 0 27 (dk_at dksX1_takes_1 14 rfl rfl)
theorem dX1_takes_40 : decode cX1_takes 40 = .ok (.aload_n 1, 1) := dk_43 (dk_at dksX1_takes_1 17 rfl rfl)
theorem dX1_takes_41 : decode cX1_takes 41 = .ok (.getfield 18, 3) := dk_180 0 18 (dk_at dksX1_takes_1 18 rfl rfl)
theorem dX1_takes_44 : decode cX1_takes 44 = .ok (.iload_n 2, 1) := dk_28 (dk_at dksX1_takes_1 21 rfl rfl)
theorem dX1_takes_45 : decode cX1_takes 45 = .ok (.aaload, 1) := dk_50 (dk_at dksX1_takes_1 22 rfl rfl)
theorem dX1_takes_46 : decode cX1_takes 46 = .ok (.iconst 0, 1) := dk_3 (dk_at dksX1_takes_1 23 rfl rfl)
theorem dX1_takes_47 : decode cX1_takes 47 = .ok (.aload_n 0, 1) := dk_42 (dk_at dksX1_takes_2 0 rfl rfl)
theorem dX1_takes_48 : decode cX1_takes 48 = .ok (.getfield 18, 3) := dk_180 0 18 (dk_at dksX1_takes_2 1 rfl rfl)
theorem dX1_takes_51 : decode cX1_takes 51 = .ok (.iload_n 2, 1) := dk_28 (dk_at dksX1_takes_2 4 rfl rfl)
theorem dX1_takes_52 : decode cX1_takes 52 = .ok (.aaload, 1) := dk_50 (dk_at dksX1_takes_2 5 rfl rfl)
theorem dX1_takes_53 : decode cX1_takes 53 = .ok (.iconst 0, 1) := dk_3 (dk_at dksX1_takes_2 6 rfl rfl)
theorem dX1_takes_54 : decode cX1_takes 54 = .ok (.iconst 3, 1) := dk_6 (dk_at dksX1_takes_2 7 rfl rfl)
theorem dX1_takes_55 : decode cX1_takes 55 = .ok (.invokestatic 24, 3) := dk_184 0 24 (dk_at dksX1_takes_2 8 rfl rfl)
theorem dX1_takes_58 : decode cX1_takes 58 = .ok (.iinc 2 1, 3) := dk_132 2 1 (dk_at dksX1_takes_2 11 rfl rfl)
theorem dX1_takes_61 : decode cX1_takes 61 = .ok (.goto (-27), 3) := dk_167 255 229 (dk_at dksX1_takes_2 14 rfl rfl)
theorem dX1_takes_64 : decode cX1_takes 64 = .ok (.iconst 0, 1) := dk_3 (dk_at dksX1_takes_2 17 rfl rfl)
theorem dX1_takes_65 : decode cX1_takes 65 = .ok (.istore_n 2, 1) := dk_61 (dk_at dksX1_takes_2 18 rfl rfl)
theorem dX1_takes_66 : decode cX1_takes 66 = .ok (.iload_n 2, 1) := dk_28 (dk_at dksX1_takes_2 19 rfl rfl)
theorem dX1_takes_67 : decode cX1_takes 67 = .ok (.iconst 4, 1) := dk_7 (dk_at dksX1_takes_2 20 rfl rfl)
theorem dX1_takes_68 : decode cX1_takes 68 = .ok (.if_icmp .ge 27, 3) := dk_162 0 27 (dk_at dksX1_takes_2 21 rfl rfl)
theorem dX1_takes_71 : decode cX1_takes 71 = .ok (.aload_n 1, 1) := dk_43 (dk_at dksX1_takes_3 0 rfl rfl)
theorem dX1_takes_72 : decode cX1_takes 72 = .ok (.getfield 21, 3) := dk_180 0 21 (dk_at dksX1_takes_3 1 rfl rfl)
theorem dX1_takes_75 : decode cX1_takes 75 = .ok (.iload_n 2, 1) := dk_28 (dk_at dksX1_takes_3 4 rfl rfl)
theorem dX1_takes_76 : decode cX1_takes 76 = .ok (.aaload, 1) := dk_50 (dk_at dksX1_takes_3 5 rfl rfl)
theorem dX1_takes_77 : decode cX1_takes 77 = .ok (.iconst 0, 1) := dk_3 (dk_at dksX1_takes_3 6 rfl rfl)
theorem dX1_takes_78 : decode cX1_takes 78 = .ok (.aload_n 0, 1) := dk_42 (dk_at dksX1_takes_3 7 rfl rfl)
theorem dX1_takes_79 : decode cX1_takes 79 = .ok (.getfield 21, 3) := dk_180 0 21 (dk_at dksX1_takes_3 8 rfl rfl)
theorem dX1_takes_82 : decode cX1_takes 82 = .ok (.iload_n 2, 1) := dk_28 (dk_at dksX1_takes_3 11 rfl rfl)
theorem dX1_takes_83 : decode cX1_takes 83 = .ok (.aaload, 1) := dk_50 (dk_at dksX1_takes_3 12 rfl rfl)
theorem dX1_takes_84 : decode cX1_takes 84 = .ok (.iconst 0, 1) := dk_3 (dk_at dksX1_takes_3 13 rfl rfl)
theorem dX1_takes_85 : decode cX1_takes 85 = .ok (.iconst 2, 1) := dk_5 (dk_at dksX1_takes_3 14 rfl rfl)
theorem dX1_takes_86 : decode cX1_takes 86 = .ok (.invokestatic 24, 3) := dk_184 0 24 (dk_at dksX1_takes_3 15 rfl rfl)
theorem dX1_takes_89 : decode cX1_takes 89 = .ok (.iinc 2 1, 3) := dk_132 2 1 (dk_at dksX1_takes_3 18 rfl rfl)
theorem dX1_takes_92 : decode cX1_takes 92 = .ok (.goto (-26), 3) := dk_167 255 230 (dk_at dksX1_takes_3 21 rfl rfl)
theorem dX1_takes_95 : decode cX1_takes 95 = .ok (.aload_n 0, 1) := dk_42 (dk_at dksX1_takes_4 0 rfl rfl)
theorem dX1_takes_96 : decode cX1_takes 96 = .ok (.aload_n 1, 1) := dk_43 (dk_at dksX1_takes_4 1 rfl rfl)
theorem dX1_takes_97 : decode cX1_takes 97 = .ok (.getfield 30, 3) := dk_180 0 30 (dk_at dksX1_takes_4 2 rfl rfl)
theorem dX1_takes_100 : decode cX1_takes 100 = .ok (.putfield 30, 3) := dk_181 0 30 (dk_at dksX1_takes_4 5 rfl rfl)
theorem dX1_takes_103 : decode cX1_takes 103 = .ok (.aload_n 0, 1) := dk_42 (dk_at dksX1_takes_4 8 rfl rfl)
theorem dX1_takes_104 : decode cX1_takes 104 = .ok (.aload_n 1, 1) := dk_43 (dk_at dksX1_takes_4 9 rfl rfl)
theorem dX1_takes_105 : decode cX1_takes 105 = .ok (.getfield 34, 3) := dk_180 0 34 (dk_at dksX1_takes_4 10 rfl rfl)
theorem dX1_takes_108 : decode cX1_takes 108 = .ok (.putfield 34, 3) := dk_181 0 34 (dk_at dksX1_takes_4 13 rfl rfl)
theorem dX1_takes_111 : decode cX1_takes 111 = .ok (.aload_n 0, 1) := dk_42 (dk_at dksX1_takes_4 16 rfl rfl)
theorem dX1_takes_112 : decode cX1_takes 112 = .ok (.aload_n 1, 1) := dk_43 (dk_at dksX1_takes_4 17 rfl rfl)
theorem dX1_takes_113 : decode cX1_takes 113 = .ok (.getfield 37, 3) := dk_180 0 37 (dk_at dksX1_takes_4 18 rfl rfl)
theorem dX1_takes_116 : decode cX1_takes 116 = .ok (.putfield 37, 3) := dk_181 0 37 (dk_at dksX1_takes_4 21 rfl rfl)
theorem dX1_takes_119 : decode cX1_takes 119 = .ok (.aload_n 0, 1) := dk_42 (dk_at dksX1_takes_5 0 rfl rfl)
theorem dX1_takes_120 : decode cX1_takes 120 = .ok (.iconst 0, 1) := dk_3 (dk_at dksX1_takes_5 1 rfl rfl)
theorem dX1_takes_121 : decode cX1_takes 121 = .ok (.putfield 40, 3) := dk_181 0 40 (dk_at dksX1_takes_5 2 rfl rfl)
theorem dX1_takes_124 : decode cX1_takes 124 = .ok (.return_, 1) := dk_177 (dk_at dksX1_takes_5 5 rfl rfl)
abbrev cX1_standing : ByteArray := prog_10_method_4_code
def yX1_standing : MethodName := ⟨RX1, "standing", "()I"⟩
def dkwX1_standing_1 : List UInt8 := [167, 0, 6, 4, 28, 120, 128, 60, 132, 2, 1, 167, 255, 227, 27, 172]
abbrev dktX1_standing_1 : List UInt8 := dkwX1_standing_1 ++ []
def dkwX1_standing_0 : List UInt8 := [3, 60, 3, 61, 28, 42, 180, 0, 34, 162, 0, 27, 27, 42, 28, 182, 0, 43, 153, 0, 7, 3]
abbrev dktX1_standing_0 : List UInt8 := dkwX1_standing_0 ++ dktX1_standing_1
theorem dksX1_standing_0 : cX1_standing.data.toList.drop 0 = dktX1_standing_0 := by decide +kernel
theorem dksX1_standing_1 : cX1_standing.data.toList.drop 22 = dktX1_standing_1 := dk_seg dksX1_standing_0 22 rfl rfl
theorem dX1_standing_0 : decode cX1_standing 0 = .ok (.iconst 0, 1) := dk_3 (dk_at dksX1_standing_0 0 rfl rfl)
theorem dX1_standing_1 : decode cX1_standing 1 = .ok (.istore_n 1, 1) := dk_60 (dk_at dksX1_standing_0 1 rfl rfl)
theorem dX1_standing_2 : decode cX1_standing 2 = .ok (.iconst 0, 1) := dk_3 (dk_at dksX1_standing_0 2 rfl rfl)
theorem dX1_standing_3 : decode cX1_standing 3 = .ok (.istore_n 2, 1) := dk_61 (dk_at dksX1_standing_0 3 rfl rfl)
theorem dX1_standing_4 : decode cX1_standing 4 = .ok (.iload_n 2, 1) := dk_28 (dk_at dksX1_standing_0 4 rfl rfl)
theorem dX1_standing_5 : decode cX1_standing 5 = .ok (.aload_n 0, 1) := dk_42 (dk_at dksX1_standing_0 5 rfl rfl)
theorem dX1_standing_6 : decode cX1_standing 6 = .ok (.getfield 34, 3) := dk_180 0 34 (dk_at dksX1_standing_0 6 rfl rfl)
theorem dX1_standing_9 : decode cX1_standing 9 = .ok (.if_icmp .ge 27, 3) := dk_162 0 27 (dk_at dksX1_standing_0 9 rfl rfl)
theorem dX1_standing_12 : decode cX1_standing 12 = .ok (.iload_n 1, 1) := dk_27 (dk_at dksX1_standing_0 12 rfl rfl)
theorem dX1_standing_13 : decode cX1_standing 13 = .ok (.aload_n 0, 1) := dk_42 (dk_at dksX1_standing_0 13 rfl rfl)
theorem dX1_standing_14 : decode cX1_standing 14 = .ok (.iload_n 2, 1) := dk_28 (dk_at dksX1_standing_0 14 rfl rfl)
theorem dX1_standing_15 : decode cX1_standing 15 = .ok (.invokevirtual 43, 3) := dk_182 0 43 (dk_at dksX1_standing_0 15 rfl rfl)
theorem dX1_standing_18 : decode cX1_standing 18 = .ok (.ifCond .eq 7, 3) := dk_153 0 7 (dk_at dksX1_standing_0 18 rfl rfl)
theorem dX1_standing_21 : decode cX1_standing 21 = .ok (.iconst 0, 1) := dk_3 (dk_at dksX1_standing_0 21 rfl rfl)
theorem dX1_standing_22 : decode cX1_standing 22 = .ok (.goto 6, 3) := dk_167 0 6 (dk_at dksX1_standing_1 0 rfl rfl)
theorem dX1_standing_25 : decode cX1_standing 25 = .ok (.iconst 1, 1) := dk_4 (dk_at dksX1_standing_1 3 rfl rfl)
theorem dX1_standing_26 : decode cX1_standing 26 = .ok (.iload_n 2, 1) := dk_28 (dk_at dksX1_standing_1 4 rfl rfl)
theorem dX1_standing_27 : decode cX1_standing 27 = .ok (.ishl, 1) := dk_120 (dk_at dksX1_standing_1 5 rfl rfl)
theorem dX1_standing_28 : decode cX1_standing 28 = .ok (.ior, 1) := dk_128 (dk_at dksX1_standing_1 6 rfl rfl)
theorem dX1_standing_29 : decode cX1_standing 29 = .ok (.istore_n 1, 1) := dk_60 (dk_at dksX1_standing_1 7 rfl rfl)
theorem dX1_standing_30 : decode cX1_standing 30 = .ok (.iinc 2 1, 3) := dk_132 2 1 (dk_at dksX1_standing_1 8 rfl rfl)
theorem dX1_standing_33 : decode cX1_standing 33 = .ok (.goto (-29), 3) := dk_167 255 227 (dk_at dksX1_standing_1 11 rfl rfl)
theorem dX1_standing_36 : decode cX1_standing 36 = .ok (.iload_n 1, 1) := dk_27 (dk_at dksX1_standing_1 14 rfl rfl)
theorem dX1_standing_37 : decode cX1_standing 37 = .ok (.ireturn, 1) := dk_172 (dk_at dksX1_standing_1 15 rfl rfl)
abbrev cX1_isDown : ByteArray := prog_10_method_3_code
def yX1_isDown : MethodName := ⟨RX1, "isDown", "(I)Z"⟩
def dkwX1_isDown_0 : List UInt8 := [42, 180, 0, 21, 27, 50, 4, 46, 16, 252, 160, 0, 7, 4, 167, 0, 4, 3, 172]
abbrev dktX1_isDown_0 : List UInt8 := dkwX1_isDown_0 ++ []
theorem dksX1_isDown_0 : cX1_isDown.data.toList.drop 0 = dktX1_isDown_0 := by decide +kernel
theorem dX1_isDown_0 : decode cX1_isDown 0 = .ok (.aload_n 0, 1) := dk_42 (dk_at dksX1_isDown_0 0 rfl rfl)
theorem dX1_isDown_1 : decode cX1_isDown 1 = .ok (.getfield 21, 3) := dk_180 0 21 (dk_at dksX1_isDown_0 1 rfl rfl)
theorem dX1_isDown_4 : decode cX1_isDown 4 = .ok (.iload_n 1, 1) := dk_27 (dk_at dksX1_isDown_0 4 rfl rfl)
theorem dX1_isDown_5 : decode cX1_isDown 5 = .ok (.aaload, 1) := dk_50 (dk_at dksX1_isDown_0 5 rfl rfl)
theorem dX1_isDown_6 : decode cX1_isDown 6 = .ok (.iconst 1, 1) := dk_4 (dk_at dksX1_isDown_0 6 rfl rfl)
theorem dX1_isDown_7 : decode cX1_isDown 7 = .ok (.iaload, 1) := dk_46 (dk_at dksX1_isDown_0 7 rfl rfl)
theorem dX1_isDown_8 : decode cX1_isDown 8 = .ok (.bipush (-4), 2) := dk_16 252 (dk_at dksX1_isDown_0 8 rfl rfl)
theorem dX1_isDown_10 : decode cX1_isDown 10 = .ok (.if_icmp .ne 7, 3) := dk_160 0 7 (dk_at dksX1_isDown_0 10 rfl rfl)
theorem dX1_isDown_13 : decode cX1_isDown 13 = .ok (.iconst 1, 1) := dk_4 (dk_at dksX1_isDown_0 13 rfl rfl)
theorem dX1_isDown_14 : decode cX1_isDown 14 = .ok (.goto 4, 3) := dk_167 0 4 (dk_at dksX1_isDown_0 14 rfl rfl)
theorem dX1_isDown_17 : decode cX1_isDown 17 = .ok (.iconst 0, 1) := dk_3 (dk_at dksX1_isDown_0 17 rfl rfl)
theorem dX1_isDown_18 : decode cX1_isDown 18 = .ok (.ireturn, 1) := dk_172 (dk_at dksX1_isDown_0 18 rfl rfl)
abbrev cX1_drawn : ByteArray := prog_10_method_8_code
def yX1_drawn : MethodName := ⟨RX1, "drawn", "()I"⟩
def dkwX1_drawn_1 : List UInt8 := [167, 0, 4, 3, 128, 60, 132, 2, 1, 167, 255, 227, 27, 172]
abbrev dktX1_drawn_1 : List UInt8 := dkwX1_drawn_1 ++ []
def dkwX1_drawn_0 : List UInt8 := [3, 60, 3, 61, 28, 42, 180, 0, 30, 162, 0, 27, 27, 42, 28, 182, 0, 53, 154, 0, 9, 4, 28, 120]
abbrev dktX1_drawn_0 : List UInt8 := dkwX1_drawn_0 ++ dktX1_drawn_1
theorem dksX1_drawn_0 : cX1_drawn.data.toList.drop 0 = dktX1_drawn_0 := by decide +kernel
theorem dksX1_drawn_1 : cX1_drawn.data.toList.drop 24 = dktX1_drawn_1 := dk_seg dksX1_drawn_0 24 rfl rfl
theorem dX1_drawn_0 : decode cX1_drawn 0 = .ok (.iconst 0, 1) := dk_3 (dk_at dksX1_drawn_0 0 rfl rfl)
theorem dX1_drawn_1 : decode cX1_drawn 1 = .ok (.istore_n 1, 1) := dk_60 (dk_at dksX1_drawn_0 1 rfl rfl)
theorem dX1_drawn_2 : decode cX1_drawn 2 = .ok (.iconst 0, 1) := dk_3 (dk_at dksX1_drawn_0 2 rfl rfl)
theorem dX1_drawn_3 : decode cX1_drawn 3 = .ok (.istore_n 2, 1) := dk_61 (dk_at dksX1_drawn_0 3 rfl rfl)
theorem dX1_drawn_4 : decode cX1_drawn 4 = .ok (.iload_n 2, 1) := dk_28 (dk_at dksX1_drawn_0 4 rfl rfl)
theorem dX1_drawn_5 : decode cX1_drawn 5 = .ok (.aload_n 0, 1) := dk_42 (dk_at dksX1_drawn_0 5 rfl rfl)
theorem dX1_drawn_6 : decode cX1_drawn 6 = .ok (.getfield 30, 3) := dk_180 0 30 (dk_at dksX1_drawn_0 6 rfl rfl)
theorem dX1_drawn_9 : decode cX1_drawn 9 = .ok (.if_icmp .ge 27, 3) := dk_162 0 27 (dk_at dksX1_drawn_0 9 rfl rfl)
theorem dX1_drawn_12 : decode cX1_drawn 12 = .ok (.iload_n 1, 1) := dk_27 (dk_at dksX1_drawn_0 12 rfl rfl)
theorem dX1_drawn_13 : decode cX1_drawn 13 = .ok (.aload_n 0, 1) := dk_42 (dk_at dksX1_drawn_0 13 rfl rfl)
theorem dX1_drawn_14 : decode cX1_drawn 14 = .ok (.iload_n 2, 1) := dk_28 (dk_at dksX1_drawn_0 14 rfl rfl)
theorem dX1_drawn_15 : decode cX1_drawn 15 = .ok (.invokevirtual 53, 3) := dk_182 0 53 (dk_at dksX1_drawn_0 15 rfl rfl)
theorem dX1_drawn_18 : decode cX1_drawn 18 = .ok (.ifCond .ne 9, 3) := dk_154 0 9 (dk_at dksX1_drawn_0 18 rfl rfl)
theorem dX1_drawn_21 : decode cX1_drawn 21 = .ok (.iconst 1, 1) := dk_4 (dk_at dksX1_drawn_0 21 rfl rfl)
theorem dX1_drawn_22 : decode cX1_drawn 22 = .ok (.iload_n 2, 1) := dk_28 (dk_at dksX1_drawn_0 22 rfl rfl)
theorem dX1_drawn_23 : decode cX1_drawn 23 = .ok (.ishl, 1) := dk_120 (dk_at dksX1_drawn_0 23 rfl rfl)
theorem dX1_drawn_24 : decode cX1_drawn 24 = .ok (.goto 4, 3) := dk_167 0 4 (dk_at dksX1_drawn_1 0 rfl rfl)
theorem dX1_drawn_27 : decode cX1_drawn 27 = .ok (.iconst 0, 1) := dk_3 (dk_at dksX1_drawn_1 3 rfl rfl)
theorem dX1_drawn_28 : decode cX1_drawn 28 = .ok (.ior, 1) := dk_128 (dk_at dksX1_drawn_1 4 rfl rfl)
theorem dX1_drawn_29 : decode cX1_drawn 29 = .ok (.istore_n 1, 1) := dk_60 (dk_at dksX1_drawn_1 5 rfl rfl)
theorem dX1_drawn_30 : decode cX1_drawn 30 = .ok (.iinc 2 1, 3) := dk_132 2 1 (dk_at dksX1_drawn_1 6 rfl rfl)
theorem dX1_drawn_33 : decode cX1_drawn 33 = .ok (.goto (-29), 3) := dk_167 255 227 (dk_at dksX1_drawn_1 9 rfl rfl)
theorem dX1_drawn_36 : decode cX1_drawn 36 = .ok (.iload_n 1, 1) := dk_27 (dk_at dksX1_drawn_1 12 rfl rfl)
theorem dX1_drawn_37 : decode cX1_drawn 37 = .ok (.ireturn, 1) := dk_172 (dk_at dksX1_drawn_1 13 rfl rfl)
abbrev cX1_wants : ByteArray := prog_10_method_7_code
def yX1_wants : MethodName := ⟨RX1, "wants", "(I)I"⟩
def dkwX1_wants_1 : List UInt8 := [50, 5, 46, 100, 184, 0, 47, 172]
abbrev dktX1_wants_1 : List UInt8 := dkwX1_wants_1 ++ []
def dkwX1_wants_0 : List UInt8 := [3, 16, 10, 42, 180, 0, 11, 42, 180, 0, 18, 27, 50, 4, 46, 50, 3, 46, 96, 42, 180, 0, 18, 27]
abbrev dktX1_wants_0 : List UInt8 := dkwX1_wants_0 ++ dktX1_wants_1
theorem dksX1_wants_0 : cX1_wants.data.toList.drop 0 = dktX1_wants_0 := by decide +kernel
theorem dksX1_wants_1 : cX1_wants.data.toList.drop 24 = dktX1_wants_1 := dk_seg dksX1_wants_0 24 rfl rfl
theorem dX1_wants_0 : decode cX1_wants 0 = .ok (.iconst 0, 1) := dk_3 (dk_at dksX1_wants_0 0 rfl rfl)
theorem dX1_wants_1 : decode cX1_wants 1 = .ok (.bipush 10, 2) := dk_16 10 (dk_at dksX1_wants_0 1 rfl rfl)
theorem dX1_wants_3 : decode cX1_wants 3 = .ok (.aload_n 0, 1) := dk_42 (dk_at dksX1_wants_0 3 rfl rfl)
theorem dX1_wants_4 : decode cX1_wants 4 = .ok (.getfield 11, 3) := dk_180 0 11 (dk_at dksX1_wants_0 4 rfl rfl)
theorem dX1_wants_7 : decode cX1_wants 7 = .ok (.aload_n 0, 1) := dk_42 (dk_at dksX1_wants_0 7 rfl rfl)
theorem dX1_wants_8 : decode cX1_wants 8 = .ok (.getfield 18, 3) := dk_180 0 18 (dk_at dksX1_wants_0 8 rfl rfl)
theorem dX1_wants_11 : decode cX1_wants 11 = .ok (.iload_n 1, 1) := dk_27 (dk_at dksX1_wants_0 11 rfl rfl)
theorem dX1_wants_12 : decode cX1_wants 12 = .ok (.aaload, 1) := dk_50 (dk_at dksX1_wants_0 12 rfl rfl)
theorem dX1_wants_13 : decode cX1_wants 13 = .ok (.iconst 1, 1) := dk_4 (dk_at dksX1_wants_0 13 rfl rfl)
theorem dX1_wants_14 : decode cX1_wants 14 = .ok (.iaload, 1) := dk_46 (dk_at dksX1_wants_0 14 rfl rfl)
theorem dX1_wants_15 : decode cX1_wants 15 = .ok (.aaload, 1) := dk_50 (dk_at dksX1_wants_0 15 rfl rfl)
theorem dX1_wants_16 : decode cX1_wants 16 = .ok (.iconst 0, 1) := dk_3 (dk_at dksX1_wants_0 16 rfl rfl)
theorem dX1_wants_17 : decode cX1_wants 17 = .ok (.iaload, 1) := dk_46 (dk_at dksX1_wants_0 17 rfl rfl)
theorem dX1_wants_18 : decode cX1_wants 18 = .ok (.iadd, 1) := dk_96 (dk_at dksX1_wants_0 18 rfl rfl)
theorem dX1_wants_19 : decode cX1_wants 19 = .ok (.aload_n 0, 1) := dk_42 (dk_at dksX1_wants_0 19 rfl rfl)
theorem dX1_wants_20 : decode cX1_wants 20 = .ok (.getfield 18, 3) := dk_180 0 18 (dk_at dksX1_wants_0 20 rfl rfl)
theorem dX1_wants_23 : decode cX1_wants 23 = .ok (.iload_n 1, 1) := dk_27 (dk_at dksX1_wants_0 23 rfl rfl)
theorem dX1_wants_24 : decode cX1_wants 24 = .ok (.aaload, 1) := dk_50 (dk_at dksX1_wants_1 0 rfl rfl)
theorem dX1_wants_25 : decode cX1_wants 25 = .ok (.iconst 2, 1) := dk_5 (dk_at dksX1_wants_1 1 rfl rfl)
theorem dX1_wants_26 : decode cX1_wants 26 = .ok (.iaload, 1) := dk_46 (dk_at dksX1_wants_1 2 rfl rfl)
theorem dX1_wants_27 : decode cX1_wants 27 = .ok (.isub, 1) := dk_100 (dk_at dksX1_wants_1 3 rfl rfl)
theorem dX1_wants_28 : decode cX1_wants 28 = .ok (.invokestatic 47, 3) := dk_184 0 47 (dk_at dksX1_wants_1 4 rfl rfl)
theorem dX1_wants_31 : decode cX1_wants 31 = .ok (.ireturn, 1) := dk_172 (dk_at dksX1_wants_1 7 rfl rfl)
abbrev cX1_temper : ByteArray := prog_10_method_13_code
def yX1_temper : MethodName := ⟨RX1, "temper", "()I"⟩
def dkwX1_temper_1 : List UInt8 := [132, 2, 1, 167, 255, 234, 27, 172]
abbrev dktX1_temper_1 : List UInt8 := dkwX1_temper_1 ++ []
def dkwX1_temper_0 : List UInt8 := [3, 60, 3, 61, 28, 42, 180, 0, 30, 162, 0, 20, 27, 42, 180, 0, 18, 28, 50, 5, 46, 96, 60]
abbrev dktX1_temper_0 : List UInt8 := dkwX1_temper_0 ++ dktX1_temper_1
theorem dksX1_temper_0 : cX1_temper.data.toList.drop 0 = dktX1_temper_0 := by decide +kernel
theorem dksX1_temper_1 : cX1_temper.data.toList.drop 23 = dktX1_temper_1 := dk_seg dksX1_temper_0 23 rfl rfl
theorem dX1_temper_0 : decode cX1_temper 0 = .ok (.iconst 0, 1) := dk_3 (dk_at dksX1_temper_0 0 rfl rfl)
theorem dX1_temper_1 : decode cX1_temper 1 = .ok (.istore_n 1, 1) := dk_60 (dk_at dksX1_temper_0 1 rfl rfl)
theorem dX1_temper_2 : decode cX1_temper 2 = .ok (.iconst 0, 1) := dk_3 (dk_at dksX1_temper_0 2 rfl rfl)
theorem dX1_temper_3 : decode cX1_temper 3 = .ok (.istore_n 2, 1) := dk_61 (dk_at dksX1_temper_0 3 rfl rfl)
theorem dX1_temper_4 : decode cX1_temper 4 = .ok (.iload_n 2, 1) := dk_28 (dk_at dksX1_temper_0 4 rfl rfl)
theorem dX1_temper_5 : decode cX1_temper 5 = .ok (.aload_n 0, 1) := dk_42 (dk_at dksX1_temper_0 5 rfl rfl)
theorem dX1_temper_6 : decode cX1_temper 6 = .ok (.getfield 30, 3) := dk_180 0 30 (dk_at dksX1_temper_0 6 rfl rfl)
theorem dX1_temper_9 : decode cX1_temper 9 = .ok (.if_icmp .ge 20, 3) := dk_162 0 20 (dk_at dksX1_temper_0 9 rfl rfl)
theorem dX1_temper_12 : decode cX1_temper 12 = .ok (.iload_n 1, 1) := dk_27 (dk_at dksX1_temper_0 12 rfl rfl)
theorem dX1_temper_13 : decode cX1_temper 13 = .ok (.aload_n 0, 1) := dk_42 (dk_at dksX1_temper_0 13 rfl rfl)
theorem dX1_temper_14 : decode cX1_temper 14 = .ok (.getfield 18, 3) := dk_180 0 18 (dk_at dksX1_temper_0 14 rfl rfl)
theorem dX1_temper_17 : decode cX1_temper 17 = .ok (.iload_n 2, 1) := dk_28 (dk_at dksX1_temper_0 17 rfl rfl)
theorem dX1_temper_18 : decode cX1_temper 18 = .ok (.aaload, 1) := dk_50 (dk_at dksX1_temper_0 18 rfl rfl)
theorem dX1_temper_19 : decode cX1_temper 19 = .ok (.iconst 2, 1) := dk_5 (dk_at dksX1_temper_0 19 rfl rfl)
theorem dX1_temper_20 : decode cX1_temper 20 = .ok (.iaload, 1) := dk_46 (dk_at dksX1_temper_0 20 rfl rfl)
theorem dX1_temper_21 : decode cX1_temper 21 = .ok (.iadd, 1) := dk_96 (dk_at dksX1_temper_0 21 rfl rfl)
theorem dX1_temper_22 : decode cX1_temper 22 = .ok (.istore_n 1, 1) := dk_60 (dk_at dksX1_temper_0 22 rfl rfl)
theorem dX1_temper_23 : decode cX1_temper 23 = .ok (.iinc 2 1, 3) := dk_132 2 1 (dk_at dksX1_temper_1 0 rfl rfl)
theorem dX1_temper_26 : decode cX1_temper 26 = .ok (.goto (-22), 3) := dk_167 255 234 (dk_at dksX1_temper_1 3 rfl rfl)
theorem dX1_temper_29 : decode cX1_temper 29 = .ok (.iload_n 1, 1) := dk_27 (dk_at dksX1_temper_1 6 rfl rfl)
theorem dX1_temper_30 : decode cX1_temper 30 = .ok (.ireturn, 1) := dk_172 (dk_at dksX1_temper_1 7 rfl rfl)
abbrev cX1_handsAt : ByteArray := prog_10_method_5_code
def yX1_handsAt : MethodName := ⟨RX1, "handsAt", "(I)I"⟩
def dkwX1_handsAt_1 : List UInt8 := [160, 0, 9, 4, 29, 120, 167, 0, 4, 3, 128, 61, 132, 3, 1, 167, 255, 223, 28, 172]
abbrev dktX1_handsAt_1 : List UInt8 := dkwX1_handsAt_1 ++ []
def dkwX1_handsAt_0 : List UInt8 := [3, 61, 3, 62, 29, 42, 180, 0, 30, 162, 0, 31, 28, 42, 180, 0, 18, 29, 50, 4, 46, 27]
abbrev dktX1_handsAt_0 : List UInt8 := dkwX1_handsAt_0 ++ dktX1_handsAt_1
theorem dksX1_handsAt_0 : cX1_handsAt.data.toList.drop 0 = dktX1_handsAt_0 := by decide +kernel
theorem dksX1_handsAt_1 : cX1_handsAt.data.toList.drop 22 = dktX1_handsAt_1 := dk_seg dksX1_handsAt_0 22 rfl rfl
theorem dX1_handsAt_0 : decode cX1_handsAt 0 = .ok (.iconst 0, 1) := dk_3 (dk_at dksX1_handsAt_0 0 rfl rfl)
theorem dX1_handsAt_1 : decode cX1_handsAt 1 = .ok (.istore_n 2, 1) := dk_61 (dk_at dksX1_handsAt_0 1 rfl rfl)
theorem dX1_handsAt_2 : decode cX1_handsAt 2 = .ok (.iconst 0, 1) := dk_3 (dk_at dksX1_handsAt_0 2 rfl rfl)
theorem dX1_handsAt_3 : decode cX1_handsAt 3 = .ok (.istore_n 3, 1) := dk_62 (dk_at dksX1_handsAt_0 3 rfl rfl)
theorem dX1_handsAt_4 : decode cX1_handsAt 4 = .ok (.iload_n 3, 1) := dk_29 (dk_at dksX1_handsAt_0 4 rfl rfl)
theorem dX1_handsAt_5 : decode cX1_handsAt 5 = .ok (.aload_n 0, 1) := dk_42 (dk_at dksX1_handsAt_0 5 rfl rfl)
theorem dX1_handsAt_6 : decode cX1_handsAt 6 = .ok (.getfield 30, 3) := dk_180 0 30 (dk_at dksX1_handsAt_0 6 rfl rfl)
theorem dX1_handsAt_9 : decode cX1_handsAt 9 = .ok (.if_icmp .ge 31, 3) := dk_162 0 31 (dk_at dksX1_handsAt_0 9 rfl rfl)
theorem dX1_handsAt_12 : decode cX1_handsAt 12 = .ok (.iload_n 2, 1) := dk_28 (dk_at dksX1_handsAt_0 12 rfl rfl)
theorem dX1_handsAt_13 : decode cX1_handsAt 13 = .ok (.aload_n 0, 1) := dk_42 (dk_at dksX1_handsAt_0 13 rfl rfl)
theorem dX1_handsAt_14 : decode cX1_handsAt 14 = .ok (.getfield 18, 3) := dk_180 0 18 (dk_at dksX1_handsAt_0 14 rfl rfl)
theorem dX1_handsAt_17 : decode cX1_handsAt 17 = .ok (.iload_n 3, 1) := dk_29 (dk_at dksX1_handsAt_0 17 rfl rfl)
theorem dX1_handsAt_18 : decode cX1_handsAt 18 = .ok (.aaload, 1) := dk_50 (dk_at dksX1_handsAt_0 18 rfl rfl)
theorem dX1_handsAt_19 : decode cX1_handsAt 19 = .ok (.iconst 1, 1) := dk_4 (dk_at dksX1_handsAt_0 19 rfl rfl)
theorem dX1_handsAt_20 : decode cX1_handsAt 20 = .ok (.iaload, 1) := dk_46 (dk_at dksX1_handsAt_0 20 rfl rfl)
theorem dX1_handsAt_21 : decode cX1_handsAt 21 = .ok (.iload_n 1, 1) := dk_27 (dk_at dksX1_handsAt_0 21 rfl rfl)
theorem dX1_handsAt_22 : decode cX1_handsAt 22 = .ok (.if_icmp .ne 9, 3) := dk_160 0 9 (dk_at dksX1_handsAt_1 0 rfl rfl)
theorem dX1_handsAt_25 : decode cX1_handsAt 25 = .ok (.iconst 1, 1) := dk_4 (dk_at dksX1_handsAt_1 3 rfl rfl)
theorem dX1_handsAt_26 : decode cX1_handsAt 26 = .ok (.iload_n 3, 1) := dk_29 (dk_at dksX1_handsAt_1 4 rfl rfl)
theorem dX1_handsAt_27 : decode cX1_handsAt 27 = .ok (.ishl, 1) := dk_120 (dk_at dksX1_handsAt_1 5 rfl rfl)
theorem dX1_handsAt_28 : decode cX1_handsAt 28 = .ok (.goto 4, 3) := dk_167 0 4 (dk_at dksX1_handsAt_1 6 rfl rfl)
theorem dX1_handsAt_31 : decode cX1_handsAt 31 = .ok (.iconst 0, 1) := dk_3 (dk_at dksX1_handsAt_1 9 rfl rfl)
theorem dX1_handsAt_32 : decode cX1_handsAt 32 = .ok (.ior, 1) := dk_128 (dk_at dksX1_handsAt_1 10 rfl rfl)
theorem dX1_handsAt_33 : decode cX1_handsAt 33 = .ok (.istore_n 2, 1) := dk_61 (dk_at dksX1_handsAt_1 11 rfl rfl)
theorem dX1_handsAt_34 : decode cX1_handsAt 34 = .ok (.iinc 3 1, 3) := dk_132 3 1 (dk_at dksX1_handsAt_1 12 rfl rfl)
theorem dX1_handsAt_37 : decode cX1_handsAt 37 = .ok (.goto (-33), 3) := dk_167 255 223 (dk_at dksX1_handsAt_1 15 rfl rfl)
theorem dX1_handsAt_40 : decode cX1_handsAt 40 = .ok (.iload_n 2, 1) := dk_28 (dk_at dksX1_handsAt_1 18 rfl rfl)
theorem dX1_handsAt_41 : decode cX1_handsAt 41 = .ok (.ireturn, 1) := dk_172 (dk_at dksX1_handsAt_1 19 rfl rfl)
abbrev cX1_ministersAt : ByteArray := prog_10_method_6_code
def yX1_ministersAt : MethodName := ⟨RX1, "ministersAt", "(I)I"⟩
def dkwX1_ministersAt_1 : List UInt8 := [160, 0, 9, 4, 29, 120, 167, 0, 4, 3, 128, 61, 132, 3, 1, 167, 255, 223, 28, 172]
abbrev dktX1_ministersAt_1 : List UInt8 := dkwX1_ministersAt_1 ++ []
def dkwX1_ministersAt_0 : List UInt8 := [3, 61, 3, 62, 29, 42, 180, 0, 34, 162, 0, 31, 28, 42, 180, 0, 21, 29, 50, 4, 46, 27]
abbrev dktX1_ministersAt_0 : List UInt8 := dkwX1_ministersAt_0 ++ dktX1_ministersAt_1
theorem dksX1_ministersAt_0 : cX1_ministersAt.data.toList.drop 0 = dktX1_ministersAt_0 := by decide +kernel
theorem dksX1_ministersAt_1 : cX1_ministersAt.data.toList.drop 22 = dktX1_ministersAt_1 := dk_seg dksX1_ministersAt_0 22 rfl rfl
theorem dX1_ministersAt_0 : decode cX1_ministersAt 0 = .ok (.iconst 0, 1) := dk_3 (dk_at dksX1_ministersAt_0 0 rfl rfl)
theorem dX1_ministersAt_1 : decode cX1_ministersAt 1 = .ok (.istore_n 2, 1) := dk_61 (dk_at dksX1_ministersAt_0 1 rfl rfl)
theorem dX1_ministersAt_2 : decode cX1_ministersAt 2 = .ok (.iconst 0, 1) := dk_3 (dk_at dksX1_ministersAt_0 2 rfl rfl)
theorem dX1_ministersAt_3 : decode cX1_ministersAt 3 = .ok (.istore_n 3, 1) := dk_62 (dk_at dksX1_ministersAt_0 3 rfl rfl)
theorem dX1_ministersAt_4 : decode cX1_ministersAt 4 = .ok (.iload_n 3, 1) := dk_29 (dk_at dksX1_ministersAt_0 4 rfl rfl)
theorem dX1_ministersAt_5 : decode cX1_ministersAt 5 = .ok (.aload_n 0, 1) := dk_42 (dk_at dksX1_ministersAt_0 5 rfl rfl)
theorem dX1_ministersAt_6 : decode cX1_ministersAt 6 = .ok (.getfield 34, 3) := dk_180 0 34 (dk_at dksX1_ministersAt_0 6 rfl rfl)
theorem dX1_ministersAt_9 : decode cX1_ministersAt 9 = .ok (.if_icmp .ge 31, 3) := dk_162 0 31 (dk_at dksX1_ministersAt_0 9 rfl rfl)
theorem dX1_ministersAt_12 : decode cX1_ministersAt 12 = .ok (.iload_n 2, 1) := dk_28 (dk_at dksX1_ministersAt_0 12 rfl rfl)
theorem dX1_ministersAt_13 : decode cX1_ministersAt 13 = .ok (.aload_n 0, 1) := dk_42 (dk_at dksX1_ministersAt_0 13 rfl rfl)
theorem dX1_ministersAt_14 : decode cX1_ministersAt 14 = .ok (.getfield 21, 3) := dk_180 0 21 (dk_at dksX1_ministersAt_0 14 rfl rfl)
theorem dX1_ministersAt_17 : decode cX1_ministersAt 17 = .ok (.iload_n 3, 1) := dk_29 (dk_at dksX1_ministersAt_0 17 rfl rfl)
theorem dX1_ministersAt_18 : decode cX1_ministersAt 18 = .ok (.aaload, 1) := dk_50 (dk_at dksX1_ministersAt_0 18 rfl rfl)
theorem dX1_ministersAt_19 : decode cX1_ministersAt 19 = .ok (.iconst 1, 1) := dk_4 (dk_at dksX1_ministersAt_0 19 rfl rfl)
theorem dX1_ministersAt_20 : decode cX1_ministersAt 20 = .ok (.iaload, 1) := dk_46 (dk_at dksX1_ministersAt_0 20 rfl rfl)
theorem dX1_ministersAt_21 : decode cX1_ministersAt 21 = .ok (.iload_n 1, 1) := dk_27 (dk_at dksX1_ministersAt_0 21 rfl rfl)
theorem dX1_ministersAt_22 : decode cX1_ministersAt 22 = .ok (.if_icmp .ne 9, 3) := dk_160 0 9 (dk_at dksX1_ministersAt_1 0 rfl rfl)
theorem dX1_ministersAt_25 : decode cX1_ministersAt 25 = .ok (.iconst 1, 1) := dk_4 (dk_at dksX1_ministersAt_1 3 rfl rfl)
theorem dX1_ministersAt_26 : decode cX1_ministersAt 26 = .ok (.iload_n 3, 1) := dk_29 (dk_at dksX1_ministersAt_1 4 rfl rfl)
theorem dX1_ministersAt_27 : decode cX1_ministersAt 27 = .ok (.ishl, 1) := dk_120 (dk_at dksX1_ministersAt_1 5 rfl rfl)
theorem dX1_ministersAt_28 : decode cX1_ministersAt 28 = .ok (.goto 4, 3) := dk_167 0 4 (dk_at dksX1_ministersAt_1 6 rfl rfl)
theorem dX1_ministersAt_31 : decode cX1_ministersAt 31 = .ok (.iconst 0, 1) := dk_3 (dk_at dksX1_ministersAt_1 9 rfl rfl)
theorem dX1_ministersAt_32 : decode cX1_ministersAt 32 = .ok (.ior, 1) := dk_128 (dk_at dksX1_ministersAt_1 10 rfl rfl)
theorem dX1_ministersAt_33 : decode cX1_ministersAt 33 = .ok (.istore_n 2, 1) := dk_61 (dk_at dksX1_ministersAt_1 11 rfl rfl)
theorem dX1_ministersAt_34 : decode cX1_ministersAt 34 = .ok (.iinc 3 1, 3) := dk_132 3 1 (dk_at dksX1_ministersAt_1 12 rfl rfl)
theorem dX1_ministersAt_37 : decode cX1_ministersAt 37 = .ok (.goto (-33), 3) := dk_167 255 223 (dk_at dksX1_ministersAt_1 15 rfl rfl)
theorem dX1_ministersAt_40 : decode cX1_ministersAt 40 = .ok (.iload_n 2, 1) := dk_28 (dk_at dksX1_ministersAt_1 18 rfl rfl)
theorem dX1_ministersAt_41 : decode cX1_ministersAt 41 = .ok (.ireturn, 1) := dk_172 (dk_at dksX1_ministersAt_1 19 rfl rfl)
abbrev cX1_angered : ByteArray := prog_10_method_9_code
def yX1_angered : MethodName := ⟨RX1, "angered", "(II)I"⟩
def dkwX1_angered_0 : List UInt8 := [178, 0, 57, 42, 180, 0, 18, 27, 50, 3, 46, 50, 28, 182, 0, 61, 172]
abbrev dktX1_angered_0 : List UInt8 := dkwX1_angered_0 ++ []
theorem dksX1_angered_0 : cX1_angered.data.toList.drop 0 = dktX1_angered_0 := by decide +kernel
theorem dX1_angered_0 : decode cX1_angered 0 = .ok (.getstatic 57, 3) := dk_178 0 57 (dk_at dksX1_angered_0 0 rfl rfl)
theorem dX1_angered_3 : decode cX1_angered 3 = .ok (.aload_n 0, 1) := dk_42 (dk_at dksX1_angered_0 3 rfl rfl)
theorem dX1_angered_4 : decode cX1_angered 4 = .ok (.getfield 18, 3) := dk_180 0 18 (dk_at dksX1_angered_0 4 rfl rfl)
theorem dX1_angered_7 : decode cX1_angered 7 = .ok (.iload_n 1, 1) := dk_27 (dk_at dksX1_angered_0 7 rfl rfl)
theorem dX1_angered_8 : decode cX1_angered 8 = .ok (.aaload, 1) := dk_50 (dk_at dksX1_angered_0 8 rfl rfl)
theorem dX1_angered_9 : decode cX1_angered 9 = .ok (.iconst 0, 1) := dk_3 (dk_at dksX1_angered_0 9 rfl rfl)
theorem dX1_angered_10 : decode cX1_angered 10 = .ok (.iaload, 1) := dk_46 (dk_at dksX1_angered_0 10 rfl rfl)
theorem dX1_angered_11 : decode cX1_angered 11 = .ok (.aaload, 1) := dk_50 (dk_at dksX1_angered_0 11 rfl rfl)
theorem dX1_angered_12 : decode cX1_angered 12 = .ok (.iload_n 2, 1) := dk_28 (dk_at dksX1_angered_0 12 rfl rfl)
theorem dX1_angered_13 : decode cX1_angered 13 = .ok (.invokevirtual 61, 3) := dk_182 0 61 (dk_at dksX1_angered_0 13 rfl rfl)
theorem dX1_angered_16 : decode cX1_angered 16 = .ok (.ireturn, 1) := dk_172 (dk_at dksX1_angered_0 16 rfl rfl)
abbrev cX1_turnGoes : ByteArray := prog_10_method_12_code
def yX1_turnGoes : MethodName := ⟨RX1, "turnGoes", "(Z)V"⟩
def dkwX1_turnGoes_4 : List UInt8 := [79, 132, 3, 1, 167, 255, 208, 42, 89, 180, 0, 37, 4, 96, 181, 0, 37, 177]
abbrev dktX1_turnGoes_4 : List UInt8 := dkwX1_turnGoes_4 ++ []
def dkwX1_turnGoes_3 : List UInt8 := [154, 0, 25, 42, 180, 0, 18, 29, 50, 5, 3, 42, 180, 0, 18, 29, 50, 5, 46, 4, 100, 184, 0, 47]
abbrev dktX1_turnGoes_3 : List UInt8 := dkwX1_turnGoes_3 ++ dktX1_turnGoes_4
def dkwX1_turnGoes_2 : List UInt8 := [3, 62, 29, 42, 180, 0, 30, 162, 0, 46, 28, 42, 180, 0, 18, 29, 50, 4, 46, 184, 0, 79]
abbrev dktX1_turnGoes_2 : List UInt8 := dkwX1_turnGoes_2 ++ dktX1_turnGoes_3
def dkwX1_turnGoes_1 : List UInt8 := [28, 4, 42, 180, 0, 21, 29, 50, 4, 46, 120, 128, 61, 42, 29, 182, 0, 75, 132, 3, 1, 167, 255, 215]
abbrev dktX1_turnGoes_1 : List UInt8 := dkwX1_turnGoes_1 ++ dktX1_turnGoes_2
def dkwX1_turnGoes_0 : List UInt8 := [3, 61, 3, 62, 29, 42, 180, 0, 34, 162, 0, 39, 27, 154, 0, 29, 42, 29, 182, 0, 43, 154, 0, 21]
abbrev dktX1_turnGoes_0 : List UInt8 := dkwX1_turnGoes_0 ++ dktX1_turnGoes_1
theorem dksX1_turnGoes_0 : cX1_turnGoes.data.toList.drop 0 = dktX1_turnGoes_0 := by decide +kernel
theorem dksX1_turnGoes_1 : cX1_turnGoes.data.toList.drop 24 = dktX1_turnGoes_1 := dk_seg dksX1_turnGoes_0 24 rfl rfl
theorem dksX1_turnGoes_2 : cX1_turnGoes.data.toList.drop 48 = dktX1_turnGoes_2 := dk_seg dksX1_turnGoes_1 24 rfl rfl
theorem dksX1_turnGoes_3 : cX1_turnGoes.data.toList.drop 70 = dktX1_turnGoes_3 := dk_seg dksX1_turnGoes_2 22 rfl rfl
theorem dksX1_turnGoes_4 : cX1_turnGoes.data.toList.drop 94 = dktX1_turnGoes_4 := dk_seg dksX1_turnGoes_3 24 rfl rfl
theorem dX1_turnGoes_0 : decode cX1_turnGoes 0 = .ok (.iconst 0, 1) := dk_3 (dk_at dksX1_turnGoes_0 0 rfl rfl)
theorem dX1_turnGoes_1 : decode cX1_turnGoes 1 = .ok (.istore_n 2, 1) := dk_61 (dk_at dksX1_turnGoes_0 1 rfl rfl)
theorem dX1_turnGoes_2 : decode cX1_turnGoes 2 = .ok (.iconst 0, 1) := dk_3 (dk_at dksX1_turnGoes_0 2 rfl rfl)
theorem dX1_turnGoes_3 : decode cX1_turnGoes 3 = .ok (.istore_n 3, 1) := dk_62 (dk_at dksX1_turnGoes_0 3 rfl rfl)
theorem dX1_turnGoes_4 : decode cX1_turnGoes 4 = .ok (.iload_n 3, 1) := dk_29 (dk_at dksX1_turnGoes_0 4 rfl rfl)
theorem dX1_turnGoes_5 : decode cX1_turnGoes 5 = .ok (.aload_n 0, 1) := dk_42 (dk_at dksX1_turnGoes_0 5 rfl rfl)
theorem dX1_turnGoes_6 : decode cX1_turnGoes 6 = .ok (.getfield 34, 3) := dk_180 0 34 (dk_at dksX1_turnGoes_0 6 rfl rfl)
theorem dX1_turnGoes_9 : decode cX1_turnGoes 9 = .ok (.if_icmp .ge 39, 3) := dk_162 0 39 (dk_at dksX1_turnGoes_0 9 rfl rfl)
theorem dX1_turnGoes_12 : decode cX1_turnGoes 12 = .ok (.iload_n 1, 1) := dk_27 (dk_at dksX1_turnGoes_0 12 rfl rfl)
theorem dX1_turnGoes_13 : decode cX1_turnGoes 13 = .ok (.ifCond .ne 29, 3) := dk_154 0 29 (dk_at dksX1_turnGoes_0 13 rfl rfl)
theorem dX1_turnGoes_16 : decode cX1_turnGoes 16 = .ok (.aload_n 0, 1) := dk_42 (dk_at dksX1_turnGoes_0 16 rfl rfl)
theorem dX1_turnGoes_17 : decode cX1_turnGoes 17 = .ok (.iload_n 3, 1) := dk_29 (dk_at dksX1_turnGoes_0 17 rfl rfl)
theorem dX1_turnGoes_18 : decode cX1_turnGoes 18 = .ok (.invokevirtual 43, 3) := dk_182 0 43 (dk_at dksX1_turnGoes_0 18 rfl rfl)
theorem dX1_turnGoes_21 : decode cX1_turnGoes 21 = .ok (.ifCond .ne 21, 3) := dk_154 0 21 (dk_at dksX1_turnGoes_0 21 rfl rfl)
theorem dX1_turnGoes_24 : decode cX1_turnGoes 24 = .ok (.iload_n 2, 1) := dk_28 (dk_at dksX1_turnGoes_1 0 rfl rfl)
theorem dX1_turnGoes_25 : decode cX1_turnGoes 25 = .ok (.iconst 1, 1) := dk_4 (dk_at dksX1_turnGoes_1 1 rfl rfl)
theorem dX1_turnGoes_26 : decode cX1_turnGoes 26 = .ok (.aload_n 0, 1) := dk_42 (dk_at dksX1_turnGoes_1 2 rfl rfl)
theorem dX1_turnGoes_27 : decode cX1_turnGoes 27 = .ok (.getfield 21, 3) := dk_180 0 21 (dk_at dksX1_turnGoes_1 3 rfl rfl)
theorem dX1_turnGoes_30 : decode cX1_turnGoes 30 = .ok (.iload_n 3, 1) := dk_29 (dk_at dksX1_turnGoes_1 6 rfl rfl)
theorem dX1_turnGoes_31 : decode cX1_turnGoes 31 = .ok (.aaload, 1) := dk_50 (dk_at dksX1_turnGoes_1 7 rfl rfl)
theorem dX1_turnGoes_32 : decode cX1_turnGoes 32 = .ok (.iconst 1, 1) := dk_4 (dk_at dksX1_turnGoes_1 8 rfl rfl)
theorem dX1_turnGoes_33 : decode cX1_turnGoes 33 = .ok (.iaload, 1) := dk_46 (dk_at dksX1_turnGoes_1 9 rfl rfl)
theorem dX1_turnGoes_34 : decode cX1_turnGoes 34 = .ok (.ishl, 1) := dk_120 (dk_at dksX1_turnGoes_1 10 rfl rfl)
theorem dX1_turnGoes_35 : decode cX1_turnGoes 35 = .ok (.ior, 1) := dk_128 (dk_at dksX1_turnGoes_1 11 rfl rfl)
theorem dX1_turnGoes_36 : decode cX1_turnGoes 36 = .ok (.istore_n 2, 1) := dk_61 (dk_at dksX1_turnGoes_1 12 rfl rfl)
theorem dX1_turnGoes_37 : decode cX1_turnGoes 37 = .ok (.aload_n 0, 1) := dk_42 (dk_at dksX1_turnGoes_1 13 rfl rfl)
theorem dX1_turnGoes_38 : decode cX1_turnGoes 38 = .ok (.iload_n 3, 1) := dk_29 (dk_at dksX1_turnGoes_1 14 rfl rfl)
theorem dX1_turnGoes_39 : decode cX1_turnGoes 39 = .ok (.invokevirtual 75, 3) := dk_182 0 75 (dk_at dksX1_turnGoes_1 15 rfl rfl)
theorem dX1_turnGoes_42 : decode cX1_turnGoes 42 = .ok (.iinc 3 1, 3) := dk_132 3 1 (dk_at dksX1_turnGoes_1 18 rfl rfl)
theorem dX1_turnGoes_45 : decode cX1_turnGoes 45 = .ok (.goto (-41), 3) := dk_167 255 215 (dk_at dksX1_turnGoes_1 21 rfl rfl)
theorem dX1_turnGoes_48 : decode cX1_turnGoes 48 = .ok (.iconst 0, 1) := dk_3 (dk_at dksX1_turnGoes_2 0 rfl rfl)
theorem dX1_turnGoes_49 : decode cX1_turnGoes 49 = .ok (.istore_n 3, 1) := dk_62 (dk_at dksX1_turnGoes_2 1 rfl rfl)
theorem dX1_turnGoes_50 : decode cX1_turnGoes 50 = .ok (.iload_n 3, 1) := dk_29 (dk_at dksX1_turnGoes_2 2 rfl rfl)
theorem dX1_turnGoes_51 : decode cX1_turnGoes 51 = .ok (.aload_n 0, 1) := dk_42 (dk_at dksX1_turnGoes_2 3 rfl rfl)
theorem dX1_turnGoes_52 : decode cX1_turnGoes 52 = .ok (.getfield 30, 3) := dk_180 0 30 (dk_at dksX1_turnGoes_2 4 rfl rfl)
theorem dX1_turnGoes_55 : decode cX1_turnGoes 55 = .ok (.if_icmp .ge 46, 3) := dk_162 0 46 (dk_at dksX1_turnGoes_2 7 rfl rfl)
theorem dX1_turnGoes_58 : decode cX1_turnGoes 58 = .ok (.iload_n 2, 1) := dk_28 (dk_at dksX1_turnGoes_2 10 rfl rfl)
theorem dX1_turnGoes_59 : decode cX1_turnGoes 59 = .ok (.aload_n 0, 1) := dk_42 (dk_at dksX1_turnGoes_2 11 rfl rfl)
theorem dX1_turnGoes_60 : decode cX1_turnGoes 60 = .ok (.getfield 18, 3) := dk_180 0 18 (dk_at dksX1_turnGoes_2 12 rfl rfl)
theorem dX1_turnGoes_63 : decode cX1_turnGoes 63 = .ok (.iload_n 3, 1) := dk_29 (dk_at dksX1_turnGoes_2 15 rfl rfl)
theorem dX1_turnGoes_64 : decode cX1_turnGoes 64 = .ok (.aaload, 1) := dk_50 (dk_at dksX1_turnGoes_2 16 rfl rfl)
theorem dX1_turnGoes_65 : decode cX1_turnGoes 65 = .ok (.iconst 1, 1) := dk_4 (dk_at dksX1_turnGoes_2 17 rfl rfl)
theorem dX1_turnGoes_66 : decode cX1_turnGoes 66 = .ok (.iaload, 1) := dk_46 (dk_at dksX1_turnGoes_2 18 rfl rfl)
theorem dX1_turnGoes_67 : decode cX1_turnGoes 67 = .ok (.invokestatic 79, 3) := dk_184 0 79 (dk_at dksX1_turnGoes_2 19 rfl rfl)
theorem dX1_turnGoes_70 : decode cX1_turnGoes 70 = .ok (.ifCond .ne 25, 3) := dk_154 0 25 (dk_at dksX1_turnGoes_3 0 rfl rfl)
theorem dX1_turnGoes_73 : decode cX1_turnGoes 73 = .ok (.aload_n 0, 1) := dk_42 (dk_at dksX1_turnGoes_3 3 rfl rfl)
theorem dX1_turnGoes_74 : decode cX1_turnGoes 74 = .ok (.getfield 18, 3) := dk_180 0 18 (dk_at dksX1_turnGoes_3 4 rfl rfl)
theorem dX1_turnGoes_77 : decode cX1_turnGoes 77 = .ok (.iload_n 3, 1) := dk_29 (dk_at dksX1_turnGoes_3 7 rfl rfl)
theorem dX1_turnGoes_78 : decode cX1_turnGoes 78 = .ok (.aaload, 1) := dk_50 (dk_at dksX1_turnGoes_3 8 rfl rfl)
theorem dX1_turnGoes_79 : decode cX1_turnGoes 79 = .ok (.iconst 2, 1) := dk_5 (dk_at dksX1_turnGoes_3 9 rfl rfl)
theorem dX1_turnGoes_80 : decode cX1_turnGoes 80 = .ok (.iconst 0, 1) := dk_3 (dk_at dksX1_turnGoes_3 10 rfl rfl)
theorem dX1_turnGoes_81 : decode cX1_turnGoes 81 = .ok (.aload_n 0, 1) := dk_42 (dk_at dksX1_turnGoes_3 11 rfl rfl)
theorem dX1_turnGoes_82 : decode cX1_turnGoes 82 = .ok (.getfield 18, 3) := dk_180 0 18 (dk_at dksX1_turnGoes_3 12 rfl rfl)
theorem dX1_turnGoes_85 : decode cX1_turnGoes 85 = .ok (.iload_n 3, 1) := dk_29 (dk_at dksX1_turnGoes_3 15 rfl rfl)
theorem dX1_turnGoes_86 : decode cX1_turnGoes 86 = .ok (.aaload, 1) := dk_50 (dk_at dksX1_turnGoes_3 16 rfl rfl)
theorem dX1_turnGoes_87 : decode cX1_turnGoes 87 = .ok (.iconst 2, 1) := dk_5 (dk_at dksX1_turnGoes_3 17 rfl rfl)
theorem dX1_turnGoes_88 : decode cX1_turnGoes 88 = .ok (.iaload, 1) := dk_46 (dk_at dksX1_turnGoes_3 18 rfl rfl)
theorem dX1_turnGoes_89 : decode cX1_turnGoes 89 = .ok (.iconst 1, 1) := dk_4 (dk_at dksX1_turnGoes_3 19 rfl rfl)
theorem dX1_turnGoes_90 : decode cX1_turnGoes 90 = .ok (.isub, 1) := dk_100 (dk_at dksX1_turnGoes_3 20 rfl rfl)
theorem dX1_turnGoes_91 : decode cX1_turnGoes 91 = .ok (.invokestatic 47, 3) := dk_184 0 47 (dk_at dksX1_turnGoes_3 21 rfl rfl)
theorem dX1_turnGoes_94 : decode cX1_turnGoes 94 = .ok (.iastore, 1) := dk_79 (dk_at dksX1_turnGoes_4 0 rfl rfl)
theorem dX1_turnGoes_95 : decode cX1_turnGoes 95 = .ok (.iinc 3 1, 3) := dk_132 3 1 (dk_at dksX1_turnGoes_4 1 rfl rfl)
theorem dX1_turnGoes_98 : decode cX1_turnGoes 98 = .ok (.goto (-48), 3) := dk_167 255 208 (dk_at dksX1_turnGoes_4 4 rfl rfl)
theorem dX1_turnGoes_101 : decode cX1_turnGoes 101 = .ok (.aload_n 0, 1) := dk_42 (dk_at dksX1_turnGoes_4 7 rfl rfl)
theorem dX1_turnGoes_102 : decode cX1_turnGoes 102 = .ok (.dup, 1) := dk_89 (dk_at dksX1_turnGoes_4 8 rfl rfl)
theorem dX1_turnGoes_103 : decode cX1_turnGoes 103 = .ok (.getfield 37, 3) := dk_180 0 37 (dk_at dksX1_turnGoes_4 9 rfl rfl)
theorem dX1_turnGoes_106 : decode cX1_turnGoes 106 = .ok (.iconst 1, 1) := dk_4 (dk_at dksX1_turnGoes_4 12 rfl rfl)
theorem dX1_turnGoes_107 : decode cX1_turnGoes 107 = .ok (.iadd, 1) := dk_96 (dk_at dksX1_turnGoes_4 13 rfl rfl)
theorem dX1_turnGoes_108 : decode cX1_turnGoes 108 = .ok (.putfield 37, 3) := dk_181 0 37 (dk_at dksX1_turnGoes_4 14 rfl rfl)
theorem dX1_turnGoes_111 : decode cX1_turnGoes 111 = .ok (.return_, 1) := dk_177 (dk_at dksX1_turnGoes_4 17 rfl rfl)
abbrev cX1_treads : ByteArray := prog_10_method_10_code
def yX1_treads : MethodName := ⟨RX1, "treads", "(I)V"⟩
def dkwX1_treads_4 : List UInt8 := [167, 255, 176, 29, 42, 180, 0, 11, 28, 50, 4, 46, 161, 0, 9, 42, 27, 28, 182, 0, 71, 177]
abbrev dktX1_treads_4 : List UInt8 := dkwX1_treads_4 ++ []
def dkwX1_treads_3 : List UInt8 := [184, 0, 68, 79, 29, 42, 21, 4, 182, 0, 53, 154, 0, 7, 4, 167, 0, 4, 3, 96, 62, 132, 4, 1]
abbrev dktX1_treads_3 : List UInt8 := dkwX1_treads_3 ++ dktX1_treads_4
def dkwX1_treads_2 : List UInt8 := [180, 0, 18, 21, 4, 50, 5, 46, 42, 21, 4, 42, 180, 0, 21, 27, 50, 3, 46, 182, 0, 66, 96]
abbrev dktX1_treads_2 : List UInt8 := dkwX1_treads_2 ++ dktX1_treads_3
def dkwX1_treads_1 : List UInt8 := [180, 0, 18, 21, 4, 50, 4, 46, 28, 160, 0, 58, 42, 180, 0, 18, 21, 4, 50, 5, 16, 99, 42]
abbrev dktX1_treads_1 : List UInt8 := dkwX1_treads_1 ++ dktX1_treads_2
def dkwX1_treads_0 : List UInt8 := [42, 180, 0, 21, 27, 50, 4, 46, 61, 3, 62, 3, 54, 4, 21, 4, 42, 180, 0, 30, 162, 0, 77, 42]
abbrev dktX1_treads_0 : List UInt8 := dkwX1_treads_0 ++ dktX1_treads_1
theorem dksX1_treads_0 : cX1_treads.data.toList.drop 0 = dktX1_treads_0 := by decide +kernel
theorem dksX1_treads_1 : cX1_treads.data.toList.drop 24 = dktX1_treads_1 := dk_seg dksX1_treads_0 24 rfl rfl
theorem dksX1_treads_2 : cX1_treads.data.toList.drop 47 = dktX1_treads_2 := dk_seg dksX1_treads_1 23 rfl rfl
theorem dksX1_treads_3 : cX1_treads.data.toList.drop 70 = dktX1_treads_3 := dk_seg dksX1_treads_2 23 rfl rfl
theorem dksX1_treads_4 : cX1_treads.data.toList.drop 94 = dktX1_treads_4 := dk_seg dksX1_treads_3 24 rfl rfl
theorem dX1_treads_0 : decode cX1_treads 0 = .ok (.aload_n 0, 1) := dk_42 (dk_at dksX1_treads_0 0 rfl rfl)
theorem dX1_treads_1 : decode cX1_treads 1 = .ok (.getfield 21, 3) := dk_180 0 21 (dk_at dksX1_treads_0 1 rfl rfl)
theorem dX1_treads_4 : decode cX1_treads 4 = .ok (.iload_n 1, 1) := dk_27 (dk_at dksX1_treads_0 4 rfl rfl)
theorem dX1_treads_5 : decode cX1_treads 5 = .ok (.aaload, 1) := dk_50 (dk_at dksX1_treads_0 5 rfl rfl)
theorem dX1_treads_6 : decode cX1_treads 6 = .ok (.iconst 1, 1) := dk_4 (dk_at dksX1_treads_0 6 rfl rfl)
theorem dX1_treads_7 : decode cX1_treads 7 = .ok (.iaload, 1) := dk_46 (dk_at dksX1_treads_0 7 rfl rfl)
theorem dX1_treads_8 : decode cX1_treads 8 = .ok (.istore_n 2, 1) := dk_61 (dk_at dksX1_treads_0 8 rfl rfl)
theorem dX1_treads_9 : decode cX1_treads 9 = .ok (.iconst 0, 1) := dk_3 (dk_at dksX1_treads_0 9 rfl rfl)
theorem dX1_treads_10 : decode cX1_treads 10 = .ok (.istore_n 3, 1) := dk_62 (dk_at dksX1_treads_0 10 rfl rfl)
theorem dX1_treads_11 : decode cX1_treads 11 = .ok (.iconst 0, 1) := dk_3 (dk_at dksX1_treads_0 11 rfl rfl)
theorem dX1_treads_12 : decode cX1_treads 12 = .ok (.istore 4, 2) := dk_54 4 (dk_at dksX1_treads_0 12 rfl rfl)
theorem dX1_treads_14 : decode cX1_treads 14 = .ok (.iload 4, 2) := dk_21 4 (dk_at dksX1_treads_0 14 rfl rfl)
theorem dX1_treads_16 : decode cX1_treads 16 = .ok (.aload_n 0, 1) := dk_42 (dk_at dksX1_treads_0 16 rfl rfl)
theorem dX1_treads_17 : decode cX1_treads 17 = .ok (.getfield 30, 3) := dk_180 0 30 (dk_at dksX1_treads_0 17 rfl rfl)
theorem dX1_treads_20 : decode cX1_treads 20 = .ok (.if_icmp .ge 77, 3) := dk_162 0 77 (dk_at dksX1_treads_0 20 rfl rfl)
theorem dX1_treads_23 : decode cX1_treads 23 = .ok (.aload_n 0, 1) := dk_42 (dk_at dksX1_treads_0 23 rfl rfl)
theorem dX1_treads_24 : decode cX1_treads 24 = .ok (.getfield 18, 3) := dk_180 0 18 (dk_at dksX1_treads_1 0 rfl rfl)
theorem dX1_treads_27 : decode cX1_treads 27 = .ok (.iload 4, 2) := dk_21 4 (dk_at dksX1_treads_1 3 rfl rfl)
theorem dX1_treads_29 : decode cX1_treads 29 = .ok (.aaload, 1) := dk_50 (dk_at dksX1_treads_1 5 rfl rfl)
theorem dX1_treads_30 : decode cX1_treads 30 = .ok (.iconst 1, 1) := dk_4 (dk_at dksX1_treads_1 6 rfl rfl)
theorem dX1_treads_31 : decode cX1_treads 31 = .ok (.iaload, 1) := dk_46 (dk_at dksX1_treads_1 7 rfl rfl)
theorem dX1_treads_32 : decode cX1_treads 32 = .ok (.iload_n 2, 1) := dk_28 (dk_at dksX1_treads_1 8 rfl rfl)
theorem dX1_treads_33 : decode cX1_treads 33 = .ok (.if_icmp .ne 58, 3) := dk_160 0 58 (dk_at dksX1_treads_1 9 rfl rfl)
theorem dX1_treads_36 : decode cX1_treads 36 = .ok (.aload_n 0, 1) := dk_42 (dk_at dksX1_treads_1 12 rfl rfl)
theorem dX1_treads_37 : decode cX1_treads 37 = .ok (.getfield 18, 3) := dk_180 0 18 (dk_at dksX1_treads_1 13 rfl rfl)
theorem dX1_treads_40 : decode cX1_treads 40 = .ok (.iload 4, 2) := dk_21 4 (dk_at dksX1_treads_1 16 rfl rfl)
theorem dX1_treads_42 : decode cX1_treads 42 = .ok (.aaload, 1) := dk_50 (dk_at dksX1_treads_1 18 rfl rfl)
theorem dX1_treads_43 : decode cX1_treads 43 = .ok (.iconst 2, 1) := dk_5 (dk_at dksX1_treads_1 19 rfl rfl)
theorem dX1_treads_44 : decode cX1_treads 44 = .ok (.bipush 99, 2) := dk_16 99 (dk_at dksX1_treads_1 20 rfl rfl)
theorem dX1_treads_46 : decode cX1_treads 46 = .ok (.aload_n 0, 1) := dk_42 (dk_at dksX1_treads_1 22 rfl rfl)
theorem dX1_treads_47 : decode cX1_treads 47 = .ok (.getfield 18, 3) := dk_180 0 18 (dk_at dksX1_treads_2 0 rfl rfl)
theorem dX1_treads_50 : decode cX1_treads 50 = .ok (.iload 4, 2) := dk_21 4 (dk_at dksX1_treads_2 3 rfl rfl)
theorem dX1_treads_52 : decode cX1_treads 52 = .ok (.aaload, 1) := dk_50 (dk_at dksX1_treads_2 5 rfl rfl)
theorem dX1_treads_53 : decode cX1_treads 53 = .ok (.iconst 2, 1) := dk_5 (dk_at dksX1_treads_2 6 rfl rfl)
theorem dX1_treads_54 : decode cX1_treads 54 = .ok (.iaload, 1) := dk_46 (dk_at dksX1_treads_2 7 rfl rfl)
theorem dX1_treads_55 : decode cX1_treads 55 = .ok (.aload_n 0, 1) := dk_42 (dk_at dksX1_treads_2 8 rfl rfl)
theorem dX1_treads_56 : decode cX1_treads 56 = .ok (.iload 4, 2) := dk_21 4 (dk_at dksX1_treads_2 9 rfl rfl)
theorem dX1_treads_58 : decode cX1_treads 58 = .ok (.aload_n 0, 1) := dk_42 (dk_at dksX1_treads_2 11 rfl rfl)
theorem dX1_treads_59 : decode cX1_treads 59 = .ok (.getfield 21, 3) := dk_180 0 21 (dk_at dksX1_treads_2 12 rfl rfl)
theorem dX1_treads_62 : decode cX1_treads 62 = .ok (.iload_n 1, 1) := dk_27 (dk_at dksX1_treads_2 15 rfl rfl)
theorem dX1_treads_63 : decode cX1_treads 63 = .ok (.aaload, 1) := dk_50 (dk_at dksX1_treads_2 16 rfl rfl)
theorem dX1_treads_64 : decode cX1_treads 64 = .ok (.iconst 0, 1) := dk_3 (dk_at dksX1_treads_2 17 rfl rfl)
theorem dX1_treads_65 : decode cX1_treads 65 = .ok (.iaload, 1) := dk_46 (dk_at dksX1_treads_2 18 rfl rfl)
theorem dX1_treads_66 : decode cX1_treads 66 = .ok (.invokevirtual 66, 3) := dk_182 0 66 (dk_at dksX1_treads_2 19 rfl rfl)
theorem dX1_treads_69 : decode cX1_treads 69 = .ok (.iadd, 1) := dk_96 (dk_at dksX1_treads_2 22 rfl rfl)
theorem dX1_treads_70 : decode cX1_treads 70 = .ok (.invokestatic 68, 3) := dk_184 0 68 (dk_at dksX1_treads_3 0 rfl rfl)
theorem dX1_treads_73 : decode cX1_treads 73 = .ok (.iastore, 1) := dk_79 (dk_at dksX1_treads_3 3 rfl rfl)
theorem dX1_treads_74 : decode cX1_treads 74 = .ok (.iload_n 3, 1) := dk_29 (dk_at dksX1_treads_3 4 rfl rfl)
theorem dX1_treads_75 : decode cX1_treads 75 = .ok (.aload_n 0, 1) := dk_42 (dk_at dksX1_treads_3 5 rfl rfl)
theorem dX1_treads_76 : decode cX1_treads 76 = .ok (.iload 4, 2) := dk_21 4 (dk_at dksX1_treads_3 6 rfl rfl)
theorem dX1_treads_78 : decode cX1_treads 78 = .ok (.invokevirtual 53, 3) := dk_182 0 53 (dk_at dksX1_treads_3 8 rfl rfl)
theorem dX1_treads_81 : decode cX1_treads 81 = .ok (.ifCond .ne 7, 3) := dk_154 0 7 (dk_at dksX1_treads_3 11 rfl rfl)
theorem dX1_treads_84 : decode cX1_treads 84 = .ok (.iconst 1, 1) := dk_4 (dk_at dksX1_treads_3 14 rfl rfl)
theorem dX1_treads_85 : decode cX1_treads 85 = .ok (.goto 4, 3) := dk_167 0 4 (dk_at dksX1_treads_3 15 rfl rfl)
theorem dX1_treads_88 : decode cX1_treads 88 = .ok (.iconst 0, 1) := dk_3 (dk_at dksX1_treads_3 18 rfl rfl)
theorem dX1_treads_89 : decode cX1_treads 89 = .ok (.iadd, 1) := dk_96 (dk_at dksX1_treads_3 19 rfl rfl)
theorem dX1_treads_90 : decode cX1_treads 90 = .ok (.istore_n 3, 1) := dk_62 (dk_at dksX1_treads_3 20 rfl rfl)
theorem dX1_treads_91 : decode cX1_treads 91 = .ok (.iinc 4 1, 3) := dk_132 4 1 (dk_at dksX1_treads_3 21 rfl rfl)
theorem dX1_treads_94 : decode cX1_treads 94 = .ok (.goto (-80), 3) := dk_167 255 176 (dk_at dksX1_treads_4 0 rfl rfl)
theorem dX1_treads_97 : decode cX1_treads 97 = .ok (.iload_n 3, 1) := dk_29 (dk_at dksX1_treads_4 3 rfl rfl)
theorem dX1_treads_98 : decode cX1_treads 98 = .ok (.aload_n 0, 1) := dk_42 (dk_at dksX1_treads_4 4 rfl rfl)
theorem dX1_treads_99 : decode cX1_treads 99 = .ok (.getfield 11, 3) := dk_180 0 11 (dk_at dksX1_treads_4 5 rfl rfl)
theorem dX1_treads_102 : decode cX1_treads 102 = .ok (.iload_n 2, 1) := dk_28 (dk_at dksX1_treads_4 8 rfl rfl)
theorem dX1_treads_103 : decode cX1_treads 103 = .ok (.aaload, 1) := dk_50 (dk_at dksX1_treads_4 9 rfl rfl)
theorem dX1_treads_104 : decode cX1_treads 104 = .ok (.iconst 1, 1) := dk_4 (dk_at dksX1_treads_4 10 rfl rfl)
theorem dX1_treads_105 : decode cX1_treads 105 = .ok (.iaload, 1) := dk_46 (dk_at dksX1_treads_4 11 rfl rfl)
theorem dX1_treads_106 : decode cX1_treads 106 = .ok (.if_icmp .lt 9, 3) := dk_161 0 9 (dk_at dksX1_treads_4 12 rfl rfl)
theorem dX1_treads_109 : decode cX1_treads 109 = .ok (.aload_n 0, 1) := dk_42 (dk_at dksX1_treads_4 15 rfl rfl)
theorem dX1_treads_110 : decode cX1_treads 110 = .ok (.iload_n 1, 1) := dk_27 (dk_at dksX1_treads_4 16 rfl rfl)
theorem dX1_treads_111 : decode cX1_treads 111 = .ok (.iload_n 2, 1) := dk_28 (dk_at dksX1_treads_4 17 rfl rfl)
theorem dX1_treads_112 : decode cX1_treads 112 = .ok (.invokevirtual 71, 3) := dk_182 0 71 (dk_at dksX1_treads_4 18 rfl rfl)
theorem dX1_treads_115 : decode cX1_treads 115 = .ok (.return_, 1) := dk_177 (dk_at dksX1_treads_4 21 rfl rfl)
abbrev cX1_drops : ByteArray := prog_10_method_11_code
def yX1_drops : MethodName := ⟨RX1, "drops", "(II)V"⟩
def dkwX1_drops_2 : List UInt8 := [160, 0, 7, 3, 167, 0, 11, 42, 180, 0, 18, 29, 50, 5, 46, 79, 132, 3, 1, 167, 255, 213, 177]
abbrev dktX1_drops_2 : List UInt8 := dkwX1_drops_2 ++ []
def dkwX1_drops_1 : List UInt8 := [180, 0, 30, 162, 0, 41, 42, 180, 0, 18, 29, 50, 5, 42, 180, 0, 18, 29, 50, 4, 46, 28]
abbrev dktX1_drops_1 : List UInt8 := dkwX1_drops_1 ++ dktX1_drops_2
def dkwX1_drops_0 : List UInt8 := [42, 180, 0, 21, 27, 50, 4, 16, 252, 79, 42, 89, 180, 0, 40, 4, 96, 181, 0, 40, 3, 62, 29, 42]
abbrev dktX1_drops_0 : List UInt8 := dkwX1_drops_0 ++ dktX1_drops_1
theorem dksX1_drops_0 : cX1_drops.data.toList.drop 0 = dktX1_drops_0 := by decide +kernel
theorem dksX1_drops_1 : cX1_drops.data.toList.drop 24 = dktX1_drops_1 := dk_seg dksX1_drops_0 24 rfl rfl
theorem dksX1_drops_2 : cX1_drops.data.toList.drop 46 = dktX1_drops_2 := dk_seg dksX1_drops_1 22 rfl rfl
theorem dX1_drops_0 : decode cX1_drops 0 = .ok (.aload_n 0, 1) := dk_42 (dk_at dksX1_drops_0 0 rfl rfl)
theorem dX1_drops_1 : decode cX1_drops 1 = .ok (.getfield 21, 3) := dk_180 0 21 (dk_at dksX1_drops_0 1 rfl rfl)
theorem dX1_drops_4 : decode cX1_drops 4 = .ok (.iload_n 1, 1) := dk_27 (dk_at dksX1_drops_0 4 rfl rfl)
theorem dX1_drops_5 : decode cX1_drops 5 = .ok (.aaload, 1) := dk_50 (dk_at dksX1_drops_0 5 rfl rfl)
theorem dX1_drops_6 : decode cX1_drops 6 = .ok (.iconst 1, 1) := dk_4 (dk_at dksX1_drops_0 6 rfl rfl)
theorem dX1_drops_7 : decode cX1_drops 7 = .ok (.bipush (-4), 2) := dk_16 252 (dk_at dksX1_drops_0 7 rfl rfl)
theorem dX1_drops_9 : decode cX1_drops 9 = .ok (.iastore, 1) := dk_79 (dk_at dksX1_drops_0 9 rfl rfl)
theorem dX1_drops_10 : decode cX1_drops 10 = .ok (.aload_n 0, 1) := dk_42 (dk_at dksX1_drops_0 10 rfl rfl)
theorem dX1_drops_11 : decode cX1_drops 11 = .ok (.dup, 1) := dk_89 (dk_at dksX1_drops_0 11 rfl rfl)
theorem dX1_drops_12 : decode cX1_drops 12 = .ok (.getfield 40, 3) := dk_180 0 40 (dk_at dksX1_drops_0 12 rfl rfl)
theorem dX1_drops_15 : decode cX1_drops 15 = .ok (.iconst 1, 1) := dk_4 (dk_at dksX1_drops_0 15 rfl rfl)
theorem dX1_drops_16 : decode cX1_drops 16 = .ok (.iadd, 1) := dk_96 (dk_at dksX1_drops_0 16 rfl rfl)
theorem dX1_drops_17 : decode cX1_drops 17 = .ok (.putfield 40, 3) := dk_181 0 40 (dk_at dksX1_drops_0 17 rfl rfl)
theorem dX1_drops_20 : decode cX1_drops 20 = .ok (.iconst 0, 1) := dk_3 (dk_at dksX1_drops_0 20 rfl rfl)
theorem dX1_drops_21 : decode cX1_drops 21 = .ok (.istore_n 3, 1) := dk_62 (dk_at dksX1_drops_0 21 rfl rfl)
theorem dX1_drops_22 : decode cX1_drops 22 = .ok (.iload_n 3, 1) := dk_29 (dk_at dksX1_drops_0 22 rfl rfl)
theorem dX1_drops_23 : decode cX1_drops 23 = .ok (.aload_n 0, 1) := dk_42 (dk_at dksX1_drops_0 23 rfl rfl)
theorem dX1_drops_24 : decode cX1_drops 24 = .ok (.getfield 30, 3) := dk_180 0 30 (dk_at dksX1_drops_1 0 rfl rfl)
theorem dX1_drops_27 : decode cX1_drops 27 = .ok (.if_icmp .ge 41, 3) := dk_162 0 41 (dk_at dksX1_drops_1 3 rfl rfl)
theorem dX1_drops_30 : decode cX1_drops 30 = .ok (.aload_n 0, 1) := dk_42 (dk_at dksX1_drops_1 6 rfl rfl)
theorem dX1_drops_31 : decode cX1_drops 31 = .ok (.getfield 18, 3) := dk_180 0 18 (dk_at dksX1_drops_1 7 rfl rfl)
theorem dX1_drops_34 : decode cX1_drops 34 = .ok (.iload_n 3, 1) := dk_29 (dk_at dksX1_drops_1 10 rfl rfl)
theorem dX1_drops_35 : decode cX1_drops 35 = .ok (.aaload, 1) := dk_50 (dk_at dksX1_drops_1 11 rfl rfl)
theorem dX1_drops_36 : decode cX1_drops 36 = .ok (.iconst 2, 1) := dk_5 (dk_at dksX1_drops_1 12 rfl rfl)
theorem dX1_drops_37 : decode cX1_drops 37 = .ok (.aload_n 0, 1) := dk_42 (dk_at dksX1_drops_1 13 rfl rfl)
theorem dX1_drops_38 : decode cX1_drops 38 = .ok (.getfield 18, 3) := dk_180 0 18 (dk_at dksX1_drops_1 14 rfl rfl)
theorem dX1_drops_41 : decode cX1_drops 41 = .ok (.iload_n 3, 1) := dk_29 (dk_at dksX1_drops_1 17 rfl rfl)
theorem dX1_drops_42 : decode cX1_drops 42 = .ok (.aaload, 1) := dk_50 (dk_at dksX1_drops_1 18 rfl rfl)
theorem dX1_drops_43 : decode cX1_drops 43 = .ok (.iconst 1, 1) := dk_4 (dk_at dksX1_drops_1 19 rfl rfl)
theorem dX1_drops_44 : decode cX1_drops 44 = .ok (.iaload, 1) := dk_46 (dk_at dksX1_drops_1 20 rfl rfl)
theorem dX1_drops_45 : decode cX1_drops 45 = .ok (.iload_n 2, 1) := dk_28 (dk_at dksX1_drops_1 21 rfl rfl)
theorem dX1_drops_46 : decode cX1_drops 46 = .ok (.if_icmp .ne 7, 3) := dk_160 0 7 (dk_at dksX1_drops_2 0 rfl rfl)
theorem dX1_drops_49 : decode cX1_drops 49 = .ok (.iconst 0, 1) := dk_3 (dk_at dksX1_drops_2 3 rfl rfl)
theorem dX1_drops_50 : decode cX1_drops 50 = .ok (.goto 11, 3) := dk_167 0 11 (dk_at dksX1_drops_2 4 rfl rfl)
theorem dX1_drops_53 : decode cX1_drops 53 = .ok (.aload_n 0, 1) := dk_42 (dk_at dksX1_drops_2 7 rfl rfl)
theorem dX1_drops_54 : decode cX1_drops 54 = .ok (.getfield 18, 3) := dk_180 0 18 (dk_at dksX1_drops_2 8 rfl rfl)
theorem dX1_drops_57 : decode cX1_drops 57 = .ok (.iload_n 3, 1) := dk_29 (dk_at dksX1_drops_2 11 rfl rfl)
theorem dX1_drops_58 : decode cX1_drops 58 = .ok (.aaload, 1) := dk_50 (dk_at dksX1_drops_2 12 rfl rfl)
theorem dX1_drops_59 : decode cX1_drops 59 = .ok (.iconst 2, 1) := dk_5 (dk_at dksX1_drops_2 13 rfl rfl)
theorem dX1_drops_60 : decode cX1_drops 60 = .ok (.iaload, 1) := dk_46 (dk_at dksX1_drops_2 14 rfl rfl)
theorem dX1_drops_61 : decode cX1_drops 61 = .ok (.iastore, 1) := dk_79 (dk_at dksX1_drops_2 15 rfl rfl)
theorem dX1_drops_62 : decode cX1_drops 62 = .ok (.iinc 3 1, 3) := dk_132 3 1 (dk_at dksX1_drops_2 16 rfl rfl)
theorem dX1_drops_65 : decode cX1_drops 65 = .ok (.goto (-43), 3) := dk_167 255 213 (dk_at dksX1_drops_2 19 rfl rfl)
theorem dX1_drops_68 : decode cX1_drops 68 = .ok (.return_, 1) := dk_177 (dk_at dksX1_drops_2 22 rfl rfl)
abbrev cX1_loudness : ByteArray := prog_10_method_15_code
def yX1_loudness : MethodName := ⟨RX1, "loudness", "()I"⟩
def dkwX1_loudness_1 : List UInt8 := [132, 2, 1, 167, 255, 234, 27, 172]
abbrev dktX1_loudness_1 : List UInt8 := dkwX1_loudness_1 ++ []
def dkwX1_loudness_0 : List UInt8 := [3, 60, 3, 61, 28, 42, 180, 0, 34, 162, 0, 20, 27, 42, 180, 0, 21, 28, 50, 3, 46, 96, 60]
abbrev dktX1_loudness_0 : List UInt8 := dkwX1_loudness_0 ++ dktX1_loudness_1
theorem dksX1_loudness_0 : cX1_loudness.data.toList.drop 0 = dktX1_loudness_0 := by decide +kernel
theorem dksX1_loudness_1 : cX1_loudness.data.toList.drop 23 = dktX1_loudness_1 := dk_seg dksX1_loudness_0 23 rfl rfl
theorem dX1_loudness_0 : decode cX1_loudness 0 = .ok (.iconst 0, 1) := dk_3 (dk_at dksX1_loudness_0 0 rfl rfl)
theorem dX1_loudness_1 : decode cX1_loudness 1 = .ok (.istore_n 1, 1) := dk_60 (dk_at dksX1_loudness_0 1 rfl rfl)
theorem dX1_loudness_2 : decode cX1_loudness 2 = .ok (.iconst 0, 1) := dk_3 (dk_at dksX1_loudness_0 2 rfl rfl)
theorem dX1_loudness_3 : decode cX1_loudness 3 = .ok (.istore_n 2, 1) := dk_61 (dk_at dksX1_loudness_0 3 rfl rfl)
theorem dX1_loudness_4 : decode cX1_loudness 4 = .ok (.iload_n 2, 1) := dk_28 (dk_at dksX1_loudness_0 4 rfl rfl)
theorem dX1_loudness_5 : decode cX1_loudness 5 = .ok (.aload_n 0, 1) := dk_42 (dk_at dksX1_loudness_0 5 rfl rfl)
theorem dX1_loudness_6 : decode cX1_loudness 6 = .ok (.getfield 34, 3) := dk_180 0 34 (dk_at dksX1_loudness_0 6 rfl rfl)
theorem dX1_loudness_9 : decode cX1_loudness 9 = .ok (.if_icmp .ge 20, 3) := dk_162 0 20 (dk_at dksX1_loudness_0 9 rfl rfl)
theorem dX1_loudness_12 : decode cX1_loudness 12 = .ok (.iload_n 1, 1) := dk_27 (dk_at dksX1_loudness_0 12 rfl rfl)
theorem dX1_loudness_13 : decode cX1_loudness 13 = .ok (.aload_n 0, 1) := dk_42 (dk_at dksX1_loudness_0 13 rfl rfl)
theorem dX1_loudness_14 : decode cX1_loudness 14 = .ok (.getfield 21, 3) := dk_180 0 21 (dk_at dksX1_loudness_0 14 rfl rfl)
theorem dX1_loudness_17 : decode cX1_loudness 17 = .ok (.iload_n 2, 1) := dk_28 (dk_at dksX1_loudness_0 17 rfl rfl)
theorem dX1_loudness_18 : decode cX1_loudness 18 = .ok (.aaload, 1) := dk_50 (dk_at dksX1_loudness_0 18 rfl rfl)
theorem dX1_loudness_19 : decode cX1_loudness 19 = .ok (.iconst 0, 1) := dk_3 (dk_at dksX1_loudness_0 19 rfl rfl)
theorem dX1_loudness_20 : decode cX1_loudness 20 = .ok (.iaload, 1) := dk_46 (dk_at dksX1_loudness_0 20 rfl rfl)
theorem dX1_loudness_21 : decode cX1_loudness 21 = .ok (.iadd, 1) := dk_96 (dk_at dksX1_loudness_0 21 rfl rfl)
theorem dX1_loudness_22 : decode cX1_loudness 22 = .ok (.istore_n 1, 1) := dk_60 (dk_at dksX1_loudness_0 22 rfl rfl)
theorem dX1_loudness_23 : decode cX1_loudness 23 = .ok (.iinc 2 1, 3) := dk_132 2 1 (dk_at dksX1_loudness_1 0 rfl rfl)
theorem dX1_loudness_26 : decode cX1_loudness 26 = .ok (.goto (-22), 3) := dk_167 255 234 (dk_at dksX1_loudness_1 3 rfl rfl)
theorem dX1_loudness_29 : decode cX1_loudness 29 = .ok (.iload_n 1, 1) := dk_27 (dk_at dksX1_loudness_1 6 rfl rfl)
theorem dX1_loudness_30 : decode cX1_loudness 30 = .ok (.ireturn, 1) := dk_172 (dk_at dksX1_loudness_1 7 rfl rfl)
abbrev cX1_rust : ByteArray := prog_10_method_14_code
def yX1_rust : MethodName := ⟨RX1, "rust", "()I"⟩
def dkwX1_rust_1 : List UInt8 := [167, 255, 236, 27, 172]
abbrev dktX1_rust_1 : List UInt8 := dkwX1_rust_1 ++ []
def dkwX1_rust_0 : List UInt8 := [3, 60, 3, 61, 28, 16, 6, 162, 0, 20, 27, 42, 180, 0, 11, 28, 50, 3, 46, 96, 60, 132, 2, 1]
abbrev dktX1_rust_0 : List UInt8 := dkwX1_rust_0 ++ dktX1_rust_1
theorem dksX1_rust_0 : cX1_rust.data.toList.drop 0 = dktX1_rust_0 := by decide +kernel
theorem dksX1_rust_1 : cX1_rust.data.toList.drop 24 = dktX1_rust_1 := dk_seg dksX1_rust_0 24 rfl rfl
theorem dX1_rust_0 : decode cX1_rust 0 = .ok (.iconst 0, 1) := dk_3 (dk_at dksX1_rust_0 0 rfl rfl)
theorem dX1_rust_1 : decode cX1_rust 1 = .ok (.istore_n 1, 1) := dk_60 (dk_at dksX1_rust_0 1 rfl rfl)
theorem dX1_rust_2 : decode cX1_rust 2 = .ok (.iconst 0, 1) := dk_3 (dk_at dksX1_rust_0 2 rfl rfl)
theorem dX1_rust_3 : decode cX1_rust 3 = .ok (.istore_n 2, 1) := dk_61 (dk_at dksX1_rust_0 3 rfl rfl)
theorem dX1_rust_4 : decode cX1_rust 4 = .ok (.iload_n 2, 1) := dk_28 (dk_at dksX1_rust_0 4 rfl rfl)
theorem dX1_rust_5 : decode cX1_rust 5 = .ok (.bipush 6, 2) := dk_16 6 (dk_at dksX1_rust_0 5 rfl rfl)
theorem dX1_rust_7 : decode cX1_rust 7 = .ok (.if_icmp .ge 20, 3) := dk_162 0 20 (dk_at dksX1_rust_0 7 rfl rfl)
theorem dX1_rust_10 : decode cX1_rust 10 = .ok (.iload_n 1, 1) := dk_27 (dk_at dksX1_rust_0 10 rfl rfl)
theorem dX1_rust_11 : decode cX1_rust 11 = .ok (.aload_n 0, 1) := dk_42 (dk_at dksX1_rust_0 11 rfl rfl)
theorem dX1_rust_12 : decode cX1_rust 12 = .ok (.getfield 11, 3) := dk_180 0 11 (dk_at dksX1_rust_0 12 rfl rfl)
theorem dX1_rust_15 : decode cX1_rust 15 = .ok (.iload_n 2, 1) := dk_28 (dk_at dksX1_rust_0 15 rfl rfl)
theorem dX1_rust_16 : decode cX1_rust 16 = .ok (.aaload, 1) := dk_50 (dk_at dksX1_rust_0 16 rfl rfl)
theorem dX1_rust_17 : decode cX1_rust 17 = .ok (.iconst 0, 1) := dk_3 (dk_at dksX1_rust_0 17 rfl rfl)
theorem dX1_rust_18 : decode cX1_rust 18 = .ok (.iaload, 1) := dk_46 (dk_at dksX1_rust_0 18 rfl rfl)
theorem dX1_rust_19 : decode cX1_rust 19 = .ok (.iadd, 1) := dk_96 (dk_at dksX1_rust_0 19 rfl rfl)
theorem dX1_rust_20 : decode cX1_rust 20 = .ok (.istore_n 1, 1) := dk_60 (dk_at dksX1_rust_0 20 rfl rfl)
theorem dX1_rust_21 : decode cX1_rust 21 = .ok (.iinc 2 1, 3) := dk_132 2 1 (dk_at dksX1_rust_0 21 rfl rfl)
theorem dX1_rust_24 : decode cX1_rust 24 = .ok (.goto (-20), 3) := dk_167 255 236 (dk_at dksX1_rust_1 0 rfl rfl)
theorem dX1_rust_27 : decode cX1_rust 27 = .ok (.iload_n 1, 1) := dk_27 (dk_at dksX1_rust_1 3 rfl rfl)
theorem dX1_rust_28 : decode cX1_rust 28 = .ok (.ireturn, 1) := dk_172 (dk_at dksX1_rust_1 4 rfl rfl)
theorem q69 : (Jvm.Cond.initialized "TrapdoorVotes$Stage") ∈ lw_all := lw_g (lw_at lw_m1 2 rfl) rfl
theorem q119 : (Jvm.Cond.instantiable "TrapdoorVotes$Stage" (7 : Nat)) ∈ lw_all := lw_g (lw_at lw_m1 52 rfl) rfl
theorem q121 : (Jvm.Cond.instanceMethod ({ cls := "TrapdoorVotes$Stage", name := "<init>", desc := "()V" } : Jvm.MethodName)) ∈ lw_all := lw_g (lw_at lw_m1 54 rfl) rfl
theorem q122 : (Jvm.Cond.code ({ cls := "TrapdoorVotes$Stage", name := "<init>", desc := "()V" } : Jvm.MethodName) prog_10_method_1_code (1 : Nat) (Option.none : Option Jvm.ClassFile.FieldType)) ∈ lw_all := lw_g (lw_at lw_m1 55 rfl) rfl
theorem q123 : (Jvm.Cond.methodLink "TrapdoorVotes$Stage" (3 : Nat) ({ cls := "java/lang/Object", name := "<init>", desc := "()V" } : Jvm.MethodName)) ∈ lw_all := lw_g (lw_at lw_m1 56 rfl) rfl
theorem q124 : (Jvm.Cond.classLink "TrapdoorVotes$Stage" (9 : Nat) "[I") ∈ lw_all := lw_g (lw_at lw_m1 57 rfl) rfl
theorem q126 : (Jvm.Cond.classLink "TrapdoorVotes$Stage" (17 : Nat) "[[I") ∈ lw_all := lw_g (lw_at lw_m1 59 rfl) rfl
theorem q127 : (Jvm.Cond.fieldLink "TrapdoorVotes$Stage" (11 : Nat) "TrapdoorVotes$Stage" "squares" "[[I") ∈ lw_all := lw_g (lw_at lw_m1 60 rfl) rfl
theorem q130 : (Jvm.Cond.fieldLink "TrapdoorVotes$Stage" (18 : Nat) "TrapdoorVotes$Stage" "hands" "[[I") ∈ lw_all := lw_g (lw_at lw_m1 63 rfl) rfl
theorem q133 : (Jvm.Cond.fieldLink "TrapdoorVotes$Stage" (21 : Nat) "TrapdoorVotes$Stage" "ministers" "[[I") ∈ lw_all := lw_g (lw_at lw_m1 66 rfl) rfl
theorem q136 : (Jvm.Cond.fieldLink "TrapdoorVotes$Stage" (30 : Nat) "TrapdoorVotes$Stage" "handMany" "I") ∈ lw_all := lw_g (lw_at lw_m1 69 rfl) rfl
theorem q139 : (Jvm.Cond.fieldLink "TrapdoorVotes$Stage" (34 : Nat) "TrapdoorVotes$Stage" "ministerMany" "I") ∈ lw_all := lw_g (lw_at lw_m1 72 rfl) rfl
theorem q142 : (Jvm.Cond.fieldLink "TrapdoorVotes$Stage" (37 : Nat) "TrapdoorVotes$Stage" "turn" "I") ∈ lw_all := lw_g (lw_at lw_m1 75 rfl) rfl
theorem q144 : (Jvm.Cond.fieldLink "TrapdoorVotes$Stage" (40 : Nat) "TrapdoorVotes$Stage" "falls" "I") ∈ lw_all := lw_g (lw_at lw_m1 77 rfl) rfl
theorem q146 : (Jvm.Cond.laysFinal "TrapdoorVotes$Stage" "TrapdoorVotes$Stage" "squares" "[[I") ∈ lw_all := lw_g (lw_at lw_m1 79 rfl) rfl
theorem q147 : (Jvm.Cond.soleField "TrapdoorVotes$Stage" "squares") ∈ lw_all := lw_g (lw_at lw_m1 80 rfl) rfl
theorem q148 : (Jvm.Cond.laysFinal "TrapdoorVotes$Stage" "TrapdoorVotes$Stage" "hands" "[[I") ∈ lw_all := lw_g (lw_at lw_m1 81 rfl) rfl
theorem q149 : (Jvm.Cond.soleField "TrapdoorVotes$Stage" "hands") ∈ lw_all := lw_g (lw_at lw_m1 82 rfl) rfl
theorem q150 : (Jvm.Cond.laysFinal "TrapdoorVotes$Stage" "TrapdoorVotes$Stage" "ministers" "[[I") ∈ lw_all := lw_g (lw_at lw_m1 83 rfl) rfl
theorem q151 : (Jvm.Cond.soleField "TrapdoorVotes$Stage" "ministers") ∈ lw_all := lw_g (lw_at lw_m1 84 rfl) rfl
theorem q152 : (Jvm.Cond.lays "TrapdoorVotes$Stage" "TrapdoorVotes$Stage" "handMany" "I") ∈ lw_all := lw_g (lw_at lw_m1 85 rfl) rfl
theorem q153 : (Jvm.Cond.soleField "TrapdoorVotes$Stage" "handMany") ∈ lw_all := lw_g (lw_at lw_m1 86 rfl) rfl
theorem q154 : (Jvm.Cond.lays "TrapdoorVotes$Stage" "TrapdoorVotes$Stage" "ministerMany" "I") ∈ lw_all := lw_g (lw_at lw_m1 87 rfl) rfl
theorem q155 : (Jvm.Cond.soleField "TrapdoorVotes$Stage" "ministerMany") ∈ lw_all := lw_g (lw_at lw_m1 88 rfl) rfl
theorem q156 : (Jvm.Cond.lays "TrapdoorVotes$Stage" "TrapdoorVotes$Stage" "turn" "I") ∈ lw_all := lw_g (lw_at lw_m1 89 rfl) rfl
theorem q157 : (Jvm.Cond.soleField "TrapdoorVotes$Stage" "turn") ∈ lw_all := lw_g (lw_at lw_m1 90 rfl) rfl
theorem q158 : (Jvm.Cond.lays "TrapdoorVotes$Stage" "TrapdoorVotes$Stage" "falls" "I") ∈ lw_all := lw_g (lw_at lw_m1 91 rfl) rfl
theorem q159 : (Jvm.Cond.soleField "TrapdoorVotes$Stage" "falls") ∈ lw_all := lw_g (lw_at lw_m1 92 rfl) rfl
theorem q160 : (Jvm.Cond.superclass "TrapdoorVotes$Stage" "java/lang/Object") ∈ lw_all := lw_g (lw_at lw_m1 93 rfl) rfl
theorem q386 : (Jvm.Cond.instanceMethod ({ cls := "TrapdoorVotes$Stage", name := "takes", desc := "(LTrapdoorVotes$Stage;)V" } : Jvm.MethodName)) ∈ lw_all := lw_g (lw_at lw_m2 79 rfl) rfl
theorem q387 : (Jvm.Cond.selects "TrapdoorVotes$Stage" ({ cls := "TrapdoorVotes$Stage", name := "takes", desc := "(LTrapdoorVotes$Stage;)V" } : Jvm.MethodName) ({ cls := "TrapdoorVotes$Stage", name := "takes", desc := "(LTrapdoorVotes$Stage;)V" } : Jvm.MethodName)) ∈ lw_all := lw_g (lw_at lw_m2 80 rfl) rfl
theorem q388 : (Jvm.Cond.code ({ cls := "TrapdoorVotes$Stage", name := "takes", desc := "(LTrapdoorVotes$Stage;)V" } : Jvm.MethodName) prog_10_method_2_code (3 : Nat) (Option.none : Option Jvm.ClassFile.FieldType)) ∈ lw_all := lw_g (lw_at lw_m2 81 rfl) rfl
theorem q389 : (Jvm.Cond.methodLink "TrapdoorVotes$Stage" (24 : Nat) ({ cls := "java/lang/System", name := "arraycopy", desc := "(Ljava/lang/Object;ILjava/lang/Object;II)V" } : Jvm.MethodName)) ∈ lw_all := lw_g (lw_at lw_m2 82 rfl) rfl
theorem q399 : (Jvm.Cond.instanceMethod ({ cls := "TrapdoorVotes$Stage", name := "standing", desc := "()I" } : Jvm.MethodName)) ∈ lw_all := lw_g (lw_at lw_m2 92 rfl) rfl
theorem q400 : (Jvm.Cond.selects "TrapdoorVotes$Stage" ({ cls := "TrapdoorVotes$Stage", name := "standing", desc := "()I" } : Jvm.MethodName) ({ cls := "TrapdoorVotes$Stage", name := "standing", desc := "()I" } : Jvm.MethodName)) ∈ lw_all := lw_g (lw_at lw_m2 93 rfl) rfl
theorem q401 : (Jvm.Cond.code ({ cls := "TrapdoorVotes$Stage", name := "standing", desc := "()I" } : Jvm.MethodName) prog_10_method_4_code (3 : Nat) (Option.some Jvm.ClassFile.FieldType.int)) ∈ lw_all := lw_g (lw_at lw_m2 94 rfl) rfl
theorem q402 : (Jvm.Cond.methodLink "TrapdoorVotes$Stage" (43 : Nat) ({ cls := "TrapdoorVotes$Stage", name := "isDown", desc := "(I)Z" } : Jvm.MethodName)) ∈ lw_all := lw_g (lw_at lw_m2 95 rfl) rfl
theorem q403 : (Jvm.Cond.instanceMethod ({ cls := "TrapdoorVotes$Stage", name := "isDown", desc := "(I)Z" } : Jvm.MethodName)) ∈ lw_all := lw_g (lw_at lw_m2 96 rfl) rfl
theorem q404 : (Jvm.Cond.selects "TrapdoorVotes$Stage" ({ cls := "TrapdoorVotes$Stage", name := "isDown", desc := "(I)Z" } : Jvm.MethodName) ({ cls := "TrapdoorVotes$Stage", name := "isDown", desc := "(I)Z" } : Jvm.MethodName)) ∈ lw_all := lw_g (lw_at lw_m2 97 rfl) rfl
theorem q405 : (Jvm.Cond.code ({ cls := "TrapdoorVotes$Stage", name := "isDown", desc := "(I)Z" } : Jvm.MethodName) prog_10_method_3_code (2 : Nat) (Option.some Jvm.ClassFile.FieldType.boolean)) ∈ lw_all := lw_g (lw_at lw_m2 98 rfl) rfl
theorem q407 : (Jvm.Cond.instanceMethod ({ cls := "TrapdoorVotes$Stage", name := "drawn", desc := "()I" } : Jvm.MethodName)) ∈ lw_all := lw_g (lw_at lw_m2 100 rfl) rfl
theorem q408 : (Jvm.Cond.selects "TrapdoorVotes$Stage" ({ cls := "TrapdoorVotes$Stage", name := "drawn", desc := "()I" } : Jvm.MethodName) ({ cls := "TrapdoorVotes$Stage", name := "drawn", desc := "()I" } : Jvm.MethodName)) ∈ lw_all := lw_g (lw_at lw_m2 101 rfl) rfl
theorem q409 : (Jvm.Cond.code ({ cls := "TrapdoorVotes$Stage", name := "drawn", desc := "()I" } : Jvm.MethodName) prog_10_method_8_code (3 : Nat) (Option.some Jvm.ClassFile.FieldType.int)) ∈ lw_all := lw_g (lw_at lw_m2 102 rfl) rfl
theorem q410 : (Jvm.Cond.methodLink "TrapdoorVotes$Stage" (53 : Nat) ({ cls := "TrapdoorVotes$Stage", name := "wants", desc := "(I)I" } : Jvm.MethodName)) ∈ lw_all := lw_g (lw_at lw_m2 103 rfl) rfl
theorem q411 : (Jvm.Cond.instanceMethod ({ cls := "TrapdoorVotes$Stage", name := "wants", desc := "(I)I" } : Jvm.MethodName)) ∈ lw_all := lw_g (lw_at lw_m2 104 rfl) rfl
theorem q412 : (Jvm.Cond.selects "TrapdoorVotes$Stage" ({ cls := "TrapdoorVotes$Stage", name := "wants", desc := "(I)I" } : Jvm.MethodName) ({ cls := "TrapdoorVotes$Stage", name := "wants", desc := "(I)I" } : Jvm.MethodName)) ∈ lw_all := lw_g (lw_at lw_m2 105 rfl) rfl
theorem q413 : (Jvm.Cond.code ({ cls := "TrapdoorVotes$Stage", name := "wants", desc := "(I)I" } : Jvm.MethodName) prog_10_method_7_code (2 : Nat) (Option.some Jvm.ClassFile.FieldType.int)) ∈ lw_all := lw_g (lw_at lw_m2 106 rfl) rfl
theorem q414 : (Jvm.Cond.methodLink "TrapdoorVotes$Stage" (47 : Nat) ({ cls := "java/lang/Math", name := "max", desc := "(II)I" } : Jvm.MethodName)) ∈ lw_all := lw_g (lw_at lw_m2 107 rfl) rfl
theorem q418 : (Jvm.Cond.instanceMethod ({ cls := "TrapdoorVotes$Stage", name := "temper", desc := "()I" } : Jvm.MethodName)) ∈ lw_all := lw_g (lw_at lw_m2 111 rfl) rfl
theorem q419 : (Jvm.Cond.selects "TrapdoorVotes$Stage" ({ cls := "TrapdoorVotes$Stage", name := "temper", desc := "()I" } : Jvm.MethodName) ({ cls := "TrapdoorVotes$Stage", name := "temper", desc := "()I" } : Jvm.MethodName)) ∈ lw_all := lw_g (lw_at lw_m2 112 rfl) rfl
theorem q420 : (Jvm.Cond.code ({ cls := "TrapdoorVotes$Stage", name := "temper", desc := "()I" } : Jvm.MethodName) prog_10_method_13_code (3 : Nat) (Option.some Jvm.ClassFile.FieldType.int)) ∈ lw_all := lw_g (lw_at lw_m2 113 rfl) rfl
theorem q428 : (Jvm.Cond.instanceMethod ({ cls := "TrapdoorVotes$Stage", name := "handsAt", desc := "(I)I" } : Jvm.MethodName)) ∈ lw_all := lw_g (lw_at lw_m2 121 rfl) rfl
theorem q429 : (Jvm.Cond.selects "TrapdoorVotes$Stage" ({ cls := "TrapdoorVotes$Stage", name := "handsAt", desc := "(I)I" } : Jvm.MethodName) ({ cls := "TrapdoorVotes$Stage", name := "handsAt", desc := "(I)I" } : Jvm.MethodName)) ∈ lw_all := lw_g (lw_at lw_m2 122 rfl) rfl
theorem q430 : (Jvm.Cond.code ({ cls := "TrapdoorVotes$Stage", name := "handsAt", desc := "(I)I" } : Jvm.MethodName) prog_10_method_5_code (4 : Nat) (Option.some Jvm.ClassFile.FieldType.int)) ∈ lw_all := lw_g (lw_at lw_m2 123 rfl) rfl
theorem q432 : (Jvm.Cond.instanceMethod ({ cls := "TrapdoorVotes$Stage", name := "ministersAt", desc := "(I)I" } : Jvm.MethodName)) ∈ lw_all := lw_g (lw_at lw_m2 125 rfl) rfl
theorem q433 : (Jvm.Cond.selects "TrapdoorVotes$Stage" ({ cls := "TrapdoorVotes$Stage", name := "ministersAt", desc := "(I)I" } : Jvm.MethodName) ({ cls := "TrapdoorVotes$Stage", name := "ministersAt", desc := "(I)I" } : Jvm.MethodName)) ∈ lw_all := lw_g (lw_at lw_m2 126 rfl) rfl
theorem q434 : (Jvm.Cond.code ({ cls := "TrapdoorVotes$Stage", name := "ministersAt", desc := "(I)I" } : Jvm.MethodName) prog_10_method_6_code (4 : Nat) (Option.some Jvm.ClassFile.FieldType.int)) ∈ lw_all := lw_g (lw_at lw_m2 127 rfl) rfl
theorem q456 : (Jvm.Cond.instanceMethod ({ cls := "TrapdoorVotes$Stage", name := "angered", desc := "(II)I" } : Jvm.MethodName)) ∈ lw_all := lw_g (lw_at lw_m2 149 rfl) rfl
theorem q457 : (Jvm.Cond.selects "TrapdoorVotes$Stage" ({ cls := "TrapdoorVotes$Stage", name := "angered", desc := "(II)I" } : Jvm.MethodName) ({ cls := "TrapdoorVotes$Stage", name := "angered", desc := "(II)I" } : Jvm.MethodName)) ∈ lw_all := lw_g (lw_at lw_m2 150 rfl) rfl
theorem q458 : (Jvm.Cond.code ({ cls := "TrapdoorVotes$Stage", name := "angered", desc := "(II)I" } : Jvm.MethodName) prog_10_method_9_code (3 : Nat) (Option.some Jvm.ClassFile.FieldType.int)) ∈ lw_all := lw_g (lw_at lw_m2 151 rfl) rfl
theorem q459 : (Jvm.Cond.fieldLinkNest "TrapdoorVotes$Stage" (57 : Nat) "TrapdoorVotes" "KINDS" "[LTrapdoorVotes$Plain;" "TrapdoorVotes") ∈ lw_tbl := lw_at lw_m2 152 rfl
theorem q461 : (Jvm.Cond.methodLink "TrapdoorVotes$Stage" (61 : Nat) ({ cls := "TrapdoorVotes$Plain", name := "angered", desc := "(I)I" } : Jvm.MethodName)) ∈ lw_all := lw_g (lw_at lw_m2 154 rfl) rfl
theorem q513 : (Jvm.Cond.instanceMethod ({ cls := "TrapdoorVotes$Stage", name := "turnGoes", desc := "(Z)V" } : Jvm.MethodName)) ∈ lw_all := lw_g (lw_at lw_m2 206 rfl) rfl
theorem q514 : (Jvm.Cond.selects "TrapdoorVotes$Stage" ({ cls := "TrapdoorVotes$Stage", name := "turnGoes", desc := "(Z)V" } : Jvm.MethodName) ({ cls := "TrapdoorVotes$Stage", name := "turnGoes", desc := "(Z)V" } : Jvm.MethodName)) ∈ lw_all := lw_g (lw_at lw_m2 207 rfl) rfl
theorem q515 : (Jvm.Cond.code ({ cls := "TrapdoorVotes$Stage", name := "turnGoes", desc := "(Z)V" } : Jvm.MethodName) prog_10_method_12_code (4 : Nat) (Option.none : Option Jvm.ClassFile.FieldType)) ∈ lw_all := lw_g (lw_at lw_m2 208 rfl) rfl
theorem q516 : (Jvm.Cond.methodLink "TrapdoorVotes$Stage" (75 : Nat) ({ cls := "TrapdoorVotes$Stage", name := "treads", desc := "(I)V" } : Jvm.MethodName)) ∈ lw_all := lw_g (lw_at lw_m2 209 rfl) rfl
theorem q517 : (Jvm.Cond.privateMethod ({ cls := "TrapdoorVotes$Stage", name := "treads", desc := "(I)V" } : Jvm.MethodName)) ∈ lw_tbl := lw_at lw_m2 210 rfl
theorem q518 : (Jvm.Cond.instanceMethod ({ cls := "TrapdoorVotes$Stage", name := "treads", desc := "(I)V" } : Jvm.MethodName)) ∈ lw_all := lw_g (lw_at lw_m2 211 rfl) rfl
theorem q519 : (Jvm.Cond.code ({ cls := "TrapdoorVotes$Stage", name := "treads", desc := "(I)V" } : Jvm.MethodName) prog_10_method_10_code (5 : Nat) (Option.none : Option Jvm.ClassFile.FieldType)) ∈ lw_all := lw_g (lw_at lw_m2 212 rfl) rfl
theorem q520 : (Jvm.Cond.methodLink "TrapdoorVotes$Stage" (66 : Nat) ({ cls := "TrapdoorVotes$Stage", name := "angered", desc := "(II)I" } : Jvm.MethodName)) ∈ lw_all := lw_g (lw_at lw_m2 213 rfl) rfl
theorem q521 : (Jvm.Cond.methodLink "TrapdoorVotes$Stage" (68 : Nat) ({ cls := "java/lang/Math", name := "min", desc := "(II)I" } : Jvm.MethodName)) ∈ lw_all := lw_g (lw_at lw_m2 214 rfl) rfl
theorem q524 : (Jvm.Cond.methodLink "TrapdoorVotes$Stage" (71 : Nat) ({ cls := "TrapdoorVotes$Stage", name := "drops", desc := "(II)V" } : Jvm.MethodName)) ∈ lw_all := lw_g (lw_at lw_m2 217 rfl) rfl
theorem q525 : (Jvm.Cond.privateMethod ({ cls := "TrapdoorVotes$Stage", name := "drops", desc := "(II)V" } : Jvm.MethodName)) ∈ lw_tbl := lw_at lw_m2 218 rfl
theorem q526 : (Jvm.Cond.instanceMethod ({ cls := "TrapdoorVotes$Stage", name := "drops", desc := "(II)V" } : Jvm.MethodName)) ∈ lw_all := lw_g (lw_at lw_m2 219 rfl) rfl
theorem q527 : (Jvm.Cond.code ({ cls := "TrapdoorVotes$Stage", name := "drops", desc := "(II)V" } : Jvm.MethodName) prog_10_method_11_code (4 : Nat) (Option.none : Option Jvm.ClassFile.FieldType)) ∈ lw_all := lw_g (lw_at lw_m2 220 rfl) rfl
theorem q528 : (Jvm.Cond.methodLinkNest "TrapdoorVotes$Stage" (79 : Nat) ({ cls := "TrapdoorVotes", name := "has", desc := "(II)Z" } : Jvm.MethodName) "TrapdoorVotes") ∈ lw_tbl := lw_at lw_m2 221 rfl
theorem q895 : (Jvm.Cond.instanceMethod ({ cls := "TrapdoorVotes$Stage", name := "loudness", desc := "()I" } : Jvm.MethodName)) ∈ lw_all := lw_g (lw_at lw_m4 108 rfl) rfl
theorem q896 : (Jvm.Cond.selects "TrapdoorVotes$Stage" ({ cls := "TrapdoorVotes$Stage", name := "loudness", desc := "()I" } : Jvm.MethodName) ({ cls := "TrapdoorVotes$Stage", name := "loudness", desc := "()I" } : Jvm.MethodName)) ∈ lw_all := lw_g (lw_at lw_m4 109 rfl) rfl
theorem q897 : (Jvm.Cond.code ({ cls := "TrapdoorVotes$Stage", name := "loudness", desc := "()I" } : Jvm.MethodName) prog_10_method_15_code (3 : Nat) (Option.some Jvm.ClassFile.FieldType.int)) ∈ lw_all := lw_g (lw_at lw_m4 110 rfl) rfl
theorem q899 : (Jvm.Cond.instanceMethod ({ cls := "TrapdoorVotes$Stage", name := "rust", desc := "()I" } : Jvm.MethodName)) ∈ lw_all := lw_g (lw_at lw_m4 112 rfl) rfl
theorem q900 : (Jvm.Cond.selects "TrapdoorVotes$Stage" ({ cls := "TrapdoorVotes$Stage", name := "rust", desc := "()I" } : Jvm.MethodName) ({ cls := "TrapdoorVotes$Stage", name := "rust", desc := "()I" } : Jvm.MethodName)) ∈ lw_all := lw_g (lw_at lw_m4 113 rfl) rfl
theorem q901 : (Jvm.Cond.code ({ cls := "TrapdoorVotes$Stage", name := "rust", desc := "()I" } : Jvm.MethodName) prog_10_method_14_code (3 : Nat) (Option.some Jvm.ClassFile.FieldType.int)) ∈ lw_all := lw_g (lw_at lw_m4 114 rfl) rfl
theorem in_X1 : ∀ w ∈ wsX10, w ∈ lw_all := lw_in wsX10 [146, 148, 150, 152, 154, 156, 158] (by decide +kernel) (by decide +kernel)
/-! TrapdoorVotes$Sly -/
set_option maxRecDepth 100000
def RX10 : String := "TrapdoorVotes$Sly"
abbrev cX10_angered : ByteArray := prog_9_method_2_code
def yX10_angered : MethodName := ⟨RX10, "angered", "(I)I"⟩
def dkwX10_angered_0 : List UInt8 := [5, 42, 27, 183, 0, 7, 104, 172]
abbrev dktX10_angered_0 : List UInt8 := dkwX10_angered_0 ++ []
theorem dksX10_angered_0 : cX10_angered.data.toList.drop 0 = dktX10_angered_0 := by decide +kernel
theorem dX10_angered_0 : decode cX10_angered 0 = .ok (.iconst 2, 1) := dk_5 (dk_at dksX10_angered_0 0 rfl rfl)
theorem dX10_angered_1 : decode cX10_angered 1 = .ok (.aload_n 0, 1) := dk_42 (dk_at dksX10_angered_0 1 rfl rfl)
theorem dX10_angered_2 : decode cX10_angered 2 = .ok (.iload_n 1, 1) := dk_27 (dk_at dksX10_angered_0 2 rfl rfl)
theorem dX10_angered_3 : decode cX10_angered 3 = .ok (.invokespecial 7, 3) := dk_183 0 7 (dk_at dksX10_angered_0 3 rfl rfl)
theorem dX10_angered_6 : decode cX10_angered 6 = .ok (.imul, 1) := dk_104 (dk_at dksX10_angered_0 6 rfl rfl)
theorem dX10_angered_7 : decode cX10_angered 7 = .ok (.ireturn, 1) := dk_172 (dk_at dksX10_angered_0 7 rfl rfl)
theorem q475 : (Jvm.Cond.selects "TrapdoorVotes$Sly" ({ cls := "TrapdoorVotes$Plain", name := "angered", desc := "(I)I" } : Jvm.MethodName) ({ cls := "TrapdoorVotes$Sly", name := "angered", desc := "(I)I" } : Jvm.MethodName)) ∈ lw_all := lw_g (lw_at lw_m2 168 rfl) rfl
theorem q476 : (Jvm.Cond.instanceMethod ({ cls := "TrapdoorVotes$Sly", name := "angered", desc := "(I)I" } : Jvm.MethodName)) ∈ lw_all := lw_g (lw_at lw_m2 169 rfl) rfl
theorem q477 : (Jvm.Cond.code ({ cls := "TrapdoorVotes$Sly", name := "angered", desc := "(I)I" } : Jvm.MethodName) prog_9_method_2_code (2 : Nat) (Option.some Jvm.ClassFile.FieldType.int)) ∈ lw_all := lw_g (lw_at lw_m2 170 rfl) rfl
theorem q478 : (Jvm.Cond.methodLink "TrapdoorVotes$Sly" (7 : Nat) ({ cls := "TrapdoorVotes$Plain", name := "angered", desc := "(I)I" } : Jvm.MethodName)) ∈ lw_all := lw_g (lw_at lw_m2 171 rfl) rfl
theorem q479 : (Jvm.Cond.superclass "TrapdoorVotes$Sly" "TrapdoorVotes$Plain") ∈ lw_all := lw_g (lw_at lw_m2 172 rfl) rfl
/-! TrapdoorVotes$Image -/
set_option maxRecDepth 100000
def RX2 : String := "TrapdoorVotes$Image"
def TX2 : u_T := fun k => match k with
  | 0 => ("TrapdoorVotes$Image", "stage", "LTrapdoorVotes$Stage;", true)
  | 1 => ("TrapdoorVotes$Image", "seen", "[[I", true)
  | 2 => ("TrapdoorVotes$Image", "seenMany", "I", false)
  | 3 => ("TrapdoorVotes$Image", "isKept", "Z", false)
  | _ => ("TrapdoorVotes$Image", "this$0", "LTrapdoorVotes;", true)
def tyX2 : Nat → FieldType := fun k => match k with
  | 0 => .object "TrapdoorVotes$Stage"
  | 1 => .array (.array .int)
  | 2 => .int
  | 3 => .boolean
  | _ => .object "TrapdoorVotes"
abbrev wsX20 : List Cond := u_ws RX2 TX2 5
theorem nmX2 : ∀ a, a < 5 → ∀ b, b < 5 → a ≠ b → (TX2 a).2.1 ≠ (TX2 b).2.1 := by decide +kernel
theorem tyX2_ok : ∀ k, k < 5 → parseFieldDescriptor (TX2 k).2.2.1 = some (tyX2 k) := by decide +kernel
abbrev cX2_takes : ByteArray := prog_3_method_2_code
def yX2_takes : MethodName := ⟨RX2, "takes", "()V"⟩
def dkwX2_takes_1 : List UInt8 := [180, 0, 24, 184, 0, 35, 42, 42, 180, 0, 3, 180, 0, 39, 181, 0, 43, 177]
abbrev dktX2_takes_1 : List UInt8 := dkwX2_takes_1 ++ []
def dkwX2_takes_0 : List UInt8 := [42, 180, 0, 18, 42, 180, 0, 3, 180, 0, 27, 182, 0, 30, 42, 180, 0, 3, 180, 0, 34, 42]
abbrev dktX2_takes_0 : List UInt8 := dkwX2_takes_0 ++ dktX2_takes_1
theorem dksX2_takes_0 : cX2_takes.data.toList.drop 0 = dktX2_takes_0 := by decide +kernel
theorem dksX2_takes_1 : cX2_takes.data.toList.drop 22 = dktX2_takes_1 := dk_seg dksX2_takes_0 22 rfl rfl
theorem dX2_takes_0 : decode cX2_takes 0 = .ok (.aload_n 0, 1) := dk_42 (dk_at dksX2_takes_0 0 rfl rfl)
theorem dX2_takes_1 : decode cX2_takes 1 = .ok (.getfield 18, 3) := dk_180 0 18 (dk_at dksX2_takes_0 1 rfl rfl)
theorem dX2_takes_4 : decode cX2_takes 4 = .ok (.aload_n 0, 1) := dk_42 (dk_at dksX2_takes_0 4 rfl rfl)
theorem dX2_takes_5 : decode cX2_takes 5 = .ok (.getfield 3, 3) := dk_180 0 3 (dk_at dksX2_takes_0 5 rfl rfl)
theorem dX2_takes_8 : decode cX2_takes 8 = .ok (.getfield 27, 3) := dk_180 0 27 (dk_at dksX2_takes_0 8 rfl rfl)
theorem dX2_takes_11 : decode cX2_takes 11 = .ok (.invokevirtual 30, 3) := dk_182 0 30 (dk_at dksX2_takes_0 11 rfl rfl)
theorem dX2_takes_14 : decode cX2_takes 14 = .ok (.aload_n 0, 1) := dk_42 (dk_at dksX2_takes_0 14 rfl rfl)
theorem dX2_takes_15 : decode cX2_takes 15 = .ok (.getfield 3, 3) := dk_180 0 3 (dk_at dksX2_takes_0 15 rfl rfl)
theorem dX2_takes_18 : decode cX2_takes 18 = .ok (.getfield 34, 3) := dk_180 0 34 (dk_at dksX2_takes_0 18 rfl rfl)
theorem dX2_takes_21 : decode cX2_takes 21 = .ok (.aload_n 0, 1) := dk_42 (dk_at dksX2_takes_0 21 rfl rfl)
theorem dX2_takes_22 : decode cX2_takes 22 = .ok (.getfield 24, 3) := dk_180 0 24 (dk_at dksX2_takes_1 0 rfl rfl)
theorem dX2_takes_25 : decode cX2_takes 25 = .ok (.invokestatic 35, 3) := dk_184 0 35 (dk_at dksX2_takes_1 3 rfl rfl)
theorem dX2_takes_28 : decode cX2_takes 28 = .ok (.aload_n 0, 1) := dk_42 (dk_at dksX2_takes_1 6 rfl rfl)
theorem dX2_takes_29 : decode cX2_takes 29 = .ok (.aload_n 0, 1) := dk_42 (dk_at dksX2_takes_1 7 rfl rfl)
theorem dX2_takes_30 : decode cX2_takes 30 = .ok (.getfield 3, 3) := dk_180 0 3 (dk_at dksX2_takes_1 8 rfl rfl)
theorem dX2_takes_33 : decode cX2_takes 33 = .ok (.getfield 39, 3) := dk_180 0 39 (dk_at dksX2_takes_1 11 rfl rfl)
theorem dX2_takes_36 : decode cX2_takes 36 = .ok (.putfield 43, 3) := dk_181 0 43 (dk_at dksX2_takes_1 14 rfl rfl)
theorem dX2_takes_39 : decode cX2_takes 39 = .ok (.return_, 1) := dk_177 (dk_at dksX2_takes_1 17 rfl rfl)
abbrev cX2_gives : ByteArray := prog_3_method_3_code
def yX2_gives : MethodName := ⟨RX2, "gives", "()V"⟩
def dkwX2_gives_1 : List UInt8 := [180, 0, 34, 184, 0, 35, 42, 180, 0, 3, 42, 180, 0, 43, 181, 0, 39, 177]
abbrev dktX2_gives_1 : List UInt8 := dkwX2_gives_1 ++ []
def dkwX2_gives_0 : List UInt8 := [42, 180, 0, 3, 180, 0, 27, 42, 180, 0, 18, 182, 0, 30, 42, 180, 0, 24, 42, 180, 0, 3]
abbrev dktX2_gives_0 : List UInt8 := dkwX2_gives_0 ++ dktX2_gives_1
theorem dksX2_gives_0 : cX2_gives.data.toList.drop 0 = dktX2_gives_0 := by decide +kernel
theorem dksX2_gives_1 : cX2_gives.data.toList.drop 22 = dktX2_gives_1 := dk_seg dksX2_gives_0 22 rfl rfl
theorem dX2_gives_0 : decode cX2_gives 0 = .ok (.aload_n 0, 1) := dk_42 (dk_at dksX2_gives_0 0 rfl rfl)
theorem dX2_gives_1 : decode cX2_gives 1 = .ok (.getfield 3, 3) := dk_180 0 3 (dk_at dksX2_gives_0 1 rfl rfl)
theorem dX2_gives_4 : decode cX2_gives 4 = .ok (.getfield 27, 3) := dk_180 0 27 (dk_at dksX2_gives_0 4 rfl rfl)
theorem dX2_gives_7 : decode cX2_gives 7 = .ok (.aload_n 0, 1) := dk_42 (dk_at dksX2_gives_0 7 rfl rfl)
theorem dX2_gives_8 : decode cX2_gives 8 = .ok (.getfield 18, 3) := dk_180 0 18 (dk_at dksX2_gives_0 8 rfl rfl)
theorem dX2_gives_11 : decode cX2_gives 11 = .ok (.invokevirtual 30, 3) := dk_182 0 30 (dk_at dksX2_gives_0 11 rfl rfl)
theorem dX2_gives_14 : decode cX2_gives 14 = .ok (.aload_n 0, 1) := dk_42 (dk_at dksX2_gives_0 14 rfl rfl)
theorem dX2_gives_15 : decode cX2_gives 15 = .ok (.getfield 24, 3) := dk_180 0 24 (dk_at dksX2_gives_0 15 rfl rfl)
theorem dX2_gives_18 : decode cX2_gives 18 = .ok (.aload_n 0, 1) := dk_42 (dk_at dksX2_gives_0 18 rfl rfl)
theorem dX2_gives_19 : decode cX2_gives 19 = .ok (.getfield 3, 3) := dk_180 0 3 (dk_at dksX2_gives_0 19 rfl rfl)
theorem dX2_gives_22 : decode cX2_gives 22 = .ok (.getfield 34, 3) := dk_180 0 34 (dk_at dksX2_gives_1 0 rfl rfl)
theorem dX2_gives_25 : decode cX2_gives 25 = .ok (.invokestatic 35, 3) := dk_184 0 35 (dk_at dksX2_gives_1 3 rfl rfl)
theorem dX2_gives_28 : decode cX2_gives 28 = .ok (.aload_n 0, 1) := dk_42 (dk_at dksX2_gives_1 6 rfl rfl)
theorem dX2_gives_29 : decode cX2_gives 29 = .ok (.getfield 3, 3) := dk_180 0 3 (dk_at dksX2_gives_1 7 rfl rfl)
theorem dX2_gives_32 : decode cX2_gives 32 = .ok (.aload_n 0, 1) := dk_42 (dk_at dksX2_gives_1 10 rfl rfl)
theorem dX2_gives_33 : decode cX2_gives 33 = .ok (.getfield 43, 3) := dk_180 0 43 (dk_at dksX2_gives_1 11 rfl rfl)
theorem dX2_gives_36 : decode cX2_gives 36 = .ok (.putfield 39, 3) := dk_181 0 39 (dk_at dksX2_gives_1 14 rfl rfl)
theorem dX2_gives_39 : decode cX2_gives 39 = .ok (.return_, 1) := dk_177 (dk_at dksX2_gives_1 17 rfl rfl)
abbrev cX2_init : ByteArray := prog_3_method_1_code
def yX2_init : MethodName := ⟨RX2, "<init>", "(LTrapdoorVotes;)V"⟩
def dkwX2_init_1 : List UInt8 := [197, 0, 22, 2, 181, 0, 24, 177]
abbrev dktX2_init_1 : List UInt8 := dkwX2_init_1 ++ []
def dkwX2_init_0 : List UInt8 := [42, 43, 181, 0, 3, 42, 183, 0, 9, 42, 187, 0, 15, 89, 183, 0, 17, 181, 0, 18, 42, 16, 6, 6]
abbrev dktX2_init_0 : List UInt8 := dkwX2_init_0 ++ dktX2_init_1
theorem dksX2_init_0 : cX2_init.data.toList.drop 0 = dktX2_init_0 := by decide +kernel
theorem dksX2_init_1 : cX2_init.data.toList.drop 24 = dktX2_init_1 := dk_seg dksX2_init_0 24 rfl rfl
theorem dX2_init_0 : decode cX2_init 0 = .ok (.aload_n 0, 1) := dk_42 (dk_at dksX2_init_0 0 rfl rfl)
theorem dX2_init_1 : decode cX2_init 1 = .ok (.aload_n 1, 1) := dk_43 (dk_at dksX2_init_0 1 rfl rfl)
theorem dX2_init_2 : decode cX2_init 2 = .ok (.putfield 3, 3) := dk_181 0 3 (dk_at dksX2_init_0 2 rfl rfl)
theorem dX2_init_5 : decode cX2_init 5 = .ok (.aload_n 0, 1) := dk_42 (dk_at dksX2_init_0 5 rfl rfl)
theorem dX2_init_6 : decode cX2_init 6 = .ok (.invokespecial 9, 3) := dk_183 0 9 (dk_at dksX2_init_0 6 rfl rfl)
theorem dX2_init_9 : decode cX2_init 9 = .ok (.aload_n 0, 1) := dk_42 (dk_at dksX2_init_0 9 rfl rfl)
theorem dX2_init_10 : decode cX2_init 10 = .ok (.new 15, 3) := dk_187 0 15 (dk_at dksX2_init_0 10 rfl rfl)
theorem dX2_init_13 : decode cX2_init 13 = .ok (.dup, 1) := dk_89 (dk_at dksX2_init_0 13 rfl rfl)
theorem dX2_init_14 : decode cX2_init 14 = .ok (.invokespecial 17, 3) := dk_183 0 17 (dk_at dksX2_init_0 14 rfl rfl)
theorem dX2_init_17 : decode cX2_init 17 = .ok (.putfield 18, 3) := dk_181 0 18 (dk_at dksX2_init_0 17 rfl rfl)
theorem dX2_init_20 : decode cX2_init 20 = .ok (.aload_n 0, 1) := dk_42 (dk_at dksX2_init_0 20 rfl rfl)
theorem dX2_init_21 : decode cX2_init 21 = .ok (.bipush 6, 2) := dk_16 6 (dk_at dksX2_init_0 21 rfl rfl)
theorem dX2_init_23 : decode cX2_init 23 = .ok (.iconst 3, 1) := dk_6 (dk_at dksX2_init_0 23 rfl rfl)
theorem dX2_init_24 : decode cX2_init 24 = .ok (.multianewarray 22 2, 4) := by decide +kernel
theorem dX2_init_28 : decode cX2_init 28 = .ok (.putfield 24, 3) := dk_181 0 24 (dk_at dksX2_init_1 4 rfl rfl)
theorem dX2_init_31 : decode cX2_init 31 = .ok (.return_, 1) := dk_177 (dk_at dksX2_init_1 7 rfl rfl)
theorem q70 : (Jvm.Cond.initialized "TrapdoorVotes$Image") ∈ lw_all := lw_g (lw_at lw_m1 3 rfl) rfl
theorem q655 : (Jvm.Cond.instanceMethod ({ cls := "TrapdoorVotes$Image", name := "takes", desc := "()V" } : Jvm.MethodName)) ∈ lw_all := lw_g (lw_at lw_m3 108 rfl) rfl
theorem q656 : (Jvm.Cond.selects "TrapdoorVotes$Image" ({ cls := "TrapdoorVotes$Image", name := "takes", desc := "()V" } : Jvm.MethodName) ({ cls := "TrapdoorVotes$Image", name := "takes", desc := "()V" } : Jvm.MethodName)) ∈ lw_all := lw_g (lw_at lw_m3 109 rfl) rfl
theorem q657 : (Jvm.Cond.code ({ cls := "TrapdoorVotes$Image", name := "takes", desc := "()V" } : Jvm.MethodName) prog_3_method_2_code (1 : Nat) (Option.none : Option Jvm.ClassFile.FieldType)) ∈ lw_all := lw_g (lw_at lw_m3 110 rfl) rfl
theorem q658 : (Jvm.Cond.methodLink "TrapdoorVotes$Image" (30 : Nat) ({ cls := "TrapdoorVotes$Stage", name := "takes", desc := "(LTrapdoorVotes$Stage;)V" } : Jvm.MethodName)) ∈ lw_all := lw_g (lw_at lw_m3 111 rfl) rfl
theorem q659 : (Jvm.Cond.methodLinkNest "TrapdoorVotes$Image" (35 : Nat) ({ cls := "TrapdoorVotes", name := "copies", desc := "([[I[[I)V" } : Jvm.MethodName) "TrapdoorVotes") ∈ lw_tbl := lw_at lw_m3 112 rfl
theorem q667 : (Jvm.Cond.instanceMethod ({ cls := "TrapdoorVotes$Image", name := "gives", desc := "()V" } : Jvm.MethodName)) ∈ lw_all := lw_g (lw_at lw_m3 120 rfl) rfl
theorem q668 : (Jvm.Cond.selects "TrapdoorVotes$Image" ({ cls := "TrapdoorVotes$Image", name := "gives", desc := "()V" } : Jvm.MethodName) ({ cls := "TrapdoorVotes$Image", name := "gives", desc := "()V" } : Jvm.MethodName)) ∈ lw_all := lw_g (lw_at lw_m3 121 rfl) rfl
theorem q669 : (Jvm.Cond.code ({ cls := "TrapdoorVotes$Image", name := "gives", desc := "()V" } : Jvm.MethodName) prog_3_method_3_code (1 : Nat) (Option.none : Option Jvm.ClassFile.FieldType)) ∈ lw_all := lw_g (lw_at lw_m3 122 rfl) rfl
theorem q680 : (Jvm.Cond.instantiable "TrapdoorVotes$Image" (5 : Nat)) ∈ lw_all := lw_g (lw_at lw_m3 133 rfl) rfl
theorem q682 : (Jvm.Cond.instanceMethod ({ cls := "TrapdoorVotes$Image", name := "<init>", desc := "(LTrapdoorVotes;)V" } : Jvm.MethodName)) ∈ lw_all := lw_g (lw_at lw_m3 135 rfl) rfl
theorem q683 : (Jvm.Cond.code ({ cls := "TrapdoorVotes$Image", name := "<init>", desc := "(LTrapdoorVotes;)V" } : Jvm.MethodName) prog_3_method_1_code (2 : Nat) (Option.none : Option Jvm.ClassFile.FieldType)) ∈ lw_all := lw_g (lw_at lw_m3 136 rfl) rfl
theorem q684 : (Jvm.Cond.methodLink "TrapdoorVotes$Image" (9 : Nat) ({ cls := "java/lang/Object", name := "<init>", desc := "()V" } : Jvm.MethodName)) ∈ lw_all := lw_g (lw_at lw_m3 137 rfl) rfl
theorem q685 : (Jvm.Cond.classLink "TrapdoorVotes$Image" (15 : Nat) "TrapdoorVotes$Stage") ∈ lw_all := lw_g (lw_at lw_m3 138 rfl) rfl
theorem q686 : (Jvm.Cond.methodLinkNest "TrapdoorVotes$Image" (17 : Nat) ({ cls := "TrapdoorVotes$Stage", name := "<init>", desc := "()V" } : Jvm.MethodName) "TrapdoorVotes") ∈ lw_tbl := lw_at lw_m3 139 rfl
theorem q687 : (Jvm.Cond.classLink "TrapdoorVotes$Image" (22 : Nat) "[[I") ∈ lw_all := lw_g (lw_at lw_m3 140 rfl) rfl
theorem q688 : (Jvm.Cond.fieldLink "TrapdoorVotes$Image" (18 : Nat) "TrapdoorVotes$Image" "stage" "LTrapdoorVotes$Stage;") ∈ lw_all := lw_g (lw_at lw_m3 141 rfl) rfl
theorem q689 : (Jvm.Cond.fieldLink "TrapdoorVotes$Image" (24 : Nat) "TrapdoorVotes$Image" "seen" "[[I") ∈ lw_all := lw_g (lw_at lw_m3 142 rfl) rfl
theorem q690 : (Jvm.Cond.fieldLink "TrapdoorVotes$Image" (43 : Nat) "TrapdoorVotes$Image" "seenMany" "I") ∈ lw_all := lw_g (lw_at lw_m3 143 rfl) rfl
theorem q692 : (Jvm.Cond.fieldLink "TrapdoorVotes$Image" (3 : Nat) "TrapdoorVotes$Image" "this$0" "LTrapdoorVotes;") ∈ lw_all := lw_g (lw_at lw_m3 145 rfl) rfl
theorem q693 : (Jvm.Cond.laysFinal "TrapdoorVotes$Image" "TrapdoorVotes$Image" "stage" "LTrapdoorVotes$Stage;") ∈ lw_all := lw_g (lw_at lw_m3 146 rfl) rfl
theorem q694 : (Jvm.Cond.soleField "TrapdoorVotes$Image" "stage") ∈ lw_all := lw_g (lw_at lw_m3 147 rfl) rfl
theorem q695 : (Jvm.Cond.laysFinal "TrapdoorVotes$Image" "TrapdoorVotes$Image" "seen" "[[I") ∈ lw_all := lw_g (lw_at lw_m3 148 rfl) rfl
theorem q696 : (Jvm.Cond.soleField "TrapdoorVotes$Image" "seen") ∈ lw_all := lw_g (lw_at lw_m3 149 rfl) rfl
theorem q697 : (Jvm.Cond.lays "TrapdoorVotes$Image" "TrapdoorVotes$Image" "seenMany" "I") ∈ lw_all := lw_g (lw_at lw_m3 150 rfl) rfl
theorem q698 : (Jvm.Cond.soleField "TrapdoorVotes$Image" "seenMany") ∈ lw_all := lw_g (lw_at lw_m3 151 rfl) rfl
theorem q699 : (Jvm.Cond.lays "TrapdoorVotes$Image" "TrapdoorVotes$Image" "isKept" "Z") ∈ lw_all := lw_g (lw_at lw_m3 152 rfl) rfl
theorem q700 : (Jvm.Cond.soleField "TrapdoorVotes$Image" "isKept") ∈ lw_all := lw_g (lw_at lw_m3 153 rfl) rfl
theorem q701 : (Jvm.Cond.laysFinal "TrapdoorVotes$Image" "TrapdoorVotes$Image" "this$0" "LTrapdoorVotes;") ∈ lw_all := lw_g (lw_at lw_m3 154 rfl) rfl
theorem q702 : (Jvm.Cond.soleField "TrapdoorVotes$Image" "this$0") ∈ lw_all := lw_g (lw_at lw_m3 155 rfl) rfl
theorem q703 : (Jvm.Cond.superclass "TrapdoorVotes$Image" "java/lang/Object") ∈ lw_all := lw_g (lw_at lw_m3 156 rfl) rfl
theorem q721 : (Jvm.Cond.fieldLinkNest "TrapdoorVotes$Image" (27 : Nat) "TrapdoorVotes" "now" "LTrapdoorVotes$Stage;" "TrapdoorVotes") ∈ lw_tbl := lw_at lw_m3 174 rfl
theorem q727 : (Jvm.Cond.fieldLinkNest "TrapdoorVotes$Image" (34 : Nat) "TrapdoorVotes" "seen" "[[I" "TrapdoorVotes") ∈ lw_tbl := lw_at lw_m3 180 rfl
theorem q729 : (Jvm.Cond.fieldLinkNest "TrapdoorVotes$Image" (39 : Nat) "TrapdoorVotes" "seenMany" "I" "TrapdoorVotes") ∈ lw_tbl := lw_at lw_m3 182 rfl
theorem in_X2 : ∀ w ∈ wsX20, w ∈ lw_all := lw_in wsX20 [693, 695, 697, 699, 701] (by decide +kernel) (by decide +kernel)
/-! TrapdoorVotes$Sheet -/
set_option maxRecDepth 100000
def RX3 : String := "TrapdoorVotes$Sheet"
def TX3 : u_T := fun k => match k with
  | 0 => ("TrapdoorVotes$Sheet", "row", "Ljava/lang/Object;", false)
  | _ => ("TrapdoorVotes$Sheet", "size", "I", false)
def tyX3 : Nat → FieldType := fun k => match k with
  | 0 => .object "java/lang/Object"
  | _ => .int
abbrev wsX30 : List Cond := u_ws RX3 TX3 2
theorem nmX3 : ∀ a, a < 2 → ∀ b, b < 2 → a ≠ b → (TX3 a).2.1 ≠ (TX3 b).2.1 := by decide +kernel
theorem tyX3_ok : ∀ k, k < 2 → parseFieldDescriptor (TX3 k).2.2.1 = some (tyX3 k) := by decide +kernel
abbrev cX3_init : ByteArray := prog_8_method_1_code
def yX3_init : MethodName := ⟨RX3, "<init>", "()V"⟩
theorem dX3_init_0 : decode cX3_init 0 = .ok (.aload_n 0, 1) := by decide +kernel
theorem dX3_init_1 : decode cX3_init 1 = .ok (.invokespecial 1, 3) := by decide +kernel
theorem dX3_init_4 : decode cX3_init 4 = .ok (.return_, 1) := by decide +kernel
theorem q71 : (Jvm.Cond.initialized "TrapdoorVotes$Sheet") ∈ lw_all := lw_g (lw_at lw_m1 4 rfl) rfl
theorem q706 : (Jvm.Cond.instantiable "TrapdoorVotes$Sheet" (2 : Nat)) ∈ lw_all := lw_g (lw_at lw_m3 159 rfl) rfl
theorem q708 : (Jvm.Cond.instanceMethod ({ cls := "TrapdoorVotes$Sheet", name := "<init>", desc := "()V" } : Jvm.MethodName)) ∈ lw_all := lw_g (lw_at lw_m3 161 rfl) rfl
theorem q709 : (Jvm.Cond.code ({ cls := "TrapdoorVotes$Sheet", name := "<init>", desc := "()V" } : Jvm.MethodName) prog_8_method_1_code (1 : Nat) (Option.none : Option Jvm.ClassFile.FieldType)) ∈ lw_all := lw_g (lw_at lw_m3 162 rfl) rfl
theorem q710 : (Jvm.Cond.methodLink "TrapdoorVotes$Sheet" (1 : Nat) ({ cls := "java/lang/Object", name := "<init>", desc := "()V" } : Jvm.MethodName)) ∈ lw_all := lw_g (lw_at lw_m3 163 rfl) rfl
theorem q713 : (Jvm.Cond.lays "TrapdoorVotes$Sheet" "TrapdoorVotes$Sheet" "row" "Ljava/lang/Object;") ∈ lw_all := lw_g (lw_at lw_m3 166 rfl) rfl
theorem q714 : (Jvm.Cond.soleField "TrapdoorVotes$Sheet" "row") ∈ lw_all := lw_g (lw_at lw_m3 167 rfl) rfl
theorem q715 : (Jvm.Cond.lays "TrapdoorVotes$Sheet" "TrapdoorVotes$Sheet" "size" "I") ∈ lw_all := lw_g (lw_at lw_m3 168 rfl) rfl
theorem q716 : (Jvm.Cond.soleField "TrapdoorVotes$Sheet" "size") ∈ lw_all := lw_g (lw_at lw_m3 169 rfl) rfl
theorem q717 : (Jvm.Cond.superclass "TrapdoorVotes$Sheet" "java/lang/Object") ∈ lw_all := lw_g (lw_at lw_m3 170 rfl) rfl
theorem in_X3 : ∀ w ∈ wsX30, w ∈ lw_all := lw_in wsX30 [713, 715] (by decide +kernel) (by decide +kernel)
/-! TrapdoorVotes$Reader -/
set_option maxRecDepth 100000
def RX5 : String := "TrapdoorVotes$Reader"
def TX5 : u_T := fun k => match k with
  | 0 => ("TrapdoorVotes$Reader", "t", "[B", true)
  | 1 => ("TrapdoorVotes$Reader", "stage", "LTrapdoorVotes$Stage;", true)
  | 2 => ("TrapdoorVotes$Reader", "once", "I", false)
  | 3 => ("TrapdoorVotes$Reader", "lines", "I", false)
  | 4 => ("TrapdoorVotes$Reader", "from", "I", false)
  | 5 => ("TrapdoorVotes$Reader", "to", "I", false)
  | 6 => ("TrapdoorVotes$Reader", "kind", "I", false)
  | _ => ("TrapdoorVotes$Reader", "value", "I", false)
def tyX5 : Nat → FieldType := fun k => match k with
  | 0 => .array .byte
  | 1 => .object "TrapdoorVotes$Stage"
  | 2 => .int
  | 3 => .int
  | 4 => .int
  | 5 => .int
  | 6 => .int
  | _ => .int
abbrev wsX50 : List Cond := u_ws RX5 TX5 8
theorem nmX5 : ∀ a, a < 8 → ∀ b, b < 8 → a ≠ b → (TX5 a).2.1 ≠ (TX5 b).2.1 := by decide +kernel
theorem tyX5_ok : ∀ k, k < 8 → parseFieldDescriptor (TX5 k).2.2.1 = some (tyX5 k) := by decide +kernel
abbrev cX5_init : ByteArray := prog_7_method_1_code
def yX5_init : MethodName := ⟨RX5, "<init>", "([B)V"⟩
def dkwX5_init_1 : List UInt8 := [177]
abbrev dktX5_init_1 : List UInt8 := dkwX5_init_1 ++ []
def dkwX5_init_0 : List UInt8 := [42, 183, 0, 3, 42, 187, 0, 9, 89, 183, 0, 11, 181, 0, 12, 42, 43, 181, 0, 18, 42, 182, 0, 22]
abbrev dktX5_init_0 : List UInt8 := dkwX5_init_0 ++ dktX5_init_1
theorem dksX5_init_0 : cX5_init.data.toList.drop 0 = dktX5_init_0 := by decide +kernel
theorem dksX5_init_1 : cX5_init.data.toList.drop 24 = dktX5_init_1 := dk_seg dksX5_init_0 24 rfl rfl
theorem dX5_init_0 : decode cX5_init 0 = .ok (.aload_n 0, 1) := dk_42 (dk_at dksX5_init_0 0 rfl rfl)
theorem dX5_init_1 : decode cX5_init 1 = .ok (.invokespecial 3, 3) := dk_183 0 3 (dk_at dksX5_init_0 1 rfl rfl)
theorem dX5_init_4 : decode cX5_init 4 = .ok (.aload_n 0, 1) := dk_42 (dk_at dksX5_init_0 4 rfl rfl)
theorem dX5_init_5 : decode cX5_init 5 = .ok (.new 9, 3) := dk_187 0 9 (dk_at dksX5_init_0 5 rfl rfl)
theorem dX5_init_8 : decode cX5_init 8 = .ok (.dup, 1) := dk_89 (dk_at dksX5_init_0 8 rfl rfl)
theorem dX5_init_9 : decode cX5_init 9 = .ok (.invokespecial 11, 3) := dk_183 0 11 (dk_at dksX5_init_0 9 rfl rfl)
theorem dX5_init_12 : decode cX5_init 12 = .ok (.putfield 12, 3) := dk_181 0 12 (dk_at dksX5_init_0 12 rfl rfl)
theorem dX5_init_15 : decode cX5_init 15 = .ok (.aload_n 0, 1) := dk_42 (dk_at dksX5_init_0 15 rfl rfl)
theorem dX5_init_16 : decode cX5_init 16 = .ok (.aload_n 1, 1) := dk_43 (dk_at dksX5_init_0 16 rfl rfl)
theorem dX5_init_17 : decode cX5_init 17 = .ok (.putfield 18, 3) := dk_181 0 18 (dk_at dksX5_init_0 17 rfl rfl)
theorem dX5_init_20 : decode cX5_init 20 = .ok (.aload_n 0, 1) := dk_42 (dk_at dksX5_init_0 20 rfl rfl)
theorem dX5_init_21 : decode cX5_init 21 = .ok (.invokevirtual 22, 3) := dk_182 0 22 (dk_at dksX5_init_0 21 rfl rfl)
theorem dX5_init_24 : decode cX5_init 24 = .ok (.return_, 1) := dk_177 (dk_at dksX5_init_1 0 rfl rfl)
abbrev cX5_next : ByteArray := prog_7_method_5_code
def yX5_next : MethodName := ⟨RX5, "next", "()V"⟩
def dkwX5_next_12 : List UInt8 := [160, 0, 7, 4, 167, 0, 4, 3, 4, 182, 0, 69, 42, 6, 181, 0, 34, 177]
abbrev dktX5_next_12 : List UInt8 := dkwX5_next_12 ++ []
def dkwX5_next_11 : List UInt8 := [163, 0, 7, 4, 167, 0, 4, 3, 4, 182, 0, 69, 42, 5, 181, 0, 34, 167, 0, 24, 42, 27, 16, 59]
abbrev dktX5_next_11 : List UInt8 := dkwX5_next_11 ++ dktX5_next_12
def dkwX5_next_10 : List UInt8 := [180, 0, 43, 4, 96, 181, 0, 43, 167, 255, 182, 42, 42, 180, 0, 43, 42, 180, 0, 27, 100, 5]
abbrev dktX5_next_10 : List UInt8 := dkwX5_next_10 ++ dktX5_next_11
def dkwX5_next_9 : List UInt8 := [180, 0, 43, 182, 0, 50, 96, 16, 48, 100, 167, 0, 7, 42, 180, 0, 54, 181, 0, 54, 42, 89]
abbrev dktX5_next_9 : List UInt8 := dkwX5_next_9 ++ dktX5_next_10
def dkwX5_next_8 : List UInt8 := [42, 42, 180, 0, 43, 42, 180, 0, 27, 100, 5, 162, 0, 25, 16, 10, 42, 180, 0, 54, 104, 42, 42]
abbrev dktX5_next_8 : List UInt8 := dkwX5_next_8 ++ dktX5_next_9
def dkwX5_next_7 : List UInt8 := [181, 0, 54, 42, 42, 180, 0, 43, 182, 0, 50, 133, 20, 0, 65, 20, 0, 67, 184, 0, 61, 153, 0, 59]
abbrev dktX5_next_7 : List UInt8 := dkwX5_next_7 ++ dktX5_next_8
def dkwX5_next_6 : List UInt8 := [20, 0, 65, 20, 0, 67, 184, 0, 61, 153, 0, 124, 42, 42, 180, 0, 27, 181, 0, 43, 42, 3]
abbrev dktX5_next_6 : List UInt8 := dkwX5_next_6 ++ dktX5_next_7
def dkwX5_next_5 : List UInt8 := [42, 89, 180, 0, 43, 4, 96, 181, 0, 43, 167, 255, 225, 42, 4, 181, 0, 34, 167, 0, 159, 27, 133]
abbrev dktX5_next_5 : List UInt8 := dkwX5_next_5 ++ dktX5_next_6
def dkwX5_next_4 : List UInt8 := [153, 0, 45, 42, 42, 180, 0, 43, 182, 0, 50, 133, 20, 0, 57, 20, 0, 59, 184, 0, 61, 153, 0, 16]
abbrev dktX5_next_4 : List UInt8 := dkwX5_next_4 ++ dktX5_next_5
def dkwX5_next_3 : List UInt8 := [181, 0, 43, 42, 3, 181, 0, 34, 167, 0, 215, 27, 133, 20, 0, 57, 20, 0, 59, 184, 0, 61]
abbrev dktX5_next_3 : List UInt8 := dkwX5_next_3 ++ dktX5_next_4
def dkwX5_next_2 : List UInt8 := [180, 0, 27, 4, 96, 181, 0, 43, 42, 27, 181, 0, 54, 27, 16, 252, 160, 0, 19, 42, 42, 180, 0, 27]
abbrev dktX5_next_2 : List UInt8 := dkwX5_next_2 ++ dktX5_next_3
def dkwX5_next_1 : List UInt8 := [180, 0, 27, 4, 96, 181, 0, 27, 167, 255, 233, 42, 42, 180, 0, 27, 182, 0, 50, 60, 42, 42]
abbrev dktX5_next_1 : List UInt8 := dkwX5_next_1 ++ dktX5_next_2
def dkwX5_next_0 : List UInt8 := [42, 42, 180, 0, 43, 181, 0, 27, 42, 42, 180, 0, 27, 182, 0, 50, 16, 32, 160, 0, 16, 42, 89]
abbrev dktX5_next_0 : List UInt8 := dkwX5_next_0 ++ dktX5_next_1
theorem dksX5_next_0 : cX5_next.data.toList.drop 0 = dktX5_next_0 := by decide +kernel
theorem dksX5_next_1 : cX5_next.data.toList.drop 23 = dktX5_next_1 := dk_seg dksX5_next_0 23 rfl rfl
theorem dksX5_next_2 : cX5_next.data.toList.drop 45 = dktX5_next_2 := dk_seg dksX5_next_1 22 rfl rfl
theorem dksX5_next_3 : cX5_next.data.toList.drop 69 = dktX5_next_3 := dk_seg dksX5_next_2 24 rfl rfl
theorem dksX5_next_4 : cX5_next.data.toList.drop 91 = dktX5_next_4 := dk_seg dksX5_next_3 22 rfl rfl
theorem dksX5_next_5 : cX5_next.data.toList.drop 115 = dktX5_next_5 := dk_seg dksX5_next_4 24 rfl rfl
theorem dksX5_next_6 : cX5_next.data.toList.drop 138 = dktX5_next_6 := dk_seg dksX5_next_5 23 rfl rfl
theorem dksX5_next_7 : cX5_next.data.toList.drop 160 = dktX5_next_7 := dk_seg dksX5_next_6 22 rfl rfl
theorem dksX5_next_8 : cX5_next.data.toList.drop 184 = dktX5_next_8 := dk_seg dksX5_next_7 24 rfl rfl
theorem dksX5_next_9 : cX5_next.data.toList.drop 207 = dktX5_next_9 := dk_seg dksX5_next_8 23 rfl rfl
theorem dksX5_next_10 : cX5_next.data.toList.drop 229 = dktX5_next_10 := dk_seg dksX5_next_9 22 rfl rfl
theorem dksX5_next_11 : cX5_next.data.toList.drop 251 = dktX5_next_11 := dk_seg dksX5_next_10 22 rfl rfl
theorem dksX5_next_12 : cX5_next.data.toList.drop 275 = dktX5_next_12 := dk_seg dksX5_next_11 24 rfl rfl
theorem dX5_next_0 : decode cX5_next 0 = .ok (.aload_n 0, 1) := dk_42 (dk_at dksX5_next_0 0 rfl rfl)
theorem dX5_next_1 : decode cX5_next 1 = .ok (.aload_n 0, 1) := dk_42 (dk_at dksX5_next_0 1 rfl rfl)
theorem dX5_next_2 : decode cX5_next 2 = .ok (.getfield 43, 3) := dk_180 0 43 (dk_at dksX5_next_0 2 rfl rfl)
theorem dX5_next_5 : decode cX5_next 5 = .ok (.putfield 27, 3) := dk_181 0 27 (dk_at dksX5_next_0 5 rfl rfl)
theorem dX5_next_8 : decode cX5_next 8 = .ok (.aload_n 0, 1) := dk_42 (dk_at dksX5_next_0 8 rfl rfl)
theorem dX5_next_9 : decode cX5_next 9 = .ok (.aload_n 0, 1) := dk_42 (dk_at dksX5_next_0 9 rfl rfl)
theorem dX5_next_10 : decode cX5_next 10 = .ok (.getfield 27, 3) := dk_180 0 27 (dk_at dksX5_next_0 10 rfl rfl)
theorem dX5_next_13 : decode cX5_next 13 = .ok (.invokevirtual 50, 3) := dk_182 0 50 (dk_at dksX5_next_0 13 rfl rfl)
theorem dX5_next_16 : decode cX5_next 16 = .ok (.bipush 32, 2) := dk_16 32 (dk_at dksX5_next_0 16 rfl rfl)
theorem dX5_next_18 : decode cX5_next 18 = .ok (.if_icmp .ne 16, 3) := dk_160 0 16 (dk_at dksX5_next_0 18 rfl rfl)
theorem dX5_next_21 : decode cX5_next 21 = .ok (.aload_n 0, 1) := dk_42 (dk_at dksX5_next_0 21 rfl rfl)
theorem dX5_next_22 : decode cX5_next 22 = .ok (.dup, 1) := dk_89 (dk_at dksX5_next_0 22 rfl rfl)
theorem dX5_next_23 : decode cX5_next 23 = .ok (.getfield 27, 3) := dk_180 0 27 (dk_at dksX5_next_1 0 rfl rfl)
theorem dX5_next_26 : decode cX5_next 26 = .ok (.iconst 1, 1) := dk_4 (dk_at dksX5_next_1 3 rfl rfl)
theorem dX5_next_27 : decode cX5_next 27 = .ok (.iadd, 1) := dk_96 (dk_at dksX5_next_1 4 rfl rfl)
theorem dX5_next_28 : decode cX5_next 28 = .ok (.putfield 27, 3) := dk_181 0 27 (dk_at dksX5_next_1 5 rfl rfl)
theorem dX5_next_31 : decode cX5_next 31 = .ok (.goto (-23), 3) := dk_167 255 233 (dk_at dksX5_next_1 8 rfl rfl)
theorem dX5_next_34 : decode cX5_next 34 = .ok (.aload_n 0, 1) := dk_42 (dk_at dksX5_next_1 11 rfl rfl)
theorem dX5_next_35 : decode cX5_next 35 = .ok (.aload_n 0, 1) := dk_42 (dk_at dksX5_next_1 12 rfl rfl)
theorem dX5_next_36 : decode cX5_next 36 = .ok (.getfield 27, 3) := dk_180 0 27 (dk_at dksX5_next_1 13 rfl rfl)
theorem dX5_next_39 : decode cX5_next 39 = .ok (.invokevirtual 50, 3) := dk_182 0 50 (dk_at dksX5_next_1 16 rfl rfl)
theorem dX5_next_42 : decode cX5_next 42 = .ok (.istore_n 1, 1) := dk_60 (dk_at dksX5_next_1 19 rfl rfl)
theorem dX5_next_43 : decode cX5_next 43 = .ok (.aload_n 0, 1) := dk_42 (dk_at dksX5_next_1 20 rfl rfl)
theorem dX5_next_44 : decode cX5_next 44 = .ok (.aload_n 0, 1) := dk_42 (dk_at dksX5_next_1 21 rfl rfl)
theorem dX5_next_45 : decode cX5_next 45 = .ok (.getfield 27, 3) := dk_180 0 27 (dk_at dksX5_next_2 0 rfl rfl)
theorem dX5_next_48 : decode cX5_next 48 = .ok (.iconst 1, 1) := dk_4 (dk_at dksX5_next_2 3 rfl rfl)
theorem dX5_next_49 : decode cX5_next 49 = .ok (.iadd, 1) := dk_96 (dk_at dksX5_next_2 4 rfl rfl)
theorem dX5_next_50 : decode cX5_next 50 = .ok (.putfield 43, 3) := dk_181 0 43 (dk_at dksX5_next_2 5 rfl rfl)
theorem dX5_next_53 : decode cX5_next 53 = .ok (.aload_n 0, 1) := dk_42 (dk_at dksX5_next_2 8 rfl rfl)
theorem dX5_next_54 : decode cX5_next 54 = .ok (.iload_n 1, 1) := dk_27 (dk_at dksX5_next_2 9 rfl rfl)
theorem dX5_next_55 : decode cX5_next 55 = .ok (.putfield 54, 3) := dk_181 0 54 (dk_at dksX5_next_2 10 rfl rfl)
theorem dX5_next_58 : decode cX5_next 58 = .ok (.iload_n 1, 1) := dk_27 (dk_at dksX5_next_2 13 rfl rfl)
theorem dX5_next_59 : decode cX5_next 59 = .ok (.bipush (-4), 2) := dk_16 252 (dk_at dksX5_next_2 14 rfl rfl)
theorem dX5_next_61 : decode cX5_next 61 = .ok (.if_icmp .ne 19, 3) := dk_160 0 19 (dk_at dksX5_next_2 16 rfl rfl)
theorem dX5_next_64 : decode cX5_next 64 = .ok (.aload_n 0, 1) := dk_42 (dk_at dksX5_next_2 19 rfl rfl)
theorem dX5_next_65 : decode cX5_next 65 = .ok (.aload_n 0, 1) := dk_42 (dk_at dksX5_next_2 20 rfl rfl)
theorem dX5_next_66 : decode cX5_next 66 = .ok (.getfield 27, 3) := dk_180 0 27 (dk_at dksX5_next_2 21 rfl rfl)
theorem dX5_next_69 : decode cX5_next 69 = .ok (.putfield 43, 3) := dk_181 0 43 (dk_at dksX5_next_3 0 rfl rfl)
theorem dX5_next_72 : decode cX5_next 72 = .ok (.aload_n 0, 1) := dk_42 (dk_at dksX5_next_3 3 rfl rfl)
theorem dX5_next_73 : decode cX5_next 73 = .ok (.iconst 0, 1) := dk_3 (dk_at dksX5_next_3 4 rfl rfl)
theorem dX5_next_74 : decode cX5_next 74 = .ok (.putfield 34, 3) := dk_181 0 34 (dk_at dksX5_next_3 5 rfl rfl)
theorem dX5_next_77 : decode cX5_next 77 = .ok (.goto 215, 3) := dk_167 0 215 (dk_at dksX5_next_3 8 rfl rfl)
theorem dX5_next_80 : decode cX5_next 80 = .ok (.iload_n 1, 1) := dk_27 (dk_at dksX5_next_3 11 rfl rfl)
theorem dX5_next_81 : decode cX5_next 81 = .ok (.i2l, 1) := dk_133 (dk_at dksX5_next_3 12 rfl rfl)
theorem dX5_next_82 : decode cX5_next 82 = .ok (.ldc2_w 57, 3) := dk_20 0 57 (dk_at dksX5_next_3 13 rfl rfl)
theorem dX5_next_85 : decode cX5_next 85 = .ok (.ldc2_w 59, 3) := dk_20 0 59 (dk_at dksX5_next_3 16 rfl rfl)
theorem dX5_next_88 : decode cX5_next 88 = .ok (.invokestatic 61, 3) := dk_184 0 61 (dk_at dksX5_next_3 19 rfl rfl)
theorem dX5_next_91 : decode cX5_next 91 = .ok (.ifCond .eq 45, 3) := dk_153 0 45 (dk_at dksX5_next_4 0 rfl rfl)
theorem dX5_next_94 : decode cX5_next 94 = .ok (.aload_n 0, 1) := dk_42 (dk_at dksX5_next_4 3 rfl rfl)
theorem dX5_next_95 : decode cX5_next 95 = .ok (.aload_n 0, 1) := dk_42 (dk_at dksX5_next_4 4 rfl rfl)
theorem dX5_next_96 : decode cX5_next 96 = .ok (.getfield 43, 3) := dk_180 0 43 (dk_at dksX5_next_4 5 rfl rfl)
theorem dX5_next_99 : decode cX5_next 99 = .ok (.invokevirtual 50, 3) := dk_182 0 50 (dk_at dksX5_next_4 8 rfl rfl)
theorem dX5_next_102 : decode cX5_next 102 = .ok (.i2l, 1) := dk_133 (dk_at dksX5_next_4 11 rfl rfl)
theorem dX5_next_103 : decode cX5_next 103 = .ok (.ldc2_w 57, 3) := dk_20 0 57 (dk_at dksX5_next_4 12 rfl rfl)
theorem dX5_next_106 : decode cX5_next 106 = .ok (.ldc2_w 59, 3) := dk_20 0 59 (dk_at dksX5_next_4 15 rfl rfl)
theorem dX5_next_109 : decode cX5_next 109 = .ok (.invokestatic 61, 3) := dk_184 0 61 (dk_at dksX5_next_4 18 rfl rfl)
theorem dX5_next_112 : decode cX5_next 112 = .ok (.ifCond .eq 16, 3) := dk_153 0 16 (dk_at dksX5_next_4 21 rfl rfl)
theorem dX5_next_115 : decode cX5_next 115 = .ok (.aload_n 0, 1) := dk_42 (dk_at dksX5_next_5 0 rfl rfl)
theorem dX5_next_116 : decode cX5_next 116 = .ok (.dup, 1) := dk_89 (dk_at dksX5_next_5 1 rfl rfl)
theorem dX5_next_117 : decode cX5_next 117 = .ok (.getfield 43, 3) := dk_180 0 43 (dk_at dksX5_next_5 2 rfl rfl)
theorem dX5_next_120 : decode cX5_next 120 = .ok (.iconst 1, 1) := dk_4 (dk_at dksX5_next_5 5 rfl rfl)
theorem dX5_next_121 : decode cX5_next 121 = .ok (.iadd, 1) := dk_96 (dk_at dksX5_next_5 6 rfl rfl)
theorem dX5_next_122 : decode cX5_next 122 = .ok (.putfield 43, 3) := dk_181 0 43 (dk_at dksX5_next_5 7 rfl rfl)
theorem dX5_next_125 : decode cX5_next 125 = .ok (.goto (-31), 3) := dk_167 255 225 (dk_at dksX5_next_5 10 rfl rfl)
theorem dX5_next_128 : decode cX5_next 128 = .ok (.aload_n 0, 1) := dk_42 (dk_at dksX5_next_5 13 rfl rfl)
theorem dX5_next_129 : decode cX5_next 129 = .ok (.iconst 1, 1) := dk_4 (dk_at dksX5_next_5 14 rfl rfl)
theorem dX5_next_130 : decode cX5_next 130 = .ok (.putfield 34, 3) := dk_181 0 34 (dk_at dksX5_next_5 15 rfl rfl)
theorem dX5_next_133 : decode cX5_next 133 = .ok (.goto 159, 3) := dk_167 0 159 (dk_at dksX5_next_5 18 rfl rfl)
theorem dX5_next_136 : decode cX5_next 136 = .ok (.iload_n 1, 1) := dk_27 (dk_at dksX5_next_5 21 rfl rfl)
theorem dX5_next_137 : decode cX5_next 137 = .ok (.i2l, 1) := dk_133 (dk_at dksX5_next_5 22 rfl rfl)
theorem dX5_next_138 : decode cX5_next 138 = .ok (.ldc2_w 65, 3) := dk_20 0 65 (dk_at dksX5_next_6 0 rfl rfl)
theorem dX5_next_141 : decode cX5_next 141 = .ok (.ldc2_w 67, 3) := dk_20 0 67 (dk_at dksX5_next_6 3 rfl rfl)
theorem dX5_next_144 : decode cX5_next 144 = .ok (.invokestatic 61, 3) := dk_184 0 61 (dk_at dksX5_next_6 6 rfl rfl)
theorem dX5_next_147 : decode cX5_next 147 = .ok (.ifCond .eq 124, 3) := dk_153 0 124 (dk_at dksX5_next_6 9 rfl rfl)
theorem dX5_next_150 : decode cX5_next 150 = .ok (.aload_n 0, 1) := dk_42 (dk_at dksX5_next_6 12 rfl rfl)
theorem dX5_next_151 : decode cX5_next 151 = .ok (.aload_n 0, 1) := dk_42 (dk_at dksX5_next_6 13 rfl rfl)
theorem dX5_next_152 : decode cX5_next 152 = .ok (.getfield 27, 3) := dk_180 0 27 (dk_at dksX5_next_6 14 rfl rfl)
theorem dX5_next_155 : decode cX5_next 155 = .ok (.putfield 43, 3) := dk_181 0 43 (dk_at dksX5_next_6 17 rfl rfl)
theorem dX5_next_158 : decode cX5_next 158 = .ok (.aload_n 0, 1) := dk_42 (dk_at dksX5_next_6 20 rfl rfl)
theorem dX5_next_159 : decode cX5_next 159 = .ok (.iconst 0, 1) := dk_3 (dk_at dksX5_next_6 21 rfl rfl)
theorem dX5_next_160 : decode cX5_next 160 = .ok (.putfield 54, 3) := dk_181 0 54 (dk_at dksX5_next_7 0 rfl rfl)
theorem dX5_next_163 : decode cX5_next 163 = .ok (.aload_n 0, 1) := dk_42 (dk_at dksX5_next_7 3 rfl rfl)
theorem dX5_next_164 : decode cX5_next 164 = .ok (.aload_n 0, 1) := dk_42 (dk_at dksX5_next_7 4 rfl rfl)
theorem dX5_next_165 : decode cX5_next 165 = .ok (.getfield 43, 3) := dk_180 0 43 (dk_at dksX5_next_7 5 rfl rfl)
theorem dX5_next_168 : decode cX5_next 168 = .ok (.invokevirtual 50, 3) := dk_182 0 50 (dk_at dksX5_next_7 8 rfl rfl)
theorem dX5_next_171 : decode cX5_next 171 = .ok (.i2l, 1) := dk_133 (dk_at dksX5_next_7 11 rfl rfl)
theorem dX5_next_172 : decode cX5_next 172 = .ok (.ldc2_w 65, 3) := dk_20 0 65 (dk_at dksX5_next_7 12 rfl rfl)
theorem dX5_next_175 : decode cX5_next 175 = .ok (.ldc2_w 67, 3) := dk_20 0 67 (dk_at dksX5_next_7 15 rfl rfl)
theorem dX5_next_178 : decode cX5_next 178 = .ok (.invokestatic 61, 3) := dk_184 0 61 (dk_at dksX5_next_7 18 rfl rfl)
theorem dX5_next_181 : decode cX5_next 181 = .ok (.ifCond .eq 59, 3) := dk_153 0 59 (dk_at dksX5_next_7 21 rfl rfl)
theorem dX5_next_184 : decode cX5_next 184 = .ok (.aload_n 0, 1) := dk_42 (dk_at dksX5_next_8 0 rfl rfl)
theorem dX5_next_185 : decode cX5_next 185 = .ok (.aload_n 0, 1) := dk_42 (dk_at dksX5_next_8 1 rfl rfl)
theorem dX5_next_186 : decode cX5_next 186 = .ok (.getfield 43, 3) := dk_180 0 43 (dk_at dksX5_next_8 2 rfl rfl)
theorem dX5_next_189 : decode cX5_next 189 = .ok (.aload_n 0, 1) := dk_42 (dk_at dksX5_next_8 5 rfl rfl)
theorem dX5_next_190 : decode cX5_next 190 = .ok (.getfield 27, 3) := dk_180 0 27 (dk_at dksX5_next_8 6 rfl rfl)
theorem dX5_next_193 : decode cX5_next 193 = .ok (.isub, 1) := dk_100 (dk_at dksX5_next_8 9 rfl rfl)
theorem dX5_next_194 : decode cX5_next 194 = .ok (.iconst 2, 1) := dk_5 (dk_at dksX5_next_8 10 rfl rfl)
theorem dX5_next_195 : decode cX5_next 195 = .ok (.if_icmp .ge 25, 3) := dk_162 0 25 (dk_at dksX5_next_8 11 rfl rfl)
theorem dX5_next_198 : decode cX5_next 198 = .ok (.bipush 10, 2) := dk_16 10 (dk_at dksX5_next_8 14 rfl rfl)
theorem dX5_next_200 : decode cX5_next 200 = .ok (.aload_n 0, 1) := dk_42 (dk_at dksX5_next_8 16 rfl rfl)
theorem dX5_next_201 : decode cX5_next 201 = .ok (.getfield 54, 3) := dk_180 0 54 (dk_at dksX5_next_8 17 rfl rfl)
theorem dX5_next_204 : decode cX5_next 204 = .ok (.imul, 1) := dk_104 (dk_at dksX5_next_8 20 rfl rfl)
theorem dX5_next_205 : decode cX5_next 205 = .ok (.aload_n 0, 1) := dk_42 (dk_at dksX5_next_8 21 rfl rfl)
theorem dX5_next_206 : decode cX5_next 206 = .ok (.aload_n 0, 1) := dk_42 (dk_at dksX5_next_8 22 rfl rfl)
theorem dX5_next_207 : decode cX5_next 207 = .ok (.getfield 43, 3) := dk_180 0 43 (dk_at dksX5_next_9 0 rfl rfl)
theorem dX5_next_210 : decode cX5_next 210 = .ok (.invokevirtual 50, 3) := dk_182 0 50 (dk_at dksX5_next_9 3 rfl rfl)
theorem dX5_next_213 : decode cX5_next 213 = .ok (.iadd, 1) := dk_96 (dk_at dksX5_next_9 6 rfl rfl)
theorem dX5_next_214 : decode cX5_next 214 = .ok (.bipush 48, 2) := dk_16 48 (dk_at dksX5_next_9 7 rfl rfl)
theorem dX5_next_216 : decode cX5_next 216 = .ok (.isub, 1) := dk_100 (dk_at dksX5_next_9 9 rfl rfl)
theorem dX5_next_217 : decode cX5_next 217 = .ok (.goto 7, 3) := dk_167 0 7 (dk_at dksX5_next_9 10 rfl rfl)
theorem dX5_next_220 : decode cX5_next 220 = .ok (.aload_n 0, 1) := dk_42 (dk_at dksX5_next_9 13 rfl rfl)
theorem dX5_next_221 : decode cX5_next 221 = .ok (.getfield 54, 3) := dk_180 0 54 (dk_at dksX5_next_9 14 rfl rfl)
theorem dX5_next_224 : decode cX5_next 224 = .ok (.putfield 54, 3) := dk_181 0 54 (dk_at dksX5_next_9 17 rfl rfl)
theorem dX5_next_227 : decode cX5_next 227 = .ok (.aload_n 0, 1) := dk_42 (dk_at dksX5_next_9 20 rfl rfl)
theorem dX5_next_228 : decode cX5_next 228 = .ok (.dup, 1) := dk_89 (dk_at dksX5_next_9 21 rfl rfl)
theorem dX5_next_229 : decode cX5_next 229 = .ok (.getfield 43, 3) := dk_180 0 43 (dk_at dksX5_next_10 0 rfl rfl)
theorem dX5_next_232 : decode cX5_next 232 = .ok (.iconst 1, 1) := dk_4 (dk_at dksX5_next_10 3 rfl rfl)
theorem dX5_next_233 : decode cX5_next 233 = .ok (.iadd, 1) := dk_96 (dk_at dksX5_next_10 4 rfl rfl)
theorem dX5_next_234 : decode cX5_next 234 = .ok (.putfield 43, 3) := dk_181 0 43 (dk_at dksX5_next_10 5 rfl rfl)
theorem dX5_next_237 : decode cX5_next 237 = .ok (.goto (-74), 3) := dk_167 255 182 (dk_at dksX5_next_10 8 rfl rfl)
theorem dX5_next_240 : decode cX5_next 240 = .ok (.aload_n 0, 1) := dk_42 (dk_at dksX5_next_10 11 rfl rfl)
theorem dX5_next_241 : decode cX5_next 241 = .ok (.aload_n 0, 1) := dk_42 (dk_at dksX5_next_10 12 rfl rfl)
theorem dX5_next_242 : decode cX5_next 242 = .ok (.getfield 43, 3) := dk_180 0 43 (dk_at dksX5_next_10 13 rfl rfl)
theorem dX5_next_245 : decode cX5_next 245 = .ok (.aload_n 0, 1) := dk_42 (dk_at dksX5_next_10 16 rfl rfl)
theorem dX5_next_246 : decode cX5_next 246 = .ok (.getfield 27, 3) := dk_180 0 27 (dk_at dksX5_next_10 17 rfl rfl)
theorem dX5_next_249 : decode cX5_next 249 = .ok (.isub, 1) := dk_100 (dk_at dksX5_next_10 20 rfl rfl)
theorem dX5_next_250 : decode cX5_next 250 = .ok (.iconst 2, 1) := dk_5 (dk_at dksX5_next_10 21 rfl rfl)
theorem dX5_next_251 : decode cX5_next 251 = .ok (.if_icmp .gt 7, 3) := dk_163 0 7 (dk_at dksX5_next_11 0 rfl rfl)
theorem dX5_next_254 : decode cX5_next 254 = .ok (.iconst 1, 1) := dk_4 (dk_at dksX5_next_11 3 rfl rfl)
theorem dX5_next_255 : decode cX5_next 255 = .ok (.goto 4, 3) := dk_167 0 4 (dk_at dksX5_next_11 4 rfl rfl)
theorem dX5_next_258 : decode cX5_next 258 = .ok (.iconst 0, 1) := dk_3 (dk_at dksX5_next_11 7 rfl rfl)
theorem dX5_next_259 : decode cX5_next 259 = .ok (.iconst 1, 1) := dk_4 (dk_at dksX5_next_11 8 rfl rfl)
theorem dX5_next_260 : decode cX5_next 260 = .ok (.invokevirtual 69, 3) := dk_182 0 69 (dk_at dksX5_next_11 9 rfl rfl)
theorem dX5_next_263 : decode cX5_next 263 = .ok (.aload_n 0, 1) := dk_42 (dk_at dksX5_next_11 12 rfl rfl)
theorem dX5_next_264 : decode cX5_next 264 = .ok (.iconst 2, 1) := dk_5 (dk_at dksX5_next_11 13 rfl rfl)
theorem dX5_next_265 : decode cX5_next 265 = .ok (.putfield 34, 3) := dk_181 0 34 (dk_at dksX5_next_11 14 rfl rfl)
theorem dX5_next_268 : decode cX5_next 268 = .ok (.goto 24, 3) := dk_167 0 24 (dk_at dksX5_next_11 17 rfl rfl)
theorem dX5_next_271 : decode cX5_next 271 = .ok (.aload_n 0, 1) := dk_42 (dk_at dksX5_next_11 20 rfl rfl)
theorem dX5_next_272 : decode cX5_next 272 = .ok (.iload_n 1, 1) := dk_27 (dk_at dksX5_next_11 21 rfl rfl)
theorem dX5_next_273 : decode cX5_next 273 = .ok (.bipush 59, 2) := dk_16 59 (dk_at dksX5_next_11 22 rfl rfl)
theorem dX5_next_275 : decode cX5_next 275 = .ok (.if_icmp .ne 7, 3) := dk_160 0 7 (dk_at dksX5_next_12 0 rfl rfl)
theorem dX5_next_278 : decode cX5_next 278 = .ok (.iconst 1, 1) := dk_4 (dk_at dksX5_next_12 3 rfl rfl)
theorem dX5_next_279 : decode cX5_next 279 = .ok (.goto 4, 3) := dk_167 0 4 (dk_at dksX5_next_12 4 rfl rfl)
theorem dX5_next_282 : decode cX5_next 282 = .ok (.iconst 0, 1) := dk_3 (dk_at dksX5_next_12 7 rfl rfl)
theorem dX5_next_283 : decode cX5_next 283 = .ok (.iconst 1, 1) := dk_4 (dk_at dksX5_next_12 8 rfl rfl)
theorem dX5_next_284 : decode cX5_next 284 = .ok (.invokevirtual 69, 3) := dk_182 0 69 (dk_at dksX5_next_12 9 rfl rfl)
theorem dX5_next_287 : decode cX5_next 287 = .ok (.aload_n 0, 1) := dk_42 (dk_at dksX5_next_12 12 rfl rfl)
theorem dX5_next_288 : decode cX5_next 288 = .ok (.iconst 3, 1) := dk_6 (dk_at dksX5_next_12 13 rfl rfl)
theorem dX5_next_289 : decode cX5_next 289 = .ok (.putfield 34, 3) := dk_181 0 34 (dk_at dksX5_next_12 14 rfl rfl)
theorem dX5_next_292 : decode cX5_next 292 = .ok (.return_, 1) := dk_177 (dk_at dksX5_next_12 17 rfl rfl)
abbrev cX5_at : ByteArray := prog_7_method_2_code
def yX5_at : MethodName := ⟨RX5, "at", "(I)I"⟩
def dkwX5_at_0 : List UInt8 := [27, 42, 180, 0, 18, 190, 162, 0, 12, 42, 180, 0, 18, 27, 51, 167, 0, 5, 16, 252, 172]
abbrev dktX5_at_0 : List UInt8 := dkwX5_at_0 ++ []
theorem dksX5_at_0 : cX5_at.data.toList.drop 0 = dktX5_at_0 := by decide +kernel
theorem dX5_at_0 : decode cX5_at 0 = .ok (.iload_n 1, 1) := dk_27 (dk_at dksX5_at_0 0 rfl rfl)
theorem dX5_at_1 : decode cX5_at 1 = .ok (.aload_n 0, 1) := dk_42 (dk_at dksX5_at_0 1 rfl rfl)
theorem dX5_at_2 : decode cX5_at 2 = .ok (.getfield 18, 3) := dk_180 0 18 (dk_at dksX5_at_0 2 rfl rfl)
theorem dX5_at_5 : decode cX5_at 5 = .ok (.arraylength, 1) := dk_190 (dk_at dksX5_at_0 5 rfl rfl)
theorem dX5_at_6 : decode cX5_at 6 = .ok (.if_icmp .ge 12, 3) := dk_162 0 12 (dk_at dksX5_at_0 6 rfl rfl)
theorem dX5_at_9 : decode cX5_at 9 = .ok (.aload_n 0, 1) := dk_42 (dk_at dksX5_at_0 9 rfl rfl)
theorem dX5_at_10 : decode cX5_at 10 = .ok (.getfield 18, 3) := dk_180 0 18 (dk_at dksX5_at_0 10 rfl rfl)
theorem dX5_at_13 : decode cX5_at 13 = .ok (.iload_n 1, 1) := dk_27 (dk_at dksX5_at_0 13 rfl rfl)
theorem dX5_at_14 : decode cX5_at 14 = .ok (.baload, 1) := dk_51 (dk_at dksX5_at_0 14 rfl rfl)
theorem dX5_at_15 : decode cX5_at 15 = .ok (.goto 5, 3) := dk_167 0 5 (dk_at dksX5_at_0 15 rfl rfl)
theorem dX5_at_18 : decode cX5_at 18 = .ok (.bipush (-4), 2) := dk_16 252 (dk_at dksX5_at_0 18 rfl rfl)
theorem dX5_at_20 : decode cX5_at 20 = .ok (.ireturn, 1) := dk_172 (dk_at dksX5_at_0 20 rfl rfl)
abbrev cX5_must : ByteArray := prog_7_method_3_code
def yX5_must : MethodName := ⟨RX5, "must", "(ZI)V"⟩
def dkwX5_must_0 : List UInt8 := [27, 154, 0, 16, 187, 0, 25, 89, 28, 42, 180, 0, 27, 183, 0, 31, 191, 177]
abbrev dktX5_must_0 : List UInt8 := dkwX5_must_0 ++ []
theorem dksX5_must_0 : cX5_must.data.toList.drop 0 = dktX5_must_0 := by decide +kernel
theorem dX5_must_0 : decode cX5_must 0 = .ok (.iload_n 1, 1) := dk_27 (dk_at dksX5_must_0 0 rfl rfl)
theorem dX5_must_1 : decode cX5_must 1 = .ok (.ifCond .ne 16, 3) := dk_154 0 16 (dk_at dksX5_must_0 1 rfl rfl)
theorem dX5_must_4 : decode cX5_must 4 = .ok (.new 25, 3) := dk_187 0 25 (dk_at dksX5_must_0 4 rfl rfl)
theorem dX5_must_7 : decode cX5_must 7 = .ok (.dup, 1) := dk_89 (dk_at dksX5_must_0 7 rfl rfl)
theorem dX5_must_8 : decode cX5_must 8 = .ok (.iload_n 2, 1) := dk_28 (dk_at dksX5_must_0 8 rfl rfl)
theorem dX5_must_9 : decode cX5_must 9 = .ok (.aload_n 0, 1) := dk_42 (dk_at dksX5_must_0 9 rfl rfl)
theorem dX5_must_10 : decode cX5_must 10 = .ok (.getfield 27, 3) := dk_180 0 27 (dk_at dksX5_must_0 10 rfl rfl)
theorem dX5_must_13 : decode cX5_must 13 = .ok (.invokespecial 31, 3) := dk_183 0 31 (dk_at dksX5_must_0 13 rfl rfl)
theorem dX5_must_16 : decode cX5_must 16 = .ok (.athrow, 1) := dk_191 (dk_at dksX5_must_0 16 rfl rfl)
theorem dX5_must_17 : decode cX5_must 17 = .ok (.return_, 1) := dk_177 (dk_at dksX5_must_0 17 rfl rfl)
abbrev cX5_all : ByteArray := prog_7_method_12_code
def yX5_all : MethodName := ⟨RX5, "all", "()V"⟩
def dkwX5_all_0 : List UInt8 := [42, 180, 0, 34, 153, 0, 10, 42, 182, 0, 129, 167, 255, 245, 177]
abbrev dktX5_all_0 : List UInt8 := dkwX5_all_0 ++ []
theorem dksX5_all_0 : cX5_all.data.toList.drop 0 = dktX5_all_0 := by decide +kernel
theorem dX5_all_0 : decode cX5_all 0 = .ok (.aload_n 0, 1) := dk_42 (dk_at dksX5_all_0 0 rfl rfl)
theorem dX5_all_1 : decode cX5_all 1 = .ok (.getfield 34, 3) := dk_180 0 34 (dk_at dksX5_all_0 1 rfl rfl)
theorem dX5_all_4 : decode cX5_all 4 = .ok (.ifCond .eq 10, 3) := dk_153 0 10 (dk_at dksX5_all_0 4 rfl rfl)
theorem dX5_all_7 : decode cX5_all 7 = .ok (.aload_n 0, 1) := dk_42 (dk_at dksX5_all_0 7 rfl rfl)
theorem dX5_all_8 : decode cX5_all 8 = .ok (.invokevirtual 129, 3) := dk_182 0 129 (dk_at dksX5_all_0 8 rfl rfl)
theorem dX5_all_11 : decode cX5_all 11 = .ok (.goto (-11), 3) := dk_167 255 245 (dk_at dksX5_all_0 11 rfl rfl)
theorem dX5_all_14 : decode cX5_all 14 = .ok (.return_, 1) := dk_177 (dk_at dksX5_all_0 14 rfl rfl)
abbrev cX5_line : ByteArray := prog_7_method_11_code
def yX5_line : MethodName := ⟨RX5, "line", "()V"⟩
def dkwX5_line_5 : List UInt8 := [181, 0, 126, 42, 182, 0, 22, 177]
abbrev dktX5_line_5 : List UInt8 := dkwX5_line_5 ++ []
def dkwX5_line_4 : List UInt8 := [42, 180, 0, 34, 6, 160, 0, 7, 4, 167, 0, 4, 3, 5, 182, 0, 69, 42, 89, 180, 0, 126, 4, 96]
abbrev dktX5_line_4 : List UInt8 := dkwX5_line_4 ++ dktX5_line_5
def dkwX5_line_3 : List UInt8 := [182, 0, 116, 167, 0, 20, 27, 7, 160, 0, 10, 42, 182, 0, 120, 167, 0, 8, 42, 27, 182, 0, 123, 42]
abbrev dktX5_line_3 : List UInt8 := dkwX5_line_3 ++ dktX5_line_4
def dkwX5_line_2 : List UInt8 := [178, 0, 108, 190, 162, 0, 7, 4, 167, 0, 4, 3, 5, 182, 0, 69, 27, 6, 163, 0, 11, 42, 27]
abbrev dktX5_line_2 : List UInt8 := dkwX5_line_2 ++ dktX5_line_3
def dkwX5_line_1 : List UInt8 := [190, 162, 0, 21, 42, 178, 0, 108, 27, 50, 182, 0, 112, 154, 0, 9, 132, 1, 1, 167, 255, 233, 42, 27]
abbrev dktX5_line_1 : List UInt8 := dkwX5_line_1 ++ dktX5_line_2
def dkwX5_line_0 : List UInt8 := [42, 42, 180, 0, 34, 4, 160, 0, 7, 4, 167, 0, 4, 3, 5, 182, 0, 69, 3, 60, 27, 178, 0, 108]
abbrev dktX5_line_0 : List UInt8 := dkwX5_line_0 ++ dktX5_line_1
theorem dksX5_line_0 : cX5_line.data.toList.drop 0 = dktX5_line_0 := by decide +kernel
theorem dksX5_line_1 : cX5_line.data.toList.drop 24 = dktX5_line_1 := dk_seg dksX5_line_0 24 rfl rfl
theorem dksX5_line_2 : cX5_line.data.toList.drop 48 = dktX5_line_2 := dk_seg dksX5_line_1 24 rfl rfl
theorem dksX5_line_3 : cX5_line.data.toList.drop 71 = dktX5_line_3 := dk_seg dksX5_line_2 23 rfl rfl
theorem dksX5_line_4 : cX5_line.data.toList.drop 95 = dktX5_line_4 := dk_seg dksX5_line_3 24 rfl rfl
theorem dksX5_line_5 : cX5_line.data.toList.drop 119 = dktX5_line_5 := dk_seg dksX5_line_4 24 rfl rfl
theorem dX5_line_0 : decode cX5_line 0 = .ok (.aload_n 0, 1) := dk_42 (dk_at dksX5_line_0 0 rfl rfl)
theorem dX5_line_1 : decode cX5_line 1 = .ok (.aload_n 0, 1) := dk_42 (dk_at dksX5_line_0 1 rfl rfl)
theorem dX5_line_2 : decode cX5_line 2 = .ok (.getfield 34, 3) := dk_180 0 34 (dk_at dksX5_line_0 2 rfl rfl)
theorem dX5_line_5 : decode cX5_line 5 = .ok (.iconst 1, 1) := dk_4 (dk_at dksX5_line_0 5 rfl rfl)
theorem dX5_line_6 : decode cX5_line 6 = .ok (.if_icmp .ne 7, 3) := dk_160 0 7 (dk_at dksX5_line_0 6 rfl rfl)
theorem dX5_line_9 : decode cX5_line 9 = .ok (.iconst 1, 1) := dk_4 (dk_at dksX5_line_0 9 rfl rfl)
theorem dX5_line_10 : decode cX5_line 10 = .ok (.goto 4, 3) := dk_167 0 4 (dk_at dksX5_line_0 10 rfl rfl)
theorem dX5_line_13 : decode cX5_line 13 = .ok (.iconst 0, 1) := dk_3 (dk_at dksX5_line_0 13 rfl rfl)
theorem dX5_line_14 : decode cX5_line 14 = .ok (.iconst 2, 1) := dk_5 (dk_at dksX5_line_0 14 rfl rfl)
theorem dX5_line_15 : decode cX5_line 15 = .ok (.invokevirtual 69, 3) := dk_182 0 69 (dk_at dksX5_line_0 15 rfl rfl)
theorem dX5_line_18 : decode cX5_line 18 = .ok (.iconst 0, 1) := dk_3 (dk_at dksX5_line_0 18 rfl rfl)
theorem dX5_line_19 : decode cX5_line 19 = .ok (.istore_n 1, 1) := dk_60 (dk_at dksX5_line_0 19 rfl rfl)
theorem dX5_line_20 : decode cX5_line 20 = .ok (.iload_n 1, 1) := dk_27 (dk_at dksX5_line_0 20 rfl rfl)
theorem dX5_line_21 : decode cX5_line 21 = .ok (.getstatic 108, 3) := dk_178 0 108 (dk_at dksX5_line_0 21 rfl rfl)
theorem dX5_line_24 : decode cX5_line 24 = .ok (.arraylength, 1) := dk_190 (dk_at dksX5_line_1 0 rfl rfl)
theorem dX5_line_25 : decode cX5_line 25 = .ok (.if_icmp .ge 21, 3) := dk_162 0 21 (dk_at dksX5_line_1 1 rfl rfl)
theorem dX5_line_28 : decode cX5_line 28 = .ok (.aload_n 0, 1) := dk_42 (dk_at dksX5_line_1 4 rfl rfl)
theorem dX5_line_29 : decode cX5_line 29 = .ok (.getstatic 108, 3) := dk_178 0 108 (dk_at dksX5_line_1 5 rfl rfl)
theorem dX5_line_32 : decode cX5_line 32 = .ok (.iload_n 1, 1) := dk_27 (dk_at dksX5_line_1 8 rfl rfl)
theorem dX5_line_33 : decode cX5_line 33 = .ok (.aaload, 1) := dk_50 (dk_at dksX5_line_1 9 rfl rfl)
theorem dX5_line_34 : decode cX5_line 34 = .ok (.invokevirtual 112, 3) := dk_182 0 112 (dk_at dksX5_line_1 10 rfl rfl)
theorem dX5_line_37 : decode cX5_line 37 = .ok (.ifCond .ne 9, 3) := dk_154 0 9 (dk_at dksX5_line_1 13 rfl rfl)
theorem dX5_line_40 : decode cX5_line 40 = .ok (.iinc 1 1, 3) := dk_132 1 1 (dk_at dksX5_line_1 16 rfl rfl)
theorem dX5_line_43 : decode cX5_line 43 = .ok (.goto (-23), 3) := dk_167 255 233 (dk_at dksX5_line_1 19 rfl rfl)
theorem dX5_line_46 : decode cX5_line 46 = .ok (.aload_n 0, 1) := dk_42 (dk_at dksX5_line_1 22 rfl rfl)
theorem dX5_line_47 : decode cX5_line 47 = .ok (.iload_n 1, 1) := dk_27 (dk_at dksX5_line_1 23 rfl rfl)
theorem dX5_line_48 : decode cX5_line 48 = .ok (.getstatic 108, 3) := dk_178 0 108 (dk_at dksX5_line_2 0 rfl rfl)
theorem dX5_line_51 : decode cX5_line 51 = .ok (.arraylength, 1) := dk_190 (dk_at dksX5_line_2 3 rfl rfl)
theorem dX5_line_52 : decode cX5_line 52 = .ok (.if_icmp .ge 7, 3) := dk_162 0 7 (dk_at dksX5_line_2 4 rfl rfl)
theorem dX5_line_55 : decode cX5_line 55 = .ok (.iconst 1, 1) := dk_4 (dk_at dksX5_line_2 7 rfl rfl)
theorem dX5_line_56 : decode cX5_line 56 = .ok (.goto 4, 3) := dk_167 0 4 (dk_at dksX5_line_2 8 rfl rfl)
theorem dX5_line_59 : decode cX5_line 59 = .ok (.iconst 0, 1) := dk_3 (dk_at dksX5_line_2 11 rfl rfl)
theorem dX5_line_60 : decode cX5_line 60 = .ok (.iconst 2, 1) := dk_5 (dk_at dksX5_line_2 12 rfl rfl)
theorem dX5_line_61 : decode cX5_line 61 = .ok (.invokevirtual 69, 3) := dk_182 0 69 (dk_at dksX5_line_2 13 rfl rfl)
theorem dX5_line_64 : decode cX5_line 64 = .ok (.iload_n 1, 1) := dk_27 (dk_at dksX5_line_2 16 rfl rfl)
theorem dX5_line_65 : decode cX5_line 65 = .ok (.iconst 3, 1) := dk_6 (dk_at dksX5_line_2 17 rfl rfl)
theorem dX5_line_66 : decode cX5_line 66 = .ok (.if_icmp .gt 11, 3) := dk_163 0 11 (dk_at dksX5_line_2 18 rfl rfl)
theorem dX5_line_69 : decode cX5_line 69 = .ok (.aload_n 0, 1) := dk_42 (dk_at dksX5_line_2 21 rfl rfl)
theorem dX5_line_70 : decode cX5_line 70 = .ok (.iload_n 1, 1) := dk_27 (dk_at dksX5_line_2 22 rfl rfl)
theorem dX5_line_71 : decode cX5_line 71 = .ok (.invokevirtual 116, 3) := dk_182 0 116 (dk_at dksX5_line_3 0 rfl rfl)
theorem dX5_line_74 : decode cX5_line 74 = .ok (.goto 20, 3) := dk_167 0 20 (dk_at dksX5_line_3 3 rfl rfl)
theorem dX5_line_77 : decode cX5_line 77 = .ok (.iload_n 1, 1) := dk_27 (dk_at dksX5_line_3 6 rfl rfl)
theorem dX5_line_78 : decode cX5_line 78 = .ok (.iconst 4, 1) := dk_7 (dk_at dksX5_line_3 7 rfl rfl)
theorem dX5_line_79 : decode cX5_line 79 = .ok (.if_icmp .ne 10, 3) := dk_160 0 10 (dk_at dksX5_line_3 8 rfl rfl)
theorem dX5_line_82 : decode cX5_line 82 = .ok (.aload_n 0, 1) := dk_42 (dk_at dksX5_line_3 11 rfl rfl)
theorem dX5_line_83 : decode cX5_line 83 = .ok (.invokevirtual 120, 3) := dk_182 0 120 (dk_at dksX5_line_3 12 rfl rfl)
theorem dX5_line_86 : decode cX5_line 86 = .ok (.goto 8, 3) := dk_167 0 8 (dk_at dksX5_line_3 15 rfl rfl)
theorem dX5_line_89 : decode cX5_line 89 = .ok (.aload_n 0, 1) := dk_42 (dk_at dksX5_line_3 18 rfl rfl)
theorem dX5_line_90 : decode cX5_line 90 = .ok (.iload_n 1, 1) := dk_27 (dk_at dksX5_line_3 19 rfl rfl)
theorem dX5_line_91 : decode cX5_line 91 = .ok (.invokevirtual 123, 3) := dk_182 0 123 (dk_at dksX5_line_3 20 rfl rfl)
theorem dX5_line_94 : decode cX5_line 94 = .ok (.aload_n 0, 1) := dk_42 (dk_at dksX5_line_3 23 rfl rfl)
theorem dX5_line_95 : decode cX5_line 95 = .ok (.aload_n 0, 1) := dk_42 (dk_at dksX5_line_4 0 rfl rfl)
theorem dX5_line_96 : decode cX5_line 96 = .ok (.getfield 34, 3) := dk_180 0 34 (dk_at dksX5_line_4 1 rfl rfl)
theorem dX5_line_99 : decode cX5_line 99 = .ok (.iconst 3, 1) := dk_6 (dk_at dksX5_line_4 4 rfl rfl)
theorem dX5_line_100 : decode cX5_line 100 = .ok (.if_icmp .ne 7, 3) := dk_160 0 7 (dk_at dksX5_line_4 5 rfl rfl)
theorem dX5_line_103 : decode cX5_line 103 = .ok (.iconst 1, 1) := dk_4 (dk_at dksX5_line_4 8 rfl rfl)
theorem dX5_line_104 : decode cX5_line 104 = .ok (.goto 4, 3) := dk_167 0 4 (dk_at dksX5_line_4 9 rfl rfl)
theorem dX5_line_107 : decode cX5_line 107 = .ok (.iconst 0, 1) := dk_3 (dk_at dksX5_line_4 12 rfl rfl)
theorem dX5_line_108 : decode cX5_line 108 = .ok (.iconst 2, 1) := dk_5 (dk_at dksX5_line_4 13 rfl rfl)
theorem dX5_line_109 : decode cX5_line 109 = .ok (.invokevirtual 69, 3) := dk_182 0 69 (dk_at dksX5_line_4 14 rfl rfl)
theorem dX5_line_112 : decode cX5_line 112 = .ok (.aload_n 0, 1) := dk_42 (dk_at dksX5_line_4 17 rfl rfl)
theorem dX5_line_113 : decode cX5_line 113 = .ok (.dup, 1) := dk_89 (dk_at dksX5_line_4 18 rfl rfl)
theorem dX5_line_114 : decode cX5_line 114 = .ok (.getfield 126, 3) := dk_180 0 126 (dk_at dksX5_line_4 19 rfl rfl)
theorem dX5_line_117 : decode cX5_line 117 = .ok (.iconst 1, 1) := dk_4 (dk_at dksX5_line_4 22 rfl rfl)
theorem dX5_line_118 : decode cX5_line 118 = .ok (.iadd, 1) := dk_96 (dk_at dksX5_line_4 23 rfl rfl)
theorem dX5_line_119 : decode cX5_line 119 = .ok (.putfield 126, 3) := dk_181 0 126 (dk_at dksX5_line_5 0 rfl rfl)
theorem dX5_line_122 : decode cX5_line 122 = .ok (.aload_n 0, 1) := dk_42 (dk_at dksX5_line_5 3 rfl rfl)
theorem dX5_line_123 : decode cX5_line 123 = .ok (.invokevirtual 22, 3) := dk_182 0 22 (dk_at dksX5_line_5 4 rfl rfl)
theorem dX5_line_126 : decode cX5_line 126 = .ok (.return_, 1) := dk_177 (dk_at dksX5_line_5 7 rfl rfl)
abbrev cX5_isWord : ByteArray := prog_7_method_4_code
def yX5_isWord : MethodName := ⟨RX5, "isWord", "(Ljava/lang/String;)Z"⟩
def dkwX5_isWord_3 : List UInt8 := [132, 3, 1, 167, 255, 217, 28, 172]
abbrev dktX5_isWord_3 : List UInt8 := dkwX5_isWord_3 ++ []
def dkwX5_isWord_2 : List UInt8 := [182, 0, 46, 42, 42, 180, 0, 27, 29, 96, 182, 0, 50, 160, 0, 7, 4, 167, 0, 4, 3, 61]
abbrev dktX5_isWord_2 : List UInt8 := dkwX5_isWord_2 ++ dktX5_isWord_3
def dkwX5_isWord_1 : List UInt8 := [4, 167, 0, 4, 3, 61, 3, 62, 29, 43, 182, 0, 37, 162, 0, 37, 28, 153, 0, 33, 43, 29]
abbrev dktX5_isWord_1 : List UInt8 := dkwX5_isWord_1 ++ dktX5_isWord_2
def dkwX5_isWord_0 : List UInt8 := [42, 180, 0, 34, 4, 160, 0, 23, 43, 182, 0, 37, 42, 180, 0, 43, 42, 180, 0, 27, 100, 160, 0, 7]
abbrev dktX5_isWord_0 : List UInt8 := dkwX5_isWord_0 ++ dktX5_isWord_1
theorem dksX5_isWord_0 : cX5_isWord.data.toList.drop 0 = dktX5_isWord_0 := by decide +kernel
theorem dksX5_isWord_1 : cX5_isWord.data.toList.drop 24 = dktX5_isWord_1 := dk_seg dksX5_isWord_0 24 rfl rfl
theorem dksX5_isWord_2 : cX5_isWord.data.toList.drop 46 = dktX5_isWord_2 := dk_seg dksX5_isWord_1 22 rfl rfl
theorem dksX5_isWord_3 : cX5_isWord.data.toList.drop 68 = dktX5_isWord_3 := dk_seg dksX5_isWord_2 22 rfl rfl
theorem dX5_isWord_0 : decode cX5_isWord 0 = .ok (.aload_n 0, 1) := dk_42 (dk_at dksX5_isWord_0 0 rfl rfl)
theorem dX5_isWord_1 : decode cX5_isWord 1 = .ok (.getfield 34, 3) := dk_180 0 34 (dk_at dksX5_isWord_0 1 rfl rfl)
theorem dX5_isWord_4 : decode cX5_isWord 4 = .ok (.iconst 1, 1) := dk_4 (dk_at dksX5_isWord_0 4 rfl rfl)
theorem dX5_isWord_5 : decode cX5_isWord 5 = .ok (.if_icmp .ne 23, 3) := dk_160 0 23 (dk_at dksX5_isWord_0 5 rfl rfl)
theorem dX5_isWord_8 : decode cX5_isWord 8 = .ok (.aload_n 1, 1) := dk_43 (dk_at dksX5_isWord_0 8 rfl rfl)
theorem dX5_isWord_9 : decode cX5_isWord 9 = .ok (.invokevirtual 37, 3) := dk_182 0 37 (dk_at dksX5_isWord_0 9 rfl rfl)
theorem dX5_isWord_12 : decode cX5_isWord 12 = .ok (.aload_n 0, 1) := dk_42 (dk_at dksX5_isWord_0 12 rfl rfl)
theorem dX5_isWord_13 : decode cX5_isWord 13 = .ok (.getfield 43, 3) := dk_180 0 43 (dk_at dksX5_isWord_0 13 rfl rfl)
theorem dX5_isWord_16 : decode cX5_isWord 16 = .ok (.aload_n 0, 1) := dk_42 (dk_at dksX5_isWord_0 16 rfl rfl)
theorem dX5_isWord_17 : decode cX5_isWord 17 = .ok (.getfield 27, 3) := dk_180 0 27 (dk_at dksX5_isWord_0 17 rfl rfl)
theorem dX5_isWord_20 : decode cX5_isWord 20 = .ok (.isub, 1) := dk_100 (dk_at dksX5_isWord_0 20 rfl rfl)
theorem dX5_isWord_21 : decode cX5_isWord 21 = .ok (.if_icmp .ne 7, 3) := dk_160 0 7 (dk_at dksX5_isWord_0 21 rfl rfl)
theorem dX5_isWord_24 : decode cX5_isWord 24 = .ok (.iconst 1, 1) := dk_4 (dk_at dksX5_isWord_1 0 rfl rfl)
theorem dX5_isWord_25 : decode cX5_isWord 25 = .ok (.goto 4, 3) := dk_167 0 4 (dk_at dksX5_isWord_1 1 rfl rfl)
theorem dX5_isWord_28 : decode cX5_isWord 28 = .ok (.iconst 0, 1) := dk_3 (dk_at dksX5_isWord_1 4 rfl rfl)
theorem dX5_isWord_29 : decode cX5_isWord 29 = .ok (.istore_n 2, 1) := dk_61 (dk_at dksX5_isWord_1 5 rfl rfl)
theorem dX5_isWord_30 : decode cX5_isWord 30 = .ok (.iconst 0, 1) := dk_3 (dk_at dksX5_isWord_1 6 rfl rfl)
theorem dX5_isWord_31 : decode cX5_isWord 31 = .ok (.istore_n 3, 1) := dk_62 (dk_at dksX5_isWord_1 7 rfl rfl)
theorem dX5_isWord_32 : decode cX5_isWord 32 = .ok (.iload_n 3, 1) := dk_29 (dk_at dksX5_isWord_1 8 rfl rfl)
theorem dX5_isWord_33 : decode cX5_isWord 33 = .ok (.aload_n 1, 1) := dk_43 (dk_at dksX5_isWord_1 9 rfl rfl)
theorem dX5_isWord_34 : decode cX5_isWord 34 = .ok (.invokevirtual 37, 3) := dk_182 0 37 (dk_at dksX5_isWord_1 10 rfl rfl)
theorem dX5_isWord_37 : decode cX5_isWord 37 = .ok (.if_icmp .ge 37, 3) := dk_162 0 37 (dk_at dksX5_isWord_1 13 rfl rfl)
theorem dX5_isWord_40 : decode cX5_isWord 40 = .ok (.iload_n 2, 1) := dk_28 (dk_at dksX5_isWord_1 16 rfl rfl)
theorem dX5_isWord_41 : decode cX5_isWord 41 = .ok (.ifCond .eq 33, 3) := dk_153 0 33 (dk_at dksX5_isWord_1 17 rfl rfl)
theorem dX5_isWord_44 : decode cX5_isWord 44 = .ok (.aload_n 1, 1) := dk_43 (dk_at dksX5_isWord_1 20 rfl rfl)
theorem dX5_isWord_45 : decode cX5_isWord 45 = .ok (.iload_n 3, 1) := dk_29 (dk_at dksX5_isWord_1 21 rfl rfl)
theorem dX5_isWord_46 : decode cX5_isWord 46 = .ok (.invokevirtual 46, 3) := dk_182 0 46 (dk_at dksX5_isWord_2 0 rfl rfl)
theorem dX5_isWord_49 : decode cX5_isWord 49 = .ok (.aload_n 0, 1) := dk_42 (dk_at dksX5_isWord_2 3 rfl rfl)
theorem dX5_isWord_50 : decode cX5_isWord 50 = .ok (.aload_n 0, 1) := dk_42 (dk_at dksX5_isWord_2 4 rfl rfl)
theorem dX5_isWord_51 : decode cX5_isWord 51 = .ok (.getfield 27, 3) := dk_180 0 27 (dk_at dksX5_isWord_2 5 rfl rfl)
theorem dX5_isWord_54 : decode cX5_isWord 54 = .ok (.iload_n 3, 1) := dk_29 (dk_at dksX5_isWord_2 8 rfl rfl)
theorem dX5_isWord_55 : decode cX5_isWord 55 = .ok (.iadd, 1) := dk_96 (dk_at dksX5_isWord_2 9 rfl rfl)
theorem dX5_isWord_56 : decode cX5_isWord 56 = .ok (.invokevirtual 50, 3) := dk_182 0 50 (dk_at dksX5_isWord_2 10 rfl rfl)
theorem dX5_isWord_59 : decode cX5_isWord 59 = .ok (.if_icmp .ne 7, 3) := dk_160 0 7 (dk_at dksX5_isWord_2 13 rfl rfl)
theorem dX5_isWord_62 : decode cX5_isWord 62 = .ok (.iconst 1, 1) := dk_4 (dk_at dksX5_isWord_2 16 rfl rfl)
theorem dX5_isWord_63 : decode cX5_isWord 63 = .ok (.goto 4, 3) := dk_167 0 4 (dk_at dksX5_isWord_2 17 rfl rfl)
theorem dX5_isWord_66 : decode cX5_isWord 66 = .ok (.iconst 0, 1) := dk_3 (dk_at dksX5_isWord_2 20 rfl rfl)
theorem dX5_isWord_67 : decode cX5_isWord 67 = .ok (.istore_n 2, 1) := dk_61 (dk_at dksX5_isWord_2 21 rfl rfl)
theorem dX5_isWord_68 : decode cX5_isWord 68 = .ok (.iinc 3 1, 3) := dk_132 3 1 (dk_at dksX5_isWord_3 0 rfl rfl)
theorem dX5_isWord_71 : decode cX5_isWord 71 = .ok (.goto (-39), 3) := dk_167 255 217 (dk_at dksX5_isWord_3 3 rfl rfl)
theorem dX5_isWord_74 : decode cX5_isWord 74 = .ok (.iload_n 2, 1) := dk_28 (dk_at dksX5_isWord_3 6 rfl rfl)
theorem dX5_isWord_75 : decode cX5_isWord 75 = .ok (.ireturn, 1) := dk_172 (dk_at dksX5_isWord_3 7 rfl rfl)
abbrev cX5_handOf : ByteArray := prog_7_method_8_code
def yX5_handOf : MethodName := ⟨RX5, "handOf", "(I)V"⟩
def dkwX5_handOf_3 : List UInt8 := [180, 0, 81, 4, 96, 181, 0, 81, 177]
abbrev dktX5_handOf_3 : List UInt8 := dkwX5_handOf_3 ++ []
def dkwX5_handOf_2 : List UInt8 := [4, 42, 3, 8, 182, 0, 88, 79, 44, 5, 42, 3, 16, 99, 182, 0, 88, 79, 42, 180, 0, 12, 89]
abbrev dktX5_handOf_2 : List UInt8 := dkwX5_handOf_2 ++ dktX5_handOf_3
def dkwX5_handOf_1 : List UInt8 := [182, 0, 22, 42, 180, 0, 12, 180, 0, 84, 42, 180, 0, 12, 180, 0, 81, 50, 77, 44, 3, 27, 79, 44]
abbrev dktX5_handOf_1 : List UInt8 := dkwX5_handOf_1 ++ dktX5_handOf_2
def dkwX5_handOf_0 : List UInt8 := [42, 42, 180, 0, 12, 180, 0, 81, 16, 6, 162, 0, 7, 4, 167, 0, 4, 3, 8, 182, 0, 69, 42]
abbrev dktX5_handOf_0 : List UInt8 := dkwX5_handOf_0 ++ dktX5_handOf_1
theorem dksX5_handOf_0 : cX5_handOf.data.toList.drop 0 = dktX5_handOf_0 := by decide +kernel
theorem dksX5_handOf_1 : cX5_handOf.data.toList.drop 23 = dktX5_handOf_1 := dk_seg dksX5_handOf_0 23 rfl rfl
theorem dksX5_handOf_2 : cX5_handOf.data.toList.drop 47 = dktX5_handOf_2 := dk_seg dksX5_handOf_1 24 rfl rfl
theorem dksX5_handOf_3 : cX5_handOf.data.toList.drop 70 = dktX5_handOf_3 := dk_seg dksX5_handOf_2 23 rfl rfl
theorem dX5_handOf_0 : decode cX5_handOf 0 = .ok (.aload_n 0, 1) := dk_42 (dk_at dksX5_handOf_0 0 rfl rfl)
theorem dX5_handOf_1 : decode cX5_handOf 1 = .ok (.aload_n 0, 1) := dk_42 (dk_at dksX5_handOf_0 1 rfl rfl)
theorem dX5_handOf_2 : decode cX5_handOf 2 = .ok (.getfield 12, 3) := dk_180 0 12 (dk_at dksX5_handOf_0 2 rfl rfl)
theorem dX5_handOf_5 : decode cX5_handOf 5 = .ok (.getfield 81, 3) := dk_180 0 81 (dk_at dksX5_handOf_0 5 rfl rfl)
theorem dX5_handOf_8 : decode cX5_handOf 8 = .ok (.bipush 6, 2) := dk_16 6 (dk_at dksX5_handOf_0 8 rfl rfl)
theorem dX5_handOf_10 : decode cX5_handOf 10 = .ok (.if_icmp .ge 7, 3) := dk_162 0 7 (dk_at dksX5_handOf_0 10 rfl rfl)
theorem dX5_handOf_13 : decode cX5_handOf 13 = .ok (.iconst 1, 1) := dk_4 (dk_at dksX5_handOf_0 13 rfl rfl)
theorem dX5_handOf_14 : decode cX5_handOf 14 = .ok (.goto 4, 3) := dk_167 0 4 (dk_at dksX5_handOf_0 14 rfl rfl)
theorem dX5_handOf_17 : decode cX5_handOf 17 = .ok (.iconst 0, 1) := dk_3 (dk_at dksX5_handOf_0 17 rfl rfl)
theorem dX5_handOf_18 : decode cX5_handOf 18 = .ok (.iconst 5, 1) := dk_8 (dk_at dksX5_handOf_0 18 rfl rfl)
theorem dX5_handOf_19 : decode cX5_handOf 19 = .ok (.invokevirtual 69, 3) := dk_182 0 69 (dk_at dksX5_handOf_0 19 rfl rfl)
theorem dX5_handOf_22 : decode cX5_handOf 22 = .ok (.aload_n 0, 1) := dk_42 (dk_at dksX5_handOf_0 22 rfl rfl)
theorem dX5_handOf_23 : decode cX5_handOf 23 = .ok (.invokevirtual 22, 3) := dk_182 0 22 (dk_at dksX5_handOf_1 0 rfl rfl)
theorem dX5_handOf_26 : decode cX5_handOf 26 = .ok (.aload_n 0, 1) := dk_42 (dk_at dksX5_handOf_1 3 rfl rfl)
theorem dX5_handOf_27 : decode cX5_handOf 27 = .ok (.getfield 12, 3) := dk_180 0 12 (dk_at dksX5_handOf_1 4 rfl rfl)
theorem dX5_handOf_30 : decode cX5_handOf 30 = .ok (.getfield 84, 3) := dk_180 0 84 (dk_at dksX5_handOf_1 7 rfl rfl)
theorem dX5_handOf_33 : decode cX5_handOf 33 = .ok (.aload_n 0, 1) := dk_42 (dk_at dksX5_handOf_1 10 rfl rfl)
theorem dX5_handOf_34 : decode cX5_handOf 34 = .ok (.getfield 12, 3) := dk_180 0 12 (dk_at dksX5_handOf_1 11 rfl rfl)
theorem dX5_handOf_37 : decode cX5_handOf 37 = .ok (.getfield 81, 3) := dk_180 0 81 (dk_at dksX5_handOf_1 14 rfl rfl)
theorem dX5_handOf_40 : decode cX5_handOf 40 = .ok (.aaload, 1) := dk_50 (dk_at dksX5_handOf_1 17 rfl rfl)
theorem dX5_handOf_41 : decode cX5_handOf 41 = .ok (.astore_n 2, 1) := dk_77 (dk_at dksX5_handOf_1 18 rfl rfl)
theorem dX5_handOf_42 : decode cX5_handOf 42 = .ok (.aload_n 2, 1) := dk_44 (dk_at dksX5_handOf_1 19 rfl rfl)
theorem dX5_handOf_43 : decode cX5_handOf 43 = .ok (.iconst 0, 1) := dk_3 (dk_at dksX5_handOf_1 20 rfl rfl)
theorem dX5_handOf_44 : decode cX5_handOf 44 = .ok (.iload_n 1, 1) := dk_27 (dk_at dksX5_handOf_1 21 rfl rfl)
theorem dX5_handOf_45 : decode cX5_handOf 45 = .ok (.iastore, 1) := dk_79 (dk_at dksX5_handOf_1 22 rfl rfl)
theorem dX5_handOf_46 : decode cX5_handOf 46 = .ok (.aload_n 2, 1) := dk_44 (dk_at dksX5_handOf_1 23 rfl rfl)
theorem dX5_handOf_47 : decode cX5_handOf 47 = .ok (.iconst 1, 1) := dk_4 (dk_at dksX5_handOf_2 0 rfl rfl)
theorem dX5_handOf_48 : decode cX5_handOf 48 = .ok (.aload_n 0, 1) := dk_42 (dk_at dksX5_handOf_2 1 rfl rfl)
theorem dX5_handOf_49 : decode cX5_handOf 49 = .ok (.iconst 0, 1) := dk_3 (dk_at dksX5_handOf_2 2 rfl rfl)
theorem dX5_handOf_50 : decode cX5_handOf 50 = .ok (.iconst 5, 1) := dk_8 (dk_at dksX5_handOf_2 3 rfl rfl)
theorem dX5_handOf_51 : decode cX5_handOf 51 = .ok (.invokevirtual 88, 3) := dk_182 0 88 (dk_at dksX5_handOf_2 4 rfl rfl)
theorem dX5_handOf_54 : decode cX5_handOf 54 = .ok (.iastore, 1) := dk_79 (dk_at dksX5_handOf_2 7 rfl rfl)
theorem dX5_handOf_55 : decode cX5_handOf 55 = .ok (.aload_n 2, 1) := dk_44 (dk_at dksX5_handOf_2 8 rfl rfl)
theorem dX5_handOf_56 : decode cX5_handOf 56 = .ok (.iconst 2, 1) := dk_5 (dk_at dksX5_handOf_2 9 rfl rfl)
theorem dX5_handOf_57 : decode cX5_handOf 57 = .ok (.aload_n 0, 1) := dk_42 (dk_at dksX5_handOf_2 10 rfl rfl)
theorem dX5_handOf_58 : decode cX5_handOf 58 = .ok (.iconst 0, 1) := dk_3 (dk_at dksX5_handOf_2 11 rfl rfl)
theorem dX5_handOf_59 : decode cX5_handOf 59 = .ok (.bipush 99, 2) := dk_16 99 (dk_at dksX5_handOf_2 12 rfl rfl)
theorem dX5_handOf_61 : decode cX5_handOf 61 = .ok (.invokevirtual 88, 3) := dk_182 0 88 (dk_at dksX5_handOf_2 14 rfl rfl)
theorem dX5_handOf_64 : decode cX5_handOf 64 = .ok (.iastore, 1) := dk_79 (dk_at dksX5_handOf_2 17 rfl rfl)
theorem dX5_handOf_65 : decode cX5_handOf 65 = .ok (.aload_n 0, 1) := dk_42 (dk_at dksX5_handOf_2 18 rfl rfl)
theorem dX5_handOf_66 : decode cX5_handOf 66 = .ok (.getfield 12, 3) := dk_180 0 12 (dk_at dksX5_handOf_2 19 rfl rfl)
theorem dX5_handOf_69 : decode cX5_handOf 69 = .ok (.dup, 1) := dk_89 (dk_at dksX5_handOf_2 22 rfl rfl)
theorem dX5_handOf_70 : decode cX5_handOf 70 = .ok (.getfield 81, 3) := dk_180 0 81 (dk_at dksX5_handOf_3 0 rfl rfl)
theorem dX5_handOf_73 : decode cX5_handOf 73 = .ok (.iconst 1, 1) := dk_4 (dk_at dksX5_handOf_3 3 rfl rfl)
theorem dX5_handOf_74 : decode cX5_handOf 74 = .ok (.iadd, 1) := dk_96 (dk_at dksX5_handOf_3 4 rfl rfl)
theorem dX5_handOf_75 : decode cX5_handOf 75 = .ok (.putfield 81, 3) := dk_181 0 81 (dk_at dksX5_handOf_3 5 rfl rfl)
theorem dX5_handOf_78 : decode cX5_handOf 78 = .ok (.return_, 1) := dk_177 (dk_at dksX5_handOf_3 8 rfl rfl)
abbrev cX5_number : ByteArray := prog_7_method_7_code
def yX5_number : MethodName := ⟨RX5, "number", "(II)I"⟩
def dkwX5_number_0 : List UInt8 := [42, 27, 28, 3, 182, 0, 77, 172]
abbrev dktX5_number_0 : List UInt8 := dkwX5_number_0 ++ []
theorem dksX5_number_0 : cX5_number.data.toList.drop 0 = dktX5_number_0 := by decide +kernel
theorem dX5_number_0 : decode cX5_number 0 = .ok (.aload_n 0, 1) := dk_42 (dk_at dksX5_number_0 0 rfl rfl)
theorem dX5_number_1 : decode cX5_number 1 = .ok (.iload_n 1, 1) := dk_27 (dk_at dksX5_number_0 1 rfl rfl)
theorem dX5_number_2 : decode cX5_number 2 = .ok (.iload_n 2, 1) := dk_28 (dk_at dksX5_number_0 2 rfl rfl)
theorem dX5_number_3 : decode cX5_number 3 = .ok (.iconst 0, 1) := dk_3 (dk_at dksX5_number_0 3 rfl rfl)
theorem dX5_number_4 : decode cX5_number 4 = .ok (.invokevirtual 77, 3) := dk_182 0 77 (dk_at dksX5_number_0 4 rfl rfl)
theorem dX5_number_7 : decode cX5_number 7 = .ok (.ireturn, 1) := dk_172 (dk_at dksX5_number_0 7 rfl rfl)
abbrev cX5_other : ByteArray := prog_7_method_6_code
def yX5_other : MethodName := ⟨RX5, "other", "(III)I"⟩
def dkwX5_other_2 : List UInt8 := [167, 0, 4, 3, 7, 182, 0, 69, 42, 180, 0, 54, 54, 4, 42, 182, 0, 22, 21, 4, 172]
abbrev dktX5_other_2 : List UInt8 := dkwX5_other_2 ++ []
def dkwX5_other_1 : List UInt8 := [27, 133, 28, 133, 184, 0, 61, 6, 182, 0, 69, 42, 29, 42, 180, 0, 54, 184, 0, 73, 154, 0, 7, 4]
abbrev dktX5_other_1 : List UInt8 := dkwX5_other_1 ++ dktX5_other_2
def dkwX5_other_0 : List UInt8 := [42, 42, 180, 0, 34, 5, 160, 0, 7, 4, 167, 0, 4, 3, 5, 182, 0, 69, 42, 42, 180, 0, 54, 133]
abbrev dktX5_other_0 : List UInt8 := dkwX5_other_0 ++ dktX5_other_1
theorem dksX5_other_0 : cX5_other.data.toList.drop 0 = dktX5_other_0 := by decide +kernel
theorem dksX5_other_1 : cX5_other.data.toList.drop 24 = dktX5_other_1 := dk_seg dksX5_other_0 24 rfl rfl
theorem dksX5_other_2 : cX5_other.data.toList.drop 48 = dktX5_other_2 := dk_seg dksX5_other_1 24 rfl rfl
theorem dX5_other_0 : decode cX5_other 0 = .ok (.aload_n 0, 1) := dk_42 (dk_at dksX5_other_0 0 rfl rfl)
theorem dX5_other_1 : decode cX5_other 1 = .ok (.aload_n 0, 1) := dk_42 (dk_at dksX5_other_0 1 rfl rfl)
theorem dX5_other_2 : decode cX5_other 2 = .ok (.getfield 34, 3) := dk_180 0 34 (dk_at dksX5_other_0 2 rfl rfl)
theorem dX5_other_5 : decode cX5_other 5 = .ok (.iconst 2, 1) := dk_5 (dk_at dksX5_other_0 5 rfl rfl)
theorem dX5_other_6 : decode cX5_other 6 = .ok (.if_icmp .ne 7, 3) := dk_160 0 7 (dk_at dksX5_other_0 6 rfl rfl)
theorem dX5_other_9 : decode cX5_other 9 = .ok (.iconst 1, 1) := dk_4 (dk_at dksX5_other_0 9 rfl rfl)
theorem dX5_other_10 : decode cX5_other 10 = .ok (.goto 4, 3) := dk_167 0 4 (dk_at dksX5_other_0 10 rfl rfl)
theorem dX5_other_13 : decode cX5_other 13 = .ok (.iconst 0, 1) := dk_3 (dk_at dksX5_other_0 13 rfl rfl)
theorem dX5_other_14 : decode cX5_other 14 = .ok (.iconst 2, 1) := dk_5 (dk_at dksX5_other_0 14 rfl rfl)
theorem dX5_other_15 : decode cX5_other 15 = .ok (.invokevirtual 69, 3) := dk_182 0 69 (dk_at dksX5_other_0 15 rfl rfl)
theorem dX5_other_18 : decode cX5_other 18 = .ok (.aload_n 0, 1) := dk_42 (dk_at dksX5_other_0 18 rfl rfl)
theorem dX5_other_19 : decode cX5_other 19 = .ok (.aload_n 0, 1) := dk_42 (dk_at dksX5_other_0 19 rfl rfl)
theorem dX5_other_20 : decode cX5_other 20 = .ok (.getfield 54, 3) := dk_180 0 54 (dk_at dksX5_other_0 20 rfl rfl)
theorem dX5_other_23 : decode cX5_other 23 = .ok (.i2l, 1) := dk_133 (dk_at dksX5_other_0 23 rfl rfl)
theorem dX5_other_24 : decode cX5_other 24 = .ok (.iload_n 1, 1) := dk_27 (dk_at dksX5_other_1 0 rfl rfl)
theorem dX5_other_25 : decode cX5_other 25 = .ok (.i2l, 1) := dk_133 (dk_at dksX5_other_1 1 rfl rfl)
theorem dX5_other_26 : decode cX5_other 26 = .ok (.iload_n 2, 1) := dk_28 (dk_at dksX5_other_1 2 rfl rfl)
theorem dX5_other_27 : decode cX5_other 27 = .ok (.i2l, 1) := dk_133 (dk_at dksX5_other_1 3 rfl rfl)
theorem dX5_other_28 : decode cX5_other 28 = .ok (.invokestatic 61, 3) := dk_184 0 61 (dk_at dksX5_other_1 4 rfl rfl)
theorem dX5_other_31 : decode cX5_other 31 = .ok (.iconst 3, 1) := dk_6 (dk_at dksX5_other_1 7 rfl rfl)
theorem dX5_other_32 : decode cX5_other 32 = .ok (.invokevirtual 69, 3) := dk_182 0 69 (dk_at dksX5_other_1 8 rfl rfl)
theorem dX5_other_35 : decode cX5_other 35 = .ok (.aload_n 0, 1) := dk_42 (dk_at dksX5_other_1 11 rfl rfl)
theorem dX5_other_36 : decode cX5_other 36 = .ok (.iload_n 3, 1) := dk_29 (dk_at dksX5_other_1 12 rfl rfl)
theorem dX5_other_37 : decode cX5_other 37 = .ok (.aload_n 0, 1) := dk_42 (dk_at dksX5_other_1 13 rfl rfl)
theorem dX5_other_38 : decode cX5_other 38 = .ok (.getfield 54, 3) := dk_180 0 54 (dk_at dksX5_other_1 14 rfl rfl)
theorem dX5_other_41 : decode cX5_other 41 = .ok (.invokestatic 73, 3) := dk_184 0 73 (dk_at dksX5_other_1 17 rfl rfl)
theorem dX5_other_44 : decode cX5_other 44 = .ok (.ifCond .ne 7, 3) := dk_154 0 7 (dk_at dksX5_other_1 20 rfl rfl)
theorem dX5_other_47 : decode cX5_other 47 = .ok (.iconst 1, 1) := dk_4 (dk_at dksX5_other_1 23 rfl rfl)
theorem dX5_other_48 : decode cX5_other 48 = .ok (.goto 4, 3) := dk_167 0 4 (dk_at dksX5_other_2 0 rfl rfl)
theorem dX5_other_51 : decode cX5_other 51 = .ok (.iconst 0, 1) := dk_3 (dk_at dksX5_other_2 3 rfl rfl)
theorem dX5_other_52 : decode cX5_other 52 = .ok (.iconst 4, 1) := dk_7 (dk_at dksX5_other_2 4 rfl rfl)
theorem dX5_other_53 : decode cX5_other 53 = .ok (.invokevirtual 69, 3) := dk_182 0 69 (dk_at dksX5_other_2 5 rfl rfl)
theorem dX5_other_56 : decode cX5_other 56 = .ok (.aload_n 0, 1) := dk_42 (dk_at dksX5_other_2 8 rfl rfl)
theorem dX5_other_57 : decode cX5_other 57 = .ok (.getfield 54, 3) := dk_180 0 54 (dk_at dksX5_other_2 9 rfl rfl)
theorem dX5_other_60 : decode cX5_other 60 = .ok (.istore 4, 2) := dk_54 4 (dk_at dksX5_other_2 12 rfl rfl)
theorem dX5_other_62 : decode cX5_other 62 = .ok (.aload_n 0, 1) := dk_42 (dk_at dksX5_other_2 14 rfl rfl)
theorem dX5_other_63 : decode cX5_other 63 = .ok (.invokevirtual 22, 3) := dk_182 0 22 (dk_at dksX5_other_2 15 rfl rfl)
theorem dX5_other_66 : decode cX5_other 66 = .ok (.iload 4, 2) := dk_21 4 (dk_at dksX5_other_2 18 rfl rfl)
theorem dX5_other_68 : decode cX5_other 68 = .ok (.ireturn, 1) := dk_172 (dk_at dksX5_other_2 20 rfl rfl)
abbrev cX5_ministerOf : ByteArray := prog_7_method_9_code
def yX5_ministerOf : MethodName := ⟨RX5, "ministerOf", "()V"⟩
def dkwX5_ministerOf_5 : List UInt8 := [180, 0, 54, 79, 42, 182, 0, 22, 42, 180, 0, 12, 89, 180, 0, 92, 4, 96, 181, 0, 92, 177]
abbrev dktX5_ministerOf_5 : List UInt8 := dkwX5_ministerOf_5 ++ []
def dkwX5_ministerOf_4 : List UInt8 := [3, 6, 182, 0, 69, 43, 4, 42, 180, 0, 54, 16, 9, 160, 0, 8, 16, 252, 167, 0, 7, 42]
abbrev dktX5_ministerOf_4 : List UInt8 := dkwX5_ministerOf_4 ++ dktX5_ministerOf_5
def dkwX5_ministerOf_3 : List UInt8 := [42, 42, 180, 0, 54, 184, 0, 98, 154, 0, 12, 42, 180, 0, 54, 16, 9, 160, 0, 7, 4, 167, 0, 4]
abbrev dktX5_ministerOf_3 : List UInt8 := dkwX5_ministerOf_3 ++ dktX5_ministerOf_4
def dkwX5_ministerOf_2 : List UInt8 := [16, 9, 182, 0, 88, 79, 42, 42, 180, 0, 34, 5, 160, 0, 7, 4, 167, 0, 4, 3, 5, 182, 0, 69]
abbrev dktX5_ministerOf_2 : List UInt8 := dkwX5_ministerOf_2 ++ dktX5_ministerOf_3
def dkwX5_ministerOf_1 : List UInt8 := [182, 0, 22, 42, 180, 0, 12, 180, 0, 95, 42, 180, 0, 12, 180, 0, 92, 50, 76, 43, 3, 42, 3]
abbrev dktX5_ministerOf_1 : List UInt8 := dkwX5_ministerOf_1 ++ dktX5_ministerOf_2
def dkwX5_ministerOf_0 : List UInt8 := [42, 42, 180, 0, 12, 180, 0, 92, 7, 162, 0, 7, 4, 167, 0, 4, 3, 8, 182, 0, 69, 42]
abbrev dktX5_ministerOf_0 : List UInt8 := dkwX5_ministerOf_0 ++ dktX5_ministerOf_1
theorem dksX5_ministerOf_0 : cX5_ministerOf.data.toList.drop 0 = dktX5_ministerOf_0 := by decide +kernel
theorem dksX5_ministerOf_1 : cX5_ministerOf.data.toList.drop 22 = dktX5_ministerOf_1 := dk_seg dksX5_ministerOf_0 22 rfl rfl
theorem dksX5_ministerOf_2 : cX5_ministerOf.data.toList.drop 45 = dktX5_ministerOf_2 := dk_seg dksX5_ministerOf_1 23 rfl rfl
theorem dksX5_ministerOf_3 : cX5_ministerOf.data.toList.drop 69 = dktX5_ministerOf_3 := dk_seg dksX5_ministerOf_2 24 rfl rfl
theorem dksX5_ministerOf_4 : cX5_ministerOf.data.toList.drop 93 = dktX5_ministerOf_4 := dk_seg dksX5_ministerOf_3 24 rfl rfl
theorem dksX5_ministerOf_5 : cX5_ministerOf.data.toList.drop 115 = dktX5_ministerOf_5 := dk_seg dksX5_ministerOf_4 22 rfl rfl
theorem dX5_ministerOf_0 : decode cX5_ministerOf 0 = .ok (.aload_n 0, 1) := dk_42 (dk_at dksX5_ministerOf_0 0 rfl rfl)
theorem dX5_ministerOf_1 : decode cX5_ministerOf 1 = .ok (.aload_n 0, 1) := dk_42 (dk_at dksX5_ministerOf_0 1 rfl rfl)
theorem dX5_ministerOf_2 : decode cX5_ministerOf 2 = .ok (.getfield 12, 3) := dk_180 0 12 (dk_at dksX5_ministerOf_0 2 rfl rfl)
theorem dX5_ministerOf_5 : decode cX5_ministerOf 5 = .ok (.getfield 92, 3) := dk_180 0 92 (dk_at dksX5_ministerOf_0 5 rfl rfl)
theorem dX5_ministerOf_8 : decode cX5_ministerOf 8 = .ok (.iconst 4, 1) := dk_7 (dk_at dksX5_ministerOf_0 8 rfl rfl)
theorem dX5_ministerOf_9 : decode cX5_ministerOf 9 = .ok (.if_icmp .ge 7, 3) := dk_162 0 7 (dk_at dksX5_ministerOf_0 9 rfl rfl)
theorem dX5_ministerOf_12 : decode cX5_ministerOf 12 = .ok (.iconst 1, 1) := dk_4 (dk_at dksX5_ministerOf_0 12 rfl rfl)
theorem dX5_ministerOf_13 : decode cX5_ministerOf 13 = .ok (.goto 4, 3) := dk_167 0 4 (dk_at dksX5_ministerOf_0 13 rfl rfl)
theorem dX5_ministerOf_16 : decode cX5_ministerOf 16 = .ok (.iconst 0, 1) := dk_3 (dk_at dksX5_ministerOf_0 16 rfl rfl)
theorem dX5_ministerOf_17 : decode cX5_ministerOf 17 = .ok (.iconst 5, 1) := dk_8 (dk_at dksX5_ministerOf_0 17 rfl rfl)
theorem dX5_ministerOf_18 : decode cX5_ministerOf 18 = .ok (.invokevirtual 69, 3) := dk_182 0 69 (dk_at dksX5_ministerOf_0 18 rfl rfl)
theorem dX5_ministerOf_21 : decode cX5_ministerOf 21 = .ok (.aload_n 0, 1) := dk_42 (dk_at dksX5_ministerOf_0 21 rfl rfl)
theorem dX5_ministerOf_22 : decode cX5_ministerOf 22 = .ok (.invokevirtual 22, 3) := dk_182 0 22 (dk_at dksX5_ministerOf_1 0 rfl rfl)
theorem dX5_ministerOf_25 : decode cX5_ministerOf 25 = .ok (.aload_n 0, 1) := dk_42 (dk_at dksX5_ministerOf_1 3 rfl rfl)
theorem dX5_ministerOf_26 : decode cX5_ministerOf 26 = .ok (.getfield 12, 3) := dk_180 0 12 (dk_at dksX5_ministerOf_1 4 rfl rfl)
theorem dX5_ministerOf_29 : decode cX5_ministerOf 29 = .ok (.getfield 95, 3) := dk_180 0 95 (dk_at dksX5_ministerOf_1 7 rfl rfl)
theorem dX5_ministerOf_32 : decode cX5_ministerOf 32 = .ok (.aload_n 0, 1) := dk_42 (dk_at dksX5_ministerOf_1 10 rfl rfl)
theorem dX5_ministerOf_33 : decode cX5_ministerOf 33 = .ok (.getfield 12, 3) := dk_180 0 12 (dk_at dksX5_ministerOf_1 11 rfl rfl)
theorem dX5_ministerOf_36 : decode cX5_ministerOf 36 = .ok (.getfield 92, 3) := dk_180 0 92 (dk_at dksX5_ministerOf_1 14 rfl rfl)
theorem dX5_ministerOf_39 : decode cX5_ministerOf 39 = .ok (.aaload, 1) := dk_50 (dk_at dksX5_ministerOf_1 17 rfl rfl)
theorem dX5_ministerOf_40 : decode cX5_ministerOf 40 = .ok (.astore_n 1, 1) := dk_76 (dk_at dksX5_ministerOf_1 18 rfl rfl)
theorem dX5_ministerOf_41 : decode cX5_ministerOf 41 = .ok (.aload_n 1, 1) := dk_43 (dk_at dksX5_ministerOf_1 19 rfl rfl)
theorem dX5_ministerOf_42 : decode cX5_ministerOf 42 = .ok (.iconst 0, 1) := dk_3 (dk_at dksX5_ministerOf_1 20 rfl rfl)
theorem dX5_ministerOf_43 : decode cX5_ministerOf 43 = .ok (.aload_n 0, 1) := dk_42 (dk_at dksX5_ministerOf_1 21 rfl rfl)
theorem dX5_ministerOf_44 : decode cX5_ministerOf 44 = .ok (.iconst 0, 1) := dk_3 (dk_at dksX5_ministerOf_1 22 rfl rfl)
theorem dX5_ministerOf_45 : decode cX5_ministerOf 45 = .ok (.bipush 9, 2) := dk_16 9 (dk_at dksX5_ministerOf_2 0 rfl rfl)
theorem dX5_ministerOf_47 : decode cX5_ministerOf 47 = .ok (.invokevirtual 88, 3) := dk_182 0 88 (dk_at dksX5_ministerOf_2 2 rfl rfl)
theorem dX5_ministerOf_50 : decode cX5_ministerOf 50 = .ok (.iastore, 1) := dk_79 (dk_at dksX5_ministerOf_2 5 rfl rfl)
theorem dX5_ministerOf_51 : decode cX5_ministerOf 51 = .ok (.aload_n 0, 1) := dk_42 (dk_at dksX5_ministerOf_2 6 rfl rfl)
theorem dX5_ministerOf_52 : decode cX5_ministerOf 52 = .ok (.aload_n 0, 1) := dk_42 (dk_at dksX5_ministerOf_2 7 rfl rfl)
theorem dX5_ministerOf_53 : decode cX5_ministerOf 53 = .ok (.getfield 34, 3) := dk_180 0 34 (dk_at dksX5_ministerOf_2 8 rfl rfl)
theorem dX5_ministerOf_56 : decode cX5_ministerOf 56 = .ok (.iconst 2, 1) := dk_5 (dk_at dksX5_ministerOf_2 11 rfl rfl)
theorem dX5_ministerOf_57 : decode cX5_ministerOf 57 = .ok (.if_icmp .ne 7, 3) := dk_160 0 7 (dk_at dksX5_ministerOf_2 12 rfl rfl)
theorem dX5_ministerOf_60 : decode cX5_ministerOf 60 = .ok (.iconst 1, 1) := dk_4 (dk_at dksX5_ministerOf_2 15 rfl rfl)
theorem dX5_ministerOf_61 : decode cX5_ministerOf 61 = .ok (.goto 4, 3) := dk_167 0 4 (dk_at dksX5_ministerOf_2 16 rfl rfl)
theorem dX5_ministerOf_64 : decode cX5_ministerOf 64 = .ok (.iconst 0, 1) := dk_3 (dk_at dksX5_ministerOf_2 19 rfl rfl)
theorem dX5_ministerOf_65 : decode cX5_ministerOf 65 = .ok (.iconst 2, 1) := dk_5 (dk_at dksX5_ministerOf_2 20 rfl rfl)
theorem dX5_ministerOf_66 : decode cX5_ministerOf 66 = .ok (.invokevirtual 69, 3) := dk_182 0 69 (dk_at dksX5_ministerOf_2 21 rfl rfl)
theorem dX5_ministerOf_69 : decode cX5_ministerOf 69 = .ok (.aload_n 0, 1) := dk_42 (dk_at dksX5_ministerOf_3 0 rfl rfl)
theorem dX5_ministerOf_70 : decode cX5_ministerOf 70 = .ok (.aload_n 0, 1) := dk_42 (dk_at dksX5_ministerOf_3 1 rfl rfl)
theorem dX5_ministerOf_71 : decode cX5_ministerOf 71 = .ok (.getfield 54, 3) := dk_180 0 54 (dk_at dksX5_ministerOf_3 2 rfl rfl)
theorem dX5_ministerOf_74 : decode cX5_ministerOf 74 = .ok (.invokestatic 98, 3) := dk_184 0 98 (dk_at dksX5_ministerOf_3 5 rfl rfl)
theorem dX5_ministerOf_77 : decode cX5_ministerOf 77 = .ok (.ifCond .ne 12, 3) := dk_154 0 12 (dk_at dksX5_ministerOf_3 8 rfl rfl)
theorem dX5_ministerOf_80 : decode cX5_ministerOf 80 = .ok (.aload_n 0, 1) := dk_42 (dk_at dksX5_ministerOf_3 11 rfl rfl)
theorem dX5_ministerOf_81 : decode cX5_ministerOf 81 = .ok (.getfield 54, 3) := dk_180 0 54 (dk_at dksX5_ministerOf_3 12 rfl rfl)
theorem dX5_ministerOf_84 : decode cX5_ministerOf 84 = .ok (.bipush 9, 2) := dk_16 9 (dk_at dksX5_ministerOf_3 15 rfl rfl)
theorem dX5_ministerOf_86 : decode cX5_ministerOf 86 = .ok (.if_icmp .ne 7, 3) := dk_160 0 7 (dk_at dksX5_ministerOf_3 17 rfl rfl)
theorem dX5_ministerOf_89 : decode cX5_ministerOf 89 = .ok (.iconst 1, 1) := dk_4 (dk_at dksX5_ministerOf_3 20 rfl rfl)
theorem dX5_ministerOf_90 : decode cX5_ministerOf 90 = .ok (.goto 4, 3) := dk_167 0 4 (dk_at dksX5_ministerOf_3 21 rfl rfl)
theorem dX5_ministerOf_93 : decode cX5_ministerOf 93 = .ok (.iconst 0, 1) := dk_3 (dk_at dksX5_ministerOf_4 0 rfl rfl)
theorem dX5_ministerOf_94 : decode cX5_ministerOf 94 = .ok (.iconst 3, 1) := dk_6 (dk_at dksX5_ministerOf_4 1 rfl rfl)
theorem dX5_ministerOf_95 : decode cX5_ministerOf 95 = .ok (.invokevirtual 69, 3) := dk_182 0 69 (dk_at dksX5_ministerOf_4 2 rfl rfl)
theorem dX5_ministerOf_98 : decode cX5_ministerOf 98 = .ok (.aload_n 1, 1) := dk_43 (dk_at dksX5_ministerOf_4 5 rfl rfl)
theorem dX5_ministerOf_99 : decode cX5_ministerOf 99 = .ok (.iconst 1, 1) := dk_4 (dk_at dksX5_ministerOf_4 6 rfl rfl)
theorem dX5_ministerOf_100 : decode cX5_ministerOf 100 = .ok (.aload_n 0, 1) := dk_42 (dk_at dksX5_ministerOf_4 7 rfl rfl)
theorem dX5_ministerOf_101 : decode cX5_ministerOf 101 = .ok (.getfield 54, 3) := dk_180 0 54 (dk_at dksX5_ministerOf_4 8 rfl rfl)
theorem dX5_ministerOf_104 : decode cX5_ministerOf 104 = .ok (.bipush 9, 2) := dk_16 9 (dk_at dksX5_ministerOf_4 11 rfl rfl)
theorem dX5_ministerOf_106 : decode cX5_ministerOf 106 = .ok (.if_icmp .ne 8, 3) := dk_160 0 8 (dk_at dksX5_ministerOf_4 13 rfl rfl)
theorem dX5_ministerOf_109 : decode cX5_ministerOf 109 = .ok (.bipush (-4), 2) := dk_16 252 (dk_at dksX5_ministerOf_4 16 rfl rfl)
theorem dX5_ministerOf_111 : decode cX5_ministerOf 111 = .ok (.goto 7, 3) := dk_167 0 7 (dk_at dksX5_ministerOf_4 18 rfl rfl)
theorem dX5_ministerOf_114 : decode cX5_ministerOf 114 = .ok (.aload_n 0, 1) := dk_42 (dk_at dksX5_ministerOf_4 21 rfl rfl)
theorem dX5_ministerOf_115 : decode cX5_ministerOf 115 = .ok (.getfield 54, 3) := dk_180 0 54 (dk_at dksX5_ministerOf_5 0 rfl rfl)
theorem dX5_ministerOf_118 : decode cX5_ministerOf 118 = .ok (.iastore, 1) := dk_79 (dk_at dksX5_ministerOf_5 3 rfl rfl)
theorem dX5_ministerOf_119 : decode cX5_ministerOf 119 = .ok (.aload_n 0, 1) := dk_42 (dk_at dksX5_ministerOf_5 4 rfl rfl)
theorem dX5_ministerOf_120 : decode cX5_ministerOf 120 = .ok (.invokevirtual 22, 3) := dk_182 0 22 (dk_at dksX5_ministerOf_5 5 rfl rfl)
theorem dX5_ministerOf_123 : decode cX5_ministerOf 123 = .ok (.aload_n 0, 1) := dk_42 (dk_at dksX5_ministerOf_5 8 rfl rfl)
theorem dX5_ministerOf_124 : decode cX5_ministerOf 124 = .ok (.getfield 12, 3) := dk_180 0 12 (dk_at dksX5_ministerOf_5 9 rfl rfl)
theorem dX5_ministerOf_127 : decode cX5_ministerOf 127 = .ok (.dup, 1) := dk_89 (dk_at dksX5_ministerOf_5 12 rfl rfl)
theorem dX5_ministerOf_128 : decode cX5_ministerOf 128 = .ok (.getfield 92, 3) := dk_180 0 92 (dk_at dksX5_ministerOf_5 13 rfl rfl)
theorem dX5_ministerOf_131 : decode cX5_ministerOf 131 = .ok (.iconst 1, 1) := dk_4 (dk_at dksX5_ministerOf_5 16 rfl rfl)
theorem dX5_ministerOf_132 : decode cX5_ministerOf 132 = .ok (.iadd, 1) := dk_96 (dk_at dksX5_ministerOf_5 17 rfl rfl)
theorem dX5_ministerOf_133 : decode cX5_ministerOf 133 = .ok (.putfield 92, 3) := dk_181 0 92 (dk_at dksX5_ministerOf_5 18 rfl rfl)
theorem dX5_ministerOf_136 : decode cX5_ministerOf 136 = .ok (.return_, 1) := dk_177 (dk_at dksX5_ministerOf_5 21 rfl rfl)
abbrev cX5_more : ByteArray := prog_7_method_10_code
def yX5_more : MethodName := ⟨RX5, "more", "(I)V"⟩
def dkwX5_more_4 : List UInt8 := [167, 255, 226, 177]
abbrev dktX5_more_4 : List UInt8 := dkwX5_more_4 ++ []
def dkwX5_more_3 : List UInt8 := [180, 0, 12, 180, 0, 105, 29, 50, 27, 8, 160, 0, 7, 3, 167, 0, 4, 4, 28, 79, 132, 3, 1]
abbrev dktX5_more_3 : List UInt8 := dkwX5_more_3 ++ dktX5_more_4
def dkwX5_more_2 : List UInt8 := [182, 0, 88, 167, 0, 9, 42, 4, 6, 182, 0, 88, 61, 3, 62, 29, 16, 6, 162, 0, 30, 42]
abbrev dktX5_more_2 : List UInt8 := dkwX5_more_2 ++ dktX5_more_3
def dkwX5_more_1 : List UInt8 := [180, 0, 102, 4, 27, 120, 128, 181, 0, 102, 42, 182, 0, 22, 27, 8, 160, 0, 13, 42, 3, 16, 20]
abbrev dktX5_more_1 : List UInt8 := dkwX5_more_1 ++ dktX5_more_2
def dkwX5_more_0 : List UInt8 := [42, 42, 180, 0, 102, 27, 184, 0, 73, 154, 0, 7, 4, 167, 0, 4, 3, 7, 182, 0, 69, 42, 89]
abbrev dktX5_more_0 : List UInt8 := dkwX5_more_0 ++ dktX5_more_1
theorem dksX5_more_0 : cX5_more.data.toList.drop 0 = dktX5_more_0 := by decide +kernel
theorem dksX5_more_1 : cX5_more.data.toList.drop 23 = dktX5_more_1 := dk_seg dksX5_more_0 23 rfl rfl
theorem dksX5_more_2 : cX5_more.data.toList.drop 46 = dktX5_more_2 := dk_seg dksX5_more_1 23 rfl rfl
theorem dksX5_more_3 : cX5_more.data.toList.drop 68 = dktX5_more_3 := dk_seg dksX5_more_2 22 rfl rfl
theorem dksX5_more_4 : cX5_more.data.toList.drop 91 = dktX5_more_4 := dk_seg dksX5_more_3 23 rfl rfl
theorem dX5_more_0 : decode cX5_more 0 = .ok (.aload_n 0, 1) := dk_42 (dk_at dksX5_more_0 0 rfl rfl)
theorem dX5_more_1 : decode cX5_more 1 = .ok (.aload_n 0, 1) := dk_42 (dk_at dksX5_more_0 1 rfl rfl)
theorem dX5_more_2 : decode cX5_more 2 = .ok (.getfield 102, 3) := dk_180 0 102 (dk_at dksX5_more_0 2 rfl rfl)
theorem dX5_more_5 : decode cX5_more 5 = .ok (.iload_n 1, 1) := dk_27 (dk_at dksX5_more_0 5 rfl rfl)
theorem dX5_more_6 : decode cX5_more 6 = .ok (.invokestatic 73, 3) := dk_184 0 73 (dk_at dksX5_more_0 6 rfl rfl)
theorem dX5_more_9 : decode cX5_more 9 = .ok (.ifCond .ne 7, 3) := dk_154 0 7 (dk_at dksX5_more_0 9 rfl rfl)
theorem dX5_more_12 : decode cX5_more 12 = .ok (.iconst 1, 1) := dk_4 (dk_at dksX5_more_0 12 rfl rfl)
theorem dX5_more_13 : decode cX5_more 13 = .ok (.goto 4, 3) := dk_167 0 4 (dk_at dksX5_more_0 13 rfl rfl)
theorem dX5_more_16 : decode cX5_more 16 = .ok (.iconst 0, 1) := dk_3 (dk_at dksX5_more_0 16 rfl rfl)
theorem dX5_more_17 : decode cX5_more 17 = .ok (.iconst 4, 1) := dk_7 (dk_at dksX5_more_0 17 rfl rfl)
theorem dX5_more_18 : decode cX5_more 18 = .ok (.invokevirtual 69, 3) := dk_182 0 69 (dk_at dksX5_more_0 18 rfl rfl)
theorem dX5_more_21 : decode cX5_more 21 = .ok (.aload_n 0, 1) := dk_42 (dk_at dksX5_more_0 21 rfl rfl)
theorem dX5_more_22 : decode cX5_more 22 = .ok (.dup, 1) := dk_89 (dk_at dksX5_more_0 22 rfl rfl)
theorem dX5_more_23 : decode cX5_more 23 = .ok (.getfield 102, 3) := dk_180 0 102 (dk_at dksX5_more_1 0 rfl rfl)
theorem dX5_more_26 : decode cX5_more 26 = .ok (.iconst 1, 1) := dk_4 (dk_at dksX5_more_1 3 rfl rfl)
theorem dX5_more_27 : decode cX5_more 27 = .ok (.iload_n 1, 1) := dk_27 (dk_at dksX5_more_1 4 rfl rfl)
theorem dX5_more_28 : decode cX5_more 28 = .ok (.ishl, 1) := dk_120 (dk_at dksX5_more_1 5 rfl rfl)
theorem dX5_more_29 : decode cX5_more 29 = .ok (.ior, 1) := dk_128 (dk_at dksX5_more_1 6 rfl rfl)
theorem dX5_more_30 : decode cX5_more 30 = .ok (.putfield 102, 3) := dk_181 0 102 (dk_at dksX5_more_1 7 rfl rfl)
theorem dX5_more_33 : decode cX5_more 33 = .ok (.aload_n 0, 1) := dk_42 (dk_at dksX5_more_1 10 rfl rfl)
theorem dX5_more_34 : decode cX5_more 34 = .ok (.invokevirtual 22, 3) := dk_182 0 22 (dk_at dksX5_more_1 11 rfl rfl)
theorem dX5_more_37 : decode cX5_more 37 = .ok (.iload_n 1, 1) := dk_27 (dk_at dksX5_more_1 14 rfl rfl)
theorem dX5_more_38 : decode cX5_more 38 = .ok (.iconst 5, 1) := dk_8 (dk_at dksX5_more_1 15 rfl rfl)
theorem dX5_more_39 : decode cX5_more 39 = .ok (.if_icmp .ne 13, 3) := dk_160 0 13 (dk_at dksX5_more_1 16 rfl rfl)
theorem dX5_more_42 : decode cX5_more 42 = .ok (.aload_n 0, 1) := dk_42 (dk_at dksX5_more_1 19 rfl rfl)
theorem dX5_more_43 : decode cX5_more 43 = .ok (.iconst 0, 1) := dk_3 (dk_at dksX5_more_1 20 rfl rfl)
theorem dX5_more_44 : decode cX5_more 44 = .ok (.bipush 20, 2) := dk_16 20 (dk_at dksX5_more_1 21 rfl rfl)
theorem dX5_more_46 : decode cX5_more 46 = .ok (.invokevirtual 88, 3) := dk_182 0 88 (dk_at dksX5_more_2 0 rfl rfl)
theorem dX5_more_49 : decode cX5_more 49 = .ok (.goto 9, 3) := dk_167 0 9 (dk_at dksX5_more_2 3 rfl rfl)
theorem dX5_more_52 : decode cX5_more 52 = .ok (.aload_n 0, 1) := dk_42 (dk_at dksX5_more_2 6 rfl rfl)
theorem dX5_more_53 : decode cX5_more 53 = .ok (.iconst 1, 1) := dk_4 (dk_at dksX5_more_2 7 rfl rfl)
theorem dX5_more_54 : decode cX5_more 54 = .ok (.iconst 3, 1) := dk_6 (dk_at dksX5_more_2 8 rfl rfl)
theorem dX5_more_55 : decode cX5_more 55 = .ok (.invokevirtual 88, 3) := dk_182 0 88 (dk_at dksX5_more_2 9 rfl rfl)
theorem dX5_more_58 : decode cX5_more 58 = .ok (.istore_n 2, 1) := dk_61 (dk_at dksX5_more_2 12 rfl rfl)
theorem dX5_more_59 : decode cX5_more 59 = .ok (.iconst 0, 1) := dk_3 (dk_at dksX5_more_2 13 rfl rfl)
theorem dX5_more_60 : decode cX5_more 60 = .ok (.istore_n 3, 1) := dk_62 (dk_at dksX5_more_2 14 rfl rfl)
theorem dX5_more_61 : decode cX5_more 61 = .ok (.iload_n 3, 1) := dk_29 (dk_at dksX5_more_2 15 rfl rfl)
theorem dX5_more_62 : decode cX5_more 62 = .ok (.bipush 6, 2) := dk_16 6 (dk_at dksX5_more_2 16 rfl rfl)
theorem dX5_more_64 : decode cX5_more 64 = .ok (.if_icmp .ge 30, 3) := dk_162 0 30 (dk_at dksX5_more_2 18 rfl rfl)
theorem dX5_more_67 : decode cX5_more 67 = .ok (.aload_n 0, 1) := dk_42 (dk_at dksX5_more_2 21 rfl rfl)
theorem dX5_more_68 : decode cX5_more 68 = .ok (.getfield 12, 3) := dk_180 0 12 (dk_at dksX5_more_3 0 rfl rfl)
theorem dX5_more_71 : decode cX5_more 71 = .ok (.getfield 105, 3) := dk_180 0 105 (dk_at dksX5_more_3 3 rfl rfl)
theorem dX5_more_74 : decode cX5_more 74 = .ok (.iload_n 3, 1) := dk_29 (dk_at dksX5_more_3 6 rfl rfl)
theorem dX5_more_75 : decode cX5_more 75 = .ok (.aaload, 1) := dk_50 (dk_at dksX5_more_3 7 rfl rfl)
theorem dX5_more_76 : decode cX5_more 76 = .ok (.iload_n 1, 1) := dk_27 (dk_at dksX5_more_3 8 rfl rfl)
theorem dX5_more_77 : decode cX5_more 77 = .ok (.iconst 5, 1) := dk_8 (dk_at dksX5_more_3 9 rfl rfl)
theorem dX5_more_78 : decode cX5_more 78 = .ok (.if_icmp .ne 7, 3) := dk_160 0 7 (dk_at dksX5_more_3 10 rfl rfl)
theorem dX5_more_81 : decode cX5_more 81 = .ok (.iconst 0, 1) := dk_3 (dk_at dksX5_more_3 13 rfl rfl)
theorem dX5_more_82 : decode cX5_more 82 = .ok (.goto 4, 3) := dk_167 0 4 (dk_at dksX5_more_3 14 rfl rfl)
theorem dX5_more_85 : decode cX5_more 85 = .ok (.iconst 1, 1) := dk_4 (dk_at dksX5_more_3 17 rfl rfl)
theorem dX5_more_86 : decode cX5_more 86 = .ok (.iload_n 2, 1) := dk_28 (dk_at dksX5_more_3 18 rfl rfl)
theorem dX5_more_87 : decode cX5_more 87 = .ok (.iastore, 1) := dk_79 (dk_at dksX5_more_3 19 rfl rfl)
theorem dX5_more_88 : decode cX5_more 88 = .ok (.iinc 3 1, 3) := dk_132 3 1 (dk_at dksX5_more_3 20 rfl rfl)
theorem dX5_more_91 : decode cX5_more 91 = .ok (.goto (-30), 3) := dk_167 255 226 (dk_at dksX5_more_4 0 rfl rfl)
theorem dX5_more_94 : decode cX5_more 94 = .ok (.return_, 1) := dk_177 (dk_at dksX5_more_4 3 rfl rfl)
theorem q74 : (Jvm.Cond.initialized "TrapdoorVotes$Reader") ∈ lw_all := lw_g (lw_at lw_m1 7 rfl) rfl
theorem q111 : (Jvm.Cond.instantiable "TrapdoorVotes$Reader" (8 : Nat)) ∈ lw_all := lw_g (lw_at lw_m1 44 rfl) rfl
theorem q113 : (Jvm.Cond.instanceMethod ({ cls := "TrapdoorVotes$Reader", name := "<init>", desc := "([B)V" } : Jvm.MethodName)) ∈ lw_all := lw_g (lw_at lw_m1 46 rfl) rfl
theorem q114 : (Jvm.Cond.code ({ cls := "TrapdoorVotes$Reader", name := "<init>", desc := "([B)V" } : Jvm.MethodName) prog_7_method_1_code (2 : Nat) (Option.none : Option Jvm.ClassFile.FieldType)) ∈ lw_all := lw_g (lw_at lw_m1 47 rfl) rfl
theorem q115 : (Jvm.Cond.methodLink "TrapdoorVotes$Reader" (3 : Nat) ({ cls := "java/lang/Object", name := "<init>", desc := "()V" } : Jvm.MethodName)) ∈ lw_all := lw_g (lw_at lw_m1 48 rfl) rfl
theorem q118 : (Jvm.Cond.classLink "TrapdoorVotes$Reader" (9 : Nat) "TrapdoorVotes$Stage") ∈ lw_all := lw_g (lw_at lw_m1 51 rfl) rfl
theorem q120 : (Jvm.Cond.methodLinkNest "TrapdoorVotes$Reader" (11 : Nat) ({ cls := "TrapdoorVotes$Stage", name := "<init>", desc := "()V" } : Jvm.MethodName) "TrapdoorVotes") ∈ lw_tbl := lw_at lw_m1 53 rfl
theorem q128 : (Jvm.Cond.fieldLinkNest "TrapdoorVotes$Reader" (105 : Nat) "TrapdoorVotes$Stage" "squares" "[[I" "TrapdoorVotes") ∈ lw_tbl := lw_at lw_m1 61 rfl
theorem q131 : (Jvm.Cond.fieldLinkNest "TrapdoorVotes$Reader" (84 : Nat) "TrapdoorVotes$Stage" "hands" "[[I" "TrapdoorVotes") ∈ lw_tbl := lw_at lw_m1 64 rfl
theorem q134 : (Jvm.Cond.fieldLinkNest "TrapdoorVotes$Reader" (95 : Nat) "TrapdoorVotes$Stage" "ministers" "[[I" "TrapdoorVotes") ∈ lw_tbl := lw_at lw_m1 67 rfl
theorem q137 : (Jvm.Cond.fieldLinkNest "TrapdoorVotes$Reader" (81 : Nat) "TrapdoorVotes$Stage" "handMany" "I" "TrapdoorVotes") ∈ lw_tbl := lw_at lw_m1 70 rfl
theorem q140 : (Jvm.Cond.fieldLinkNest "TrapdoorVotes$Reader" (92 : Nat) "TrapdoorVotes$Stage" "ministerMany" "I" "TrapdoorVotes") ∈ lw_tbl := lw_at lw_m1 73 rfl
theorem q163 : (Jvm.Cond.methodLink "TrapdoorVotes$Reader" (22 : Nat) ({ cls := "TrapdoorVotes$Reader", name := "next", desc := "()V" } : Jvm.MethodName)) ∈ lw_all := lw_g (lw_at lw_m1 96 rfl) rfl
theorem q164 : (Jvm.Cond.privateMethod ({ cls := "TrapdoorVotes$Reader", name := "next", desc := "()V" } : Jvm.MethodName)) ∈ lw_tbl := lw_at lw_m1 97 rfl
theorem q165 : (Jvm.Cond.instanceMethod ({ cls := "TrapdoorVotes$Reader", name := "next", desc := "()V" } : Jvm.MethodName)) ∈ lw_all := lw_g (lw_at lw_m1 98 rfl) rfl
theorem q166 : (Jvm.Cond.code ({ cls := "TrapdoorVotes$Reader", name := "next", desc := "()V" } : Jvm.MethodName) prog_7_method_5_code (2 : Nat) (Option.none : Option Jvm.ClassFile.FieldType)) ∈ lw_all := lw_g (lw_at lw_m1 99 rfl) rfl
theorem q167 : (Jvm.Cond.methodLink "TrapdoorVotes$Reader" (50 : Nat) ({ cls := "TrapdoorVotes$Reader", name := "at", desc := "(I)I" } : Jvm.MethodName)) ∈ lw_all := lw_g (lw_at lw_m1 100 rfl) rfl
theorem q168 : (Jvm.Cond.privateMethod ({ cls := "TrapdoorVotes$Reader", name := "at", desc := "(I)I" } : Jvm.MethodName)) ∈ lw_tbl := lw_at lw_m1 101 rfl
theorem q169 : (Jvm.Cond.instanceMethod ({ cls := "TrapdoorVotes$Reader", name := "at", desc := "(I)I" } : Jvm.MethodName)) ∈ lw_all := lw_g (lw_at lw_m1 102 rfl) rfl
theorem q170 : (Jvm.Cond.code ({ cls := "TrapdoorVotes$Reader", name := "at", desc := "(I)I" } : Jvm.MethodName) prog_7_method_2_code (2 : Nat) (Option.some Jvm.ClassFile.FieldType.int)) ∈ lw_all := lw_g (lw_at lw_m1 103 rfl) rfl
theorem q171 : (Jvm.Cond.constantLong "TrapdoorVotes$Reader" (57 : Nat) (97 : Int64)) ∈ lw_all := lw_g (lw_at lw_m1 104 rfl) rfl
theorem q172 : (Jvm.Cond.constantLong "TrapdoorVotes$Reader" (59 : Nat) (122 : Int64)) ∈ lw_all := lw_g (lw_at lw_m1 105 rfl) rfl
theorem q173 : (Jvm.Cond.methodLinkNest "TrapdoorVotes$Reader" (61 : Nat) ({ cls := "TrapdoorVotes", name := "isIn", desc := "(JJJ)Z" } : Jvm.MethodName) "TrapdoorVotes") ∈ lw_tbl := lw_at lw_m1 106 rfl
theorem q174 : (Jvm.Cond.constantLong "TrapdoorVotes$Reader" (65 : Nat) (48 : Int64)) ∈ lw_all := lw_g (lw_at lw_m1 107 rfl) rfl
theorem q175 : (Jvm.Cond.constantLong "TrapdoorVotes$Reader" (67 : Nat) (57 : Int64)) ∈ lw_all := lw_g (lw_at lw_m1 108 rfl) rfl
theorem q176 : (Jvm.Cond.methodLink "TrapdoorVotes$Reader" (69 : Nat) ({ cls := "TrapdoorVotes$Reader", name := "must", desc := "(ZI)V" } : Jvm.MethodName)) ∈ lw_all := lw_g (lw_at lw_m1 109 rfl) rfl
theorem q177 : (Jvm.Cond.privateMethod ({ cls := "TrapdoorVotes$Reader", name := "must", desc := "(ZI)V" } : Jvm.MethodName)) ∈ lw_tbl := lw_at lw_m1 110 rfl
theorem q178 : (Jvm.Cond.instanceMethod ({ cls := "TrapdoorVotes$Reader", name := "must", desc := "(ZI)V" } : Jvm.MethodName)) ∈ lw_all := lw_g (lw_at lw_m1 111 rfl) rfl
theorem q179 : (Jvm.Cond.code ({ cls := "TrapdoorVotes$Reader", name := "must", desc := "(ZI)V" } : Jvm.MethodName) prog_7_method_3_code (3 : Nat) (Option.none : Option Jvm.ClassFile.FieldType)) ∈ lw_all := lw_g (lw_at lw_m1 112 rfl) rfl
theorem q180 : (Jvm.Cond.classLink "TrapdoorVotes$Reader" (25 : Nat) "TrapdoorVotes$Fault") ∈ lw_all := lw_g (lw_at lw_m1 113 rfl) rfl
theorem q236 : (Jvm.Cond.methodLink "TrapdoorVotes$Reader" (31 : Nat) ({ cls := "TrapdoorVotes$Fault", name := "<init>", desc := "(II)V" } : Jvm.MethodName)) ∈ lw_all := lw_g (lw_at lw_m1 169 rfl) rfl
theorem q269 : (Jvm.Cond.fieldLink "TrapdoorVotes$Reader" (18 : Nat) "TrapdoorVotes$Reader" "t" "[B") ∈ lw_all := lw_g (lw_at lw_m1 202 rfl) rfl
theorem q270 : (Jvm.Cond.fieldLink "TrapdoorVotes$Reader" (12 : Nat) "TrapdoorVotes$Reader" "stage" "LTrapdoorVotes$Stage;") ∈ lw_all := lw_g (lw_at lw_m1 203 rfl) rfl
theorem q272 : (Jvm.Cond.fieldLink "TrapdoorVotes$Reader" (102 : Nat) "TrapdoorVotes$Reader" "once" "I") ∈ lw_all := lw_g (lw_at lw_m1 205 rfl) rfl
theorem q274 : (Jvm.Cond.fieldLink "TrapdoorVotes$Reader" (126 : Nat) "TrapdoorVotes$Reader" "lines" "I") ∈ lw_all := lw_g (lw_at lw_m1 207 rfl) rfl
theorem q275 : (Jvm.Cond.fieldLink "TrapdoorVotes$Reader" (27 : Nat) "TrapdoorVotes$Reader" "from" "I") ∈ lw_all := lw_g (lw_at lw_m1 208 rfl) rfl
theorem q276 : (Jvm.Cond.fieldLink "TrapdoorVotes$Reader" (43 : Nat) "TrapdoorVotes$Reader" "to" "I") ∈ lw_all := lw_g (lw_at lw_m1 209 rfl) rfl
theorem q277 : (Jvm.Cond.fieldLink "TrapdoorVotes$Reader" (34 : Nat) "TrapdoorVotes$Reader" "kind" "I") ∈ lw_all := lw_g (lw_at lw_m1 210 rfl) rfl
theorem q278 : (Jvm.Cond.fieldLink "TrapdoorVotes$Reader" (54 : Nat) "TrapdoorVotes$Reader" "value" "I") ∈ lw_all := lw_g (lw_at lw_m1 211 rfl) rfl
theorem q279 : (Jvm.Cond.laysFinal "TrapdoorVotes$Reader" "TrapdoorVotes$Reader" "t" "[B") ∈ lw_all := lw_g (lw_at lw_m1 212 rfl) rfl
theorem q280 : (Jvm.Cond.soleField "TrapdoorVotes$Reader" "t") ∈ lw_all := lw_g (lw_at lw_m1 213 rfl) rfl
theorem q281 : (Jvm.Cond.laysFinal "TrapdoorVotes$Reader" "TrapdoorVotes$Reader" "stage" "LTrapdoorVotes$Stage;") ∈ lw_all := lw_g (lw_at lw_m1 214 rfl) rfl
theorem q282 : (Jvm.Cond.soleField "TrapdoorVotes$Reader" "stage") ∈ lw_all := lw_g (lw_at lw_m1 215 rfl) rfl
theorem q283 : (Jvm.Cond.lays "TrapdoorVotes$Reader" "TrapdoorVotes$Reader" "once" "I") ∈ lw_all := lw_g (lw_at lw_m1 216 rfl) rfl
theorem q284 : (Jvm.Cond.soleField "TrapdoorVotes$Reader" "once") ∈ lw_all := lw_g (lw_at lw_m1 217 rfl) rfl
theorem q285 : (Jvm.Cond.lays "TrapdoorVotes$Reader" "TrapdoorVotes$Reader" "lines" "I") ∈ lw_all := lw_g (lw_at lw_m1 218 rfl) rfl
theorem q286 : (Jvm.Cond.soleField "TrapdoorVotes$Reader" "lines") ∈ lw_all := lw_g (lw_at lw_m1 219 rfl) rfl
theorem q287 : (Jvm.Cond.lays "TrapdoorVotes$Reader" "TrapdoorVotes$Reader" "from" "I") ∈ lw_all := lw_g (lw_at lw_m1 220 rfl) rfl
theorem q288 : (Jvm.Cond.soleField "TrapdoorVotes$Reader" "from") ∈ lw_all := lw_g (lw_at lw_m1 221 rfl) rfl
theorem q289 : (Jvm.Cond.lays "TrapdoorVotes$Reader" "TrapdoorVotes$Reader" "to" "I") ∈ lw_all := lw_g (lw_at lw_m1 222 rfl) rfl
theorem q290 : (Jvm.Cond.soleField "TrapdoorVotes$Reader" "to") ∈ lw_all := lw_g (lw_at lw_m1 223 rfl) rfl
theorem q291 : (Jvm.Cond.lays "TrapdoorVotes$Reader" "TrapdoorVotes$Reader" "kind" "I") ∈ lw_all := lw_g (lw_at lw_m1 224 rfl) rfl
theorem q292 : (Jvm.Cond.soleField "TrapdoorVotes$Reader" "kind") ∈ lw_all := lw_g (lw_at lw_m1 225 rfl) rfl
theorem q293 : (Jvm.Cond.lays "TrapdoorVotes$Reader" "TrapdoorVotes$Reader" "value" "I") ∈ lw_all := lw_g (lw_at lw_m1 226 rfl) rfl
theorem q294 : (Jvm.Cond.soleField "TrapdoorVotes$Reader" "value") ∈ lw_all := lw_g (lw_at lw_m1 227 rfl) rfl
theorem q295 : (Jvm.Cond.superclass "TrapdoorVotes$Reader" "java/lang/Object") ∈ lw_all := lw_g (lw_at lw_m1 228 rfl) rfl
theorem q297 : (Jvm.Cond.instanceMethod ({ cls := "TrapdoorVotes$Reader", name := "all", desc := "()V" } : Jvm.MethodName)) ∈ lw_all := lw_g (lw_at lw_m1 230 rfl) rfl
theorem q298 : (Jvm.Cond.selects "TrapdoorVotes$Reader" ({ cls := "TrapdoorVotes$Reader", name := "all", desc := "()V" } : Jvm.MethodName) ({ cls := "TrapdoorVotes$Reader", name := "all", desc := "()V" } : Jvm.MethodName)) ∈ lw_all := lw_g (lw_at lw_m1 231 rfl) rfl
theorem q299 : (Jvm.Cond.code ({ cls := "TrapdoorVotes$Reader", name := "all", desc := "()V" } : Jvm.MethodName) prog_7_method_12_code (1 : Nat) (Option.none : Option Jvm.ClassFile.FieldType)) ∈ lw_all := lw_g (lw_at lw_m1 232 rfl) rfl
theorem q300 : (Jvm.Cond.methodLink "TrapdoorVotes$Reader" (129 : Nat) ({ cls := "TrapdoorVotes$Reader", name := "line", desc := "()V" } : Jvm.MethodName)) ∈ lw_all := lw_g (lw_at lw_m1 233 rfl) rfl
theorem q301 : (Jvm.Cond.privateMethod ({ cls := "TrapdoorVotes$Reader", name := "line", desc := "()V" } : Jvm.MethodName)) ∈ lw_tbl := lw_at lw_m1 234 rfl
theorem q302 : (Jvm.Cond.instanceMethod ({ cls := "TrapdoorVotes$Reader", name := "line", desc := "()V" } : Jvm.MethodName)) ∈ lw_all := lw_g (lw_at lw_m1 235 rfl) rfl
theorem q303 : (Jvm.Cond.code ({ cls := "TrapdoorVotes$Reader", name := "line", desc := "()V" } : Jvm.MethodName) prog_7_method_11_code (2 : Nat) (Option.none : Option Jvm.ClassFile.FieldType)) ∈ lw_all := lw_g (lw_at lw_m1 236 rfl) rfl
theorem q304 : (Jvm.Cond.fieldLinkNest "TrapdoorVotes$Reader" (108 : Nat) "TrapdoorVotes" "NAMES" "[Ljava/lang/String;" "TrapdoorVotes") ∈ lw_tbl := lw_at lw_m1 237 rfl
theorem q306 : (Jvm.Cond.methodLink "TrapdoorVotes$Reader" (112 : Nat) ({ cls := "TrapdoorVotes$Reader", name := "isWord", desc := "(Ljava/lang/String;)Z" } : Jvm.MethodName)) ∈ lw_all := lw_g (lw_at lw_m1 239 rfl) rfl
theorem q307 : (Jvm.Cond.privateMethod ({ cls := "TrapdoorVotes$Reader", name := "isWord", desc := "(Ljava/lang/String;)Z" } : Jvm.MethodName)) ∈ lw_tbl := lw_at lw_m2 0 rfl
theorem q308 : (Jvm.Cond.instanceMethod ({ cls := "TrapdoorVotes$Reader", name := "isWord", desc := "(Ljava/lang/String;)Z" } : Jvm.MethodName)) ∈ lw_all := lw_g (lw_at lw_m2 1 rfl) rfl
theorem q309 : (Jvm.Cond.code ({ cls := "TrapdoorVotes$Reader", name := "isWord", desc := "(Ljava/lang/String;)Z" } : Jvm.MethodName) prog_7_method_4_code (4 : Nat) (Option.some Jvm.ClassFile.FieldType.boolean)) ∈ lw_all := lw_g (lw_at lw_m2 2 rfl) rfl
theorem q310 : (Jvm.Cond.methodLink "TrapdoorVotes$Reader" (37 : Nat) ({ cls := "java/lang/String", name := "length", desc := "()I" } : Jvm.MethodName)) ∈ lw_all := lw_g (lw_at lw_m2 3 rfl) rfl
theorem q320 : (Jvm.Cond.methodLink "TrapdoorVotes$Reader" (46 : Nat) ({ cls := "java/lang/String", name := "charAt", desc := "(I)C" } : Jvm.MethodName)) ∈ lw_all := lw_g (lw_at lw_m2 13 rfl) rfl
theorem q358 : (Jvm.Cond.methodLink "TrapdoorVotes$Reader" (116 : Nat) ({ cls := "TrapdoorVotes$Reader", name := "handOf", desc := "(I)V" } : Jvm.MethodName)) ∈ lw_all := lw_g (lw_at lw_m2 51 rfl) rfl
theorem q359 : (Jvm.Cond.privateMethod ({ cls := "TrapdoorVotes$Reader", name := "handOf", desc := "(I)V" } : Jvm.MethodName)) ∈ lw_tbl := lw_at lw_m2 52 rfl
theorem q360 : (Jvm.Cond.instanceMethod ({ cls := "TrapdoorVotes$Reader", name := "handOf", desc := "(I)V" } : Jvm.MethodName)) ∈ lw_all := lw_g (lw_at lw_m2 53 rfl) rfl
theorem q361 : (Jvm.Cond.code ({ cls := "TrapdoorVotes$Reader", name := "handOf", desc := "(I)V" } : Jvm.MethodName) prog_7_method_8_code (3 : Nat) (Option.none : Option Jvm.ClassFile.FieldType)) ∈ lw_all := lw_g (lw_at lw_m2 54 rfl) rfl
theorem q362 : (Jvm.Cond.methodLink "TrapdoorVotes$Reader" (88 : Nat) ({ cls := "TrapdoorVotes$Reader", name := "number", desc := "(II)I" } : Jvm.MethodName)) ∈ lw_all := lw_g (lw_at lw_m2 55 rfl) rfl
theorem q363 : (Jvm.Cond.privateMethod ({ cls := "TrapdoorVotes$Reader", name := "number", desc := "(II)I" } : Jvm.MethodName)) ∈ lw_tbl := lw_at lw_m2 56 rfl
theorem q364 : (Jvm.Cond.instanceMethod ({ cls := "TrapdoorVotes$Reader", name := "number", desc := "(II)I" } : Jvm.MethodName)) ∈ lw_all := lw_g (lw_at lw_m2 57 rfl) rfl
theorem q365 : (Jvm.Cond.code ({ cls := "TrapdoorVotes$Reader", name := "number", desc := "(II)I" } : Jvm.MethodName) prog_7_method_7_code (3 : Nat) (Option.some Jvm.ClassFile.FieldType.int)) ∈ lw_all := lw_g (lw_at lw_m2 58 rfl) rfl
theorem q366 : (Jvm.Cond.methodLink "TrapdoorVotes$Reader" (77 : Nat) ({ cls := "TrapdoorVotes$Reader", name := "other", desc := "(III)I" } : Jvm.MethodName)) ∈ lw_all := lw_g (lw_at lw_m2 59 rfl) rfl
theorem q367 : (Jvm.Cond.privateMethod ({ cls := "TrapdoorVotes$Reader", name := "other", desc := "(III)I" } : Jvm.MethodName)) ∈ lw_tbl := lw_at lw_m2 60 rfl
theorem q368 : (Jvm.Cond.instanceMethod ({ cls := "TrapdoorVotes$Reader", name := "other", desc := "(III)I" } : Jvm.MethodName)) ∈ lw_all := lw_g (lw_at lw_m2 61 rfl) rfl
theorem q369 : (Jvm.Cond.code ({ cls := "TrapdoorVotes$Reader", name := "other", desc := "(III)I" } : Jvm.MethodName) prog_7_method_6_code (5 : Nat) (Option.some Jvm.ClassFile.FieldType.int)) ∈ lw_all := lw_g (lw_at lw_m2 62 rfl) rfl
theorem q370 : (Jvm.Cond.methodLinkNest "TrapdoorVotes$Reader" (73 : Nat) ({ cls := "TrapdoorVotes", name := "has", desc := "(II)Z" } : Jvm.MethodName) "TrapdoorVotes") ∈ lw_tbl := lw_at lw_m2 63 rfl
theorem q373 : (Jvm.Cond.methodLink "TrapdoorVotes$Reader" (120 : Nat) ({ cls := "TrapdoorVotes$Reader", name := "ministerOf", desc := "()V" } : Jvm.MethodName)) ∈ lw_all := lw_g (lw_at lw_m2 66 rfl) rfl
theorem q374 : (Jvm.Cond.privateMethod ({ cls := "TrapdoorVotes$Reader", name := "ministerOf", desc := "()V" } : Jvm.MethodName)) ∈ lw_tbl := lw_at lw_m2 67 rfl
theorem q375 : (Jvm.Cond.instanceMethod ({ cls := "TrapdoorVotes$Reader", name := "ministerOf", desc := "()V" } : Jvm.MethodName)) ∈ lw_all := lw_g (lw_at lw_m2 68 rfl) rfl
theorem q376 : (Jvm.Cond.code ({ cls := "TrapdoorVotes$Reader", name := "ministerOf", desc := "()V" } : Jvm.MethodName) prog_7_method_9_code (2 : Nat) (Option.none : Option Jvm.ClassFile.FieldType)) ∈ lw_all := lw_g (lw_at lw_m2 69 rfl) rfl
theorem q377 : (Jvm.Cond.methodLinkNest "TrapdoorVotes$Reader" (98 : Nat) ({ cls := "TrapdoorVotes", name := "isSquare", desc := "(I)Z" } : Jvm.MethodName) "TrapdoorVotes") ∈ lw_tbl := lw_at lw_m2 70 rfl
theorem q381 : (Jvm.Cond.methodLink "TrapdoorVotes$Reader" (123 : Nat) ({ cls := "TrapdoorVotes$Reader", name := "more", desc := "(I)V" } : Jvm.MethodName)) ∈ lw_all := lw_g (lw_at lw_m2 74 rfl) rfl
theorem q382 : (Jvm.Cond.privateMethod ({ cls := "TrapdoorVotes$Reader", name := "more", desc := "(I)V" } : Jvm.MethodName)) ∈ lw_tbl := lw_at lw_m2 75 rfl
theorem q383 : (Jvm.Cond.instanceMethod ({ cls := "TrapdoorVotes$Reader", name := "more", desc := "(I)V" } : Jvm.MethodName)) ∈ lw_all := lw_g (lw_at lw_m2 76 rfl) rfl
theorem q384 : (Jvm.Cond.code ({ cls := "TrapdoorVotes$Reader", name := "more", desc := "(I)V" } : Jvm.MethodName) prog_7_method_10_code (4 : Nat) (Option.none : Option Jvm.ClassFile.FieldType)) ∈ lw_all := lw_g (lw_at lw_m2 77 rfl) rfl
theorem in_X5 : ∀ w ∈ wsX50, w ∈ lw_all := lw_in wsX50 [279, 281, 283, 285, 287, 289, 291, 293] (by decide +kernel) (by decide +kernel)
/-! TrapdoorVotes$Fault -/
set_option maxRecDepth 100000
def RX6 : String := "TrapdoorVotes$Fault"
def TX6 : u_T := fun k => match k with
  | 0 => ("java/lang/Throwable", "cause", "Ljava/lang/Throwable;", false)
  | 1 => ("java/lang/Throwable", "stackTrace", "[Ljava/lang/StackTraceElement;", false)
  | 2 => ("java/lang/Throwable", "suppressedExceptions", "Ljava/util/List;", false)
  | 3 => ("java/lang/Throwable", "detailMessage", "Ljava/lang/String;", false)
  | 4 => ("java/lang/Throwable", "backtrace", "Ljava/lang/Object;", false)
  | 5 => ("java/lang/Throwable", "depth", "I", false)
  | 6 => ("TrapdoorVotes$Fault", "code", "I", true)
  | _ => ("TrapdoorVotes$Fault", "place", "I", true)
def tyX6 : Nat → FieldType := fun k => match k with
  | 0 => .object "java/lang/Throwable"
  | 1 => .array (.object "java/lang/StackTraceElement")
  | 2 => .object "java/util/List"
  | 3 => .object "java/lang/String"
  | 4 => .object "java/lang/Object"
  | 5 => .int
  | 6 => .int
  | _ => .int
abbrev wsX60 : List Cond := u_ws RX6 TX6 8
theorem nmX6 : ∀ a, a < 8 → ∀ b, b < 8 → a ≠ b → (TX6 a).2.1 ≠ (TX6 b).2.1 := by decide +kernel
theorem tyX6_ok : ∀ k, k < 8 → parseFieldDescriptor (TX6 k).2.2.1 = some (tyX6 k) := by decide +kernel
abbrev cX6_init : ByteArray := prog_2_method_1_code
def yX6_init : MethodName := ⟨RX6, "<init>", "(II)V"⟩
def dkwX6_init_0 : List UInt8 := [42, 1, 1, 3, 3, 183, 0, 1, 42, 27, 181, 0, 7, 42, 28, 181, 0, 13, 177]
abbrev dktX6_init_0 : List UInt8 := dkwX6_init_0 ++ []
theorem dksX6_init_0 : cX6_init.data.toList.drop 0 = dktX6_init_0 := by decide +kernel
theorem dX6_init_0 : decode cX6_init 0 = .ok (.aload_n 0, 1) := dk_42 (dk_at dksX6_init_0 0 rfl rfl)
theorem dX6_init_1 : decode cX6_init 1 = .ok (.aconst_null, 1) := dk_1 (dk_at dksX6_init_0 1 rfl rfl)
theorem dX6_init_2 : decode cX6_init 2 = .ok (.aconst_null, 1) := dk_1 (dk_at dksX6_init_0 2 rfl rfl)
theorem dX6_init_3 : decode cX6_init 3 = .ok (.iconst 0, 1) := dk_3 (dk_at dksX6_init_0 3 rfl rfl)
theorem dX6_init_4 : decode cX6_init 4 = .ok (.iconst 0, 1) := dk_3 (dk_at dksX6_init_0 4 rfl rfl)
theorem dX6_init_5 : decode cX6_init 5 = .ok (.invokespecial 1, 3) := dk_183 0 1 (dk_at dksX6_init_0 5 rfl rfl)
theorem dX6_init_8 : decode cX6_init 8 = .ok (.aload_n 0, 1) := dk_42 (dk_at dksX6_init_0 8 rfl rfl)
theorem dX6_init_9 : decode cX6_init 9 = .ok (.iload_n 1, 1) := dk_27 (dk_at dksX6_init_0 9 rfl rfl)
theorem dX6_init_10 : decode cX6_init 10 = .ok (.putfield 7, 3) := dk_181 0 7 (dk_at dksX6_init_0 10 rfl rfl)
theorem dX6_init_13 : decode cX6_init 13 = .ok (.aload_n 0, 1) := dk_42 (dk_at dksX6_init_0 13 rfl rfl)
theorem dX6_init_14 : decode cX6_init 14 = .ok (.iload_n 2, 1) := dk_28 (dk_at dksX6_init_0 14 rfl rfl)
theorem dX6_init_15 : decode cX6_init 15 = .ok (.putfield 13, 3) := dk_181 0 13 (dk_at dksX6_init_0 15 rfl rfl)
theorem dX6_init_18 : decode cX6_init 18 = .ok (.return_, 1) := dk_177 (dk_at dksX6_init_0 18 rfl rfl)
theorem q78 : (Jvm.Cond.initialized "TrapdoorVotes$Fault") ∈ lw_all := lw_g (lw_at lw_m1 11 rfl) rfl
theorem q181 : (Jvm.Cond.instantiable "TrapdoorVotes$Fault" (8 : Nat)) ∈ lw_all := lw_g (lw_at lw_m1 114 rfl) rfl
theorem q182 : (Jvm.Cond.castable "TrapdoorVotes$Fault" "TrapdoorVotes$Fault") ∈ lw_tbl := lw_at lw_m1 115 rfl
theorem q189 : (Jvm.Cond.selects "TrapdoorVotes$Fault" ({ cls := "java/lang/Throwable", name := "fillInStackTrace", desc := "(I)Ljava/lang/Throwable;" } : Jvm.MethodName) ({ cls := "java/lang/Throwable", name := "fillInStackTrace", desc := "(I)Ljava/lang/Throwable;" } : Jvm.MethodName)) ∈ lw_all := lw_g (lw_at lw_m1 122 rfl) rfl
theorem q190 : (Jvm.Cond.selects "TrapdoorVotes$Fault" ({ cls := "java/lang/Throwable", name := "fillInStackTrace", desc := "()Ljava/lang/Throwable;" } : Jvm.MethodName) ({ cls := "java/lang/Throwable", name := "fillInStackTrace", desc := "()Ljava/lang/Throwable;" } : Jvm.MethodName)) ∈ lw_all := lw_g (lw_at lw_m1 123 rfl) rfl
theorem q191 : (Jvm.Cond.lays "TrapdoorVotes$Fault" "java/lang/Throwable" "cause" "Ljava/lang/Throwable;") ∈ lw_all := lw_g (lw_at lw_m1 124 rfl) rfl
theorem q193 : (Jvm.Cond.lays "TrapdoorVotes$Fault" "java/lang/Throwable" "stackTrace" "[Ljava/lang/StackTraceElement;") ∈ lw_all := lw_g (lw_at lw_m1 126 rfl) rfl
theorem q195 : (Jvm.Cond.lays "TrapdoorVotes$Fault" "java/lang/Throwable" "suppressedExceptions" "Ljava/util/List;") ∈ lw_all := lw_g (lw_at lw_m1 128 rfl) rfl
theorem q197 : (Jvm.Cond.lays "TrapdoorVotes$Fault" "java/lang/Throwable" "detailMessage" "Ljava/lang/String;") ∈ lw_all := lw_g (lw_at lw_m1 130 rfl) rfl
theorem q199 : (Jvm.Cond.lays "TrapdoorVotes$Fault" "java/lang/Throwable" "backtrace" "Ljava/lang/Object;") ∈ lw_all := lw_g (lw_at lw_m1 132 rfl) rfl
theorem q237 : (Jvm.Cond.instanceMethod ({ cls := "TrapdoorVotes$Fault", name := "<init>", desc := "(II)V" } : Jvm.MethodName)) ∈ lw_all := lw_g (lw_at lw_m1 170 rfl) rfl
theorem q238 : (Jvm.Cond.code ({ cls := "TrapdoorVotes$Fault", name := "<init>", desc := "(II)V" } : Jvm.MethodName) prog_2_method_1_code (3 : Nat) (Option.none : Option Jvm.ClassFile.FieldType)) ∈ lw_all := lw_g (lw_at lw_m1 171 rfl) rfl
theorem q239 : (Jvm.Cond.methodLink "TrapdoorVotes$Fault" (1 : Nat) ({ cls := "java/lang/RuntimeException", name := "<init>", desc := "(Ljava/lang/String;Ljava/lang/Throwable;ZZ)V" } : Jvm.MethodName)) ∈ lw_all := lw_g (lw_at lw_m1 172 rfl) rfl
theorem q248 : (Jvm.Cond.fieldLink "TrapdoorVotes$Fault" (7 : Nat) "TrapdoorVotes$Fault" "code" "I") ∈ lw_all := lw_g (lw_at lw_m1 181 rfl) rfl
theorem q250 : (Jvm.Cond.fieldLink "TrapdoorVotes$Fault" (13 : Nat) "TrapdoorVotes$Fault" "place" "I") ∈ lw_all := lw_g (lw_at lw_m1 183 rfl) rfl
theorem q257 : (Jvm.Cond.laysFinal "TrapdoorVotes$Fault" "TrapdoorVotes$Fault" "code" "I") ∈ lw_all := lw_g (lw_at lw_m1 190 rfl) rfl
theorem q258 : (Jvm.Cond.soleField "TrapdoorVotes$Fault" "code") ∈ lw_all := lw_g (lw_at lw_m1 191 rfl) rfl
theorem q259 : (Jvm.Cond.laysFinal "TrapdoorVotes$Fault" "TrapdoorVotes$Fault" "place" "I") ∈ lw_all := lw_g (lw_at lw_m1 192 rfl) rfl
theorem q260 : (Jvm.Cond.soleField "TrapdoorVotes$Fault" "place") ∈ lw_all := lw_g (lw_at lw_m1 193 rfl) rfl
theorem q265 : (Jvm.Cond.lays "TrapdoorVotes$Fault" "java/lang/Throwable" "depth" "I") ∈ lw_all := lw_g (lw_at lw_m1 198 rfl) rfl
theorem q268 : (Jvm.Cond.superclass "TrapdoorVotes$Fault" "java/lang/RuntimeException") ∈ lw_all := lw_g (lw_at lw_m1 201 rfl) rfl
theorem in_X6 : ∀ w ∈ wsX60, w ∈ lw_all := lw_in wsX60 [191, 193, 195, 197, 199, 265, 257, 259] (by decide +kernel) (by decide +kernel)
/-! TrapdoorVotes$Plain -/
set_option maxRecDepth 100000
def RX7 : String := "TrapdoorVotes$Plain"
abbrev cX7_angered : ByteArray := prog_6_method_2_code
def yX7_angered : MethodName := ⟨RX7, "angered", "(I)I"⟩
theorem dX7_angered_0 : decode cX7_angered 0 = .ok (.iload_n 1, 1) := by decide +kernel
theorem dX7_angered_1 : decode cX7_angered 1 = .ok (.ireturn, 1) := by decide +kernel
theorem q462 : (Jvm.Cond.instanceMethod ({ cls := "TrapdoorVotes$Plain", name := "angered", desc := "(I)I" } : Jvm.MethodName)) ∈ lw_all := lw_g (lw_at lw_m2 155 rfl) rfl
theorem q463 : (Jvm.Cond.selects "TrapdoorVotes$Plain" ({ cls := "TrapdoorVotes$Plain", name := "angered", desc := "(I)I" } : Jvm.MethodName) ({ cls := "TrapdoorVotes$Plain", name := "angered", desc := "(I)I" } : Jvm.MethodName)) ∈ lw_all := lw_g (lw_at lw_m2 156 rfl) rfl
theorem q464 : (Jvm.Cond.sameMethod "TrapdoorVotes$Plain" "TrapdoorVotes$Plain" "angered" "(I)I") ∈ lw_all := lw_g (lw_at lw_m2 157 rfl) rfl
theorem q480 : (Jvm.Cond.code ({ cls := "TrapdoorVotes$Plain", name := "angered", desc := "(I)I" } : Jvm.MethodName) prog_6_method_2_code (2 : Nat) (Option.some Jvm.ClassFile.FieldType.int)) ∈ lw_all := lw_g (lw_at lw_m2 173 rfl) rfl
/-! TrapdoorVotes$Loyal -/
set_option maxRecDepth 100000
def RX8 : String := "TrapdoorVotes$Loyal"
abbrev cX8_angered : ByteArray := prog_4_method_2_code
def yX8_angered : MethodName := ⟨RX8, "angered", "(I)I"⟩
def dkwX8_angered_0 : List UInt8 := [42, 27, 183, 0, 7, 5, 108, 172]
abbrev dktX8_angered_0 : List UInt8 := dkwX8_angered_0 ++ []
theorem dksX8_angered_0 : cX8_angered.data.toList.drop 0 = dktX8_angered_0 := by decide +kernel
theorem dX8_angered_0 : decode cX8_angered 0 = .ok (.aload_n 0, 1) := dk_42 (dk_at dksX8_angered_0 0 rfl rfl)
theorem dX8_angered_1 : decode cX8_angered 1 = .ok (.iload_n 1, 1) := dk_27 (dk_at dksX8_angered_0 1 rfl rfl)
theorem dX8_angered_2 : decode cX8_angered 2 = .ok (.invokespecial 7, 3) := dk_183 0 7 (dk_at dksX8_angered_0 2 rfl rfl)
theorem dX8_angered_5 : decode cX8_angered 5 = .ok (.iconst 2, 1) := dk_5 (dk_at dksX8_angered_0 5 rfl rfl)
theorem dX8_angered_6 : decode cX8_angered 6 = .ok (.idiv, 1) := dk_108 (dk_at dksX8_angered_0 6 rfl rfl)
theorem dX8_angered_7 : decode cX8_angered 7 = .ok (.ireturn, 1) := dk_172 (dk_at dksX8_angered_0 7 rfl rfl)
theorem q465 : (Jvm.Cond.selects "TrapdoorVotes$Loyal" ({ cls := "TrapdoorVotes$Plain", name := "angered", desc := "(I)I" } : Jvm.MethodName) ({ cls := "TrapdoorVotes$Loyal", name := "angered", desc := "(I)I" } : Jvm.MethodName)) ∈ lw_all := lw_g (lw_at lw_m2 158 rfl) rfl
theorem q466 : (Jvm.Cond.instanceMethod ({ cls := "TrapdoorVotes$Loyal", name := "angered", desc := "(I)I" } : Jvm.MethodName)) ∈ lw_all := lw_g (lw_at lw_m2 159 rfl) rfl
theorem q467 : (Jvm.Cond.code ({ cls := "TrapdoorVotes$Loyal", name := "angered", desc := "(I)I" } : Jvm.MethodName) prog_4_method_2_code (2 : Nat) (Option.some Jvm.ClassFile.FieldType.int)) ∈ lw_all := lw_g (lw_at lw_m2 160 rfl) rfl
theorem q468 : (Jvm.Cond.methodLink "TrapdoorVotes$Loyal" (7 : Nat) ({ cls := "TrapdoorVotes$Plain", name := "angered", desc := "(I)I" } : Jvm.MethodName)) ∈ lw_all := lw_g (lw_at lw_m2 161 rfl) rfl
theorem q469 : (Jvm.Cond.superclass "TrapdoorVotes$Loyal" "TrapdoorVotes$Plain") ∈ lw_all := lw_g (lw_at lw_m2 162 rfl) rfl
theorem q1373 : (Jvm.Cond.sameMethod "TrapdoorVotes$Loyal" "TrapdoorVotes$Loyal" "angered" "(I)I") ∈ lw_all := lw_g (lw_at lw_m6 106 rfl) rfl
/-! TrapdoorVotes$Mouse -/
set_option maxRecDepth 100000
def RX9 : String := "TrapdoorVotes$Mouse"
abbrev cX9_angered : ByteArray := prog_5_method_2_code
def yX9_angered : MethodName := ⟨RX9, "angered", "(I)I"⟩
def dkwX9_angered_0 : List UInt8 := [42, 27, 183, 0, 7, 4, 96, 172]
abbrev dktX9_angered_0 : List UInt8 := dkwX9_angered_0 ++ []
theorem dksX9_angered_0 : cX9_angered.data.toList.drop 0 = dktX9_angered_0 := by decide +kernel
theorem dX9_angered_0 : decode cX9_angered 0 = .ok (.aload_n 0, 1) := dk_42 (dk_at dksX9_angered_0 0 rfl rfl)
theorem dX9_angered_1 : decode cX9_angered 1 = .ok (.iload_n 1, 1) := dk_27 (dk_at dksX9_angered_0 1 rfl rfl)
theorem dX9_angered_2 : decode cX9_angered 2 = .ok (.invokespecial 7, 3) := dk_183 0 7 (dk_at dksX9_angered_0 2 rfl rfl)
theorem dX9_angered_5 : decode cX9_angered 5 = .ok (.iconst 1, 1) := dk_4 (dk_at dksX9_angered_0 5 rfl rfl)
theorem dX9_angered_6 : decode cX9_angered 6 = .ok (.iadd, 1) := dk_96 (dk_at dksX9_angered_0 6 rfl rfl)
theorem dX9_angered_7 : decode cX9_angered 7 = .ok (.ireturn, 1) := dk_172 (dk_at dksX9_angered_0 7 rfl rfl)
theorem q470 : (Jvm.Cond.selects "TrapdoorVotes$Mouse" ({ cls := "TrapdoorVotes$Plain", name := "angered", desc := "(I)I" } : Jvm.MethodName) ({ cls := "TrapdoorVotes$Mouse", name := "angered", desc := "(I)I" } : Jvm.MethodName)) ∈ lw_all := lw_g (lw_at lw_m2 163 rfl) rfl
theorem q471 : (Jvm.Cond.instanceMethod ({ cls := "TrapdoorVotes$Mouse", name := "angered", desc := "(I)I" } : Jvm.MethodName)) ∈ lw_all := lw_g (lw_at lw_m2 164 rfl) rfl
theorem q472 : (Jvm.Cond.code ({ cls := "TrapdoorVotes$Mouse", name := "angered", desc := "(I)I" } : Jvm.MethodName) prog_5_method_2_code (2 : Nat) (Option.some Jvm.ClassFile.FieldType.int)) ∈ lw_all := lw_g (lw_at lw_m2 165 rfl) rfl
theorem q473 : (Jvm.Cond.methodLink "TrapdoorVotes$Mouse" (7 : Nat) ({ cls := "TrapdoorVotes$Loyal", name := "angered", desc := "(I)I" } : Jvm.MethodName)) ∈ lw_all := lw_g (lw_at lw_m2 166 rfl) rfl
theorem q474 : (Jvm.Cond.superclass "TrapdoorVotes$Mouse" "TrapdoorVotes$Loyal") ∈ lw_all := lw_g (lw_at lw_m2 167 rfl) rfl
theorem q67 : (Jvm.Cond.initialized "TrapdoorVotesLaw") ∈ lw_all := lw_g (lw_at lw_m1 0 rfl) rfl
set_option maxRecDepth 100000
theorem q90 : (Jvm.Cond.methodLink "TrapdoorVotesLaw" (13 : Nat) ({ cls := "TrapdoorVotes", name := "feed", desc := "(I)I" } : Jvm.MethodName)) ∈ lw_all := lw_g (lw_at lw_m1 23 rfl) rfl
theorem q98 : (Jvm.Cond.methodLink "TrapdoorVotesLaw" (18 : Nat) ({ cls := "TrapdoorVotes", name := "end", desc := "(I)I" } : Jvm.MethodName)) ∈ lw_all := lw_g (lw_at lw_m1 31 rfl) rfl
theorem q102 : (Jvm.Cond.methodLink "TrapdoorVotesLaw" (22 : Nat) ({ cls := "TrapdoorVotes", name := "text", desc := "()I" } : Jvm.MethodName)) ∈ lw_all := lw_g (lw_at lw_m1 35 rfl) rfl
theorem q390 : (Jvm.Cond.methodLink "TrapdoorVotesLaw" (27 : Nat) ({ cls := "TrapdoorVotes", name := "fault", desc := "()I" } : Jvm.MethodName)) ∈ lw_all := lw_g (lw_at lw_m2 83 rfl) rfl
theorem q394 : (Jvm.Cond.methodLink "TrapdoorVotesLaw" (31 : Nat) ({ cls := "TrapdoorVotes", name := "rule", desc := "(I)I" } : Jvm.MethodName)) ∈ lw_all := lw_g (lw_at lw_m2 87 rfl) rfl
theorem q421 : (Jvm.Cond.methodLink "TrapdoorVotesLaw" (35 : Nat) ({ cls := "TrapdoorVotes", name := "square", desc := "(II)I" } : Jvm.MethodName)) ∈ lw_all := lw_g (lw_at lw_m2 114 rfl) rfl
theorem q435 : (Jvm.Cond.methodLink "TrapdoorVotesLaw" (40 : Nat) ({ cls := "TrapdoorVotes", name := "hand", desc := "(II)I" } : Jvm.MethodName)) ∈ lw_all := lw_g (lw_at lw_m2 128 rfl) rfl
theorem q445 : (Jvm.Cond.methodLink "TrapdoorVotesLaw" (44 : Nat) ({ cls := "TrapdoorVotes", name := "minister", desc := "(II)I" } : Jvm.MethodName)) ∈ lw_all := lw_g (lw_at lw_m2 138 rfl) rfl
theorem q481 : (Jvm.Cond.methodLink "TrapdoorVotesLaw" (48 : Nat) ({ cls := "TrapdoorVotes", name := "alter", desc := "(III)I" } : Jvm.MethodName)) ∈ lw_all := lw_g (lw_at lw_m2 174 rfl) rfl
theorem q493 : (Jvm.Cond.methodLink "TrapdoorVotesLaw" (53 : Nat) ({ cls := "TrapdoorVotes", name := "tread", desc := "(II)I" } : Jvm.MethodName)) ∈ lw_all := lw_g (lw_at lw_m2 186 rfl) rfl
theorem q498 : (Jvm.Cond.methodLink "TrapdoorVotesLaw" (57 : Nat) ({ cls := "TrapdoorVotes", name := "step", desc := "(II)I" } : Jvm.MethodName)) ∈ lw_all := lw_g (lw_at lw_m2 191 rfl) rfl
theorem q502 : (Jvm.Cond.methodLink "TrapdoorVotesLaw" (61 : Nat) ({ cls := "TrapdoorVotes", name := "bolt", desc := "(III)I" } : Jvm.MethodName)) ∈ lw_all := lw_g (lw_at lw_m2 195 rfl) rfl
theorem q507 : (Jvm.Cond.methodLink "TrapdoorVotesLaw" (65 : Nat) ({ cls := "TrapdoorVotes", name := "turns", desc := "(I)I" } : Jvm.MethodName)) ∈ lw_all := lw_g (lw_at lw_m2 200 rfl) rfl
theorem q529 : (Jvm.Cond.methodLink "TrapdoorVotesLaw" (69 : Nat) ({ cls := "TrapdoorVotes", name := "runs", desc := "(II)I" } : Jvm.MethodName)) ∈ lw_all := lw_g (lw_at lw_m2 222 rfl) rfl
theorem q541 : (Jvm.Cond.methodLink "TrapdoorVotesLaw" (73 : Nat) ({ cls := "TrapdoorVotes", name := "ahead", desc := "(II)I" } : Jvm.MethodName)) ∈ lw_all := lw_g (lw_at lw_m2 234 rfl) rfl
theorem q545 : (Jvm.Cond.methodLink "TrapdoorVotesLaw" (77 : Nat) ({ cls := "TrapdoorVotes", name := "lasts", desc := "(I)I" } : Jvm.MethodName)) ∈ lw_all := lw_g (lw_at lw_m2 238 rfl) rfl
theorem q553 : (Jvm.Cond.methodLink "TrapdoorVotesLaw" (81 : Nat) ({ cls := "TrapdoorVotes", name := "stand", desc := "(II)I" } : Jvm.MethodName)) ∈ lw_all := lw_g (lw_at lw_m3 6 rfl) rfl
theorem q561 : (Jvm.Cond.methodLink "TrapdoorVotesLaw" (85 : Nat) ({ cls := "TrapdoorVotes", name := "soft", desc := "(II)I" } : Jvm.MethodName)) ∈ lw_all := lw_g (lw_at lw_m3 14 rfl) rfl
theorem q565 : (Jvm.Cond.methodLink "TrapdoorVotesLaw" (89 : Nat) ({ cls := "TrapdoorVotes", name := "rust", desc := "(II)I" } : Jvm.MethodName)) ∈ lw_all := lw_g (lw_at lw_m3 18 rfl) rfl
theorem q569 : (Jvm.Cond.methodLink "TrapdoorVotesLaw" (93 : Nat) ({ cls := "TrapdoorVotes", name := "bribe", desc := "(II)I" } : Jvm.MethodName)) ∈ lw_all := lw_g (lw_at lw_m3 22 rfl) rfl
theorem q582 : (Jvm.Cond.methodLink "TrapdoorVotesLaw" (97 : Nat) ({ cls := "TrapdoorVotes", name := "swap", desc := "(II)I" } : Jvm.MethodName)) ∈ lw_all := lw_g (lw_at lw_m3 35 rfl) rfl
theorem q586 : (Jvm.Cond.methodLink "TrapdoorVotesLaw" (101 : Nat) ({ cls := "TrapdoorVotes", name := "kind", desc := "(III)I" } : Jvm.MethodName)) ∈ lw_all := lw_g (lw_at lw_m3 39 rfl) rfl
theorem q590 : (Jvm.Cond.methodLink "TrapdoorVotesLaw" (105 : Nat) ({ cls := "TrapdoorVotes", name := "luck", desc := "(IIII)J" } : Jvm.MethodName)) ∈ lw_all := lw_g (lw_at lw_m3 43 rfl) rfl
theorem q607 : (Jvm.Cond.methodLink "TrapdoorVotesLaw" (110 : Nat) ({ cls := "TrapdoorVotes", name := "mean", desc := "(III)J" } : Jvm.MethodName)) ∈ lw_all := lw_g (lw_at lw_m3 60 rfl) rfl
theorem q611 : (Jvm.Cond.methodLink "TrapdoorVotesLaw" (115 : Nat) ({ cls := "TrapdoorVotes", name := "see", desc := "(IIZ)I" } : Jvm.MethodName)) ∈ lw_all := lw_g (lw_at lw_m3 64 rfl) rfl
theorem q615 : (Jvm.Cond.methodLink "TrapdoorVotesLaw" (120 : Nat) ({ cls := "TrapdoorVotes", name := "forget", desc := "(I)I" } : Jvm.MethodName)) ∈ lw_all := lw_g (lw_at lw_m3 68 rfl) rfl
theorem q619 : (Jvm.Cond.methodLink "TrapdoorVotesLaw" (124 : Nat) ({ cls := "TrapdoorVotes", name := "kinds", desc := "(I)I" } : Jvm.MethodName)) ∈ lw_all := lw_g (lw_at lw_m3 72 rfl) rfl
theorem q627 : (Jvm.Cond.methodLink "TrapdoorVotesLaw" (128 : Nat) ({ cls := "TrapdoorVotes", name := "squares", desc := "(I)I" } : Jvm.MethodName)) ∈ lw_all := lw_g (lw_at lw_m3 80 rfl) rfl
theorem q635 : (Jvm.Cond.methodLink "TrapdoorVotesLaw" (132 : Nat) ({ cls := "TrapdoorVotes", name := "ask", desc := "(II)I" } : Jvm.MethodName)) ∈ lw_all := lw_g (lw_at lw_m3 88 rfl) rfl
theorem q645 : (Jvm.Cond.methodLink "TrapdoorVotesLaw" (136 : Nat) ({ cls := "TrapdoorVotes", name := "drift", desc := "(III)I" } : Jvm.MethodName)) ∈ lw_all := lw_g (lw_at lw_m3 98 rfl) rfl
theorem q650 : (Jvm.Cond.methodLink "TrapdoorVotesLaw" (140 : Nat) ({ cls := "TrapdoorVotes", name := "keep", desc := "(I)I" } : Jvm.MethodName)) ∈ lw_all := lw_g (lw_at lw_m3 103 rfl) rfl
theorem q662 : (Jvm.Cond.methodLink "TrapdoorVotesLaw" (144 : Nat) ({ cls := "TrapdoorVotes", name := "back", desc := "(I)I" } : Jvm.MethodName)) ∈ lw_all := lw_g (lw_at lw_m3 115 rfl) rfl
theorem q670 : (Jvm.Cond.classLink "TrapdoorVotesLaw" (7 : Nat) "TrapdoorVotes") ∈ lw_all := lw_g (lw_at lw_m3 123 rfl) rfl
theorem q671 : (Jvm.Cond.methodLink "TrapdoorVotesLaw" (9 : Nat) ({ cls := "TrapdoorVotes", name := "<init>", desc := "()V" } : Jvm.MethodName)) ∈ lw_all := lw_g (lw_at lw_m3 124 rfl) rfl
theorem q773 : (Jvm.Cond.methodLink "TrapdoorVotesLaw" (148 : Nat) ({ cls := "TrapdoorVotes", name := "sheet", desc := "(III)I" } : Jvm.MethodName)) ∈ lw_all := lw_g (lw_at lw_m3 226 rfl) rfl
theorem q809 : (Jvm.Cond.methodLink "TrapdoorVotesLaw" (152 : Nat) ({ cls := "TrapdoorVotes", name := "lay", desc := "(III)I" } : Jvm.MethodName)) ∈ lw_all := lw_g (lw_at lw_m4 22 rfl) rfl
theorem q860 : (Jvm.Cond.methodLink "TrapdoorVotesLaw" (156 : Nat) ({ cls := "TrapdoorVotes", name := "read", desc := "(IIII)I" } : Jvm.MethodName)) ∈ lw_all := lw_g (lw_at lw_m4 73 rfl) rfl
theorem q886 : (Jvm.Cond.methodLink "TrapdoorVotesLaw" (161 : Nat) ({ cls := "TrapdoorVotes", name := "torn", desc := "()I" } : Jvm.MethodName)) ∈ lw_all := lw_g (lw_at lw_m4 99 rfl) rfl
theorem q890 : (Jvm.Cond.methodLink "TrapdoorVotesLaw" (165 : Nat) ({ cls := "TrapdoorVotes", name := "count", desc := "(I)I" } : Jvm.MethodName)) ∈ lw_all := lw_g (lw_at lw_m4 103 rfl) rfl
theorem q902 : (Jvm.Cond.classLink "TrapdoorVotesLaw" (10 : Nat) "TrapdoorVotesModel") ∈ lw_all := lw_g (lw_at lw_m4 115 rfl) rfl
theorem q904 : (Jvm.Cond.methodLink "TrapdoorVotesLaw" (12 : Nat) ({ cls := "TrapdoorVotesModel", name := "<init>", desc := "()V" } : Jvm.MethodName)) ∈ lw_all := lw_g (lw_at lw_m4 117 rfl) rfl
theorem q1018 : (Jvm.Cond.methodLink "TrapdoorVotesLaw" (17 : Nat) ({ cls := "TrapdoorVotesModel", name := "feed", desc := "(I)I" } : Jvm.MethodName)) ∈ lw_all := lw_g (lw_at lw_m4 231 rfl) rfl
theorem q1026 : (Jvm.Cond.methodLink "TrapdoorVotesLaw" (21 : Nat) ({ cls := "TrapdoorVotesModel", name := "end", desc := "(I)I" } : Jvm.MethodName)) ∈ lw_all := lw_g (lw_at lw_m4 239 rfl) rfl
theorem q1030 : (Jvm.Cond.methodLink "TrapdoorVotesLaw" (26 : Nat) ({ cls := "TrapdoorVotesModel", name := "text", desc := "()I" } : Jvm.MethodName)) ∈ lw_all := lw_g (lw_at lw_m5 3 rfl) rfl
theorem q1082 : (Jvm.Cond.methodLink "TrapdoorVotesLaw" (30 : Nat) ({ cls := "TrapdoorVotesModel", name := "fault", desc := "()I" } : Jvm.MethodName)) ∈ lw_all := lw_g (lw_at lw_m5 55 rfl) rfl
theorem q1086 : (Jvm.Cond.methodLink "TrapdoorVotesLaw" (34 : Nat) ({ cls := "TrapdoorVotesModel", name := "rule", desc := "(I)I" } : Jvm.MethodName)) ∈ lw_all := lw_g (lw_at lw_m5 59 rfl) rfl
theorem q1121 : (Jvm.Cond.methodLink "TrapdoorVotesLaw" (39 : Nat) ({ cls := "TrapdoorVotesModel", name := "square", desc := "(II)I" } : Jvm.MethodName)) ∈ lw_all := lw_g (lw_at lw_m5 94 rfl) rfl
theorem q1134 : (Jvm.Cond.methodLink "TrapdoorVotesLaw" (43 : Nat) ({ cls := "TrapdoorVotesModel", name := "hand", desc := "(II)I" } : Jvm.MethodName)) ∈ lw_all := lw_g (lw_at lw_m5 107 rfl) rfl
theorem q1142 : (Jvm.Cond.methodLink "TrapdoorVotesLaw" (47 : Nat) ({ cls := "TrapdoorVotesModel", name := "minister", desc := "(II)I" } : Jvm.MethodName)) ∈ lw_all := lw_g (lw_at lw_m5 115 rfl) rfl
theorem q1153 : (Jvm.Cond.methodLink "TrapdoorVotesLaw" (52 : Nat) ({ cls := "TrapdoorVotesModel", name := "alter", desc := "(III)I" } : Jvm.MethodName)) ∈ lw_all := lw_g (lw_at lw_m5 126 rfl) rfl
theorem q1162 : (Jvm.Cond.methodLink "TrapdoorVotesLaw" (56 : Nat) ({ cls := "TrapdoorVotesModel", name := "tread", desc := "(II)I" } : Jvm.MethodName)) ∈ lw_all := lw_g (lw_at lw_m5 135 rfl) rfl
theorem q1167 : (Jvm.Cond.methodLink "TrapdoorVotesLaw" (60 : Nat) ({ cls := "TrapdoorVotesModel", name := "step", desc := "(II)I" } : Jvm.MethodName)) ∈ lw_all := lw_g (lw_at lw_m5 140 rfl) rfl
theorem q1171 : (Jvm.Cond.methodLink "TrapdoorVotesLaw" (64 : Nat) ({ cls := "TrapdoorVotesModel", name := "bolt", desc := "(III)I" } : Jvm.MethodName)) ∈ lw_all := lw_g (lw_at lw_m5 144 rfl) rfl
theorem q1176 : (Jvm.Cond.methodLink "TrapdoorVotesLaw" (68 : Nat) ({ cls := "TrapdoorVotesModel", name := "turns", desc := "(I)I" } : Jvm.MethodName)) ∈ lw_all := lw_g (lw_at lw_m5 149 rfl) rfl
theorem q1216 : (Jvm.Cond.methodLink "TrapdoorVotesLaw" (72 : Nat) ({ cls := "TrapdoorVotesModel", name := "runs", desc := "(II)I" } : Jvm.MethodName)) ∈ lw_all := lw_g (lw_at lw_m5 189 rfl) rfl
theorem q1224 : (Jvm.Cond.methodLink "TrapdoorVotesLaw" (76 : Nat) ({ cls := "TrapdoorVotesModel", name := "ahead", desc := "(II)I" } : Jvm.MethodName)) ∈ lw_all := lw_g (lw_at lw_m5 197 rfl) rfl
theorem q1228 : (Jvm.Cond.methodLink "TrapdoorVotesLaw" (80 : Nat) ({ cls := "TrapdoorVotesModel", name := "lasts", desc := "(I)I" } : Jvm.MethodName)) ∈ lw_all := lw_g (lw_at lw_m5 201 rfl) rfl
theorem q1236 : (Jvm.Cond.methodLink "TrapdoorVotesLaw" (84 : Nat) ({ cls := "TrapdoorVotesModel", name := "stand", desc := "(II)I" } : Jvm.MethodName)) ∈ lw_all := lw_g (lw_at lw_m5 209 rfl) rfl
theorem q1252 : (Jvm.Cond.methodLink "TrapdoorVotesLaw" (88 : Nat) ({ cls := "TrapdoorVotesModel", name := "soft", desc := "(II)I" } : Jvm.MethodName)) ∈ lw_all := lw_g (lw_at lw_m5 225 rfl) rfl
theorem q1256 : (Jvm.Cond.methodLink "TrapdoorVotesLaw" (92 : Nat) ({ cls := "TrapdoorVotesModel", name := "rust", desc := "(II)I" } : Jvm.MethodName)) ∈ lw_all := lw_g (lw_at lw_m5 229 rfl) rfl
theorem q1260 : (Jvm.Cond.methodLink "TrapdoorVotesLaw" (96 : Nat) ({ cls := "TrapdoorVotesModel", name := "bribe", desc := "(II)I" } : Jvm.MethodName)) ∈ lw_all := lw_g (lw_at lw_m5 233 rfl) rfl
theorem q1272 : (Jvm.Cond.methodLink "TrapdoorVotesLaw" (100 : Nat) ({ cls := "TrapdoorVotesModel", name := "swap", desc := "(II)I" } : Jvm.MethodName)) ∈ lw_all := lw_g (lw_at lw_m6 5 rfl) rfl
theorem q1276 : (Jvm.Cond.methodLink "TrapdoorVotesLaw" (104 : Nat) ({ cls := "TrapdoorVotesModel", name := "kind", desc := "(III)I" } : Jvm.MethodName)) ∈ lw_all := lw_g (lw_at lw_m6 9 rfl) rfl
theorem q1280 : (Jvm.Cond.methodLink "TrapdoorVotesLaw" (109 : Nat) ({ cls := "TrapdoorVotesModel", name := "luck", desc := "(IIII)J" } : Jvm.MethodName)) ∈ lw_all := lw_g (lw_at lw_m6 13 rfl) rfl
theorem q1297 : (Jvm.Cond.methodLink "TrapdoorVotesLaw" (114 : Nat) ({ cls := "TrapdoorVotesModel", name := "mean", desc := "(III)J" } : Jvm.MethodName)) ∈ lw_all := lw_g (lw_at lw_m6 30 rfl) rfl
theorem q1301 : (Jvm.Cond.methodLink "TrapdoorVotesLaw" (119 : Nat) ({ cls := "TrapdoorVotesModel", name := "see", desc := "(IIZ)I" } : Jvm.MethodName)) ∈ lw_all := lw_g (lw_at lw_m6 34 rfl) rfl
theorem q1305 : (Jvm.Cond.methodLink "TrapdoorVotesLaw" (123 : Nat) ({ cls := "TrapdoorVotesModel", name := "forget", desc := "(I)I" } : Jvm.MethodName)) ∈ lw_all := lw_g (lw_at lw_m6 38 rfl) rfl
theorem q1309 : (Jvm.Cond.methodLink "TrapdoorVotesLaw" (127 : Nat) ({ cls := "TrapdoorVotesModel", name := "kinds", desc := "(I)I" } : Jvm.MethodName)) ∈ lw_all := lw_g (lw_at lw_m6 42 rfl) rfl
theorem q1321 : (Jvm.Cond.methodLink "TrapdoorVotesLaw" (131 : Nat) ({ cls := "TrapdoorVotesModel", name := "squares", desc := "(I)I" } : Jvm.MethodName)) ∈ lw_all := lw_g (lw_at lw_m6 54 rfl) rfl
theorem q1325 : (Jvm.Cond.methodLink "TrapdoorVotesLaw" (135 : Nat) ({ cls := "TrapdoorVotesModel", name := "ask", desc := "(II)I" } : Jvm.MethodName)) ∈ lw_all := lw_g (lw_at lw_m6 58 rfl) rfl
theorem q1329 : (Jvm.Cond.methodLink "TrapdoorVotesLaw" (139 : Nat) ({ cls := "TrapdoorVotesModel", name := "drift", desc := "(III)I" } : Jvm.MethodName)) ∈ lw_all := lw_g (lw_at lw_m6 62 rfl) rfl
theorem q1334 : (Jvm.Cond.methodLink "TrapdoorVotesLaw" (143 : Nat) ({ cls := "TrapdoorVotesModel", name := "keep", desc := "(I)I" } : Jvm.MethodName)) ∈ lw_all := lw_g (lw_at lw_m6 67 rfl) rfl
theorem q1342 : (Jvm.Cond.methodLink "TrapdoorVotesLaw" (147 : Nat) ({ cls := "TrapdoorVotesModel", name := "back", desc := "(I)I" } : Jvm.MethodName)) ∈ lw_all := lw_g (lw_at lw_m6 75 rfl) rfl
theorem q1346 : (Jvm.Cond.methodLink "TrapdoorVotesLaw" (151 : Nat) ({ cls := "TrapdoorVotesModel", name := "sheet", desc := "(III)I" } : Jvm.MethodName)) ∈ lw_all := lw_g (lw_at lw_m6 79 rfl) rfl
theorem q1354 : (Jvm.Cond.methodLink "TrapdoorVotesLaw" (155 : Nat) ({ cls := "TrapdoorVotesModel", name := "lay", desc := "(III)I" } : Jvm.MethodName)) ∈ lw_all := lw_g (lw_at lw_m6 87 rfl) rfl
theorem q1358 : (Jvm.Cond.methodLink "TrapdoorVotesLaw" (160 : Nat) ({ cls := "TrapdoorVotesModel", name := "read", desc := "(IIII)I" } : Jvm.MethodName)) ∈ lw_all := lw_g (lw_at lw_m6 91 rfl) rfl
theorem q1364 : (Jvm.Cond.methodLink "TrapdoorVotesLaw" (164 : Nat) ({ cls := "TrapdoorVotesModel", name := "torn", desc := "()I" } : Jvm.MethodName)) ∈ lw_all := lw_g (lw_at lw_m6 97 rfl) rfl
theorem q1368 : (Jvm.Cond.methodLink "TrapdoorVotesLaw" (168 : Nat) ({ cls := "TrapdoorVotesModel", name := "count", desc := "(I)I" } : Jvm.MethodName)) ∈ lw_all := lw_g (lw_at lw_m6 101 rfl) rfl
theorem q73 : (Jvm.Cond.initialized "java/lang/System") ∈ lw_all := lw_g (lw_at lw_m1 6 rfl) rfl
set_option maxRecDepth 100000
theorem q108 : (Jvm.Cond.static ({ cls := "java/lang/System", name := "arraycopy", desc := "(Ljava/lang/Object;ILjava/lang/Object;II)V" } : Jvm.MethodName)) ∈ lw_all := lw_g (lw_at lw_m1 41 rfl) rfl
theorem q109 : (Jvm.Cond.native ({ cls := "java/lang/System", name := "arraycopy", desc := "(Ljava/lang/Object;ILjava/lang/Object;II)V" } : Jvm.MethodName)) ∈ lw_all := lw_g (lw_at lw_m1 42 rfl) rfl
theorem q125 : (Jvm.Cond.arrayOver (Jvm.ClassFile.FieldType.array Jvm.ClassFile.FieldType.int)) ∈ lw_tbl := lw_at lw_m1 58 rfl
set_option maxRecDepth 100000
theorem q161 : (Jvm.Cond.arrayClass Jvm.ClassFile.FieldType.byte) ∈ lw_all := lw_g (lw_at lw_m1 94 rfl) rfl
theorem q162 : (Jvm.Cond.arrayClass Jvm.ClassFile.FieldType.int) ∈ lw_all := lw_g (lw_at lw_m1 95 rfl) rfl
theorem q679 : (Jvm.Cond.arrayOver (Jvm.ClassFile.FieldType.object "TrapdoorVotes$Image")) ∈ lw_tbl := lw_at lw_m3 132 rfl
theorem q705 : (Jvm.Cond.arrayOver (Jvm.ClassFile.FieldType.object "TrapdoorVotes$Sheet")) ∈ lw_tbl := lw_at lw_m3 158 rfl
theorem q808 : (Jvm.Cond.arrayClass Jvm.ClassFile.FieldType.short) ∈ lw_all := lw_g (lw_at lw_m4 21 rfl) rfl
theorem q1017 : (Jvm.Cond.arrayClass Jvm.ClassFile.FieldType.boolean) ∈ lw_all := lw_g (lw_at lw_m4 230 rfl) rfl
theorem q1383 : (Jvm.Cond.arrayOver (Jvm.ClassFile.FieldType.object "java/lang/String")) ∈ lw_tbl := lw_at lw_m6 116 rfl
