/-! BeforeTheEnd$Refusal -/
set_option maxRecDepth 100000
def RX3 : String := "BeforeTheEnd$Refusal"
abbrev cX3_init : ByteArray := prog_10_method_1_code
def yX3_init : MethodName := ⟨RX3, "<init>", "()V"⟩
theorem dX3_init_0 : decode cX3_init 0 = .ok (.aload_n 0, 1) := by decide +kernel
theorem dX3_init_1 : decode cX3_init 1 = .ok (.invokespecial 1, 3) := by decide +kernel
theorem dX3_init_4 : decode cX3_init 4 = .ok (.return_, 1) := by decide +kernel
theorem q110 : (Jvm.Cond.initialized "BeforeTheEnd$Refusal") ∈ lw_all := lw_g (lw_at lw_m1 7 rfl) rfl
theorem q300 : (Jvm.Cond.declares ({ cls := "BeforeTheEnd$Refusal", name := "<init>", desc := "()V" } : Jvm.MethodName)) ∈ lw_tbl := lw_at lw_m1 197 rfl
theorem q342 : (Jvm.Cond.instanceMethod ({ cls := "BeforeTheEnd$Refusal", name := "<init>", desc := "()V" } : Jvm.MethodName)) ∈ lw_all := lw_g (lw_at lw_m1 239 rfl) rfl
theorem q343 : (Jvm.Cond.code ({ cls := "BeforeTheEnd$Refusal", name := "<init>", desc := "()V" } : Jvm.MethodName) prog_10_method_1_code (1 : Nat) (Option.none : Option Jvm.ClassFile.FieldType)) ∈ lw_all := lw_g (lw_at lw_m2 0 rfl) rfl
theorem q344 : (Jvm.Cond.methodLink "BeforeTheEnd$Refusal" (1 : Nat) ({ cls := "java/lang/RuntimeException", name := "<init>", desc := "()V" } : Jvm.MethodName)) ∈ lw_all := lw_g (lw_at lw_m2 1 rfl) rfl
theorem q367 : (Jvm.Cond.declares ({ cls := "BeforeTheEnd$Refusal", name := "number", desc := "()I" } : Jvm.MethodName)) ∈ lw_tbl := lw_at lw_m2 24 rfl
theorem q368 : (Jvm.Cond.sameMethod "BeforeTheEnd$Refusal" "BeforeTheEnd$Refusal" "number" "()I") ∈ lw_all := lw_g (lw_at lw_m2 25 rfl) rfl
/-! BeforeTheEnd$Refused -/
set_option maxRecDepth 100000
def RX4 : String := "BeforeTheEnd$Refused"
def TX4 : u_T := fun k => match k with
  | 0 => ("java/lang/Throwable", "cause", "Ljava/lang/Throwable;", false)
  | 1 => ("java/lang/Throwable", "stackTrace", "[Ljava/lang/StackTraceElement;", false)
  | 2 => ("java/lang/Throwable", "suppressedExceptions", "Ljava/util/List;", false)
  | 3 => ("java/lang/Throwable", "detailMessage", "Ljava/lang/String;", false)
  | 4 => ("java/lang/Throwable", "backtrace", "Ljava/lang/Object;", false)
  | 5 => ("java/lang/Throwable", "depth", "I", false)
  | _ => ("BeforeTheEnd$Refused", "number", "I", true)
def tyX4 : Nat → FieldType := fun k => match k with
  | 0 => .object "java/lang/Throwable"
  | 1 => .array (.object "java/lang/StackTraceElement")
  | 2 => .object "java/util/List"
  | 3 => .object "java/lang/String"
  | 4 => .object "java/lang/Object"
  | 5 => .int
  | _ => .int
abbrev wsX40 : List Cond := u_ws RX4 TX4 7
theorem nmX4 : ∀ a, a < 7 → ∀ b, b < 7 → a ≠ b → (TX4 a).2.1 ≠ (TX4 b).2.1 := by decide +kernel
theorem tyX4_ok : ∀ k, k < 7 → parseFieldDescriptor (TX4 k).2.2.1 = some (tyX4 k) := by decide +kernel
abbrev cX4_init : ByteArray := prog_11_method_1_code
def yX4_init : MethodName := ⟨RX4, "<init>", "(I)V"⟩
def dkwX4_init_0 : List UInt8 := [42, 183, 0, 1, 42, 27, 181, 0, 7, 177]
abbrev dktX4_init_0 : List UInt8 := dkwX4_init_0 ++ []
theorem dksX4_init_0 : cX4_init.data.toList.drop 0 = dktX4_init_0 := by decide +kernel
theorem dX4_init_0 : decode cX4_init 0 = .ok (.aload_n 0, 1) := dk_42 (dk_at dksX4_init_0 0 rfl rfl)
theorem dX4_init_1 : decode cX4_init 1 = .ok (.invokespecial 1, 3) := dk_183 0 1 (dk_at dksX4_init_0 1 rfl rfl)
theorem dX4_init_4 : decode cX4_init 4 = .ok (.aload_n 0, 1) := dk_42 (dk_at dksX4_init_0 4 rfl rfl)
theorem dX4_init_5 : decode cX4_init 5 = .ok (.iload_n 1, 1) := dk_27 (dk_at dksX4_init_0 5 rfl rfl)
theorem dX4_init_6 : decode cX4_init 6 = .ok (.putfield 7, 3) := dk_181 0 7 (dk_at dksX4_init_0 6 rfl rfl)
theorem dX4_init_9 : decode cX4_init 9 = .ok (.return_, 1) := dk_177 (dk_at dksX4_init_0 9 rfl rfl)
abbrev cX4_number : ByteArray := prog_11_method_2_code
def yX4_number : MethodName := ⟨RX4, "number", "()I"⟩
theorem dX4_number_0 : decode cX4_number 0 = .ok (.aload_n 0, 1) := by decide +kernel
theorem dX4_number_1 : decode cX4_number 1 = .ok (.getfield 7, 3) := by decide +kernel
theorem dX4_number_4 : decode cX4_number 4 = .ok (.ireturn, 1) := by decide +kernel
theorem q111 : (Jvm.Cond.initialized "BeforeTheEnd$Refused") ∈ lw_all := lw_g (lw_at lw_m1 8 rfl) rfl
theorem q298 : (Jvm.Cond.instantiable "BeforeTheEnd$Refused" (7 : Nat)) ∈ lw_all := lw_g (lw_at lw_m1 195 rfl) rfl
theorem q299 : (Jvm.Cond.castable "BeforeTheEnd$Refused" "BeforeTheEnd$Refused") ∈ lw_tbl := lw_at lw_m1 196 rfl
theorem q307 : (Jvm.Cond.selects "BeforeTheEnd$Refused" ({ cls := "java/lang/Throwable", name := "fillInStackTrace", desc := "(I)Ljava/lang/Throwable;" } : Jvm.MethodName) ({ cls := "java/lang/Throwable", name := "fillInStackTrace", desc := "(I)Ljava/lang/Throwable;" } : Jvm.MethodName)) ∈ lw_all := lw_g (lw_at lw_m1 204 rfl) rfl
theorem q308 : (Jvm.Cond.selects "BeforeTheEnd$Refused" ({ cls := "java/lang/Throwable", name := "fillInStackTrace", desc := "()Ljava/lang/Throwable;" } : Jvm.MethodName) ({ cls := "java/lang/Throwable", name := "fillInStackTrace", desc := "()Ljava/lang/Throwable;" } : Jvm.MethodName)) ∈ lw_all := lw_g (lw_at lw_m1 205 rfl) rfl
theorem q309 : (Jvm.Cond.lays "BeforeTheEnd$Refused" "java/lang/Throwable" "cause" "Ljava/lang/Throwable;") ∈ lw_all := lw_g (lw_at lw_m1 206 rfl) rfl
theorem q311 : (Jvm.Cond.lays "BeforeTheEnd$Refused" "java/lang/Throwable" "stackTrace" "[Ljava/lang/StackTraceElement;") ∈ lw_all := lw_g (lw_at lw_m1 208 rfl) rfl
theorem q313 : (Jvm.Cond.lays "BeforeTheEnd$Refused" "java/lang/Throwable" "suppressedExceptions" "Ljava/util/List;") ∈ lw_all := lw_g (lw_at lw_m1 210 rfl) rfl
theorem q315 : (Jvm.Cond.lays "BeforeTheEnd$Refused" "java/lang/Throwable" "detailMessage" "Ljava/lang/String;") ∈ lw_all := lw_g (lw_at lw_m1 212 rfl) rfl
theorem q317 : (Jvm.Cond.lays "BeforeTheEnd$Refused" "java/lang/Throwable" "backtrace" "Ljava/lang/Object;") ∈ lw_all := lw_g (lw_at lw_m1 214 rfl) rfl
theorem q339 : (Jvm.Cond.instanceMethod ({ cls := "BeforeTheEnd$Refused", name := "<init>", desc := "(I)V" } : Jvm.MethodName)) ∈ lw_all := lw_g (lw_at lw_m1 236 rfl) rfl
theorem q340 : (Jvm.Cond.code ({ cls := "BeforeTheEnd$Refused", name := "<init>", desc := "(I)V" } : Jvm.MethodName) prog_11_method_1_code (2 : Nat) (Option.none : Option Jvm.ClassFile.FieldType)) ∈ lw_all := lw_g (lw_at lw_m1 237 rfl) rfl
theorem q341 : (Jvm.Cond.methodLinkNest "BeforeTheEnd$Refused" (1 : Nat) ({ cls := "BeforeTheEnd$Refusal", name := "<init>", desc := "()V" } : Jvm.MethodName) "BeforeTheEnd") ∈ lw_tbl := lw_at lw_m1 238 rfl
theorem q351 : (Jvm.Cond.fieldLink "BeforeTheEnd$Refused" (7 : Nat) "BeforeTheEnd$Refused" "number" "I") ∈ lw_all := lw_g (lw_at lw_m2 8 rfl) rfl
theorem q356 : (Jvm.Cond.laysFinal "BeforeTheEnd$Refused" "BeforeTheEnd$Refused" "number" "I") ∈ lw_all := lw_g (lw_at lw_m2 13 rfl) rfl
theorem q357 : (Jvm.Cond.soleField "BeforeTheEnd$Refused" "number") ∈ lw_all := lw_g (lw_at lw_m2 14 rfl) rfl
theorem q362 : (Jvm.Cond.lays "BeforeTheEnd$Refused" "java/lang/Throwable" "depth" "I") ∈ lw_all := lw_g (lw_at lw_m2 19 rfl) rfl
theorem q365 : (Jvm.Cond.superclass "BeforeTheEnd$Refused" "BeforeTheEnd$Refusal") ∈ lw_all := lw_g (lw_at lw_m2 22 rfl) rfl
theorem q372 : (Jvm.Cond.selects "BeforeTheEnd$Refused" ({ cls := "BeforeTheEnd$Refusal", name := "number", desc := "()I" } : Jvm.MethodName) ({ cls := "BeforeTheEnd$Refused", name := "number", desc := "()I" } : Jvm.MethodName)) ∈ lw_all := lw_g (lw_at lw_m2 29 rfl) rfl
theorem q373 : (Jvm.Cond.instanceMethod ({ cls := "BeforeTheEnd$Refused", name := "number", desc := "()I" } : Jvm.MethodName)) ∈ lw_all := lw_g (lw_at lw_m2 30 rfl) rfl
theorem q374 : (Jvm.Cond.code ({ cls := "BeforeTheEnd$Refused", name := "number", desc := "()I" } : Jvm.MethodName) prog_11_method_2_code (1 : Nat) (Option.some Jvm.ClassFile.FieldType.int)) ∈ lw_all := lw_g (lw_at lw_m2 31 rfl) rfl
theorem q1726 : (Jvm.Cond.castable "BeforeTheEnd$Refused" "BeforeTheEnd$Refusal") ∈ lw_tbl := lw_at lw_m7 183 rfl
theorem in_X4 : ∀ w ∈ wsX40, w ∈ lw_all := lw_in wsX40 [309, 311, 313, 315, 317, 362, 356] (by decide +kernel) (by decide +kernel)
/-! BeforeTheEnd$Reader -/
set_option maxRecDepth 100000
def RX5 : String := "BeforeTheEnd$Reader"
def TX5 : u_T := fun k => match k with
  | 0 => ("BeforeTheEnd$Reader", "size", "I", true)
  | 1 => ("BeforeTheEnd$Reader", "at", "I", false)
  | _ => ("BeforeTheEnd$Reader", "this$0", "LBeforeTheEnd;", true)
def tyX5 : Nat → FieldType := fun k => match k with
  | 0 => .int
  | 1 => .int
  | _ => .object "BeforeTheEnd"
abbrev wsX50 : List Cond := u_ws RX5 TX5 3
theorem nmX5 : ∀ a, a < 3 → ∀ b, b < 3 → a ≠ b → (TX5 a).2.1 ≠ (TX5 b).2.1 := by decide +kernel
theorem tyX5_ok : ∀ k, k < 3 → parseFieldDescriptor (TX5 k).2.2.1 = some (tyX5 k) := by decide +kernel
abbrev cX5_init : ByteArray := prog_9_method_1_code
def yX5_init : MethodName := ⟨RX5, "<init>", "(LBeforeTheEnd;)V"⟩
def dkwX5_init_0 : List UInt8 := [42, 43, 181, 0, 3, 42, 183, 0, 9, 42, 42, 180, 0, 3, 180, 0, 15, 181, 0, 19, 177]
abbrev dktX5_init_0 : List UInt8 := dkwX5_init_0 ++ []
theorem dksX5_init_0 : cX5_init.data.toList.drop 0 = dktX5_init_0 := by decide +kernel
theorem dX5_init_0 : decode cX5_init 0 = .ok (.aload_n 0, 1) := dk_42 (dk_at dksX5_init_0 0 rfl rfl)
theorem dX5_init_1 : decode cX5_init 1 = .ok (.aload_n 1, 1) := dk_43 (dk_at dksX5_init_0 1 rfl rfl)
theorem dX5_init_2 : decode cX5_init 2 = .ok (.putfield 3, 3) := dk_181 0 3 (dk_at dksX5_init_0 2 rfl rfl)
theorem dX5_init_5 : decode cX5_init 5 = .ok (.aload_n 0, 1) := dk_42 (dk_at dksX5_init_0 5 rfl rfl)
theorem dX5_init_6 : decode cX5_init 6 = .ok (.invokespecial 9, 3) := dk_183 0 9 (dk_at dksX5_init_0 6 rfl rfl)
theorem dX5_init_9 : decode cX5_init 9 = .ok (.aload_n 0, 1) := dk_42 (dk_at dksX5_init_0 9 rfl rfl)
theorem dX5_init_10 : decode cX5_init 10 = .ok (.aload_n 0, 1) := dk_42 (dk_at dksX5_init_0 10 rfl rfl)
theorem dX5_init_11 : decode cX5_init 11 = .ok (.getfield 3, 3) := dk_180 0 3 (dk_at dksX5_init_0 11 rfl rfl)
theorem dX5_init_14 : decode cX5_init 14 = .ok (.getfield 15, 3) := dk_180 0 15 (dk_at dksX5_init_0 14 rfl rfl)
theorem dX5_init_17 : decode cX5_init 17 = .ok (.putfield 19, 3) := dk_181 0 19 (dk_at dksX5_init_0 17 rfl rfl)
theorem dX5_init_20 : decode cX5_init 20 = .ok (.return_, 1) := dk_177 (dk_at dksX5_init_0 20 rfl rfl)
abbrev cX5_statement : ByteArray := prog_9_method_7_code
def yX5_statement : MethodName := ⟨RX5, "statement", "()LBeforeTheEnd$Told;"⟩
def dkwX5_statement_2 : List UInt8 := [27, 182, 0, 53, 167, 0, 8, 42, 27, 182, 0, 57, 78, 42, 16, 59, 182, 0, 60, 45, 176]
abbrev dktX5_statement_2 : List UInt8 := dkwX5_statement_2 ++ []
def dkwX5_statement_1 : List UInt8 := [167, 0, 4, 3, 182, 0, 38, 42, 89, 180, 0, 22, 4, 96, 181, 0, 22, 28, 16, 119, 160, 0, 11, 42]
abbrev dktX5_statement_1 : List UInt8 := dkwX5_statement_1 ++ dktX5_statement_2
def dkwX5_statement_0 : List UInt8 := [42, 180, 0, 22, 60, 42, 182, 0, 34, 61, 42, 28, 16, 119, 159, 0, 9, 28, 16, 112, 160, 0, 7, 4]
abbrev dktX5_statement_0 : List UInt8 := dkwX5_statement_0 ++ dktX5_statement_1
theorem dksX5_statement_0 : cX5_statement.data.toList.drop 0 = dktX5_statement_0 := by decide +kernel
theorem dksX5_statement_1 : cX5_statement.data.toList.drop 24 = dktX5_statement_1 := dk_seg dksX5_statement_0 24 rfl rfl
theorem dksX5_statement_2 : cX5_statement.data.toList.drop 48 = dktX5_statement_2 := dk_seg dksX5_statement_1 24 rfl rfl
theorem dX5_statement_0 : decode cX5_statement 0 = .ok (.aload_n 0, 1) := dk_42 (dk_at dksX5_statement_0 0 rfl rfl)
theorem dX5_statement_1 : decode cX5_statement 1 = .ok (.getfield 22, 3) := dk_180 0 22 (dk_at dksX5_statement_0 1 rfl rfl)
theorem dX5_statement_4 : decode cX5_statement 4 = .ok (.istore_n 1, 1) := dk_60 (dk_at dksX5_statement_0 4 rfl rfl)
theorem dX5_statement_5 : decode cX5_statement 5 = .ok (.aload_n 0, 1) := dk_42 (dk_at dksX5_statement_0 5 rfl rfl)
theorem dX5_statement_6 : decode cX5_statement 6 = .ok (.invokevirtual 34, 3) := dk_182 0 34 (dk_at dksX5_statement_0 6 rfl rfl)
theorem dX5_statement_9 : decode cX5_statement 9 = .ok (.istore_n 2, 1) := dk_61 (dk_at dksX5_statement_0 9 rfl rfl)
theorem dX5_statement_10 : decode cX5_statement 10 = .ok (.aload_n 0, 1) := dk_42 (dk_at dksX5_statement_0 10 rfl rfl)
theorem dX5_statement_11 : decode cX5_statement 11 = .ok (.iload_n 2, 1) := dk_28 (dk_at dksX5_statement_0 11 rfl rfl)
theorem dX5_statement_12 : decode cX5_statement 12 = .ok (.bipush 119, 2) := dk_16 119 (dk_at dksX5_statement_0 12 rfl rfl)
theorem dX5_statement_14 : decode cX5_statement 14 = .ok (.if_icmp .eq 9, 3) := dk_159 0 9 (dk_at dksX5_statement_0 14 rfl rfl)
theorem dX5_statement_17 : decode cX5_statement 17 = .ok (.iload_n 2, 1) := dk_28 (dk_at dksX5_statement_0 17 rfl rfl)
theorem dX5_statement_18 : decode cX5_statement 18 = .ok (.bipush 112, 2) := dk_16 112 (dk_at dksX5_statement_0 18 rfl rfl)
theorem dX5_statement_20 : decode cX5_statement 20 = .ok (.if_icmp .ne 7, 3) := dk_160 0 7 (dk_at dksX5_statement_0 20 rfl rfl)
theorem dX5_statement_23 : decode cX5_statement 23 = .ok (.iconst 1, 1) := dk_4 (dk_at dksX5_statement_0 23 rfl rfl)
theorem dX5_statement_24 : decode cX5_statement 24 = .ok (.goto 4, 3) := dk_167 0 4 (dk_at dksX5_statement_1 0 rfl rfl)
theorem dX5_statement_27 : decode cX5_statement 27 = .ok (.iconst 0, 1) := dk_3 (dk_at dksX5_statement_1 3 rfl rfl)
theorem dX5_statement_28 : decode cX5_statement 28 = .ok (.invokevirtual 38, 3) := dk_182 0 38 (dk_at dksX5_statement_1 4 rfl rfl)
theorem dX5_statement_31 : decode cX5_statement 31 = .ok (.aload_n 0, 1) := dk_42 (dk_at dksX5_statement_1 7 rfl rfl)
theorem dX5_statement_32 : decode cX5_statement 32 = .ok (.dup, 1) := dk_89 (dk_at dksX5_statement_1 8 rfl rfl)
theorem dX5_statement_33 : decode cX5_statement 33 = .ok (.getfield 22, 3) := dk_180 0 22 (dk_at dksX5_statement_1 9 rfl rfl)
theorem dX5_statement_36 : decode cX5_statement 36 = .ok (.iconst 1, 1) := dk_4 (dk_at dksX5_statement_1 12 rfl rfl)
theorem dX5_statement_37 : decode cX5_statement 37 = .ok (.iadd, 1) := dk_96 (dk_at dksX5_statement_1 13 rfl rfl)
theorem dX5_statement_38 : decode cX5_statement 38 = .ok (.putfield 22, 3) := dk_181 0 22 (dk_at dksX5_statement_1 14 rfl rfl)
theorem dX5_statement_41 : decode cX5_statement 41 = .ok (.iload_n 2, 1) := dk_28 (dk_at dksX5_statement_1 17 rfl rfl)
theorem dX5_statement_42 : decode cX5_statement 42 = .ok (.bipush 119, 2) := dk_16 119 (dk_at dksX5_statement_1 18 rfl rfl)
theorem dX5_statement_44 : decode cX5_statement 44 = .ok (.if_icmp .ne 11, 3) := dk_160 0 11 (dk_at dksX5_statement_1 20 rfl rfl)
theorem dX5_statement_47 : decode cX5_statement 47 = .ok (.aload_n 0, 1) := dk_42 (dk_at dksX5_statement_1 23 rfl rfl)
theorem dX5_statement_48 : decode cX5_statement 48 = .ok (.iload_n 1, 1) := dk_27 (dk_at dksX5_statement_2 0 rfl rfl)
theorem dX5_statement_49 : decode cX5_statement 49 = .ok (.invokevirtual 53, 3) := dk_182 0 53 (dk_at dksX5_statement_2 1 rfl rfl)
theorem dX5_statement_52 : decode cX5_statement 52 = .ok (.goto 8, 3) := dk_167 0 8 (dk_at dksX5_statement_2 4 rfl rfl)
theorem dX5_statement_55 : decode cX5_statement 55 = .ok (.aload_n 0, 1) := dk_42 (dk_at dksX5_statement_2 7 rfl rfl)
theorem dX5_statement_56 : decode cX5_statement 56 = .ok (.iload_n 1, 1) := dk_27 (dk_at dksX5_statement_2 8 rfl rfl)
theorem dX5_statement_57 : decode cX5_statement 57 = .ok (.invokevirtual 57, 3) := dk_182 0 57 (dk_at dksX5_statement_2 9 rfl rfl)
theorem dX5_statement_60 : decode cX5_statement 60 = .ok (.astore_n 3, 1) := dk_78 (dk_at dksX5_statement_2 12 rfl rfl)
theorem dX5_statement_61 : decode cX5_statement 61 = .ok (.aload_n 0, 1) := dk_42 (dk_at dksX5_statement_2 13 rfl rfl)
theorem dX5_statement_62 : decode cX5_statement 62 = .ok (.bipush 59, 2) := dk_16 59 (dk_at dksX5_statement_2 14 rfl rfl)
theorem dX5_statement_64 : decode cX5_statement 64 = .ok (.invokevirtual 60, 3) := dk_182 0 60 (dk_at dksX5_statement_2 16 rfl rfl)
theorem dX5_statement_67 : decode cX5_statement 67 = .ok (.aload_n 3, 1) := dk_45 (dk_at dksX5_statement_2 19 rfl rfl)
theorem dX5_statement_68 : decode cX5_statement 68 = .ok (.areturn, 1) := dk_176 (dk_at dksX5_statement_2 20 rfl rfl)
abbrev cX5_here : ByteArray := prog_9_method_2_code
def yX5_here : MethodName := ⟨RX5, "here", "()I"⟩
def dkwX5_here_1 : List UInt8 := [17, 0, 255, 126, 167, 0, 4, 2, 172]
abbrev dktX5_here_1 : List UInt8 := dkwX5_here_1 ++ []
def dkwX5_here_0 : List UInt8 := [42, 180, 0, 22, 42, 180, 0, 19, 162, 0, 22, 42, 180, 0, 3, 180, 0, 25, 42, 180, 0, 22, 51]
abbrev dktX5_here_0 : List UInt8 := dkwX5_here_0 ++ dktX5_here_1
theorem dksX5_here_0 : cX5_here.data.toList.drop 0 = dktX5_here_0 := by decide +kernel
theorem dksX5_here_1 : cX5_here.data.toList.drop 23 = dktX5_here_1 := dk_seg dksX5_here_0 23 rfl rfl
theorem dX5_here_0 : decode cX5_here 0 = .ok (.aload_n 0, 1) := dk_42 (dk_at dksX5_here_0 0 rfl rfl)
theorem dX5_here_1 : decode cX5_here 1 = .ok (.getfield 22, 3) := dk_180 0 22 (dk_at dksX5_here_0 1 rfl rfl)
theorem dX5_here_4 : decode cX5_here 4 = .ok (.aload_n 0, 1) := dk_42 (dk_at dksX5_here_0 4 rfl rfl)
theorem dX5_here_5 : decode cX5_here 5 = .ok (.getfield 19, 3) := dk_180 0 19 (dk_at dksX5_here_0 5 rfl rfl)
theorem dX5_here_8 : decode cX5_here 8 = .ok (.if_icmp .ge 22, 3) := dk_162 0 22 (dk_at dksX5_here_0 8 rfl rfl)
theorem dX5_here_11 : decode cX5_here 11 = .ok (.aload_n 0, 1) := dk_42 (dk_at dksX5_here_0 11 rfl rfl)
theorem dX5_here_12 : decode cX5_here 12 = .ok (.getfield 3, 3) := dk_180 0 3 (dk_at dksX5_here_0 12 rfl rfl)
theorem dX5_here_15 : decode cX5_here 15 = .ok (.getfield 25, 3) := dk_180 0 25 (dk_at dksX5_here_0 15 rfl rfl)
theorem dX5_here_18 : decode cX5_here 18 = .ok (.aload_n 0, 1) := dk_42 (dk_at dksX5_here_0 18 rfl rfl)
theorem dX5_here_19 : decode cX5_here 19 = .ok (.getfield 22, 3) := dk_180 0 22 (dk_at dksX5_here_0 19 rfl rfl)
theorem dX5_here_22 : decode cX5_here 22 = .ok (.baload, 1) := dk_51 (dk_at dksX5_here_0 22 rfl rfl)
theorem dX5_here_23 : decode cX5_here 23 = .ok (.sipush 255, 3) := dk_17 0 255 (dk_at dksX5_here_1 0 rfl rfl)
theorem dX5_here_26 : decode cX5_here 26 = .ok (.iand, 1) := dk_126 (dk_at dksX5_here_1 3 rfl rfl)
theorem dX5_here_27 : decode cX5_here 27 = .ok (.goto 4, 3) := dk_167 0 4 (dk_at dksX5_here_1 4 rfl rfl)
theorem dX5_here_30 : decode cX5_here 30 = .ok (.iconst (-1), 1) := dk_2 (dk_at dksX5_here_1 7 rfl rfl)
theorem dX5_here_31 : decode cX5_here 31 = .ok (.ireturn, 1) := dk_172 (dk_at dksX5_here_1 8 rfl rfl)
abbrev cX5_mustStand : ByteArray := prog_9_method_3_code
def yX5_mustStand : MethodName := ⟨RX5, "mustStand", "(Z)V"⟩
def dkwX5_mustStand_0 : List UInt8 := [27, 154, 0, 19, 187, 0, 29, 89, 17, 252, 24, 42, 180, 0, 22, 100, 183, 0, 31, 191, 177]
abbrev dktX5_mustStand_0 : List UInt8 := dkwX5_mustStand_0 ++ []
theorem dksX5_mustStand_0 : cX5_mustStand.data.toList.drop 0 = dktX5_mustStand_0 := by decide +kernel
theorem dX5_mustStand_0 : decode cX5_mustStand 0 = .ok (.iload_n 1, 1) := dk_27 (dk_at dksX5_mustStand_0 0 rfl rfl)
theorem dX5_mustStand_1 : decode cX5_mustStand 1 = .ok (.ifCond .ne 19, 3) := dk_154 0 19 (dk_at dksX5_mustStand_0 1 rfl rfl)
theorem dX5_mustStand_4 : decode cX5_mustStand 4 = .ok (.new 29, 3) := dk_187 0 29 (dk_at dksX5_mustStand_0 4 rfl rfl)
theorem dX5_mustStand_7 : decode cX5_mustStand 7 = .ok (.dup, 1) := dk_89 (dk_at dksX5_mustStand_0 7 rfl rfl)
theorem dX5_mustStand_8 : decode cX5_mustStand 8 = .ok (.sipush (-1000), 3) := dk_17 252 24 (dk_at dksX5_mustStand_0 8 rfl rfl)
theorem dX5_mustStand_11 : decode cX5_mustStand 11 = .ok (.aload_n 0, 1) := dk_42 (dk_at dksX5_mustStand_0 11 rfl rfl)
theorem dX5_mustStand_12 : decode cX5_mustStand 12 = .ok (.getfield 22, 3) := dk_180 0 22 (dk_at dksX5_mustStand_0 12 rfl rfl)
theorem dX5_mustStand_15 : decode cX5_mustStand 15 = .ok (.isub, 1) := dk_100 (dk_at dksX5_mustStand_0 15 rfl rfl)
theorem dX5_mustStand_16 : decode cX5_mustStand 16 = .ok (.invokespecial 31, 3) := dk_183 0 31 (dk_at dksX5_mustStand_0 16 rfl rfl)
theorem dX5_mustStand_19 : decode cX5_mustStand 19 = .ok (.athrow, 1) := dk_191 (dk_at dksX5_mustStand_0 19 rfl rfl)
theorem dX5_mustStand_20 : decode cX5_mustStand 20 = .ok (.return_, 1) := dk_177 (dk_at dksX5_mustStand_0 20 rfl rfl)
abbrev cX5_word : ByteArray := prog_9_method_8_code
def yX5_word : MethodName := ⟨RX5, "word", "(I)LBeforeTheEnd$Told;"⟩
def dkwX5_word_1 : List UInt8 := [187, 0, 67, 89, 27, 28, 29, 42, 182, 0, 50, 183, 0, 69, 176]
abbrev dktX5_word_1 : List UInt8 := dkwX5_word_1 ++ []
def dkwX5_word_0 : List UInt8 := [42, 5, 182, 0, 63, 61, 42, 16, 44, 182, 0, 60, 42, 182, 0, 50, 62, 42, 16, 44, 182, 0, 60]
abbrev dktX5_word_0 : List UInt8 := dkwX5_word_0 ++ dktX5_word_1
theorem dksX5_word_0 : cX5_word.data.toList.drop 0 = dktX5_word_0 := by decide +kernel
theorem dksX5_word_1 : cX5_word.data.toList.drop 23 = dktX5_word_1 := dk_seg dksX5_word_0 23 rfl rfl
theorem dX5_word_0 : decode cX5_word 0 = .ok (.aload_n 0, 1) := dk_42 (dk_at dksX5_word_0 0 rfl rfl)
theorem dX5_word_1 : decode cX5_word 1 = .ok (.iconst 2, 1) := dk_5 (dk_at dksX5_word_0 1 rfl rfl)
theorem dX5_word_2 : decode cX5_word 2 = .ok (.invokevirtual 63, 3) := dk_182 0 63 (dk_at dksX5_word_0 2 rfl rfl)
theorem dX5_word_5 : decode cX5_word 5 = .ok (.istore_n 2, 1) := dk_61 (dk_at dksX5_word_0 5 rfl rfl)
theorem dX5_word_6 : decode cX5_word 6 = .ok (.aload_n 0, 1) := dk_42 (dk_at dksX5_word_0 6 rfl rfl)
theorem dX5_word_7 : decode cX5_word 7 = .ok (.bipush 44, 2) := dk_16 44 (dk_at dksX5_word_0 7 rfl rfl)
theorem dX5_word_9 : decode cX5_word 9 = .ok (.invokevirtual 60, 3) := dk_182 0 60 (dk_at dksX5_word_0 9 rfl rfl)
theorem dX5_word_12 : decode cX5_word 12 = .ok (.aload_n 0, 1) := dk_42 (dk_at dksX5_word_0 12 rfl rfl)
theorem dX5_word_13 : decode cX5_word 13 = .ok (.invokevirtual 50, 3) := dk_182 0 50 (dk_at dksX5_word_0 13 rfl rfl)
theorem dX5_word_16 : decode cX5_word 16 = .ok (.istore_n 3, 1) := dk_62 (dk_at dksX5_word_0 16 rfl rfl)
theorem dX5_word_17 : decode cX5_word 17 = .ok (.aload_n 0, 1) := dk_42 (dk_at dksX5_word_0 17 rfl rfl)
theorem dX5_word_18 : decode cX5_word 18 = .ok (.bipush 44, 2) := dk_16 44 (dk_at dksX5_word_0 18 rfl rfl)
theorem dX5_word_20 : decode cX5_word 20 = .ok (.invokevirtual 60, 3) := dk_182 0 60 (dk_at dksX5_word_0 20 rfl rfl)
theorem dX5_word_23 : decode cX5_word 23 = .ok (.new 67, 3) := dk_187 0 67 (dk_at dksX5_word_1 0 rfl rfl)
theorem dX5_word_26 : decode cX5_word 26 = .ok (.dup, 1) := dk_89 (dk_at dksX5_word_1 3 rfl rfl)
theorem dX5_word_27 : decode cX5_word 27 = .ok (.iload_n 1, 1) := dk_27 (dk_at dksX5_word_1 4 rfl rfl)
theorem dX5_word_28 : decode cX5_word 28 = .ok (.iload_n 2, 1) := dk_28 (dk_at dksX5_word_1 5 rfl rfl)
theorem dX5_word_29 : decode cX5_word 29 = .ok (.iload_n 3, 1) := dk_29 (dk_at dksX5_word_1 6 rfl rfl)
theorem dX5_word_30 : decode cX5_word 30 = .ok (.aload_n 0, 1) := dk_42 (dk_at dksX5_word_1 7 rfl rfl)
theorem dX5_word_31 : decode cX5_word 31 = .ok (.invokevirtual 50, 3) := dk_182 0 50 (dk_at dksX5_word_1 8 rfl rfl)
theorem dX5_word_34 : decode cX5_word 34 = .ok (.invokespecial 69, 3) := dk_183 0 69 (dk_at dksX5_word_1 11 rfl rfl)
theorem dX5_word_37 : decode cX5_word 37 = .ok (.areturn, 1) := dk_176 (dk_at dksX5_word_1 14 rfl rfl)
abbrev cX5_number : ByteArray := prog_9_method_6_code
def yX5_number : MethodName := ⟨RX5, "number", "(I)I"⟩
def dkwX5_number_1 : List UInt8 := [184, 0, 46, 153, 0, 19, 16, 10, 28, 104, 42, 182, 0, 50, 96, 61, 132, 3, 1, 167, 255, 221, 28, 172]
abbrev dktX5_number_1 : List UInt8 := dkwX5_number_1 ++ []
def dkwX5_number_0 : List UInt8 := [42, 182, 0, 50, 61, 4, 62, 29, 27, 162, 0, 36, 42, 182, 0, 34, 133, 20, 0, 42, 20, 0, 44]
abbrev dktX5_number_0 : List UInt8 := dkwX5_number_0 ++ dktX5_number_1
theorem dksX5_number_0 : cX5_number.data.toList.drop 0 = dktX5_number_0 := by decide +kernel
theorem dksX5_number_1 : cX5_number.data.toList.drop 23 = dktX5_number_1 := dk_seg dksX5_number_0 23 rfl rfl
theorem dX5_number_0 : decode cX5_number 0 = .ok (.aload_n 0, 1) := dk_42 (dk_at dksX5_number_0 0 rfl rfl)
theorem dX5_number_1 : decode cX5_number 1 = .ok (.invokevirtual 50, 3) := dk_182 0 50 (dk_at dksX5_number_0 1 rfl rfl)
theorem dX5_number_4 : decode cX5_number 4 = .ok (.istore_n 2, 1) := dk_61 (dk_at dksX5_number_0 4 rfl rfl)
theorem dX5_number_5 : decode cX5_number 5 = .ok (.iconst 1, 1) := dk_4 (dk_at dksX5_number_0 5 rfl rfl)
theorem dX5_number_6 : decode cX5_number 6 = .ok (.istore_n 3, 1) := dk_62 (dk_at dksX5_number_0 6 rfl rfl)
theorem dX5_number_7 : decode cX5_number 7 = .ok (.iload_n 3, 1) := dk_29 (dk_at dksX5_number_0 7 rfl rfl)
theorem dX5_number_8 : decode cX5_number 8 = .ok (.iload_n 1, 1) := dk_27 (dk_at dksX5_number_0 8 rfl rfl)
theorem dX5_number_9 : decode cX5_number 9 = .ok (.if_icmp .ge 36, 3) := dk_162 0 36 (dk_at dksX5_number_0 9 rfl rfl)
theorem dX5_number_12 : decode cX5_number 12 = .ok (.aload_n 0, 1) := dk_42 (dk_at dksX5_number_0 12 rfl rfl)
theorem dX5_number_13 : decode cX5_number 13 = .ok (.invokevirtual 34, 3) := dk_182 0 34 (dk_at dksX5_number_0 13 rfl rfl)
theorem dX5_number_16 : decode cX5_number 16 = .ok (.i2l, 1) := dk_133 (dk_at dksX5_number_0 16 rfl rfl)
theorem dX5_number_17 : decode cX5_number 17 = .ok (.ldc2_w 42, 3) := dk_20 0 42 (dk_at dksX5_number_0 17 rfl rfl)
theorem dX5_number_20 : decode cX5_number 20 = .ok (.ldc2_w 44, 3) := dk_20 0 44 (dk_at dksX5_number_0 20 rfl rfl)
theorem dX5_number_23 : decode cX5_number 23 = .ok (.invokestatic 46, 3) := dk_184 0 46 (dk_at dksX5_number_1 0 rfl rfl)
theorem dX5_number_26 : decode cX5_number 26 = .ok (.ifCond .eq 19, 3) := dk_153 0 19 (dk_at dksX5_number_1 3 rfl rfl)
theorem dX5_number_29 : decode cX5_number 29 = .ok (.bipush 10, 2) := dk_16 10 (dk_at dksX5_number_1 6 rfl rfl)
theorem dX5_number_31 : decode cX5_number 31 = .ok (.iload_n 2, 1) := dk_28 (dk_at dksX5_number_1 8 rfl rfl)
theorem dX5_number_32 : decode cX5_number 32 = .ok (.imul, 1) := dk_104 (dk_at dksX5_number_1 9 rfl rfl)
theorem dX5_number_33 : decode cX5_number 33 = .ok (.aload_n 0, 1) := dk_42 (dk_at dksX5_number_1 10 rfl rfl)
theorem dX5_number_34 : decode cX5_number 34 = .ok (.invokevirtual 50, 3) := dk_182 0 50 (dk_at dksX5_number_1 11 rfl rfl)
theorem dX5_number_37 : decode cX5_number 37 = .ok (.iadd, 1) := dk_96 (dk_at dksX5_number_1 14 rfl rfl)
theorem dX5_number_38 : decode cX5_number 38 = .ok (.istore_n 2, 1) := dk_61 (dk_at dksX5_number_1 15 rfl rfl)
theorem dX5_number_39 : decode cX5_number 39 = .ok (.iinc 3 1, 3) := dk_132 3 1 (dk_at dksX5_number_1 16 rfl rfl)
theorem dX5_number_42 : decode cX5_number 42 = .ok (.goto (-35), 3) := dk_167 255 221 (dk_at dksX5_number_1 19 rfl rfl)
theorem dX5_number_45 : decode cX5_number 45 = .ok (.iload_n 2, 1) := dk_28 (dk_at dksX5_number_1 22 rfl rfl)
theorem dX5_number_46 : decode cX5_number 46 = .ok (.ireturn, 1) := dk_172 (dk_at dksX5_number_1 23 rfl rfl)
abbrev cX5_digit : ByteArray := prog_9_method_5_code
def yX5_digit : MethodName := ⟨RX5, "digit", "()I"⟩
def dkwX5_digit_1 : List UInt8 := [96, 181, 0, 22, 42, 180, 0, 3, 180, 0, 25, 42, 180, 0, 22, 4, 100, 51, 16, 48, 100, 172]
abbrev dktX5_digit_1 : List UInt8 := dkwX5_digit_1 ++ []
def dkwX5_digit_0 : List UInt8 := [42, 42, 182, 0, 34, 133, 20, 0, 42, 20, 0, 44, 184, 0, 46, 182, 0, 38, 42, 89, 180, 0, 22, 4]
abbrev dktX5_digit_0 : List UInt8 := dkwX5_digit_0 ++ dktX5_digit_1
theorem dksX5_digit_0 : cX5_digit.data.toList.drop 0 = dktX5_digit_0 := by decide +kernel
theorem dksX5_digit_1 : cX5_digit.data.toList.drop 24 = dktX5_digit_1 := dk_seg dksX5_digit_0 24 rfl rfl
theorem dX5_digit_0 : decode cX5_digit 0 = .ok (.aload_n 0, 1) := dk_42 (dk_at dksX5_digit_0 0 rfl rfl)
theorem dX5_digit_1 : decode cX5_digit 1 = .ok (.aload_n 0, 1) := dk_42 (dk_at dksX5_digit_0 1 rfl rfl)
theorem dX5_digit_2 : decode cX5_digit 2 = .ok (.invokevirtual 34, 3) := dk_182 0 34 (dk_at dksX5_digit_0 2 rfl rfl)
theorem dX5_digit_5 : decode cX5_digit 5 = .ok (.i2l, 1) := dk_133 (dk_at dksX5_digit_0 5 rfl rfl)
theorem dX5_digit_6 : decode cX5_digit 6 = .ok (.ldc2_w 42, 3) := dk_20 0 42 (dk_at dksX5_digit_0 6 rfl rfl)
theorem dX5_digit_9 : decode cX5_digit 9 = .ok (.ldc2_w 44, 3) := dk_20 0 44 (dk_at dksX5_digit_0 9 rfl rfl)
theorem dX5_digit_12 : decode cX5_digit 12 = .ok (.invokestatic 46, 3) := dk_184 0 46 (dk_at dksX5_digit_0 12 rfl rfl)
theorem dX5_digit_15 : decode cX5_digit 15 = .ok (.invokevirtual 38, 3) := dk_182 0 38 (dk_at dksX5_digit_0 15 rfl rfl)
theorem dX5_digit_18 : decode cX5_digit 18 = .ok (.aload_n 0, 1) := dk_42 (dk_at dksX5_digit_0 18 rfl rfl)
theorem dX5_digit_19 : decode cX5_digit 19 = .ok (.dup, 1) := dk_89 (dk_at dksX5_digit_0 19 rfl rfl)
theorem dX5_digit_20 : decode cX5_digit 20 = .ok (.getfield 22, 3) := dk_180 0 22 (dk_at dksX5_digit_0 20 rfl rfl)
theorem dX5_digit_23 : decode cX5_digit 23 = .ok (.iconst 1, 1) := dk_4 (dk_at dksX5_digit_0 23 rfl rfl)
theorem dX5_digit_24 : decode cX5_digit 24 = .ok (.iadd, 1) := dk_96 (dk_at dksX5_digit_1 0 rfl rfl)
theorem dX5_digit_25 : decode cX5_digit 25 = .ok (.putfield 22, 3) := dk_181 0 22 (dk_at dksX5_digit_1 1 rfl rfl)
theorem dX5_digit_28 : decode cX5_digit 28 = .ok (.aload_n 0, 1) := dk_42 (dk_at dksX5_digit_1 4 rfl rfl)
theorem dX5_digit_29 : decode cX5_digit 29 = .ok (.getfield 3, 3) := dk_180 0 3 (dk_at dksX5_digit_1 5 rfl rfl)
theorem dX5_digit_32 : decode cX5_digit 32 = .ok (.getfield 25, 3) := dk_180 0 25 (dk_at dksX5_digit_1 8 rfl rfl)
theorem dX5_digit_35 : decode cX5_digit 35 = .ok (.aload_n 0, 1) := dk_42 (dk_at dksX5_digit_1 11 rfl rfl)
theorem dX5_digit_36 : decode cX5_digit 36 = .ok (.getfield 22, 3) := dk_180 0 22 (dk_at dksX5_digit_1 12 rfl rfl)
theorem dX5_digit_39 : decode cX5_digit 39 = .ok (.iconst 1, 1) := dk_4 (dk_at dksX5_digit_1 15 rfl rfl)
theorem dX5_digit_40 : decode cX5_digit 40 = .ok (.isub, 1) := dk_100 (dk_at dksX5_digit_1 16 rfl rfl)
theorem dX5_digit_41 : decode cX5_digit 41 = .ok (.baload, 1) := dk_51 (dk_at dksX5_digit_1 17 rfl rfl)
theorem dX5_digit_42 : decode cX5_digit 42 = .ok (.bipush 48, 2) := dk_16 48 (dk_at dksX5_digit_1 18 rfl rfl)
theorem dX5_digit_44 : decode cX5_digit 44 = .ok (.isub, 1) := dk_100 (dk_at dksX5_digit_1 20 rfl rfl)
theorem dX5_digit_45 : decode cX5_digit 45 = .ok (.ireturn, 1) := dk_172 (dk_at dksX5_digit_1 21 rfl rfl)
abbrev cX5_take : ByteArray := prog_9_method_4_code
def yX5_take : MethodName := ⟨RX5, "take", "(I)V"⟩
def dkwX5_take_1 : List UInt8 := [181, 0, 22, 177]
abbrev dktX5_take_1 : List UInt8 := dkwX5_take_1 ++ []
def dkwX5_take_0 : List UInt8 := [42, 42, 182, 0, 34, 27, 160, 0, 7, 4, 167, 0, 4, 3, 182, 0, 38, 42, 89, 180, 0, 22, 4, 96]
abbrev dktX5_take_0 : List UInt8 := dkwX5_take_0 ++ dktX5_take_1
theorem dksX5_take_0 : cX5_take.data.toList.drop 0 = dktX5_take_0 := by decide +kernel
theorem dksX5_take_1 : cX5_take.data.toList.drop 24 = dktX5_take_1 := dk_seg dksX5_take_0 24 rfl rfl
theorem dX5_take_0 : decode cX5_take 0 = .ok (.aload_n 0, 1) := dk_42 (dk_at dksX5_take_0 0 rfl rfl)
theorem dX5_take_1 : decode cX5_take 1 = .ok (.aload_n 0, 1) := dk_42 (dk_at dksX5_take_0 1 rfl rfl)
theorem dX5_take_2 : decode cX5_take 2 = .ok (.invokevirtual 34, 3) := dk_182 0 34 (dk_at dksX5_take_0 2 rfl rfl)
theorem dX5_take_5 : decode cX5_take 5 = .ok (.iload_n 1, 1) := dk_27 (dk_at dksX5_take_0 5 rfl rfl)
theorem dX5_take_6 : decode cX5_take 6 = .ok (.if_icmp .ne 7, 3) := dk_160 0 7 (dk_at dksX5_take_0 6 rfl rfl)
theorem dX5_take_9 : decode cX5_take 9 = .ok (.iconst 1, 1) := dk_4 (dk_at dksX5_take_0 9 rfl rfl)
theorem dX5_take_10 : decode cX5_take 10 = .ok (.goto 4, 3) := dk_167 0 4 (dk_at dksX5_take_0 10 rfl rfl)
theorem dX5_take_13 : decode cX5_take 13 = .ok (.iconst 0, 1) := dk_3 (dk_at dksX5_take_0 13 rfl rfl)
theorem dX5_take_14 : decode cX5_take 14 = .ok (.invokevirtual 38, 3) := dk_182 0 38 (dk_at dksX5_take_0 14 rfl rfl)
theorem dX5_take_17 : decode cX5_take 17 = .ok (.aload_n 0, 1) := dk_42 (dk_at dksX5_take_0 17 rfl rfl)
theorem dX5_take_18 : decode cX5_take 18 = .ok (.dup, 1) := dk_89 (dk_at dksX5_take_0 18 rfl rfl)
theorem dX5_take_19 : decode cX5_take 19 = .ok (.getfield 22, 3) := dk_180 0 22 (dk_at dksX5_take_0 19 rfl rfl)
theorem dX5_take_22 : decode cX5_take 22 = .ok (.iconst 1, 1) := dk_4 (dk_at dksX5_take_0 22 rfl rfl)
theorem dX5_take_23 : decode cX5_take 23 = .ok (.iadd, 1) := dk_96 (dk_at dksX5_take_0 23 rfl rfl)
theorem dX5_take_24 : decode cX5_take 24 = .ok (.putfield 22, 3) := dk_181 0 22 (dk_at dksX5_take_1 0 rfl rfl)
theorem dX5_take_27 : decode cX5_take 27 = .ok (.return_, 1) := dk_177 (dk_at dksX5_take_1 3 rfl rfl)
abbrev cX5_player : ByteArray := prog_9_method_9_code
def yX5_player : MethodName := ⟨RX5, "player", "(I)LBeforeTheEnd$Told;"⟩
def dkwX5_player_7 : List UInt8 := [184, 0, 83, 21, 6, 183, 0, 87, 176]
abbrev dktX5_player_7 : List UInt8 := dkwX5_player_7 ++ []
def dkwX5_player_6 : List UInt8 := [20, 0, 42, 20, 0, 44, 184, 0, 46, 154, 255, 179, 187, 0, 81, 89, 27, 28, 29, 21, 4, 21, 5]
abbrev dktX5_player_6 : List UInt8 := dkwX5_player_6 ++ dktX5_player_7
def dkwX5_player_5 : List UInt8 := [4, 21, 8, 120, 128, 54, 5, 132, 7, 1, 21, 7, 16, 9, 162, 0, 20, 42, 182, 0, 34, 133]
abbrev dktX5_player_5 : List UInt8 := dkwX5_player_5 ++ dktX5_player_6
def dkwX5_player_4 : List UInt8 := [54, 8, 21, 6, 21, 5, 21, 8, 122, 4, 126, 154, 0, 7, 4, 167, 0, 4, 3, 126, 54, 6, 21, 5]
abbrev dktX5_player_4 : List UInt8 := dkwX5_player_4 ++ dktX5_player_5
def dkwX5_player_3 : List UInt8 := [54, 7, 42, 42, 182, 0, 34, 133, 20, 0, 79, 20, 0, 44, 184, 0, 46, 182, 0, 38, 42, 182, 0, 50]
abbrev dktX5_player_3 : List UInt8 := dkwX5_player_3 ++ dktX5_player_4
def dkwX5_player_2 : List UInt8 := [182, 0, 50, 62, 42, 6, 182, 0, 63, 54, 4, 42, 16, 58, 182, 0, 60, 3, 54, 5, 4, 54, 6, 3]
abbrev dktX5_player_2 : List UInt8 := dkwX5_player_2 ++ dktX5_player_3
def dkwX5_player_1 : List UInt8 := [155, 0, 7, 4, 167, 0, 4, 3, 182, 0, 38, 42, 89, 180, 0, 22, 4, 96, 181, 0, 22, 42]
abbrev dktX5_player_1 : List UInt8 := dkwX5_player_1 ++ dktX5_player_2
def dkwX5_player_0 : List UInt8 := [42, 182, 0, 34, 156, 0, 7, 2, 167, 0, 12, 18, 72, 42, 182, 0, 34, 182, 0, 74, 61, 42, 28]
abbrev dktX5_player_0 : List UInt8 := dkwX5_player_0 ++ dktX5_player_1
theorem dksX5_player_0 : cX5_player.data.toList.drop 0 = dktX5_player_0 := by decide +kernel
theorem dksX5_player_1 : cX5_player.data.toList.drop 23 = dktX5_player_1 := dk_seg dksX5_player_0 23 rfl rfl
theorem dksX5_player_2 : cX5_player.data.toList.drop 45 = dktX5_player_2 := dk_seg dksX5_player_1 22 rfl rfl
theorem dksX5_player_3 : cX5_player.data.toList.drop 69 = dktX5_player_3 := dk_seg dksX5_player_2 24 rfl rfl
theorem dksX5_player_4 : cX5_player.data.toList.drop 93 = dktX5_player_4 := dk_seg dksX5_player_3 24 rfl rfl
theorem dksX5_player_5 : cX5_player.data.toList.drop 117 = dktX5_player_5 := dk_seg dksX5_player_4 24 rfl rfl
theorem dksX5_player_6 : cX5_player.data.toList.drop 139 = dktX5_player_6 := dk_seg dksX5_player_5 22 rfl rfl
theorem dksX5_player_7 : cX5_player.data.toList.drop 162 = dktX5_player_7 := dk_seg dksX5_player_6 23 rfl rfl
theorem dX5_player_0 : decode cX5_player 0 = .ok (.aload_n 0, 1) := dk_42 (dk_at dksX5_player_0 0 rfl rfl)
theorem dX5_player_1 : decode cX5_player 1 = .ok (.invokevirtual 34, 3) := dk_182 0 34 (dk_at dksX5_player_0 1 rfl rfl)
theorem dX5_player_4 : decode cX5_player 4 = .ok (.ifCond .ge 7, 3) := dk_156 0 7 (dk_at dksX5_player_0 4 rfl rfl)
theorem dX5_player_7 : decode cX5_player 7 = .ok (.iconst (-1), 1) := dk_2 (dk_at dksX5_player_0 7 rfl rfl)
theorem dX5_player_8 : decode cX5_player 8 = .ok (.goto 12, 3) := dk_167 0 12 (dk_at dksX5_player_0 8 rfl rfl)
theorem dX5_player_11 : decode cX5_player 11 = .ok (.ldc 72, 2) := dk_18 72 (dk_at dksX5_player_0 11 rfl rfl)
theorem dX5_player_13 : decode cX5_player 13 = .ok (.aload_n 0, 1) := dk_42 (dk_at dksX5_player_0 13 rfl rfl)
theorem dX5_player_14 : decode cX5_player 14 = .ok (.invokevirtual 34, 3) := dk_182 0 34 (dk_at dksX5_player_0 14 rfl rfl)
theorem dX5_player_17 : decode cX5_player 17 = .ok (.invokevirtual 74, 3) := dk_182 0 74 (dk_at dksX5_player_0 17 rfl rfl)
theorem dX5_player_20 : decode cX5_player 20 = .ok (.istore_n 2, 1) := dk_61 (dk_at dksX5_player_0 20 rfl rfl)
theorem dX5_player_21 : decode cX5_player 21 = .ok (.aload_n 0, 1) := dk_42 (dk_at dksX5_player_0 21 rfl rfl)
theorem dX5_player_22 : decode cX5_player 22 = .ok (.iload_n 2, 1) := dk_28 (dk_at dksX5_player_0 22 rfl rfl)
theorem dX5_player_23 : decode cX5_player 23 = .ok (.ifCond .lt 7, 3) := dk_155 0 7 (dk_at dksX5_player_1 0 rfl rfl)
theorem dX5_player_26 : decode cX5_player 26 = .ok (.iconst 1, 1) := dk_4 (dk_at dksX5_player_1 3 rfl rfl)
theorem dX5_player_27 : decode cX5_player 27 = .ok (.goto 4, 3) := dk_167 0 4 (dk_at dksX5_player_1 4 rfl rfl)
theorem dX5_player_30 : decode cX5_player 30 = .ok (.iconst 0, 1) := dk_3 (dk_at dksX5_player_1 7 rfl rfl)
theorem dX5_player_31 : decode cX5_player 31 = .ok (.invokevirtual 38, 3) := dk_182 0 38 (dk_at dksX5_player_1 8 rfl rfl)
theorem dX5_player_34 : decode cX5_player 34 = .ok (.aload_n 0, 1) := dk_42 (dk_at dksX5_player_1 11 rfl rfl)
theorem dX5_player_35 : decode cX5_player 35 = .ok (.dup, 1) := dk_89 (dk_at dksX5_player_1 12 rfl rfl)
theorem dX5_player_36 : decode cX5_player 36 = .ok (.getfield 22, 3) := dk_180 0 22 (dk_at dksX5_player_1 13 rfl rfl)
theorem dX5_player_39 : decode cX5_player 39 = .ok (.iconst 1, 1) := dk_4 (dk_at dksX5_player_1 16 rfl rfl)
theorem dX5_player_40 : decode cX5_player 40 = .ok (.iadd, 1) := dk_96 (dk_at dksX5_player_1 17 rfl rfl)
theorem dX5_player_41 : decode cX5_player 41 = .ok (.putfield 22, 3) := dk_181 0 22 (dk_at dksX5_player_1 18 rfl rfl)
theorem dX5_player_44 : decode cX5_player 44 = .ok (.aload_n 0, 1) := dk_42 (dk_at dksX5_player_1 21 rfl rfl)
theorem dX5_player_45 : decode cX5_player 45 = .ok (.invokevirtual 50, 3) := dk_182 0 50 (dk_at dksX5_player_2 0 rfl rfl)
theorem dX5_player_48 : decode cX5_player 48 = .ok (.istore_n 3, 1) := dk_62 (dk_at dksX5_player_2 3 rfl rfl)
theorem dX5_player_49 : decode cX5_player 49 = .ok (.aload_n 0, 1) := dk_42 (dk_at dksX5_player_2 4 rfl rfl)
theorem dX5_player_50 : decode cX5_player 50 = .ok (.iconst 3, 1) := dk_6 (dk_at dksX5_player_2 5 rfl rfl)
theorem dX5_player_51 : decode cX5_player 51 = .ok (.invokevirtual 63, 3) := dk_182 0 63 (dk_at dksX5_player_2 6 rfl rfl)
theorem dX5_player_54 : decode cX5_player 54 = .ok (.istore 4, 2) := dk_54 4 (dk_at dksX5_player_2 9 rfl rfl)
theorem dX5_player_56 : decode cX5_player 56 = .ok (.aload_n 0, 1) := dk_42 (dk_at dksX5_player_2 11 rfl rfl)
theorem dX5_player_57 : decode cX5_player 57 = .ok (.bipush 58, 2) := dk_16 58 (dk_at dksX5_player_2 12 rfl rfl)
theorem dX5_player_59 : decode cX5_player 59 = .ok (.invokevirtual 60, 3) := dk_182 0 60 (dk_at dksX5_player_2 14 rfl rfl)
theorem dX5_player_62 : decode cX5_player 62 = .ok (.iconst 0, 1) := dk_3 (dk_at dksX5_player_2 17 rfl rfl)
theorem dX5_player_63 : decode cX5_player 63 = .ok (.istore 5, 2) := dk_54 5 (dk_at dksX5_player_2 18 rfl rfl)
theorem dX5_player_65 : decode cX5_player 65 = .ok (.iconst 1, 1) := dk_4 (dk_at dksX5_player_2 20 rfl rfl)
theorem dX5_player_66 : decode cX5_player 66 = .ok (.istore 6, 2) := dk_54 6 (dk_at dksX5_player_2 21 rfl rfl)
theorem dX5_player_68 : decode cX5_player 68 = .ok (.iconst 0, 1) := dk_3 (dk_at dksX5_player_2 23 rfl rfl)
theorem dX5_player_69 : decode cX5_player 69 = .ok (.istore 7, 2) := dk_54 7 (dk_at dksX5_player_3 0 rfl rfl)
theorem dX5_player_71 : decode cX5_player 71 = .ok (.aload_n 0, 1) := dk_42 (dk_at dksX5_player_3 2 rfl rfl)
theorem dX5_player_72 : decode cX5_player 72 = .ok (.aload_n 0, 1) := dk_42 (dk_at dksX5_player_3 3 rfl rfl)
theorem dX5_player_73 : decode cX5_player 73 = .ok (.invokevirtual 34, 3) := dk_182 0 34 (dk_at dksX5_player_3 4 rfl rfl)
theorem dX5_player_76 : decode cX5_player 76 = .ok (.i2l, 1) := dk_133 (dk_at dksX5_player_3 7 rfl rfl)
theorem dX5_player_77 : decode cX5_player 77 = .ok (.ldc2_w 79, 3) := dk_20 0 79 (dk_at dksX5_player_3 8 rfl rfl)
theorem dX5_player_80 : decode cX5_player 80 = .ok (.ldc2_w 44, 3) := dk_20 0 44 (dk_at dksX5_player_3 11 rfl rfl)
theorem dX5_player_83 : decode cX5_player 83 = .ok (.invokestatic 46, 3) := dk_184 0 46 (dk_at dksX5_player_3 14 rfl rfl)
theorem dX5_player_86 : decode cX5_player 86 = .ok (.invokevirtual 38, 3) := dk_182 0 38 (dk_at dksX5_player_3 17 rfl rfl)
theorem dX5_player_89 : decode cX5_player 89 = .ok (.aload_n 0, 1) := dk_42 (dk_at dksX5_player_3 20 rfl rfl)
theorem dX5_player_90 : decode cX5_player 90 = .ok (.invokevirtual 50, 3) := dk_182 0 50 (dk_at dksX5_player_3 21 rfl rfl)
theorem dX5_player_93 : decode cX5_player 93 = .ok (.istore 8, 2) := dk_54 8 (dk_at dksX5_player_4 0 rfl rfl)
theorem dX5_player_95 : decode cX5_player 95 = .ok (.iload 6, 2) := dk_21 6 (dk_at dksX5_player_4 2 rfl rfl)
theorem dX5_player_97 : decode cX5_player 97 = .ok (.iload 5, 2) := dk_21 5 (dk_at dksX5_player_4 4 rfl rfl)
theorem dX5_player_99 : decode cX5_player 99 = .ok (.iload 8, 2) := dk_21 8 (dk_at dksX5_player_4 6 rfl rfl)
theorem dX5_player_101 : decode cX5_player 101 = .ok (.ishr, 1) := dk_122 (dk_at dksX5_player_4 8 rfl rfl)
theorem dX5_player_102 : decode cX5_player 102 = .ok (.iconst 1, 1) := dk_4 (dk_at dksX5_player_4 9 rfl rfl)
theorem dX5_player_103 : decode cX5_player 103 = .ok (.iand, 1) := dk_126 (dk_at dksX5_player_4 10 rfl rfl)
theorem dX5_player_104 : decode cX5_player 104 = .ok (.ifCond .ne 7, 3) := dk_154 0 7 (dk_at dksX5_player_4 11 rfl rfl)
theorem dX5_player_107 : decode cX5_player 107 = .ok (.iconst 1, 1) := dk_4 (dk_at dksX5_player_4 14 rfl rfl)
theorem dX5_player_108 : decode cX5_player 108 = .ok (.goto 4, 3) := dk_167 0 4 (dk_at dksX5_player_4 15 rfl rfl)
theorem dX5_player_111 : decode cX5_player 111 = .ok (.iconst 0, 1) := dk_3 (dk_at dksX5_player_4 18 rfl rfl)
theorem dX5_player_112 : decode cX5_player 112 = .ok (.iand, 1) := dk_126 (dk_at dksX5_player_4 19 rfl rfl)
theorem dX5_player_113 : decode cX5_player 113 = .ok (.istore 6, 2) := dk_54 6 (dk_at dksX5_player_4 20 rfl rfl)
theorem dX5_player_115 : decode cX5_player 115 = .ok (.iload 5, 2) := dk_21 5 (dk_at dksX5_player_4 22 rfl rfl)
theorem dX5_player_117 : decode cX5_player 117 = .ok (.iconst 1, 1) := dk_4 (dk_at dksX5_player_5 0 rfl rfl)
theorem dX5_player_118 : decode cX5_player 118 = .ok (.iload 8, 2) := dk_21 8 (dk_at dksX5_player_5 1 rfl rfl)
theorem dX5_player_120 : decode cX5_player 120 = .ok (.ishl, 1) := dk_120 (dk_at dksX5_player_5 3 rfl rfl)
theorem dX5_player_121 : decode cX5_player 121 = .ok (.ior, 1) := dk_128 (dk_at dksX5_player_5 4 rfl rfl)
theorem dX5_player_122 : decode cX5_player 122 = .ok (.istore 5, 2) := dk_54 5 (dk_at dksX5_player_5 5 rfl rfl)
theorem dX5_player_124 : decode cX5_player 124 = .ok (.iinc 7 1, 3) := dk_132 7 1 (dk_at dksX5_player_5 7 rfl rfl)
theorem dX5_player_127 : decode cX5_player 127 = .ok (.iload 7, 2) := dk_21 7 (dk_at dksX5_player_5 10 rfl rfl)
theorem dX5_player_129 : decode cX5_player 129 = .ok (.bipush 9, 2) := dk_16 9 (dk_at dksX5_player_5 12 rfl rfl)
theorem dX5_player_131 : decode cX5_player 131 = .ok (.if_icmp .ge 20, 3) := dk_162 0 20 (dk_at dksX5_player_5 14 rfl rfl)
theorem dX5_player_134 : decode cX5_player 134 = .ok (.aload_n 0, 1) := dk_42 (dk_at dksX5_player_5 17 rfl rfl)
theorem dX5_player_135 : decode cX5_player 135 = .ok (.invokevirtual 34, 3) := dk_182 0 34 (dk_at dksX5_player_5 18 rfl rfl)
theorem dX5_player_138 : decode cX5_player 138 = .ok (.i2l, 1) := dk_133 (dk_at dksX5_player_5 21 rfl rfl)
theorem dX5_player_139 : decode cX5_player 139 = .ok (.ldc2_w 42, 3) := dk_20 0 42 (dk_at dksX5_player_6 0 rfl rfl)
theorem dX5_player_142 : decode cX5_player 142 = .ok (.ldc2_w 44, 3) := dk_20 0 44 (dk_at dksX5_player_6 3 rfl rfl)
theorem dX5_player_145 : decode cX5_player 145 = .ok (.invokestatic 46, 3) := dk_184 0 46 (dk_at dksX5_player_6 6 rfl rfl)
theorem dX5_player_148 : decode cX5_player 148 = .ok (.ifCond .ne (-77), 3) := dk_154 255 179 (dk_at dksX5_player_6 9 rfl rfl)
theorem dX5_player_151 : decode cX5_player 151 = .ok (.new 81, 3) := dk_187 0 81 (dk_at dksX5_player_6 12 rfl rfl)
theorem dX5_player_154 : decode cX5_player 154 = .ok (.dup, 1) := dk_89 (dk_at dksX5_player_6 15 rfl rfl)
theorem dX5_player_155 : decode cX5_player 155 = .ok (.iload_n 1, 1) := dk_27 (dk_at dksX5_player_6 16 rfl rfl)
theorem dX5_player_156 : decode cX5_player 156 = .ok (.iload_n 2, 1) := dk_28 (dk_at dksX5_player_6 17 rfl rfl)
theorem dX5_player_157 : decode cX5_player 157 = .ok (.iload_n 3, 1) := dk_29 (dk_at dksX5_player_6 18 rfl rfl)
theorem dX5_player_158 : decode cX5_player 158 = .ok (.iload 4, 2) := dk_21 4 (dk_at dksX5_player_6 19 rfl rfl)
theorem dX5_player_160 : decode cX5_player 160 = .ok (.iload 5, 2) := dk_21 5 (dk_at dksX5_player_6 21 rfl rfl)
theorem dX5_player_162 : decode cX5_player 162 = .ok (.invokestatic 83, 3) := dk_184 0 83 (dk_at dksX5_player_7 0 rfl rfl)
theorem dX5_player_165 : decode cX5_player 165 = .ok (.iload 6, 2) := dk_21 6 (dk_at dksX5_player_7 3 rfl rfl)
theorem dX5_player_167 : decode cX5_player 167 = .ok (.invokespecial 87, 3) := dk_183 0 87 (dk_at dksX5_player_7 5 rfl rfl)
theorem dX5_player_170 : decode cX5_player 170 = .ok (.areturn, 1) := dk_176 (dk_at dksX5_player_7 8 rfl rfl)
theorem q112 : (Jvm.Cond.initialized "BeforeTheEnd$Reader") ∈ lw_all := lw_g (lw_at lw_m1 9 rfl) rfl
theorem q200 : (Jvm.Cond.fieldLinkNest "BeforeTheEnd$Reader" (25 : Nat) "BeforeTheEnd" "tape" "[B" "BeforeTheEnd") ∈ lw_tbl := lw_at lw_m1 97 rfl
theorem q202 : (Jvm.Cond.fieldLinkNest "BeforeTheEnd$Reader" (15 : Nat) "BeforeTheEnd" "tapeMany" "I" "BeforeTheEnd") ∈ lw_tbl := lw_at lw_m1 99 rfl
theorem q400 : (Jvm.Cond.instantiable "BeforeTheEnd$Reader" (3 : Nat)) ∈ lw_all := lw_g (lw_at lw_m2 57 rfl) rfl
theorem q402 : (Jvm.Cond.instanceMethod ({ cls := "BeforeTheEnd$Reader", name := "<init>", desc := "(LBeforeTheEnd;)V" } : Jvm.MethodName)) ∈ lw_all := lw_g (lw_at lw_m2 59 rfl) rfl
theorem q403 : (Jvm.Cond.code ({ cls := "BeforeTheEnd$Reader", name := "<init>", desc := "(LBeforeTheEnd;)V" } : Jvm.MethodName) prog_9_method_1_code (2 : Nat) (Option.none : Option Jvm.ClassFile.FieldType)) ∈ lw_all := lw_g (lw_at lw_m2 60 rfl) rfl
theorem q404 : (Jvm.Cond.methodLink "BeforeTheEnd$Reader" (9 : Nat) ({ cls := "java/lang/Object", name := "<init>", desc := "()V" } : Jvm.MethodName)) ∈ lw_all := lw_g (lw_at lw_m2 61 rfl) rfl
theorem q405 : (Jvm.Cond.fieldLink "BeforeTheEnd$Reader" (19 : Nat) "BeforeTheEnd$Reader" "size" "I") ∈ lw_all := lw_g (lw_at lw_m2 62 rfl) rfl
theorem q407 : (Jvm.Cond.fieldLink "BeforeTheEnd$Reader" (22 : Nat) "BeforeTheEnd$Reader" "at" "I") ∈ lw_all := lw_g (lw_at lw_m2 64 rfl) rfl
theorem q409 : (Jvm.Cond.fieldLink "BeforeTheEnd$Reader" (3 : Nat) "BeforeTheEnd$Reader" "this$0" "LBeforeTheEnd;") ∈ lw_all := lw_g (lw_at lw_m2 66 rfl) rfl
theorem q410 : (Jvm.Cond.laysFinal "BeforeTheEnd$Reader" "BeforeTheEnd$Reader" "size" "I") ∈ lw_all := lw_g (lw_at lw_m2 67 rfl) rfl
theorem q411 : (Jvm.Cond.soleField "BeforeTheEnd$Reader" "size") ∈ lw_all := lw_g (lw_at lw_m2 68 rfl) rfl
theorem q412 : (Jvm.Cond.lays "BeforeTheEnd$Reader" "BeforeTheEnd$Reader" "at" "I") ∈ lw_all := lw_g (lw_at lw_m2 69 rfl) rfl
theorem q413 : (Jvm.Cond.soleField "BeforeTheEnd$Reader" "at") ∈ lw_all := lw_g (lw_at lw_m2 70 rfl) rfl
theorem q414 : (Jvm.Cond.laysFinal "BeforeTheEnd$Reader" "BeforeTheEnd$Reader" "this$0" "LBeforeTheEnd;") ∈ lw_all := lw_g (lw_at lw_m2 71 rfl) rfl
theorem q415 : (Jvm.Cond.soleField "BeforeTheEnd$Reader" "this$0") ∈ lw_all := lw_g (lw_at lw_m2 72 rfl) rfl
theorem q416 : (Jvm.Cond.superclass "BeforeTheEnd$Reader" "java/lang/Object") ∈ lw_all := lw_g (lw_at lw_m2 73 rfl) rfl
theorem q420 : (Jvm.Cond.instanceMethod ({ cls := "BeforeTheEnd$Reader", name := "statement", desc := "()LBeforeTheEnd$Told;" } : Jvm.MethodName)) ∈ lw_all := lw_g (lw_at lw_m2 77 rfl) rfl
theorem q421 : (Jvm.Cond.selects "BeforeTheEnd$Reader" ({ cls := "BeforeTheEnd$Reader", name := "statement", desc := "()LBeforeTheEnd$Told;" } : Jvm.MethodName) ({ cls := "BeforeTheEnd$Reader", name := "statement", desc := "()LBeforeTheEnd$Told;" } : Jvm.MethodName)) ∈ lw_all := lw_g (lw_at lw_m2 78 rfl) rfl
theorem q422 : (Jvm.Cond.code ({ cls := "BeforeTheEnd$Reader", name := "statement", desc := "()LBeforeTheEnd$Told;" } : Jvm.MethodName) prog_9_method_7_code (4 : Nat) (Option.some (Jvm.ClassFile.FieldType.object "BeforeTheEnd$Told"))) ∈ lw_all := lw_g (lw_at lw_m2 79 rfl) rfl
theorem q423 : (Jvm.Cond.methodLink "BeforeTheEnd$Reader" (34 : Nat) ({ cls := "BeforeTheEnd$Reader", name := "here", desc := "()I" } : Jvm.MethodName)) ∈ lw_all := lw_g (lw_at lw_m2 80 rfl) rfl
theorem q424 : (Jvm.Cond.privateMethod ({ cls := "BeforeTheEnd$Reader", name := "here", desc := "()I" } : Jvm.MethodName)) ∈ lw_tbl := lw_at lw_m2 81 rfl
theorem q425 : (Jvm.Cond.instanceMethod ({ cls := "BeforeTheEnd$Reader", name := "here", desc := "()I" } : Jvm.MethodName)) ∈ lw_all := lw_g (lw_at lw_m2 82 rfl) rfl
theorem q426 : (Jvm.Cond.code ({ cls := "BeforeTheEnd$Reader", name := "here", desc := "()I" } : Jvm.MethodName) prog_9_method_2_code (1 : Nat) (Option.some Jvm.ClassFile.FieldType.int)) ∈ lw_all := lw_g (lw_at lw_m2 83 rfl) rfl
theorem q427 : (Jvm.Cond.methodLink "BeforeTheEnd$Reader" (38 : Nat) ({ cls := "BeforeTheEnd$Reader", name := "mustStand", desc := "(Z)V" } : Jvm.MethodName)) ∈ lw_all := lw_g (lw_at lw_m2 84 rfl) rfl
theorem q428 : (Jvm.Cond.privateMethod ({ cls := "BeforeTheEnd$Reader", name := "mustStand", desc := "(Z)V" } : Jvm.MethodName)) ∈ lw_tbl := lw_at lw_m2 85 rfl
theorem q429 : (Jvm.Cond.instanceMethod ({ cls := "BeforeTheEnd$Reader", name := "mustStand", desc := "(Z)V" } : Jvm.MethodName)) ∈ lw_all := lw_g (lw_at lw_m2 86 rfl) rfl
theorem q430 : (Jvm.Cond.code ({ cls := "BeforeTheEnd$Reader", name := "mustStand", desc := "(Z)V" } : Jvm.MethodName) prog_9_method_3_code (2 : Nat) (Option.none : Option Jvm.ClassFile.FieldType)) ∈ lw_all := lw_g (lw_at lw_m2 87 rfl) rfl
theorem q431 : (Jvm.Cond.classLink "BeforeTheEnd$Reader" (29 : Nat) "BeforeTheEnd$Fault") ∈ lw_all := lw_g (lw_at lw_m2 88 rfl) rfl
theorem q440 : (Jvm.Cond.methodLink "BeforeTheEnd$Reader" (31 : Nat) ({ cls := "BeforeTheEnd$Fault", name := "<init>", desc := "(I)V" } : Jvm.MethodName)) ∈ lw_all := lw_g (lw_at lw_m2 97 rfl) rfl
theorem q449 : (Jvm.Cond.methodLink "BeforeTheEnd$Reader" (53 : Nat) ({ cls := "BeforeTheEnd$Reader", name := "word", desc := "(I)LBeforeTheEnd$Told;" } : Jvm.MethodName)) ∈ lw_all := lw_g (lw_at lw_m2 106 rfl) rfl
theorem q450 : (Jvm.Cond.privateMethod ({ cls := "BeforeTheEnd$Reader", name := "word", desc := "(I)LBeforeTheEnd$Told;" } : Jvm.MethodName)) ∈ lw_tbl := lw_at lw_m2 107 rfl
theorem q451 : (Jvm.Cond.instanceMethod ({ cls := "BeforeTheEnd$Reader", name := "word", desc := "(I)LBeforeTheEnd$Told;" } : Jvm.MethodName)) ∈ lw_all := lw_g (lw_at lw_m2 108 rfl) rfl
theorem q452 : (Jvm.Cond.code ({ cls := "BeforeTheEnd$Reader", name := "word", desc := "(I)LBeforeTheEnd$Told;" } : Jvm.MethodName) prog_9_method_8_code (4 : Nat) (Option.some (Jvm.ClassFile.FieldType.object "BeforeTheEnd$Told"))) ∈ lw_all := lw_g (lw_at lw_m2 109 rfl) rfl
theorem q453 : (Jvm.Cond.methodLink "BeforeTheEnd$Reader" (63 : Nat) ({ cls := "BeforeTheEnd$Reader", name := "number", desc := "(I)I" } : Jvm.MethodName)) ∈ lw_all := lw_g (lw_at lw_m2 110 rfl) rfl
theorem q454 : (Jvm.Cond.privateMethod ({ cls := "BeforeTheEnd$Reader", name := "number", desc := "(I)I" } : Jvm.MethodName)) ∈ lw_tbl := lw_at lw_m2 111 rfl
theorem q455 : (Jvm.Cond.instanceMethod ({ cls := "BeforeTheEnd$Reader", name := "number", desc := "(I)I" } : Jvm.MethodName)) ∈ lw_all := lw_g (lw_at lw_m2 112 rfl) rfl
theorem q456 : (Jvm.Cond.code ({ cls := "BeforeTheEnd$Reader", name := "number", desc := "(I)I" } : Jvm.MethodName) prog_9_method_6_code (4 : Nat) (Option.some Jvm.ClassFile.FieldType.int)) ∈ lw_all := lw_g (lw_at lw_m2 113 rfl) rfl
theorem q457 : (Jvm.Cond.methodLink "BeforeTheEnd$Reader" (50 : Nat) ({ cls := "BeforeTheEnd$Reader", name := "digit", desc := "()I" } : Jvm.MethodName)) ∈ lw_all := lw_g (lw_at lw_m2 114 rfl) rfl
theorem q458 : (Jvm.Cond.privateMethod ({ cls := "BeforeTheEnd$Reader", name := "digit", desc := "()I" } : Jvm.MethodName)) ∈ lw_tbl := lw_at lw_m2 115 rfl
theorem q459 : (Jvm.Cond.instanceMethod ({ cls := "BeforeTheEnd$Reader", name := "digit", desc := "()I" } : Jvm.MethodName)) ∈ lw_all := lw_g (lw_at lw_m2 116 rfl) rfl
theorem q460 : (Jvm.Cond.code ({ cls := "BeforeTheEnd$Reader", name := "digit", desc := "()I" } : Jvm.MethodName) prog_9_method_5_code (1 : Nat) (Option.some Jvm.ClassFile.FieldType.int)) ∈ lw_all := lw_g (lw_at lw_m2 117 rfl) rfl
theorem q461 : (Jvm.Cond.constantLong "BeforeTheEnd$Reader" (42 : Nat) (48 : Int64)) ∈ lw_all := lw_g (lw_at lw_m2 118 rfl) rfl
theorem q462 : (Jvm.Cond.constantLong "BeforeTheEnd$Reader" (44 : Nat) (57 : Int64)) ∈ lw_all := lw_g (lw_at lw_m2 119 rfl) rfl
theorem q463 : (Jvm.Cond.methodLinkNest "BeforeTheEnd$Reader" (46 : Nat) ({ cls := "BeforeTheEnd", name := "in", desc := "(JJJ)Z" } : Jvm.MethodName) "BeforeTheEnd") ∈ lw_tbl := lw_at lw_m2 120 rfl
theorem q466 : (Jvm.Cond.methodLink "BeforeTheEnd$Reader" (60 : Nat) ({ cls := "BeforeTheEnd$Reader", name := "take", desc := "(I)V" } : Jvm.MethodName)) ∈ lw_all := lw_g (lw_at lw_m2 123 rfl) rfl
theorem q467 : (Jvm.Cond.privateMethod ({ cls := "BeforeTheEnd$Reader", name := "take", desc := "(I)V" } : Jvm.MethodName)) ∈ lw_tbl := lw_at lw_m2 124 rfl
theorem q468 : (Jvm.Cond.instanceMethod ({ cls := "BeforeTheEnd$Reader", name := "take", desc := "(I)V" } : Jvm.MethodName)) ∈ lw_all := lw_g (lw_at lw_m2 125 rfl) rfl
theorem q469 : (Jvm.Cond.code ({ cls := "BeforeTheEnd$Reader", name := "take", desc := "(I)V" } : Jvm.MethodName) prog_9_method_4_code (2 : Nat) (Option.none : Option Jvm.ClassFile.FieldType)) ∈ lw_all := lw_g (lw_at lw_m2 126 rfl) rfl
theorem q470 : (Jvm.Cond.classLink "BeforeTheEnd$Reader" (67 : Nat) "BeforeTheEnd$WordTold") ∈ lw_all := lw_g (lw_at lw_m2 127 rfl) rfl
theorem q472 : (Jvm.Cond.methodLink "BeforeTheEnd$Reader" (69 : Nat) ({ cls := "BeforeTheEnd$WordTold", name := "<init>", desc := "(IIII)V" } : Jvm.MethodName)) ∈ lw_all := lw_g (lw_at lw_m2 129 rfl) rfl
theorem q496 : (Jvm.Cond.methodLink "BeforeTheEnd$Reader" (57 : Nat) ({ cls := "BeforeTheEnd$Reader", name := "player", desc := "(I)LBeforeTheEnd$Told;" } : Jvm.MethodName)) ∈ lw_all := lw_g (lw_at lw_m2 153 rfl) rfl
theorem q497 : (Jvm.Cond.privateMethod ({ cls := "BeforeTheEnd$Reader", name := "player", desc := "(I)LBeforeTheEnd$Told;" } : Jvm.MethodName)) ∈ lw_tbl := lw_at lw_m2 154 rfl
theorem q498 : (Jvm.Cond.instanceMethod ({ cls := "BeforeTheEnd$Reader", name := "player", desc := "(I)LBeforeTheEnd$Told;" } : Jvm.MethodName)) ∈ lw_all := lw_g (lw_at lw_m2 155 rfl) rfl
theorem q499 : (Jvm.Cond.code ({ cls := "BeforeTheEnd$Reader", name := "player", desc := "(I)LBeforeTheEnd$Told;" } : Jvm.MethodName) prog_9_method_9_code (9 : Nat) (Option.some (Jvm.ClassFile.FieldType.object "BeforeTheEnd$Told"))) ∈ lw_all := lw_g (lw_at lw_m2 156 rfl) rfl
theorem q500 : (Jvm.Cond.stringRef "BeforeTheEnd$Reader" (72 : Nat) "esblta") ∈ lw_tbl := lw_at lw_m2 157 rfl
theorem q501 : (Jvm.Cond.methodLink "BeforeTheEnd$Reader" (74 : Nat) ({ cls := "java/lang/String", name := "indexOf", desc := "(I)I" } : Jvm.MethodName)) ∈ lw_all := lw_g (lw_at lw_m2 158 rfl) rfl
theorem q587 : (Jvm.Cond.constantLong "BeforeTheEnd$Reader" (79 : Nat) (49 : Int64)) ∈ lw_all := lw_g (lw_at lw_m3 4 rfl) rfl
theorem q588 : (Jvm.Cond.classLink "BeforeTheEnd$Reader" (81 : Nat) "BeforeTheEnd$PlayerTold") ∈ lw_all := lw_g (lw_at lw_m3 5 rfl) rfl
theorem q590 : (Jvm.Cond.methodLinkNest "BeforeTheEnd$Reader" (83 : Nat) ({ cls := "BeforeTheEnd", name := "playerOf", desc := "(IIII)LBeforeTheEnd$Player;" } : Jvm.MethodName) "BeforeTheEnd") ∈ lw_tbl := lw_at lw_m3 7 rfl
theorem q691 : (Jvm.Cond.methodLink "BeforeTheEnd$Reader" (87 : Nat) ({ cls := "BeforeTheEnd$PlayerTold", name := "<init>", desc := "(ILBeforeTheEnd$Player;Z)V" } : Jvm.MethodName)) ∈ lw_all := lw_g (lw_at lw_m3 108 rfl) rfl
theorem in_X5 : ∀ w ∈ wsX50, w ∈ lw_all := lw_in wsX50 [410, 412, 414] (by decide +kernel) (by decide +kernel)
/-! BeforeTheEnd$Fault -/
set_option maxRecDepth 100000
def RX6 : String := "BeforeTheEnd$Fault"
def TX6 : u_T := fun k => match k with
  | 0 => ("java/lang/Throwable", "cause", "Ljava/lang/Throwable;", false)
  | 1 => ("java/lang/Throwable", "stackTrace", "[Ljava/lang/StackTraceElement;", false)
  | 2 => ("java/lang/Throwable", "suppressedExceptions", "Ljava/util/List;", false)
  | 3 => ("java/lang/Throwable", "detailMessage", "Ljava/lang/String;", false)
  | 4 => ("java/lang/Throwable", "backtrace", "Ljava/lang/Object;", false)
  | 5 => ("java/lang/Throwable", "depth", "I", false)
  | _ => ("BeforeTheEnd$Fault", "told", "I", true)
def tyX6 : Nat → FieldType := fun k => match k with
  | 0 => .object "java/lang/Throwable"
  | 1 => .array (.object "java/lang/StackTraceElement")
  | 2 => .object "java/util/List"
  | 3 => .object "java/lang/String"
  | 4 => .object "java/lang/Object"
  | 5 => .int
  | _ => .int
abbrev wsX60 : List Cond := u_ws RX6 TX6 7
theorem nmX6 : ∀ a, a < 7 → ∀ b, b < 7 → a ≠ b → (TX6 a).2.1 ≠ (TX6 b).2.1 := by decide +kernel
theorem tyX6_ok : ∀ k, k < 7 → parseFieldDescriptor (TX6 k).2.2.1 = some (tyX6 k) := by decide +kernel
abbrev cX6_number : ByteArray := prog_5_method_2_code
def yX6_number : MethodName := ⟨RX6, "number", "()I"⟩
theorem dX6_number_0 : decode cX6_number 0 = .ok (.aload_n 0, 1) := by decide +kernel
theorem dX6_number_1 : decode cX6_number 1 = .ok (.getfield 7, 3) := by decide +kernel
theorem dX6_number_4 : decode cX6_number 4 = .ok (.ireturn, 1) := by decide +kernel
abbrev cX6_init : ByteArray := prog_5_method_1_code
def yX6_init : MethodName := ⟨RX6, "<init>", "(I)V"⟩
def dkwX6_init_0 : List UInt8 := [42, 183, 0, 1, 42, 27, 181, 0, 7, 177]
abbrev dktX6_init_0 : List UInt8 := dkwX6_init_0 ++ []
theorem dksX6_init_0 : cX6_init.data.toList.drop 0 = dktX6_init_0 := by decide +kernel
theorem dX6_init_0 : decode cX6_init 0 = .ok (.aload_n 0, 1) := dk_42 (dk_at dksX6_init_0 0 rfl rfl)
theorem dX6_init_1 : decode cX6_init 1 = .ok (.invokespecial 1, 3) := dk_183 0 1 (dk_at dksX6_init_0 1 rfl rfl)
theorem dX6_init_4 : decode cX6_init 4 = .ok (.aload_n 0, 1) := dk_42 (dk_at dksX6_init_0 4 rfl rfl)
theorem dX6_init_5 : decode cX6_init 5 = .ok (.iload_n 1, 1) := dk_27 (dk_at dksX6_init_0 5 rfl rfl)
theorem dX6_init_6 : decode cX6_init 6 = .ok (.putfield 7, 3) := dk_181 0 7 (dk_at dksX6_init_0 6 rfl rfl)
theorem dX6_init_9 : decode cX6_init 9 = .ok (.return_, 1) := dk_177 (dk_at dksX6_init_0 9 rfl rfl)
theorem q113 : (Jvm.Cond.initialized "BeforeTheEnd$Fault") ∈ lw_all := lw_g (lw_at lw_m1 10 rfl) rfl
theorem q331 : (Jvm.Cond.selects "BeforeTheEnd$Fault" ({ cls := "java/lang/Throwable", name := "fillInStackTrace", desc := "()Ljava/lang/Throwable;" } : Jvm.MethodName) ({ cls := "java/lang/Throwable", name := "fillInStackTrace", desc := "()Ljava/lang/Throwable;" } : Jvm.MethodName)) ∈ lw_all := lw_g (lw_at lw_m1 228 rfl) rfl
theorem q369 : (Jvm.Cond.selects "BeforeTheEnd$Fault" ({ cls := "BeforeTheEnd$Refusal", name := "number", desc := "()I" } : Jvm.MethodName) ({ cls := "BeforeTheEnd$Fault", name := "number", desc := "()I" } : Jvm.MethodName)) ∈ lw_all := lw_g (lw_at lw_m2 26 rfl) rfl
theorem q370 : (Jvm.Cond.instanceMethod ({ cls := "BeforeTheEnd$Fault", name := "number", desc := "()I" } : Jvm.MethodName)) ∈ lw_all := lw_g (lw_at lw_m2 27 rfl) rfl
theorem q371 : (Jvm.Cond.code ({ cls := "BeforeTheEnd$Fault", name := "number", desc := "()I" } : Jvm.MethodName) prog_5_method_2_code (1 : Nat) (Option.some Jvm.ClassFile.FieldType.int)) ∈ lw_all := lw_g (lw_at lw_m2 28 rfl) rfl
theorem q432 : (Jvm.Cond.instantiable "BeforeTheEnd$Fault" (7 : Nat)) ∈ lw_all := lw_g (lw_at lw_m2 89 rfl) rfl
theorem q433 : (Jvm.Cond.castable "BeforeTheEnd$Fault" "BeforeTheEnd$Fault") ∈ lw_tbl := lw_at lw_m2 90 rfl
theorem q434 : (Jvm.Cond.selects "BeforeTheEnd$Fault" ({ cls := "java/lang/Throwable", name := "fillInStackTrace", desc := "(I)Ljava/lang/Throwable;" } : Jvm.MethodName) ({ cls := "java/lang/Throwable", name := "fillInStackTrace", desc := "(I)Ljava/lang/Throwable;" } : Jvm.MethodName)) ∈ lw_all := lw_g (lw_at lw_m2 91 rfl) rfl
theorem q435 : (Jvm.Cond.lays "BeforeTheEnd$Fault" "java/lang/Throwable" "cause" "Ljava/lang/Throwable;") ∈ lw_all := lw_g (lw_at lw_m2 92 rfl) rfl
theorem q436 : (Jvm.Cond.lays "BeforeTheEnd$Fault" "java/lang/Throwable" "stackTrace" "[Ljava/lang/StackTraceElement;") ∈ lw_all := lw_g (lw_at lw_m2 93 rfl) rfl
theorem q437 : (Jvm.Cond.lays "BeforeTheEnd$Fault" "java/lang/Throwable" "suppressedExceptions" "Ljava/util/List;") ∈ lw_all := lw_g (lw_at lw_m2 94 rfl) rfl
theorem q438 : (Jvm.Cond.lays "BeforeTheEnd$Fault" "java/lang/Throwable" "detailMessage" "Ljava/lang/String;") ∈ lw_all := lw_g (lw_at lw_m2 95 rfl) rfl
theorem q439 : (Jvm.Cond.lays "BeforeTheEnd$Fault" "java/lang/Throwable" "backtrace" "Ljava/lang/Object;") ∈ lw_all := lw_g (lw_at lw_m2 96 rfl) rfl
theorem q441 : (Jvm.Cond.instanceMethod ({ cls := "BeforeTheEnd$Fault", name := "<init>", desc := "(I)V" } : Jvm.MethodName)) ∈ lw_all := lw_g (lw_at lw_m2 98 rfl) rfl
theorem q442 : (Jvm.Cond.code ({ cls := "BeforeTheEnd$Fault", name := "<init>", desc := "(I)V" } : Jvm.MethodName) prog_5_method_1_code (2 : Nat) (Option.none : Option Jvm.ClassFile.FieldType)) ∈ lw_all := lw_g (lw_at lw_m2 99 rfl) rfl
theorem q443 : (Jvm.Cond.methodLinkNest "BeforeTheEnd$Fault" (1 : Nat) ({ cls := "BeforeTheEnd$Refusal", name := "<init>", desc := "()V" } : Jvm.MethodName) "BeforeTheEnd") ∈ lw_tbl := lw_at lw_m2 100 rfl
theorem q444 : (Jvm.Cond.fieldLink "BeforeTheEnd$Fault" (7 : Nat) "BeforeTheEnd$Fault" "told" "I") ∈ lw_all := lw_g (lw_at lw_m2 101 rfl) rfl
theorem q445 : (Jvm.Cond.laysFinal "BeforeTheEnd$Fault" "BeforeTheEnd$Fault" "told" "I") ∈ lw_all := lw_g (lw_at lw_m2 102 rfl) rfl
theorem q446 : (Jvm.Cond.soleField "BeforeTheEnd$Fault" "told") ∈ lw_all := lw_g (lw_at lw_m2 103 rfl) rfl
theorem q447 : (Jvm.Cond.lays "BeforeTheEnd$Fault" "java/lang/Throwable" "depth" "I") ∈ lw_all := lw_g (lw_at lw_m2 104 rfl) rfl
theorem q448 : (Jvm.Cond.superclass "BeforeTheEnd$Fault" "BeforeTheEnd$Refusal") ∈ lw_all := lw_g (lw_at lw_m2 105 rfl) rfl
theorem q1725 : (Jvm.Cond.castable "BeforeTheEnd$Fault" "BeforeTheEnd$Refusal") ∈ lw_tbl := lw_at lw_m7 182 rfl
theorem in_X6 : ∀ w ∈ wsX60, w ∈ lw_all := lw_in wsX60 [435, 436, 437, 438, 439, 447, 445] (by decide +kernel) (by decide +kernel)
/-! BeforeTheEnd$Told -/
set_option maxRecDepth 100000
def RX7 : String := "BeforeTheEnd$Told"
abbrev cX7_init : ByteArray := prog_13_method_1_code
def yX7_init : MethodName := ⟨RX7, "<init>", "(I)V"⟩
def dkwX7_init_0 : List UInt8 := [42, 183, 0, 1, 42, 27, 181, 0, 7, 177]
abbrev dktX7_init_0 : List UInt8 := dkwX7_init_0 ++ []
theorem dksX7_init_0 : cX7_init.data.toList.drop 0 = dktX7_init_0 := by decide +kernel
theorem dX7_init_0 : decode cX7_init 0 = .ok (.aload_n 0, 1) := dk_42 (dk_at dksX7_init_0 0 rfl rfl)
theorem dX7_init_1 : decode cX7_init 1 = .ok (.invokespecial 1, 3) := dk_183 0 1 (dk_at dksX7_init_0 1 rfl rfl)
theorem dX7_init_4 : decode cX7_init 4 = .ok (.aload_n 0, 1) := dk_42 (dk_at dksX7_init_0 4 rfl rfl)
theorem dX7_init_5 : decode cX7_init 5 = .ok (.iload_n 1, 1) := dk_27 (dk_at dksX7_init_0 5 rfl rfl)
theorem dX7_init_6 : decode cX7_init 6 = .ok (.putfield 7, 3) := dk_181 0 7 (dk_at dksX7_init_0 6 rfl rfl)
theorem dX7_init_9 : decode cX7_init 9 = .ok (.return_, 1) := dk_177 (dk_at dksX7_init_0 9 rfl rfl)
theorem q114 : (Jvm.Cond.initialized "BeforeTheEnd$Told") ∈ lw_all := lw_g (lw_at lw_m1 11 rfl) rfl
theorem q476 : (Jvm.Cond.instanceMethod ({ cls := "BeforeTheEnd$Told", name := "<init>", desc := "(I)V" } : Jvm.MethodName)) ∈ lw_all := lw_g (lw_at lw_m2 133 rfl) rfl
theorem q477 : (Jvm.Cond.code ({ cls := "BeforeTheEnd$Told", name := "<init>", desc := "(I)V" } : Jvm.MethodName) prog_13_method_1_code (2 : Nat) (Option.none : Option Jvm.ClassFile.FieldType)) ∈ lw_all := lw_g (lw_at lw_m2 134 rfl) rfl
theorem q478 : (Jvm.Cond.methodLink "BeforeTheEnd$Told" (1 : Nat) ({ cls := "java/lang/Object", name := "<init>", desc := "()V" } : Jvm.MethodName)) ∈ lw_all := lw_g (lw_at lw_m2 135 rfl) rfl
theorem q485 : (Jvm.Cond.fieldLink "BeforeTheEnd$Told" (7 : Nat) "BeforeTheEnd$Told" "place" "I") ∈ lw_all := lw_g (lw_at lw_m2 142 rfl) rfl
theorem q494 : (Jvm.Cond.soleField "BeforeTheEnd$Told" "place") ∈ lw_all := lw_g (lw_at lw_m2 151 rfl) rfl
theorem q714 : (Jvm.Cond.declares ({ cls := "BeforeTheEnd$Told", name := "isRight", desc := "(LBeforeTheEnd$Tree;I)Z" } : Jvm.MethodName)) ∈ lw_tbl := lw_at lw_m3 131 rfl
theorem q715 : (Jvm.Cond.sameMethod "BeforeTheEnd$Told" "BeforeTheEnd$Told" "isRight" "(LBeforeTheEnd$Tree;I)Z") ∈ lw_all := lw_g (lw_at lw_m3 132 rfl) rfl
/-! BeforeTheEnd$WordTold -/
set_option maxRecDepth 100000
def RX8 : String := "BeforeTheEnd$WordTold"
def TX8 : u_T := fun k => match k with
  | 0 => ("BeforeTheEnd$Told", "place", "I", true)
  | 1 => ("BeforeTheEnd$WordTold", "parent", "I", true)
  | 2 => ("BeforeTheEnd$WordTold", "weight", "I", true)
  | _ => ("BeforeTheEnd$WordTold", "answer", "I", true)
def tyX8 : Nat → FieldType := fun k => match k with
  | 0 => .int
  | 1 => .int
  | 2 => .int
  | _ => .int
abbrev wsX80 : List Cond := u_ws RX8 TX8 4
theorem nmX8 : ∀ a, a < 4 → ∀ b, b < 4 → a ≠ b → (TX8 a).2.1 ≠ (TX8 b).2.1 := by decide +kernel
theorem tyX8_ok : ∀ k, k < 4 → parseFieldDescriptor (TX8 k).2.2.1 = some (tyX8 k) := by decide +kernel
abbrev cX8_init : ByteArray := prog_16_method_1_code
def yX8_init : MethodName := ⟨RX8, "<init>", "(IIII)V"⟩
def dkwX8_init_0 : List UInt8 := [42, 27, 183, 0, 3, 42, 28, 181, 0, 9, 42, 29, 181, 0, 15, 42, 21, 4, 181, 0, 18, 177]
abbrev dktX8_init_0 : List UInt8 := dkwX8_init_0 ++ []
theorem dksX8_init_0 : cX8_init.data.toList.drop 0 = dktX8_init_0 := by decide +kernel
theorem dX8_init_0 : decode cX8_init 0 = .ok (.aload_n 0, 1) := dk_42 (dk_at dksX8_init_0 0 rfl rfl)
theorem dX8_init_1 : decode cX8_init 1 = .ok (.iload_n 1, 1) := dk_27 (dk_at dksX8_init_0 1 rfl rfl)
theorem dX8_init_2 : decode cX8_init 2 = .ok (.invokespecial 3, 3) := dk_183 0 3 (dk_at dksX8_init_0 2 rfl rfl)
theorem dX8_init_5 : decode cX8_init 5 = .ok (.aload_n 0, 1) := dk_42 (dk_at dksX8_init_0 5 rfl rfl)
theorem dX8_init_6 : decode cX8_init 6 = .ok (.iload_n 2, 1) := dk_28 (dk_at dksX8_init_0 6 rfl rfl)
theorem dX8_init_7 : decode cX8_init 7 = .ok (.putfield 9, 3) := dk_181 0 9 (dk_at dksX8_init_0 7 rfl rfl)
theorem dX8_init_10 : decode cX8_init 10 = .ok (.aload_n 0, 1) := dk_42 (dk_at dksX8_init_0 10 rfl rfl)
theorem dX8_init_11 : decode cX8_init 11 = .ok (.iload_n 3, 1) := dk_29 (dk_at dksX8_init_0 11 rfl rfl)
theorem dX8_init_12 : decode cX8_init 12 = .ok (.putfield 15, 3) := dk_181 0 15 (dk_at dksX8_init_0 12 rfl rfl)
theorem dX8_init_15 : decode cX8_init 15 = .ok (.aload_n 0, 1) := dk_42 (dk_at dksX8_init_0 15 rfl rfl)
theorem dX8_init_16 : decode cX8_init 16 = .ok (.iload 4, 2) := dk_21 4 (dk_at dksX8_init_0 16 rfl rfl)
theorem dX8_init_18 : decode cX8_init 18 = .ok (.putfield 18, 3) := dk_181 0 18 (dk_at dksX8_init_0 18 rfl rfl)
theorem dX8_init_21 : decode cX8_init 21 = .ok (.return_, 1) := dk_177 (dk_at dksX8_init_0 21 rfl rfl)
abbrev cX8_isRight : ByteArray := prog_16_method_2_code
def yX8_isRight : MethodName := ⟨RX8, "isRight", "(LBeforeTheEnd$Tree;I)Z"⟩
def dkwX8_isRight_1 : List UInt8 := [180, 0, 9, 182, 0, 26, 154, 0, 14, 42, 180, 0, 15, 158, 0, 7, 4, 167, 0, 4, 3, 172]
abbrev dktX8_isRight_1 : List UInt8 := dkwX8_isRight_1 ++ []
def dkwX8_isRight_0 : List UInt8 := [43, 180, 0, 21, 16, 24, 162, 0, 36, 42, 180, 0, 9, 43, 180, 0, 21, 162, 0, 25, 43, 42]
abbrev dktX8_isRight_0 : List UInt8 := dkwX8_isRight_0 ++ dktX8_isRight_1
theorem dksX8_isRight_0 : cX8_isRight.data.toList.drop 0 = dktX8_isRight_0 := by decide +kernel
theorem dksX8_isRight_1 : cX8_isRight.data.toList.drop 22 = dktX8_isRight_1 := dk_seg dksX8_isRight_0 22 rfl rfl
theorem dX8_isRight_0 : decode cX8_isRight 0 = .ok (.aload_n 1, 1) := dk_43 (dk_at dksX8_isRight_0 0 rfl rfl)
theorem dX8_isRight_1 : decode cX8_isRight 1 = .ok (.getfield 21, 3) := dk_180 0 21 (dk_at dksX8_isRight_0 1 rfl rfl)
theorem dX8_isRight_4 : decode cX8_isRight 4 = .ok (.bipush 24, 2) := dk_16 24 (dk_at dksX8_isRight_0 4 rfl rfl)
theorem dX8_isRight_6 : decode cX8_isRight 6 = .ok (.if_icmp .ge 36, 3) := dk_162 0 36 (dk_at dksX8_isRight_0 6 rfl rfl)
theorem dX8_isRight_9 : decode cX8_isRight 9 = .ok (.aload_n 0, 1) := dk_42 (dk_at dksX8_isRight_0 9 rfl rfl)
theorem dX8_isRight_10 : decode cX8_isRight 10 = .ok (.getfield 9, 3) := dk_180 0 9 (dk_at dksX8_isRight_0 10 rfl rfl)
theorem dX8_isRight_13 : decode cX8_isRight 13 = .ok (.aload_n 1, 1) := dk_43 (dk_at dksX8_isRight_0 13 rfl rfl)
theorem dX8_isRight_14 : decode cX8_isRight 14 = .ok (.getfield 21, 3) := dk_180 0 21 (dk_at dksX8_isRight_0 14 rfl rfl)
theorem dX8_isRight_17 : decode cX8_isRight 17 = .ok (.if_icmp .ge 25, 3) := dk_162 0 25 (dk_at dksX8_isRight_0 17 rfl rfl)
theorem dX8_isRight_20 : decode cX8_isRight 20 = .ok (.aload_n 1, 1) := dk_43 (dk_at dksX8_isRight_0 20 rfl rfl)
theorem dX8_isRight_21 : decode cX8_isRight 21 = .ok (.aload_n 0, 1) := dk_42 (dk_at dksX8_isRight_0 21 rfl rfl)
theorem dX8_isRight_22 : decode cX8_isRight 22 = .ok (.getfield 9, 3) := dk_180 0 9 (dk_at dksX8_isRight_1 0 rfl rfl)
theorem dX8_isRight_25 : decode cX8_isRight 25 = .ok (.invokevirtual 26, 3) := dk_182 0 26 (dk_at dksX8_isRight_1 3 rfl rfl)
theorem dX8_isRight_28 : decode cX8_isRight 28 = .ok (.ifCond .ne 14, 3) := dk_154 0 14 (dk_at dksX8_isRight_1 6 rfl rfl)
theorem dX8_isRight_31 : decode cX8_isRight 31 = .ok (.aload_n 0, 1) := dk_42 (dk_at dksX8_isRight_1 9 rfl rfl)
theorem dX8_isRight_32 : decode cX8_isRight 32 = .ok (.getfield 15, 3) := dk_180 0 15 (dk_at dksX8_isRight_1 10 rfl rfl)
theorem dX8_isRight_35 : decode cX8_isRight 35 = .ok (.ifCond .le 7, 3) := dk_158 0 7 (dk_at dksX8_isRight_1 13 rfl rfl)
theorem dX8_isRight_38 : decode cX8_isRight 38 = .ok (.iconst 1, 1) := dk_4 (dk_at dksX8_isRight_1 16 rfl rfl)
theorem dX8_isRight_39 : decode cX8_isRight 39 = .ok (.goto 4, 3) := dk_167 0 4 (dk_at dksX8_isRight_1 17 rfl rfl)
theorem dX8_isRight_42 : decode cX8_isRight 42 = .ok (.iconst 0, 1) := dk_3 (dk_at dksX8_isRight_1 20 rfl rfl)
theorem dX8_isRight_43 : decode cX8_isRight 43 = .ok (.ireturn, 1) := dk_172 (dk_at dksX8_isRight_1 21 rfl rfl)
theorem q115 : (Jvm.Cond.initialized "BeforeTheEnd$WordTold") ∈ lw_all := lw_g (lw_at lw_m1 12 rfl) rfl
theorem q146 : (Jvm.Cond.fieldLinkNest "BeforeTheEnd$WordTold" (21 : Nat) "BeforeTheEnd$Tree" "many" "I" "BeforeTheEnd") ∈ lw_tbl := lw_at lw_m1 43 rfl
theorem q471 : (Jvm.Cond.instantiable "BeforeTheEnd$WordTold" (4 : Nat)) ∈ lw_all := lw_g (lw_at lw_m2 128 rfl) rfl
theorem q473 : (Jvm.Cond.instanceMethod ({ cls := "BeforeTheEnd$WordTold", name := "<init>", desc := "(IIII)V" } : Jvm.MethodName)) ∈ lw_all := lw_g (lw_at lw_m2 130 rfl) rfl
theorem q474 : (Jvm.Cond.code ({ cls := "BeforeTheEnd$WordTold", name := "<init>", desc := "(IIII)V" } : Jvm.MethodName) prog_16_method_1_code (5 : Nat) (Option.none : Option Jvm.ClassFile.FieldType)) ∈ lw_all := lw_g (lw_at lw_m2 131 rfl) rfl
theorem q475 : (Jvm.Cond.methodLink "BeforeTheEnd$WordTold" (3 : Nat) ({ cls := "BeforeTheEnd$Told", name := "<init>", desc := "(I)V" } : Jvm.MethodName)) ∈ lw_all := lw_g (lw_at lw_m2 132 rfl) rfl
theorem q479 : (Jvm.Cond.fieldLink "BeforeTheEnd$WordTold" (9 : Nat) "BeforeTheEnd$WordTold" "parent" "I") ∈ lw_all := lw_g (lw_at lw_m2 136 rfl) rfl
theorem q481 : (Jvm.Cond.fieldLink "BeforeTheEnd$WordTold" (15 : Nat) "BeforeTheEnd$WordTold" "weight" "I") ∈ lw_all := lw_g (lw_at lw_m2 138 rfl) rfl
theorem q483 : (Jvm.Cond.fieldLink "BeforeTheEnd$WordTold" (18 : Nat) "BeforeTheEnd$WordTold" "answer" "I") ∈ lw_all := lw_g (lw_at lw_m2 140 rfl) rfl
theorem q487 : (Jvm.Cond.laysFinal "BeforeTheEnd$WordTold" "BeforeTheEnd$WordTold" "parent" "I") ∈ lw_all := lw_g (lw_at lw_m2 144 rfl) rfl
theorem q488 : (Jvm.Cond.soleField "BeforeTheEnd$WordTold" "parent") ∈ lw_all := lw_g (lw_at lw_m2 145 rfl) rfl
theorem q489 : (Jvm.Cond.laysFinal "BeforeTheEnd$WordTold" "BeforeTheEnd$WordTold" "weight" "I") ∈ lw_all := lw_g (lw_at lw_m2 146 rfl) rfl
theorem q490 : (Jvm.Cond.soleField "BeforeTheEnd$WordTold" "weight") ∈ lw_all := lw_g (lw_at lw_m2 147 rfl) rfl
theorem q491 : (Jvm.Cond.laysFinal "BeforeTheEnd$WordTold" "BeforeTheEnd$WordTold" "answer" "I") ∈ lw_all := lw_g (lw_at lw_m2 148 rfl) rfl
theorem q492 : (Jvm.Cond.soleField "BeforeTheEnd$WordTold" "answer") ∈ lw_all := lw_g (lw_at lw_m2 149 rfl) rfl
theorem q493 : (Jvm.Cond.laysFinal "BeforeTheEnd$WordTold" "BeforeTheEnd$Told" "place" "I") ∈ lw_all := lw_g (lw_at lw_m2 150 rfl) rfl
theorem q495 : (Jvm.Cond.superclass "BeforeTheEnd$WordTold" "BeforeTheEnd$Told") ∈ lw_all := lw_g (lw_at lw_m2 152 rfl) rfl
theorem q719 : (Jvm.Cond.selects "BeforeTheEnd$WordTold" ({ cls := "BeforeTheEnd$Told", name := "isRight", desc := "(LBeforeTheEnd$Tree;I)Z" } : Jvm.MethodName) ({ cls := "BeforeTheEnd$WordTold", name := "isRight", desc := "(LBeforeTheEnd$Tree;I)Z" } : Jvm.MethodName)) ∈ lw_all := lw_g (lw_at lw_m3 136 rfl) rfl
theorem q720 : (Jvm.Cond.instanceMethod ({ cls := "BeforeTheEnd$WordTold", name := "isRight", desc := "(LBeforeTheEnd$Tree;I)Z" } : Jvm.MethodName)) ∈ lw_all := lw_g (lw_at lw_m3 137 rfl) rfl
theorem q721 : (Jvm.Cond.code ({ cls := "BeforeTheEnd$WordTold", name := "isRight", desc := "(LBeforeTheEnd$Tree;I)Z" } : Jvm.MethodName) prog_16_method_2_code (3 : Nat) (Option.some Jvm.ClassFile.FieldType.boolean)) ∈ lw_all := lw_g (lw_at lw_m3 138 rfl) rfl
theorem q722 : (Jvm.Cond.methodLink "BeforeTheEnd$WordTold" (26 : Nat) ({ cls := "BeforeTheEnd$Tree", name := "isEnd", desc := "(I)Z" } : Jvm.MethodName)) ∈ lw_all := lw_g (lw_at lw_m3 139 rfl) rfl
theorem q1736 : (Jvm.Cond.castable "BeforeTheEnd$WordTold" "BeforeTheEnd$Told") ∈ lw_tbl := lw_at lw_m7 193 rfl
theorem in_X8 : ∀ w ∈ wsX80, w ∈ lw_all := lw_in wsX80 [493, 487, 489, 491] (by decide +kernel) (by decide +kernel)
/-! BeforeTheEnd$PlayerTold -/
set_option maxRecDepth 100000
def RX9 : String := "BeforeTheEnd$PlayerTold"
def TX9 : u_T := fun k => match k with
  | 0 => ("BeforeTheEnd$Told", "place", "I", true)
  | 1 => ("BeforeTheEnd$PlayerTold", "player", "LBeforeTheEnd$Player;", true)
  | _ => ("BeforeTheEnd$PlayerTold", "isOnce", "Z", true)
def tyX9 : Nat → FieldType := fun k => match k with
  | 0 => .int
  | 1 => .object "BeforeTheEnd$Player"
  | _ => .boolean
abbrev wsX90 : List Cond := u_ws RX9 TX9 3
theorem nmX9 : ∀ a, a < 3 → ∀ b, b < 3 → a ≠ b → (TX9 a).2.1 ≠ (TX9 b).2.1 := by decide +kernel
theorem tyX9_ok : ∀ k, k < 3 → parseFieldDescriptor (TX9 k).2.2.1 = some (tyX9 k) := by decide +kernel
abbrev cX9_init : ByteArray := prog_8_method_1_code
def yX9_init : MethodName := ⟨RX9, "<init>", "(ILBeforeTheEnd$Player;Z)V"⟩
def dkwX9_init_0 : List UInt8 := [42, 27, 183, 0, 3, 42, 44, 181, 0, 9, 42, 29, 181, 0, 15, 177]
abbrev dktX9_init_0 : List UInt8 := dkwX9_init_0 ++ []
theorem dksX9_init_0 : cX9_init.data.toList.drop 0 = dktX9_init_0 := by decide +kernel
theorem dX9_init_0 : decode cX9_init 0 = .ok (.aload_n 0, 1) := dk_42 (dk_at dksX9_init_0 0 rfl rfl)
theorem dX9_init_1 : decode cX9_init 1 = .ok (.iload_n 1, 1) := dk_27 (dk_at dksX9_init_0 1 rfl rfl)
theorem dX9_init_2 : decode cX9_init 2 = .ok (.invokespecial 3, 3) := dk_183 0 3 (dk_at dksX9_init_0 2 rfl rfl)
theorem dX9_init_5 : decode cX9_init 5 = .ok (.aload_n 0, 1) := dk_42 (dk_at dksX9_init_0 5 rfl rfl)
theorem dX9_init_6 : decode cX9_init 6 = .ok (.aload_n 2, 1) := dk_44 (dk_at dksX9_init_0 6 rfl rfl)
theorem dX9_init_7 : decode cX9_init 7 = .ok (.putfield 9, 3) := dk_181 0 9 (dk_at dksX9_init_0 7 rfl rfl)
theorem dX9_init_10 : decode cX9_init 10 = .ok (.aload_n 0, 1) := dk_42 (dk_at dksX9_init_0 10 rfl rfl)
theorem dX9_init_11 : decode cX9_init 11 = .ok (.iload_n 3, 1) := dk_29 (dk_at dksX9_init_0 11 rfl rfl)
theorem dX9_init_12 : decode cX9_init 12 = .ok (.putfield 15, 3) := dk_181 0 15 (dk_at dksX9_init_0 12 rfl rfl)
theorem dX9_init_15 : decode cX9_init 15 = .ok (.return_, 1) := dk_177 (dk_at dksX9_init_0 15 rfl rfl)
abbrev cX9_isRight : ByteArray := prog_8_method_2_code
def yX9_isRight : MethodName := ⟨RX9, "isRight", "(LBeforeTheEnd$Tree;I)Z"⟩
def dkwX9_isRight_1 : List UInt8 := [4, 167, 0, 4, 3, 172]
abbrev dktX9_isRight_1 : List UInt8 := dkwX9_isRight_1 ++ []
def dkwX9_isRight_0 : List UInt8 := [42, 180, 0, 15, 153, 0, 24, 42, 180, 0, 9, 180, 0, 19, 16, 100, 163, 0, 12, 28, 7, 162, 0, 7]
abbrev dktX9_isRight_0 : List UInt8 := dkwX9_isRight_0 ++ dktX9_isRight_1
theorem dksX9_isRight_0 : cX9_isRight.data.toList.drop 0 = dktX9_isRight_0 := by decide +kernel
theorem dksX9_isRight_1 : cX9_isRight.data.toList.drop 24 = dktX9_isRight_1 := dk_seg dksX9_isRight_0 24 rfl rfl
theorem dX9_isRight_0 : decode cX9_isRight 0 = .ok (.aload_n 0, 1) := dk_42 (dk_at dksX9_isRight_0 0 rfl rfl)
theorem dX9_isRight_1 : decode cX9_isRight 1 = .ok (.getfield 15, 3) := dk_180 0 15 (dk_at dksX9_isRight_0 1 rfl rfl)
theorem dX9_isRight_4 : decode cX9_isRight 4 = .ok (.ifCond .eq 24, 3) := dk_153 0 24 (dk_at dksX9_isRight_0 4 rfl rfl)
theorem dX9_isRight_7 : decode cX9_isRight 7 = .ok (.aload_n 0, 1) := dk_42 (dk_at dksX9_isRight_0 7 rfl rfl)
theorem dX9_isRight_8 : decode cX9_isRight 8 = .ok (.getfield 9, 3) := dk_180 0 9 (dk_at dksX9_isRight_0 8 rfl rfl)
theorem dX9_isRight_11 : decode cX9_isRight 11 = .ok (.getfield 19, 3) := dk_180 0 19 (dk_at dksX9_isRight_0 11 rfl rfl)
theorem dX9_isRight_14 : decode cX9_isRight 14 = .ok (.bipush 100, 2) := dk_16 100 (dk_at dksX9_isRight_0 14 rfl rfl)
theorem dX9_isRight_16 : decode cX9_isRight 16 = .ok (.if_icmp .gt 12, 3) := dk_163 0 12 (dk_at dksX9_isRight_0 16 rfl rfl)
theorem dX9_isRight_19 : decode cX9_isRight 19 = .ok (.iload_n 2, 1) := dk_28 (dk_at dksX9_isRight_0 19 rfl rfl)
theorem dX9_isRight_20 : decode cX9_isRight 20 = .ok (.iconst 4, 1) := dk_7 (dk_at dksX9_isRight_0 20 rfl rfl)
theorem dX9_isRight_21 : decode cX9_isRight 21 = .ok (.if_icmp .ge 7, 3) := dk_162 0 7 (dk_at dksX9_isRight_0 21 rfl rfl)
theorem dX9_isRight_24 : decode cX9_isRight 24 = .ok (.iconst 1, 1) := dk_4 (dk_at dksX9_isRight_1 0 rfl rfl)
theorem dX9_isRight_25 : decode cX9_isRight 25 = .ok (.goto 4, 3) := dk_167 0 4 (dk_at dksX9_isRight_1 1 rfl rfl)
theorem dX9_isRight_28 : decode cX9_isRight 28 = .ok (.iconst 0, 1) := dk_3 (dk_at dksX9_isRight_1 4 rfl rfl)
theorem dX9_isRight_29 : decode cX9_isRight 29 = .ok (.ireturn, 1) := dk_172 (dk_at dksX9_isRight_1 5 rfl rfl)
theorem q122 : (Jvm.Cond.initialized "BeforeTheEnd$PlayerTold") ∈ lw_all := lw_g (lw_at lw_m1 19 rfl) rfl
theorem q589 : (Jvm.Cond.instantiable "BeforeTheEnd$PlayerTold" (3 : Nat)) ∈ lw_all := lw_g (lw_at lw_m3 6 rfl) rfl
theorem q609 : (Jvm.Cond.fieldLink "BeforeTheEnd$PlayerTold" (19 : Nat) "BeforeTheEnd$Player" "sure" "I") ∈ lw_all := lw_g (lw_at lw_m3 26 rfl) rfl
theorem q692 : (Jvm.Cond.instanceMethod ({ cls := "BeforeTheEnd$PlayerTold", name := "<init>", desc := "(ILBeforeTheEnd$Player;Z)V" } : Jvm.MethodName)) ∈ lw_all := lw_g (lw_at lw_m3 109 rfl) rfl
theorem q693 : (Jvm.Cond.code ({ cls := "BeforeTheEnd$PlayerTold", name := "<init>", desc := "(ILBeforeTheEnd$Player;Z)V" } : Jvm.MethodName) prog_8_method_1_code (4 : Nat) (Option.none : Option Jvm.ClassFile.FieldType)) ∈ lw_all := lw_g (lw_at lw_m3 110 rfl) rfl
theorem q694 : (Jvm.Cond.methodLink "BeforeTheEnd$PlayerTold" (3 : Nat) ({ cls := "BeforeTheEnd$Told", name := "<init>", desc := "(I)V" } : Jvm.MethodName)) ∈ lw_all := lw_g (lw_at lw_m3 111 rfl) rfl
theorem q695 : (Jvm.Cond.fieldLink "BeforeTheEnd$PlayerTold" (9 : Nat) "BeforeTheEnd$PlayerTold" "player" "LBeforeTheEnd$Player;") ∈ lw_all := lw_g (lw_at lw_m3 112 rfl) rfl
theorem q697 : (Jvm.Cond.fieldLink "BeforeTheEnd$PlayerTold" (15 : Nat) "BeforeTheEnd$PlayerTold" "isOnce" "Z") ∈ lw_all := lw_g (lw_at lw_m3 114 rfl) rfl
theorem q698 : (Jvm.Cond.laysFinal "BeforeTheEnd$PlayerTold" "BeforeTheEnd$PlayerTold" "player" "LBeforeTheEnd$Player;") ∈ lw_all := lw_g (lw_at lw_m3 115 rfl) rfl
theorem q699 : (Jvm.Cond.soleField "BeforeTheEnd$PlayerTold" "player") ∈ lw_all := lw_g (lw_at lw_m3 116 rfl) rfl
theorem q700 : (Jvm.Cond.laysFinal "BeforeTheEnd$PlayerTold" "BeforeTheEnd$PlayerTold" "isOnce" "Z") ∈ lw_all := lw_g (lw_at lw_m3 117 rfl) rfl
theorem q701 : (Jvm.Cond.soleField "BeforeTheEnd$PlayerTold" "isOnce") ∈ lw_all := lw_g (lw_at lw_m3 118 rfl) rfl
theorem q702 : (Jvm.Cond.laysFinal "BeforeTheEnd$PlayerTold" "BeforeTheEnd$Told" "place" "I") ∈ lw_all := lw_g (lw_at lw_m3 119 rfl) rfl
theorem q703 : (Jvm.Cond.superclass "BeforeTheEnd$PlayerTold" "BeforeTheEnd$Told") ∈ lw_all := lw_g (lw_at lw_m3 120 rfl) rfl
theorem q716 : (Jvm.Cond.selects "BeforeTheEnd$PlayerTold" ({ cls := "BeforeTheEnd$Told", name := "isRight", desc := "(LBeforeTheEnd$Tree;I)Z" } : Jvm.MethodName) ({ cls := "BeforeTheEnd$PlayerTold", name := "isRight", desc := "(LBeforeTheEnd$Tree;I)Z" } : Jvm.MethodName)) ∈ lw_all := lw_g (lw_at lw_m3 133 rfl) rfl
theorem q717 : (Jvm.Cond.instanceMethod ({ cls := "BeforeTheEnd$PlayerTold", name := "isRight", desc := "(LBeforeTheEnd$Tree;I)Z" } : Jvm.MethodName)) ∈ lw_all := lw_g (lw_at lw_m3 134 rfl) rfl
theorem q718 : (Jvm.Cond.code ({ cls := "BeforeTheEnd$PlayerTold", name := "isRight", desc := "(LBeforeTheEnd$Tree;I)Z" } : Jvm.MethodName) prog_8_method_2_code (3 : Nat) (Option.some Jvm.ClassFile.FieldType.boolean)) ∈ lw_all := lw_g (lw_at lw_m3 135 rfl) rfl
theorem q1737 : (Jvm.Cond.castable "BeforeTheEnd$PlayerTold" "BeforeTheEnd$Told") ∈ lw_tbl := lw_at lw_m7 194 rfl
theorem in_X9 : ∀ w ∈ wsX90, w ∈ lw_all := lw_in wsX90 [702, 698, 700] (by decide +kernel) (by decide +kernel)
/-! BeforeTheEnd$Player -/
set_option maxRecDepth 100000
def RX10 : String := "BeforeTheEnd$Player"
abbrev cX10_init : ByteArray := prog_7_method_1_code
def yX10_init : MethodName := ⟨RX10, "<init>", "(III)V"⟩
def dkwX10_init_0 : List UInt8 := [42, 183, 0, 1, 42, 27, 181, 0, 7, 42, 28, 181, 0, 13, 42, 29, 181, 0, 16, 177]
abbrev dktX10_init_0 : List UInt8 := dkwX10_init_0 ++ []
theorem dksX10_init_0 : cX10_init.data.toList.drop 0 = dktX10_init_0 := by decide +kernel
theorem dX10_init_0 : decode cX10_init 0 = .ok (.aload_n 0, 1) := dk_42 (dk_at dksX10_init_0 0 rfl rfl)
theorem dX10_init_1 : decode cX10_init 1 = .ok (.invokespecial 1, 3) := dk_183 0 1 (dk_at dksX10_init_0 1 rfl rfl)
theorem dX10_init_4 : decode cX10_init 4 = .ok (.aload_n 0, 1) := dk_42 (dk_at dksX10_init_0 4 rfl rfl)
theorem dX10_init_5 : decode cX10_init 5 = .ok (.iload_n 1, 1) := dk_27 (dk_at dksX10_init_0 5 rfl rfl)
theorem dX10_init_6 : decode cX10_init 6 = .ok (.putfield 7, 3) := dk_181 0 7 (dk_at dksX10_init_0 6 rfl rfl)
theorem dX10_init_9 : decode cX10_init 9 = .ok (.aload_n 0, 1) := dk_42 (dk_at dksX10_init_0 9 rfl rfl)
theorem dX10_init_10 : decode cX10_init 10 = .ok (.iload_n 2, 1) := dk_28 (dk_at dksX10_init_0 10 rfl rfl)
theorem dX10_init_11 : decode cX10_init 11 = .ok (.putfield 13, 3) := dk_181 0 13 (dk_at dksX10_init_0 11 rfl rfl)
theorem dX10_init_14 : decode cX10_init 14 = .ok (.aload_n 0, 1) := dk_42 (dk_at dksX10_init_0 14 rfl rfl)
theorem dX10_init_15 : decode cX10_init 15 = .ok (.iload_n 3, 1) := dk_29 (dk_at dksX10_init_0 15 rfl rfl)
theorem dX10_init_16 : decode cX10_init 16 = .ok (.putfield 16, 3) := dk_181 0 16 (dk_at dksX10_init_0 16 rfl rfl)
theorem dX10_init_19 : decode cX10_init 19 = .ok (.return_, 1) := dk_177 (dk_at dksX10_init_0 19 rfl rfl)
abbrev cX10_set : ByteArray := prog_7_method_4_code
def yX10_set : MethodName := ⟨RX10, "set", "()I"⟩
theorem dX10_set_0 : decode cX10_set 0 = .ok (.iconst 0, 1) := by decide +kernel
theorem dX10_set_1 : decode cX10_set 1 = .ok (.ireturn, 1) := by decide +kernel
abbrev cX10_copied : ByteArray := prog_7_method_5_code
def yX10_copied : MethodName := ⟨RX10, "copied", "()LBeforeTheEnd$Player;"⟩
theorem dX10_copied_0 : decode cX10_copied 0 = .ok (.aload_n 0, 1) := by decide +kernel
theorem dX10_copied_1 : decode cX10_copied 1 = .ok (.areturn, 1) := by decide +kernel
theorem q123 : (Jvm.Cond.initialized "BeforeTheEnd$Player") ∈ lw_all := lw_g (lw_at lw_m1 20 rfl) rfl
theorem q599 : (Jvm.Cond.instanceMethod ({ cls := "BeforeTheEnd$Player", name := "<init>", desc := "(III)V" } : Jvm.MethodName)) ∈ lw_all := lw_g (lw_at lw_m3 16 rfl) rfl
theorem q600 : (Jvm.Cond.code ({ cls := "BeforeTheEnd$Player", name := "<init>", desc := "(III)V" } : Jvm.MethodName) prog_7_method_1_code (4 : Nat) (Option.none : Option Jvm.ClassFile.FieldType)) ∈ lw_all := lw_g (lw_at lw_m3 17 rfl) rfl
theorem q601 : (Jvm.Cond.methodLink "BeforeTheEnd$Player" (1 : Nat) ({ cls := "java/lang/Object", name := "<init>", desc := "()V" } : Jvm.MethodName)) ∈ lw_all := lw_g (lw_at lw_m3 18 rfl) rfl
theorem q602 : (Jvm.Cond.fieldLink "BeforeTheEnd$Player" (7 : Nat) "BeforeTheEnd$Player" "hand" "I") ∈ lw_all := lw_g (lw_at lw_m3 19 rfl) rfl
theorem q608 : (Jvm.Cond.fieldLink "BeforeTheEnd$Player" (13 : Nat) "BeforeTheEnd$Player" "sure" "I") ∈ lw_all := lw_g (lw_at lw_m3 25 rfl) rfl
theorem q617 : (Jvm.Cond.fieldLink "BeforeTheEnd$Player" (16 : Nat) "BeforeTheEnd$Player" "knows" "I") ∈ lw_all := lw_g (lw_at lw_m3 34 rfl) rfl
theorem q624 : (Jvm.Cond.soleField "BeforeTheEnd$Player" "hand") ∈ lw_all := lw_g (lw_at lw_m3 41 rfl) rfl
theorem q626 : (Jvm.Cond.soleField "BeforeTheEnd$Player" "sure") ∈ lw_all := lw_g (lw_at lw_m3 43 rfl) rfl
theorem q628 : (Jvm.Cond.soleField "BeforeTheEnd$Player" "knows") ∈ lw_all := lw_g (lw_at lw_m3 45 rfl) rfl
theorem q756 : (Jvm.Cond.declares ({ cls := "BeforeTheEnd$Player", name := "kind", desc := "()I" } : Jvm.MethodName)) ∈ lw_tbl := lw_at lw_m3 173 rfl
theorem q757 : (Jvm.Cond.sameMethod "BeforeTheEnd$Player" "BeforeTheEnd$Player" "kind" "()I") ∈ lw_all := lw_g (lw_at lw_m3 174 rfl) rfl
theorem q777 : (Jvm.Cond.instanceMethod ({ cls := "BeforeTheEnd$Player", name := "set", desc := "()I" } : Jvm.MethodName)) ∈ lw_all := lw_g (lw_at lw_m3 194 rfl) rfl
theorem q778 : (Jvm.Cond.sameMethod "BeforeTheEnd$Player" "BeforeTheEnd$Player" "set" "()I") ∈ lw_all := lw_g (lw_at lw_m3 195 rfl) rfl
theorem q787 : (Jvm.Cond.code ({ cls := "BeforeTheEnd$Player", name := "set", desc := "()I" } : Jvm.MethodName) prog_7_method_4_code (1 : Nat) (Option.some Jvm.ClassFile.FieldType.int)) ∈ lw_all := lw_g (lw_at lw_m3 204 rfl) rfl
theorem q850 : (Jvm.Cond.declares ({ cls := "BeforeTheEnd$Player", name := "wants", desc := "(LBeforeTheEnd;IIZ)Z" } : Jvm.MethodName)) ∈ lw_tbl := lw_at lw_m4 27 rfl
theorem q851 : (Jvm.Cond.sameMethod "BeforeTheEnd$Player" "BeforeTheEnd$Player" "wants" "(LBeforeTheEnd;IIZ)Z") ∈ lw_all := lw_g (lw_at lw_m4 28 rfl) rfl
theorem q1038 : (Jvm.Cond.instanceMethod ({ cls := "BeforeTheEnd$Player", name := "copied", desc := "()LBeforeTheEnd$Player;" } : Jvm.MethodName)) ∈ lw_all := lw_g (lw_at lw_m4 215 rfl) rfl
theorem q1039 : (Jvm.Cond.sameMethod "BeforeTheEnd$Player" "BeforeTheEnd$Player" "copied" "()LBeforeTheEnd$Player;") ∈ lw_all := lw_g (lw_at lw_m4 216 rfl) rfl
theorem q1054 : (Jvm.Cond.code ({ cls := "BeforeTheEnd$Player", name := "copied", desc := "()LBeforeTheEnd$Player;" } : Jvm.MethodName) prog_7_method_5_code (1 : Nat) (Option.some (Jvm.ClassFile.FieldType.object "BeforeTheEnd$Player"))) ∈ lw_all := lw_g (lw_at lw_m4 231 rfl) rfl
/-! BeforeTheEnd$Ends -/
set_option maxRecDepth 100000
def RX11 : String := "BeforeTheEnd$Ends"
def TX11 : u_T := fun k => match k with
  | 0 => ("BeforeTheEnd$Player", "hand", "I", true)
  | 1 => ("BeforeTheEnd$Player", "sure", "I", true)
  | _ => ("BeforeTheEnd$Player", "knows", "I", true)
def tyX11 : Nat → FieldType := fun k => match k with
  | 0 => .int
  | 1 => .int
  | _ => .int
abbrev wsX110 : List Cond := u_ws RX11 TX11 3
theorem nmX11 : ∀ a, a < 3 → ∀ b, b < 3 → a ≠ b → (TX11 a).2.1 ≠ (TX11 b).2.1 := by decide +kernel
theorem tyX11_ok : ∀ k, k < 3 → parseFieldDescriptor (TX11 k).2.2.1 = some (tyX11 k) := by decide +kernel
abbrev cX11_init : ByteArray := prog_4_method_1_code
def yX11_init : MethodName := ⟨RX11, "<init>", "(III)V"⟩
def dkwX11_init_0 : List UInt8 := [42, 27, 28, 29, 183, 0, 1, 177]
abbrev dktX11_init_0 : List UInt8 := dkwX11_init_0 ++ []
theorem dksX11_init_0 : cX11_init.data.toList.drop 0 = dktX11_init_0 := by decide +kernel
theorem dX11_init_0 : decode cX11_init 0 = .ok (.aload_n 0, 1) := dk_42 (dk_at dksX11_init_0 0 rfl rfl)
theorem dX11_init_1 : decode cX11_init 1 = .ok (.iload_n 1, 1) := dk_27 (dk_at dksX11_init_0 1 rfl rfl)
theorem dX11_init_2 : decode cX11_init 2 = .ok (.iload_n 2, 1) := dk_28 (dk_at dksX11_init_0 2 rfl rfl)
theorem dX11_init_3 : decode cX11_init 3 = .ok (.iload_n 3, 1) := dk_29 (dk_at dksX11_init_0 3 rfl rfl)
theorem dX11_init_4 : decode cX11_init 4 = .ok (.invokespecial 1, 3) := dk_183 0 1 (dk_at dksX11_init_0 4 rfl rfl)
theorem dX11_init_7 : decode cX11_init 7 = .ok (.return_, 1) := dk_177 (dk_at dksX11_init_0 7 rfl rfl)
abbrev cX11_kind : ByteArray := prog_4_method_2_code
def yX11_kind : MethodName := ⟨RX11, "kind", "()I"⟩
theorem dX11_kind_0 : decode cX11_kind 0 = .ok (.iconst 0, 1) := by decide +kernel
theorem dX11_kind_1 : decode cX11_kind 1 = .ok (.ireturn, 1) := by decide +kernel
abbrev cX11_wants : ByteArray := prog_4_method_3_code
def yX11_wants : MethodName := ⟨RX11, "wants", "(LBeforeTheEnd;IIZ)Z"⟩
def dkwX11_wants_0 : List UInt8 := [43, 180, 0, 7, 28, 182, 0, 13, 172]
abbrev dktX11_wants_0 : List UInt8 := dkwX11_wants_0 ++ []
theorem dksX11_wants_0 : cX11_wants.data.toList.drop 0 = dktX11_wants_0 := by decide +kernel
theorem dX11_wants_0 : decode cX11_wants 0 = .ok (.aload_n 1, 1) := dk_43 (dk_at dksX11_wants_0 0 rfl rfl)
theorem dX11_wants_1 : decode cX11_wants 1 = .ok (.getfield 7, 3) := dk_180 0 7 (dk_at dksX11_wants_0 1 rfl rfl)
theorem dX11_wants_4 : decode cX11_wants 4 = .ok (.iload_n 2, 1) := dk_28 (dk_at dksX11_wants_0 4 rfl rfl)
theorem dX11_wants_5 : decode cX11_wants 5 = .ok (.invokevirtual 13, 3) := dk_182 0 13 (dk_at dksX11_wants_0 5 rfl rfl)
theorem dX11_wants_8 : decode cX11_wants 8 = .ok (.ireturn, 1) := dk_172 (dk_at dksX11_wants_0 8 rfl rfl)
theorem q124 : (Jvm.Cond.initialized "BeforeTheEnd$Ends") ∈ lw_all := lw_g (lw_at lw_m1 21 rfl) rfl
theorem q186 : (Jvm.Cond.fieldLinkNest "BeforeTheEnd$Ends" (7 : Nat) "BeforeTheEnd" "tree" "LBeforeTheEnd$Tree;" "BeforeTheEnd") ∈ lw_tbl := lw_at lw_m1 83 rfl
theorem q594 : (Jvm.Cond.instantiable "BeforeTheEnd$Ends" (3 : Nat)) ∈ lw_all := lw_g (lw_at lw_m3 11 rfl) rfl
theorem q596 : (Jvm.Cond.instanceMethod ({ cls := "BeforeTheEnd$Ends", name := "<init>", desc := "(III)V" } : Jvm.MethodName)) ∈ lw_all := lw_g (lw_at lw_m3 13 rfl) rfl
theorem q597 : (Jvm.Cond.code ({ cls := "BeforeTheEnd$Ends", name := "<init>", desc := "(III)V" } : Jvm.MethodName) prog_4_method_1_code (4 : Nat) (Option.none : Option Jvm.ClassFile.FieldType)) ∈ lw_all := lw_g (lw_at lw_m3 14 rfl) rfl
theorem q598 : (Jvm.Cond.methodLink "BeforeTheEnd$Ends" (1 : Nat) ({ cls := "BeforeTheEnd$Player", name := "<init>", desc := "(III)V" } : Jvm.MethodName)) ∈ lw_all := lw_g (lw_at lw_m3 15 rfl) rfl
theorem q623 : (Jvm.Cond.laysFinal "BeforeTheEnd$Ends" "BeforeTheEnd$Player" "hand" "I") ∈ lw_all := lw_g (lw_at lw_m3 40 rfl) rfl
theorem q625 : (Jvm.Cond.laysFinal "BeforeTheEnd$Ends" "BeforeTheEnd$Player" "sure" "I") ∈ lw_all := lw_g (lw_at lw_m3 42 rfl) rfl
theorem q627 : (Jvm.Cond.laysFinal "BeforeTheEnd$Ends" "BeforeTheEnd$Player" "knows" "I") ∈ lw_all := lw_g (lw_at lw_m3 44 rfl) rfl
theorem q629 : (Jvm.Cond.superclass "BeforeTheEnd$Ends" "BeforeTheEnd$Player") ∈ lw_all := lw_g (lw_at lw_m3 46 rfl) rfl
theorem q764 : (Jvm.Cond.selects "BeforeTheEnd$Ends" ({ cls := "BeforeTheEnd$Player", name := "kind", desc := "()I" } : Jvm.MethodName) ({ cls := "BeforeTheEnd$Ends", name := "kind", desc := "()I" } : Jvm.MethodName)) ∈ lw_all := lw_g (lw_at lw_m3 181 rfl) rfl
theorem q765 : (Jvm.Cond.instanceMethod ({ cls := "BeforeTheEnd$Ends", name := "kind", desc := "()I" } : Jvm.MethodName)) ∈ lw_all := lw_g (lw_at lw_m3 182 rfl) rfl
theorem q766 : (Jvm.Cond.code ({ cls := "BeforeTheEnd$Ends", name := "kind", desc := "()I" } : Jvm.MethodName) prog_4_method_2_code (1 : Nat) (Option.some Jvm.ClassFile.FieldType.int)) ∈ lw_all := lw_g (lw_at lw_m3 183 rfl) rfl
theorem q783 : (Jvm.Cond.selects "BeforeTheEnd$Ends" ({ cls := "BeforeTheEnd$Player", name := "set", desc := "()I" } : Jvm.MethodName) ({ cls := "BeforeTheEnd$Player", name := "set", desc := "()I" } : Jvm.MethodName)) ∈ lw_all := lw_g (lw_at lw_m3 200 rfl) rfl
theorem q881 : (Jvm.Cond.instanceMethod ({ cls := "BeforeTheEnd$Ends", name := "wants", desc := "(LBeforeTheEnd;IIZ)Z" } : Jvm.MethodName)) ∈ lw_all := lw_g (lw_at lw_m4 58 rfl) rfl
theorem q882 : (Jvm.Cond.code ({ cls := "BeforeTheEnd$Ends", name := "wants", desc := "(LBeforeTheEnd;IIZ)Z" } : Jvm.MethodName) prog_4_method_3_code (5 : Nat) (Option.some Jvm.ClassFile.FieldType.boolean)) ∈ lw_all := lw_g (lw_at lw_m4 59 rfl) rfl
theorem q883 : (Jvm.Cond.methodLink "BeforeTheEnd$Ends" (13 : Nat) ({ cls := "BeforeTheEnd$Tree", name := "isEnd", desc := "(I)Z" } : Jvm.MethodName)) ∈ lw_all := lw_g (lw_at lw_m4 60 rfl) rfl
theorem q908 : (Jvm.Cond.selects "BeforeTheEnd$Ends" ({ cls := "BeforeTheEnd$Player", name := "wants", desc := "(LBeforeTheEnd;IIZ)Z" } : Jvm.MethodName) ({ cls := "BeforeTheEnd$Ends", name := "wants", desc := "(LBeforeTheEnd;IIZ)Z" } : Jvm.MethodName)) ∈ lw_all := lw_g (lw_at lw_m4 85 rfl) rfl
theorem q1046 : (Jvm.Cond.selects "BeforeTheEnd$Ends" ({ cls := "BeforeTheEnd$Player", name := "copied", desc := "()LBeforeTheEnd$Player;" } : Jvm.MethodName) ({ cls := "BeforeTheEnd$Player", name := "copied", desc := "()LBeforeTheEnd$Player;" } : Jvm.MethodName)) ∈ lw_all := lw_g (lw_at lw_m4 223 rfl) rfl
theorem q1720 : (Jvm.Cond.sameMethod "BeforeTheEnd$Ends" "BeforeTheEnd$Ends" "wants" "(LBeforeTheEnd;IIZ)Z") ∈ lw_all := lw_g (lw_at lw_m7 177 rfl) rfl
theorem q1730 : (Jvm.Cond.castable "BeforeTheEnd$Ends" "BeforeTheEnd$Player") ∈ lw_tbl := lw_at lw_m7 187 rfl
theorem in_X11 : ∀ w ∈ wsX110, w ∈ lw_all := lw_in wsX110 [623, 625, 627] (by decide +kernel) (by decide +kernel)
/-! BeforeTheEnd$Sure -/
set_option maxRecDepth 100000
def RX12 : String := "BeforeTheEnd$Sure"
def TX12 : u_T := fun k => match k with
  | 0 => ("BeforeTheEnd$Player", "hand", "I", true)
  | 1 => ("BeforeTheEnd$Player", "sure", "I", true)
  | _ => ("BeforeTheEnd$Player", "knows", "I", true)
def tyX12 : Nat → FieldType := fun k => match k with
  | 0 => .int
  | 1 => .int
  | _ => .int
abbrev wsX120 : List Cond := u_ws RX12 TX12 3
theorem nmX12 : ∀ a, a < 3 → ∀ b, b < 3 → a ≠ b → (TX12 a).2.1 ≠ (TX12 b).2.1 := by decide +kernel
theorem tyX12_ok : ∀ k, k < 3 → parseFieldDescriptor (TX12 k).2.2.1 = some (tyX12 k) := by decide +kernel
abbrev cX12_init : ByteArray := prog_12_method_1_code
def yX12_init : MethodName := ⟨RX12, "<init>", "(III)V"⟩
def dkwX12_init_0 : List UInt8 := [42, 27, 28, 29, 183, 0, 1, 177]
abbrev dktX12_init_0 : List UInt8 := dkwX12_init_0 ++ []
theorem dksX12_init_0 : cX12_init.data.toList.drop 0 = dktX12_init_0 := by decide +kernel
theorem dX12_init_0 : decode cX12_init 0 = .ok (.aload_n 0, 1) := dk_42 (dk_at dksX12_init_0 0 rfl rfl)
theorem dX12_init_1 : decode cX12_init 1 = .ok (.iload_n 1, 1) := dk_27 (dk_at dksX12_init_0 1 rfl rfl)
theorem dX12_init_2 : decode cX12_init 2 = .ok (.iload_n 2, 1) := dk_28 (dk_at dksX12_init_0 2 rfl rfl)
theorem dX12_init_3 : decode cX12_init 3 = .ok (.iload_n 3, 1) := dk_29 (dk_at dksX12_init_0 3 rfl rfl)
theorem dX12_init_4 : decode cX12_init 4 = .ok (.invokespecial 1, 3) := dk_183 0 1 (dk_at dksX12_init_0 4 rfl rfl)
theorem dX12_init_7 : decode cX12_init 7 = .ok (.return_, 1) := dk_177 (dk_at dksX12_init_0 7 rfl rfl)
abbrev cX12_kind : ByteArray := prog_12_method_2_code
def yX12_kind : MethodName := ⟨RX12, "kind", "()I"⟩
theorem dX12_kind_0 : decode cX12_kind 0 = .ok (.iconst 1, 1) := by decide +kernel
theorem dX12_kind_1 : decode cX12_kind 1 = .ok (.ireturn, 1) := by decide +kernel
abbrev cX12_wants : ByteArray := prog_12_method_5_code
def yX12_wants : MethodName := ⟨RX12, "wants", "(LBeforeTheEnd;IIZ)Z"⟩
def dkwX12_wants_1 : List UInt8 := [153, 0, 7, 4, 167, 0, 4, 3, 172]
abbrev dktX12_wants_1 : List UInt8 := dkwX12_wants_1 ++ []
def dkwX12_wants_0 : List UInt8 := [42, 43, 28, 29, 21, 4, 183, 0, 29, 154, 0, 18, 42, 43, 180, 0, 33, 28, 29, 21, 4, 182, 0, 39]
abbrev dktX12_wants_0 : List UInt8 := dkwX12_wants_0 ++ dktX12_wants_1
theorem dksX12_wants_0 : cX12_wants.data.toList.drop 0 = dktX12_wants_0 := by decide +kernel
theorem dksX12_wants_1 : cX12_wants.data.toList.drop 24 = dktX12_wants_1 := dk_seg dksX12_wants_0 24 rfl rfl
theorem dX12_wants_0 : decode cX12_wants 0 = .ok (.aload_n 0, 1) := dk_42 (dk_at dksX12_wants_0 0 rfl rfl)
theorem dX12_wants_1 : decode cX12_wants 1 = .ok (.aload_n 1, 1) := dk_43 (dk_at dksX12_wants_0 1 rfl rfl)
theorem dX12_wants_2 : decode cX12_wants 2 = .ok (.iload_n 2, 1) := dk_28 (dk_at dksX12_wants_0 2 rfl rfl)
theorem dX12_wants_3 : decode cX12_wants 3 = .ok (.iload_n 3, 1) := dk_29 (dk_at dksX12_wants_0 3 rfl rfl)
theorem dX12_wants_4 : decode cX12_wants 4 = .ok (.iload 4, 2) := dk_21 4 (dk_at dksX12_wants_0 4 rfl rfl)
theorem dX12_wants_6 : decode cX12_wants 6 = .ok (.invokespecial 29, 3) := dk_183 0 29 (dk_at dksX12_wants_0 6 rfl rfl)
theorem dX12_wants_9 : decode cX12_wants 9 = .ok (.ifCond .ne 18, 3) := dk_154 0 18 (dk_at dksX12_wants_0 9 rfl rfl)
theorem dX12_wants_12 : decode cX12_wants 12 = .ok (.aload_n 0, 1) := dk_42 (dk_at dksX12_wants_0 12 rfl rfl)
theorem dX12_wants_13 : decode cX12_wants 13 = .ok (.aload_n 1, 1) := dk_43 (dk_at dksX12_wants_0 13 rfl rfl)
theorem dX12_wants_14 : decode cX12_wants 14 = .ok (.getfield 33, 3) := dk_180 0 33 (dk_at dksX12_wants_0 14 rfl rfl)
theorem dX12_wants_17 : decode cX12_wants 17 = .ok (.iload_n 2, 1) := dk_28 (dk_at dksX12_wants_0 17 rfl rfl)
theorem dX12_wants_18 : decode cX12_wants 18 = .ok (.iload_n 3, 1) := dk_29 (dk_at dksX12_wants_0 18 rfl rfl)
theorem dX12_wants_19 : decode cX12_wants 19 = .ok (.iload 4, 2) := dk_21 4 (dk_at dksX12_wants_0 19 rfl rfl)
theorem dX12_wants_21 : decode cX12_wants 21 = .ok (.invokevirtual 39, 3) := dk_182 0 39 (dk_at dksX12_wants_0 21 rfl rfl)
theorem dX12_wants_24 : decode cX12_wants 24 = .ok (.ifCond .eq 7, 3) := dk_153 0 7 (dk_at dksX12_wants_1 0 rfl rfl)
theorem dX12_wants_27 : decode cX12_wants 27 = .ok (.iconst 1, 1) := dk_4 (dk_at dksX12_wants_1 3 rfl rfl)
theorem dX12_wants_28 : decode cX12_wants 28 = .ok (.goto 4, 3) := dk_167 0 4 (dk_at dksX12_wants_1 4 rfl rfl)
theorem dX12_wants_31 : decode cX12_wants 31 = .ok (.iconst 0, 1) := dk_3 (dk_at dksX12_wants_1 7 rfl rfl)
theorem dX12_wants_32 : decode cX12_wants 32 = .ok (.ireturn, 1) := dk_172 (dk_at dksX12_wants_1 8 rfl rfl)
abbrev cX12_isSure : ByteArray := prog_12_method_4_code
def yX12_isSure : MethodName := ⟨RX12, "isSure", "(LBeforeTheEnd$Tree;IIZ)Z"⟩
def dkwX12_isSure_1 : List UInt8 := [155, 0, 7, 4, 167, 0, 4, 3, 172]
abbrev dktX12_isSure_1 : List UInt8 := dkwX12_isSure_1 ++ []
def dkwX12_isSure_0 : List UInt8 := [20, 0, 13, 43, 28, 29, 182, 0, 15, 105, 42, 21, 4, 182, 0, 21, 133, 43, 28, 182, 0, 25, 105, 148]
abbrev dktX12_isSure_0 : List UInt8 := dkwX12_isSure_0 ++ dktX12_isSure_1
theorem dksX12_isSure_0 : cX12_isSure.data.toList.drop 0 = dktX12_isSure_0 := by decide +kernel
theorem dksX12_isSure_1 : cX12_isSure.data.toList.drop 24 = dktX12_isSure_1 := dk_seg dksX12_isSure_0 24 rfl rfl
theorem dX12_isSure_0 : decode cX12_isSure 0 = .ok (.ldc2_w 13, 3) := dk_20 0 13 (dk_at dksX12_isSure_0 0 rfl rfl)
theorem dX12_isSure_3 : decode cX12_isSure 3 = .ok (.aload_n 1, 1) := dk_43 (dk_at dksX12_isSure_0 3 rfl rfl)
theorem dX12_isSure_4 : decode cX12_isSure 4 = .ok (.iload_n 2, 1) := dk_28 (dk_at dksX12_isSure_0 4 rfl rfl)
theorem dX12_isSure_5 : decode cX12_isSure 5 = .ok (.iload_n 3, 1) := dk_29 (dk_at dksX12_isSure_0 5 rfl rfl)
theorem dX12_isSure_6 : decode cX12_isSure 6 = .ok (.invokevirtual 15, 3) := dk_182 0 15 (dk_at dksX12_isSure_0 6 rfl rfl)
theorem dX12_isSure_9 : decode cX12_isSure 9 = .ok (.lmul, 1) := dk_105 (dk_at dksX12_isSure_0 9 rfl rfl)
theorem dX12_isSure_10 : decode cX12_isSure 10 = .ok (.aload_n 0, 1) := dk_42 (dk_at dksX12_isSure_0 10 rfl rfl)
theorem dX12_isSure_11 : decode cX12_isSure 11 = .ok (.iload 4, 2) := dk_21 4 (dk_at dksX12_isSure_0 11 rfl rfl)
theorem dX12_isSure_13 : decode cX12_isSure 13 = .ok (.invokevirtual 21, 3) := dk_182 0 21 (dk_at dksX12_isSure_0 13 rfl rfl)
theorem dX12_isSure_16 : decode cX12_isSure 16 = .ok (.i2l, 1) := dk_133 (dk_at dksX12_isSure_0 16 rfl rfl)
theorem dX12_isSure_17 : decode cX12_isSure 17 = .ok (.aload_n 1, 1) := dk_43 (dk_at dksX12_isSure_0 17 rfl rfl)
theorem dX12_isSure_18 : decode cX12_isSure 18 = .ok (.iload_n 2, 1) := dk_28 (dk_at dksX12_isSure_0 18 rfl rfl)
theorem dX12_isSure_19 : decode cX12_isSure 19 = .ok (.invokevirtual 25, 3) := dk_182 0 25 (dk_at dksX12_isSure_0 19 rfl rfl)
theorem dX12_isSure_22 : decode cX12_isSure 22 = .ok (.lmul, 1) := dk_105 (dk_at dksX12_isSure_0 22 rfl rfl)
theorem dX12_isSure_23 : decode cX12_isSure 23 = .ok (.lcmp, 1) := dk_148 (dk_at dksX12_isSure_0 23 rfl rfl)
theorem dX12_isSure_24 : decode cX12_isSure 24 = .ok (.ifCond .lt 7, 3) := dk_155 0 7 (dk_at dksX12_isSure_1 0 rfl rfl)
theorem dX12_isSure_27 : decode cX12_isSure 27 = .ok (.iconst 1, 1) := dk_4 (dk_at dksX12_isSure_1 3 rfl rfl)
theorem dX12_isSure_28 : decode cX12_isSure 28 = .ok (.goto 4, 3) := dk_167 0 4 (dk_at dksX12_isSure_1 4 rfl rfl)
theorem dX12_isSure_31 : decode cX12_isSure 31 = .ok (.iconst 0, 1) := dk_3 (dk_at dksX12_isSure_1 7 rfl rfl)
theorem dX12_isSure_32 : decode cX12_isSure 32 = .ok (.ireturn, 1) := dk_172 (dk_at dksX12_isSure_1 8 rfl rfl)
abbrev cX12_by : ByteArray := prog_12_method_3_code
def yX12_by : MethodName := ⟨RX12, "by", "(Z)I"⟩
theorem dX12_by_0 : decode cX12_by 0 = .ok (.aload_n 0, 1) := by decide +kernel
theorem dX12_by_1 : decode cX12_by 1 = .ok (.getfield 7, 3) := by decide +kernel
theorem dX12_by_4 : decode cX12_by 4 = .ok (.ireturn, 1) := by decide +kernel
theorem q125 : (Jvm.Cond.initialized "BeforeTheEnd$Sure") ∈ lw_all := lw_g (lw_at lw_m1 22 rfl) rfl
theorem q187 : (Jvm.Cond.fieldLinkNest "BeforeTheEnd$Sure" (33 : Nat) "BeforeTheEnd" "tree" "LBeforeTheEnd$Tree;" "BeforeTheEnd") ∈ lw_tbl := lw_at lw_m1 84 rfl
theorem q610 : (Jvm.Cond.fieldLink "BeforeTheEnd$Sure" (7 : Nat) "BeforeTheEnd$Sure" "sure" "I") ∈ lw_all := lw_g (lw_at lw_m3 27 rfl) rfl
theorem q611 : (Jvm.Cond.sameField "BeforeTheEnd$Sure" "BeforeTheEnd$Player" "sure" "I") ∈ lw_all := lw_g (lw_at lw_m3 28 rfl) rfl
theorem q631 : (Jvm.Cond.instantiable "BeforeTheEnd$Sure" (3 : Nat)) ∈ lw_all := lw_g (lw_at lw_m3 48 rfl) rfl
theorem q633 : (Jvm.Cond.instanceMethod ({ cls := "BeforeTheEnd$Sure", name := "<init>", desc := "(III)V" } : Jvm.MethodName)) ∈ lw_all := lw_g (lw_at lw_m3 50 rfl) rfl
theorem q634 : (Jvm.Cond.code ({ cls := "BeforeTheEnd$Sure", name := "<init>", desc := "(III)V" } : Jvm.MethodName) prog_12_method_1_code (4 : Nat) (Option.none : Option Jvm.ClassFile.FieldType)) ∈ lw_all := lw_g (lw_at lw_m3 51 rfl) rfl
theorem q635 : (Jvm.Cond.methodLink "BeforeTheEnd$Sure" (1 : Nat) ({ cls := "BeforeTheEnd$Ends", name := "<init>", desc := "(III)V" } : Jvm.MethodName)) ∈ lw_all := lw_g (lw_at lw_m3 52 rfl) rfl
theorem q636 : (Jvm.Cond.laysFinal "BeforeTheEnd$Sure" "BeforeTheEnd$Player" "hand" "I") ∈ lw_all := lw_g (lw_at lw_m3 53 rfl) rfl
theorem q637 : (Jvm.Cond.laysFinal "BeforeTheEnd$Sure" "BeforeTheEnd$Player" "sure" "I") ∈ lw_all := lw_g (lw_at lw_m3 54 rfl) rfl
theorem q638 : (Jvm.Cond.laysFinal "BeforeTheEnd$Sure" "BeforeTheEnd$Player" "knows" "I") ∈ lw_all := lw_g (lw_at lw_m3 55 rfl) rfl
theorem q639 : (Jvm.Cond.superclass "BeforeTheEnd$Sure" "BeforeTheEnd$Ends") ∈ lw_all := lw_g (lw_at lw_m3 56 rfl) rfl
theorem q770 : (Jvm.Cond.selects "BeforeTheEnd$Sure" ({ cls := "BeforeTheEnd$Player", name := "kind", desc := "()I" } : Jvm.MethodName) ({ cls := "BeforeTheEnd$Sure", name := "kind", desc := "()I" } : Jvm.MethodName)) ∈ lw_all := lw_g (lw_at lw_m3 187 rfl) rfl
theorem q771 : (Jvm.Cond.instanceMethod ({ cls := "BeforeTheEnd$Sure", name := "kind", desc := "()I" } : Jvm.MethodName)) ∈ lw_all := lw_g (lw_at lw_m3 188 rfl) rfl
theorem q772 : (Jvm.Cond.code ({ cls := "BeforeTheEnd$Sure", name := "kind", desc := "()I" } : Jvm.MethodName) prog_12_method_2_code (1 : Nat) (Option.some Jvm.ClassFile.FieldType.int)) ∈ lw_all := lw_g (lw_at lw_m3 189 rfl) rfl
theorem q785 : (Jvm.Cond.selects "BeforeTheEnd$Sure" ({ cls := "BeforeTheEnd$Player", name := "set", desc := "()I" } : Jvm.MethodName) ({ cls := "BeforeTheEnd$Player", name := "set", desc := "()I" } : Jvm.MethodName)) ∈ lw_all := lw_g (lw_at lw_m3 202 rfl) rfl
theorem q878 : (Jvm.Cond.instanceMethod ({ cls := "BeforeTheEnd$Sure", name := "wants", desc := "(LBeforeTheEnd;IIZ)Z" } : Jvm.MethodName)) ∈ lw_all := lw_g (lw_at lw_m4 55 rfl) rfl
theorem q879 : (Jvm.Cond.code ({ cls := "BeforeTheEnd$Sure", name := "wants", desc := "(LBeforeTheEnd;IIZ)Z" } : Jvm.MethodName) prog_12_method_5_code (5 : Nat) (Option.some Jvm.ClassFile.FieldType.boolean)) ∈ lw_all := lw_g (lw_at lw_m4 56 rfl) rfl
theorem q880 : (Jvm.Cond.methodLink "BeforeTheEnd$Sure" (29 : Nat) ({ cls := "BeforeTheEnd$Ends", name := "wants", desc := "(LBeforeTheEnd;IIZ)Z" } : Jvm.MethodName)) ∈ lw_all := lw_g (lw_at lw_m4 57 rfl) rfl
theorem q884 : (Jvm.Cond.methodLink "BeforeTheEnd$Sure" (39 : Nat) ({ cls := "BeforeTheEnd$Sure", name := "isSure", desc := "(LBeforeTheEnd$Tree;IIZ)Z" } : Jvm.MethodName)) ∈ lw_all := lw_g (lw_at lw_m4 61 rfl) rfl
theorem q885 : (Jvm.Cond.instanceMethod ({ cls := "BeforeTheEnd$Sure", name := "isSure", desc := "(LBeforeTheEnd$Tree;IIZ)Z" } : Jvm.MethodName)) ∈ lw_all := lw_g (lw_at lw_m4 62 rfl) rfl
theorem q886 : (Jvm.Cond.selects "BeforeTheEnd$Sure" ({ cls := "BeforeTheEnd$Sure", name := "isSure", desc := "(LBeforeTheEnd$Tree;IIZ)Z" } : Jvm.MethodName) ({ cls := "BeforeTheEnd$Sure", name := "isSure", desc := "(LBeforeTheEnd$Tree;IIZ)Z" } : Jvm.MethodName)) ∈ lw_all := lw_g (lw_at lw_m4 63 rfl) rfl
theorem q887 : (Jvm.Cond.sameMethod "BeforeTheEnd$Sure" "BeforeTheEnd$Sure" "isSure" "(LBeforeTheEnd$Tree;IIZ)Z") ∈ lw_all := lw_g (lw_at lw_m4 64 rfl) rfl
theorem q890 : (Jvm.Cond.code ({ cls := "BeforeTheEnd$Sure", name := "isSure", desc := "(LBeforeTheEnd$Tree;IIZ)Z" } : Jvm.MethodName) prog_12_method_4_code (5 : Nat) (Option.some Jvm.ClassFile.FieldType.boolean)) ∈ lw_all := lw_g (lw_at lw_m4 67 rfl) rfl
theorem q891 : (Jvm.Cond.constantLong "BeforeTheEnd$Sure" (13 : Nat) (100 : Int64)) ∈ lw_all := lw_g (lw_at lw_m4 68 rfl) rfl
theorem q892 : (Jvm.Cond.methodLink "BeforeTheEnd$Sure" (15 : Nat) ({ cls := "BeforeTheEnd$Tree", name := "unitsOf", desc := "(II)J" } : Jvm.MethodName)) ∈ lw_all := lw_g (lw_at lw_m4 69 rfl) rfl
theorem q893 : (Jvm.Cond.methodLink "BeforeTheEnd$Sure" (21 : Nat) ({ cls := "BeforeTheEnd$Sure", name := "by", desc := "(Z)I" } : Jvm.MethodName)) ∈ lw_all := lw_g (lw_at lw_m4 70 rfl) rfl
theorem q894 : (Jvm.Cond.instanceMethod ({ cls := "BeforeTheEnd$Sure", name := "by", desc := "(Z)I" } : Jvm.MethodName)) ∈ lw_all := lw_g (lw_at lw_m4 71 rfl) rfl
theorem q895 : (Jvm.Cond.selects "BeforeTheEnd$Sure" ({ cls := "BeforeTheEnd$Sure", name := "by", desc := "(Z)I" } : Jvm.MethodName) ({ cls := "BeforeTheEnd$Sure", name := "by", desc := "(Z)I" } : Jvm.MethodName)) ∈ lw_all := lw_g (lw_at lw_m4 72 rfl) rfl
theorem q896 : (Jvm.Cond.sameMethod "BeforeTheEnd$Sure" "BeforeTheEnd$Sure" "by" "(Z)I") ∈ lw_all := lw_g (lw_at lw_m4 73 rfl) rfl
theorem q901 : (Jvm.Cond.code ({ cls := "BeforeTheEnd$Sure", name := "by", desc := "(Z)I" } : Jvm.MethodName) prog_12_method_3_code (2 : Nat) (Option.some Jvm.ClassFile.FieldType.int)) ∈ lw_all := lw_g (lw_at lw_m4 78 rfl) rfl
theorem q907 : (Jvm.Cond.methodLink "BeforeTheEnd$Sure" (25 : Nat) ({ cls := "BeforeTheEnd$Tree", name := "units", desc := "(I)J" } : Jvm.MethodName)) ∈ lw_all := lw_g (lw_at lw_m4 84 rfl) rfl
theorem q910 : (Jvm.Cond.selects "BeforeTheEnd$Sure" ({ cls := "BeforeTheEnd$Player", name := "wants", desc := "(LBeforeTheEnd;IIZ)Z" } : Jvm.MethodName) ({ cls := "BeforeTheEnd$Sure", name := "wants", desc := "(LBeforeTheEnd;IIZ)Z" } : Jvm.MethodName)) ∈ lw_all := lw_g (lw_at lw_m4 87 rfl) rfl
theorem q1048 : (Jvm.Cond.selects "BeforeTheEnd$Sure" ({ cls := "BeforeTheEnd$Player", name := "copied", desc := "()LBeforeTheEnd$Player;" } : Jvm.MethodName) ({ cls := "BeforeTheEnd$Player", name := "copied", desc := "()LBeforeTheEnd$Player;" } : Jvm.MethodName)) ∈ lw_all := lw_g (lw_at lw_m4 225 rfl) rfl
theorem q1721 : (Jvm.Cond.sameMethod "BeforeTheEnd$Sure" "BeforeTheEnd$Sure" "wants" "(LBeforeTheEnd;IIZ)Z") ∈ lw_all := lw_g (lw_at lw_m7 178 rfl) rfl
theorem q1724 : (Jvm.Cond.selects "BeforeTheEnd$Sure" ({ cls := "BeforeTheEnd$Sure", name := "wants", desc := "(LBeforeTheEnd;IIZ)Z" } : Jvm.MethodName) ({ cls := "BeforeTheEnd$Sure", name := "wants", desc := "(LBeforeTheEnd;IIZ)Z" } : Jvm.MethodName)) ∈ lw_all := lw_g (lw_at lw_m7 181 rfl) rfl
theorem q1731 : (Jvm.Cond.castable "BeforeTheEnd$Sure" "BeforeTheEnd$Player") ∈ lw_tbl := lw_at lw_m7 188 rfl
theorem in_X12 : ∀ w ∈ wsX120, w ∈ lw_all := lw_in wsX120 [636, 637, 638] (by decide +kernel) (by decide +kernel)
/-! BeforeTheEnd$Bold -/
set_option maxRecDepth 100000
def RX13 : String := "BeforeTheEnd$Bold"
def TX13 : u_T := fun k => match k with
  | 0 => ("BeforeTheEnd$Player", "hand", "I", true)
  | 1 => ("BeforeTheEnd$Player", "sure", "I", true)
  | _ => ("BeforeTheEnd$Player", "knows", "I", true)
def tyX13 : Nat → FieldType := fun k => match k with
  | 0 => .int
  | 1 => .int
  | _ => .int
abbrev wsX130 : List Cond := u_ws RX13 TX13 3
theorem nmX13 : ∀ a, a < 3 → ∀ b, b < 3 → a ≠ b → (TX13 a).2.1 ≠ (TX13 b).2.1 := by decide +kernel
theorem tyX13_ok : ∀ k, k < 3 → parseFieldDescriptor (TX13 k).2.2.1 = some (tyX13 k) := by decide +kernel
abbrev cX13_init : ByteArray := prog_3_method_1_code
def yX13_init : MethodName := ⟨RX13, "<init>", "(III)V"⟩
def dkwX13_init_0 : List UInt8 := [42, 27, 28, 29, 183, 0, 1, 177]
abbrev dktX13_init_0 : List UInt8 := dkwX13_init_0 ++ []
theorem dksX13_init_0 : cX13_init.data.toList.drop 0 = dktX13_init_0 := by decide +kernel
theorem dX13_init_0 : decode cX13_init 0 = .ok (.aload_n 0, 1) := dk_42 (dk_at dksX13_init_0 0 rfl rfl)
theorem dX13_init_1 : decode cX13_init 1 = .ok (.iload_n 1, 1) := dk_27 (dk_at dksX13_init_0 1 rfl rfl)
theorem dX13_init_2 : decode cX13_init 2 = .ok (.iload_n 2, 1) := dk_28 (dk_at dksX13_init_0 2 rfl rfl)
theorem dX13_init_3 : decode cX13_init 3 = .ok (.iload_n 3, 1) := dk_29 (dk_at dksX13_init_0 3 rfl rfl)
theorem dX13_init_4 : decode cX13_init 4 = .ok (.invokespecial 1, 3) := dk_183 0 1 (dk_at dksX13_init_0 4 rfl rfl)
theorem dX13_init_7 : decode cX13_init 7 = .ok (.return_, 1) := dk_177 (dk_at dksX13_init_0 7 rfl rfl)
abbrev cX13_kind : ByteArray := prog_3_method_2_code
def yX13_kind : MethodName := ⟨RX13, "kind", "()I"⟩
theorem dX13_kind_0 : decode cX13_kind 0 = .ok (.iconst 2, 1) := by decide +kernel
theorem dX13_kind_1 : decode cX13_kind 1 = .ok (.ireturn, 1) := by decide +kernel
abbrev cX13_by : ByteArray := prog_3_method_3_code
def yX13_by : MethodName := ⟨RX13, "by", "(Z)I"⟩
def dkwX13_by_0 : List UInt8 := [3, 42, 27, 183, 0, 7, 16, 20, 100, 184, 0, 11, 172]
abbrev dktX13_by_0 : List UInt8 := dkwX13_by_0 ++ []
theorem dksX13_by_0 : cX13_by.data.toList.drop 0 = dktX13_by_0 := by decide +kernel
theorem dX13_by_0 : decode cX13_by 0 = .ok (.iconst 0, 1) := dk_3 (dk_at dksX13_by_0 0 rfl rfl)
theorem dX13_by_1 : decode cX13_by 1 = .ok (.aload_n 0, 1) := dk_42 (dk_at dksX13_by_0 1 rfl rfl)
theorem dX13_by_2 : decode cX13_by 2 = .ok (.iload_n 1, 1) := dk_27 (dk_at dksX13_by_0 2 rfl rfl)
theorem dX13_by_3 : decode cX13_by 3 = .ok (.invokespecial 7, 3) := dk_183 0 7 (dk_at dksX13_by_0 3 rfl rfl)
theorem dX13_by_6 : decode cX13_by 6 = .ok (.bipush 20, 2) := dk_16 20 (dk_at dksX13_by_0 6 rfl rfl)
theorem dX13_by_8 : decode cX13_by 8 = .ok (.isub, 1) := dk_100 (dk_at dksX13_by_0 8 rfl rfl)
theorem dX13_by_9 : decode cX13_by 9 = .ok (.invokestatic 11, 3) := dk_184 0 11 (dk_at dksX13_by_0 9 rfl rfl)
theorem dX13_by_12 : decode cX13_by 12 = .ok (.ireturn, 1) := dk_172 (dk_at dksX13_by_0 12 rfl rfl)
theorem q126 : (Jvm.Cond.initialized "BeforeTheEnd$Bold") ∈ lw_all := lw_g (lw_at lw_m1 23 rfl) rfl
theorem q641 : (Jvm.Cond.instantiable "BeforeTheEnd$Bold" (3 : Nat)) ∈ lw_all := lw_g (lw_at lw_m3 58 rfl) rfl
theorem q643 : (Jvm.Cond.instanceMethod ({ cls := "BeforeTheEnd$Bold", name := "<init>", desc := "(III)V" } : Jvm.MethodName)) ∈ lw_all := lw_g (lw_at lw_m3 60 rfl) rfl
theorem q644 : (Jvm.Cond.code ({ cls := "BeforeTheEnd$Bold", name := "<init>", desc := "(III)V" } : Jvm.MethodName) prog_3_method_1_code (4 : Nat) (Option.none : Option Jvm.ClassFile.FieldType)) ∈ lw_all := lw_g (lw_at lw_m3 61 rfl) rfl
theorem q645 : (Jvm.Cond.methodLink "BeforeTheEnd$Bold" (1 : Nat) ({ cls := "BeforeTheEnd$Sure", name := "<init>", desc := "(III)V" } : Jvm.MethodName)) ∈ lw_all := lw_g (lw_at lw_m3 62 rfl) rfl
theorem q646 : (Jvm.Cond.laysFinal "BeforeTheEnd$Bold" "BeforeTheEnd$Player" "hand" "I") ∈ lw_all := lw_g (lw_at lw_m3 63 rfl) rfl
theorem q647 : (Jvm.Cond.laysFinal "BeforeTheEnd$Bold" "BeforeTheEnd$Player" "sure" "I") ∈ lw_all := lw_g (lw_at lw_m3 64 rfl) rfl
theorem q648 : (Jvm.Cond.laysFinal "BeforeTheEnd$Bold" "BeforeTheEnd$Player" "knows" "I") ∈ lw_all := lw_g (lw_at lw_m3 65 rfl) rfl
theorem q649 : (Jvm.Cond.superclass "BeforeTheEnd$Bold" "BeforeTheEnd$Sure") ∈ lw_all := lw_g (lw_at lw_m3 66 rfl) rfl
theorem q761 : (Jvm.Cond.selects "BeforeTheEnd$Bold" ({ cls := "BeforeTheEnd$Player", name := "kind", desc := "()I" } : Jvm.MethodName) ({ cls := "BeforeTheEnd$Bold", name := "kind", desc := "()I" } : Jvm.MethodName)) ∈ lw_all := lw_g (lw_at lw_m3 178 rfl) rfl
theorem q762 : (Jvm.Cond.instanceMethod ({ cls := "BeforeTheEnd$Bold", name := "kind", desc := "()I" } : Jvm.MethodName)) ∈ lw_all := lw_g (lw_at lw_m3 179 rfl) rfl
theorem q763 : (Jvm.Cond.code ({ cls := "BeforeTheEnd$Bold", name := "kind", desc := "()I" } : Jvm.MethodName) prog_3_method_2_code (1 : Nat) (Option.some Jvm.ClassFile.FieldType.int)) ∈ lw_all := lw_g (lw_at lw_m3 180 rfl) rfl
theorem q782 : (Jvm.Cond.selects "BeforeTheEnd$Bold" ({ cls := "BeforeTheEnd$Player", name := "set", desc := "()I" } : Jvm.MethodName) ({ cls := "BeforeTheEnd$Player", name := "set", desc := "()I" } : Jvm.MethodName)) ∈ lw_all := lw_g (lw_at lw_m3 199 rfl) rfl
theorem q877 : (Jvm.Cond.selects "BeforeTheEnd$Bold" ({ cls := "BeforeTheEnd$Player", name := "wants", desc := "(LBeforeTheEnd;IIZ)Z" } : Jvm.MethodName) ({ cls := "BeforeTheEnd$Sure", name := "wants", desc := "(LBeforeTheEnd;IIZ)Z" } : Jvm.MethodName)) ∈ lw_all := lw_g (lw_at lw_m4 54 rfl) rfl
theorem q888 : (Jvm.Cond.selects "BeforeTheEnd$Bold" ({ cls := "BeforeTheEnd$Sure", name := "isSure", desc := "(LBeforeTheEnd$Tree;IIZ)Z" } : Jvm.MethodName) ({ cls := "BeforeTheEnd$Sure", name := "isSure", desc := "(LBeforeTheEnd$Tree;IIZ)Z" } : Jvm.MethodName)) ∈ lw_all := lw_g (lw_at lw_m4 65 rfl) rfl
theorem q897 : (Jvm.Cond.selects "BeforeTheEnd$Bold" ({ cls := "BeforeTheEnd$Sure", name := "by", desc := "(Z)I" } : Jvm.MethodName) ({ cls := "BeforeTheEnd$Bold", name := "by", desc := "(Z)I" } : Jvm.MethodName)) ∈ lw_all := lw_g (lw_at lw_m4 74 rfl) rfl
theorem q898 : (Jvm.Cond.instanceMethod ({ cls := "BeforeTheEnd$Bold", name := "by", desc := "(Z)I" } : Jvm.MethodName)) ∈ lw_all := lw_g (lw_at lw_m4 75 rfl) rfl
theorem q899 : (Jvm.Cond.code ({ cls := "BeforeTheEnd$Bold", name := "by", desc := "(Z)I" } : Jvm.MethodName) prog_3_method_3_code (2 : Nat) (Option.some Jvm.ClassFile.FieldType.int)) ∈ lw_all := lw_g (lw_at lw_m4 76 rfl) rfl
theorem q900 : (Jvm.Cond.methodLink "BeforeTheEnd$Bold" (7 : Nat) ({ cls := "BeforeTheEnd$Sure", name := "by", desc := "(Z)I" } : Jvm.MethodName)) ∈ lw_all := lw_g (lw_at lw_m4 77 rfl) rfl
theorem q902 : (Jvm.Cond.methodLink "BeforeTheEnd$Bold" (11 : Nat) ({ cls := "java/lang/Math", name := "max", desc := "(II)I" } : Jvm.MethodName)) ∈ lw_all := lw_g (lw_at lw_m4 79 rfl) rfl
theorem q1045 : (Jvm.Cond.selects "BeforeTheEnd$Bold" ({ cls := "BeforeTheEnd$Player", name := "copied", desc := "()LBeforeTheEnd$Player;" } : Jvm.MethodName) ({ cls := "BeforeTheEnd$Player", name := "copied", desc := "()LBeforeTheEnd$Player;" } : Jvm.MethodName)) ∈ lw_all := lw_g (lw_at lw_m4 222 rfl) rfl
theorem q1722 : (Jvm.Cond.selects "BeforeTheEnd$Bold" ({ cls := "BeforeTheEnd$Sure", name := "wants", desc := "(LBeforeTheEnd;IIZ)Z" } : Jvm.MethodName) ({ cls := "BeforeTheEnd$Sure", name := "wants", desc := "(LBeforeTheEnd;IIZ)Z" } : Jvm.MethodName)) ∈ lw_all := lw_g (lw_at lw_m7 179 rfl) rfl
theorem q1728 : (Jvm.Cond.castable "BeforeTheEnd$Bold" "BeforeTheEnd$Sure") ∈ lw_tbl := lw_at lw_m7 185 rfl
theorem q1732 : (Jvm.Cond.castable "BeforeTheEnd$Bold" "BeforeTheEnd$Player") ∈ lw_tbl := lw_at lw_m7 189 rfl
theorem in_X13 : ∀ w ∈ wsX130, w ∈ lw_all := lw_in wsX130 [646, 647, 648] (by decide +kernel) (by decide +kernel)
/-! BeforeTheEnd$Learn -/
set_option maxRecDepth 100000
def RX14 : String := "BeforeTheEnd$Learn"
def TX14 : u_T := fun k => match k with
  | 0 => ("BeforeTheEnd$Player", "hand", "I", true)
  | 1 => ("BeforeTheEnd$Player", "sure", "I", true)
  | _ => ("BeforeTheEnd$Player", "knows", "I", true)
def tyX14 : Nat → FieldType := fun k => match k with
  | 0 => .int
  | 1 => .int
  | _ => .int
abbrev wsX140 : List Cond := u_ws RX14 TX14 3
theorem nmX14 : ∀ a, a < 3 → ∀ b, b < 3 → a ≠ b → (TX14 a).2.1 ≠ (TX14 b).2.1 := by decide +kernel
theorem tyX14_ok : ∀ k, k < 3 → parseFieldDescriptor (TX14 k).2.2.1 = some (tyX14 k) := by decide +kernel
abbrev cX14_init : ByteArray := prog_6_method_1_code
def yX14_init : MethodName := ⟨RX14, "<init>", "(III)V"⟩
def dkwX14_init_0 : List UInt8 := [42, 27, 28, 29, 183, 0, 1, 177]
abbrev dktX14_init_0 : List UInt8 := dkwX14_init_0 ++ []
theorem dksX14_init_0 : cX14_init.data.toList.drop 0 = dktX14_init_0 := by decide +kernel
theorem dX14_init_0 : decode cX14_init 0 = .ok (.aload_n 0, 1) := dk_42 (dk_at dksX14_init_0 0 rfl rfl)
theorem dX14_init_1 : decode cX14_init 1 = .ok (.iload_n 1, 1) := dk_27 (dk_at dksX14_init_0 1 rfl rfl)
theorem dX14_init_2 : decode cX14_init 2 = .ok (.iload_n 2, 1) := dk_28 (dk_at dksX14_init_0 2 rfl rfl)
theorem dX14_init_3 : decode cX14_init 3 = .ok (.iload_n 3, 1) := dk_29 (dk_at dksX14_init_0 3 rfl rfl)
theorem dX14_init_4 : decode cX14_init 4 = .ok (.invokespecial 1, 3) := dk_183 0 1 (dk_at dksX14_init_0 4 rfl rfl)
theorem dX14_init_7 : decode cX14_init 7 = .ok (.return_, 1) := dk_177 (dk_at dksX14_init_0 7 rfl rfl)
abbrev cX14_kind : ByteArray := prog_6_method_2_code
def yX14_kind : MethodName := ⟨RX14, "kind", "()I"⟩
theorem dX14_kind_0 : decode cX14_kind 0 = .ok (.iconst 3, 1) := by decide +kernel
theorem dX14_kind_1 : decode cX14_kind 1 = .ok (.ireturn, 1) := by decide +kernel
abbrev cX14_by : ByteArray := prog_6_method_3_code
def yX14_by : MethodName := ⟨RX14, "by", "(Z)I"⟩
def dkwX14_by_0 : List UInt8 := [27, 153, 0, 13, 42, 4, 183, 0, 7, 5, 108, 167, 0, 8, 42, 3, 183, 0, 7, 172]
abbrev dktX14_by_0 : List UInt8 := dkwX14_by_0 ++ []
theorem dksX14_by_0 : cX14_by.data.toList.drop 0 = dktX14_by_0 := by decide +kernel
theorem dX14_by_0 : decode cX14_by 0 = .ok (.iload_n 1, 1) := dk_27 (dk_at dksX14_by_0 0 rfl rfl)
theorem dX14_by_1 : decode cX14_by 1 = .ok (.ifCond .eq 13, 3) := dk_153 0 13 (dk_at dksX14_by_0 1 rfl rfl)
theorem dX14_by_4 : decode cX14_by 4 = .ok (.aload_n 0, 1) := dk_42 (dk_at dksX14_by_0 4 rfl rfl)
theorem dX14_by_5 : decode cX14_by 5 = .ok (.iconst 1, 1) := dk_4 (dk_at dksX14_by_0 5 rfl rfl)
theorem dX14_by_6 : decode cX14_by 6 = .ok (.invokespecial 7, 3) := dk_183 0 7 (dk_at dksX14_by_0 6 rfl rfl)
theorem dX14_by_9 : decode cX14_by 9 = .ok (.iconst 2, 1) := dk_5 (dk_at dksX14_by_0 9 rfl rfl)
theorem dX14_by_10 : decode cX14_by 10 = .ok (.idiv, 1) := dk_108 (dk_at dksX14_by_0 10 rfl rfl)
theorem dX14_by_11 : decode cX14_by 11 = .ok (.goto 8, 3) := dk_167 0 8 (dk_at dksX14_by_0 11 rfl rfl)
theorem dX14_by_14 : decode cX14_by 14 = .ok (.aload_n 0, 1) := dk_42 (dk_at dksX14_by_0 14 rfl rfl)
theorem dX14_by_15 : decode cX14_by 15 = .ok (.iconst 0, 1) := dk_3 (dk_at dksX14_by_0 15 rfl rfl)
theorem dX14_by_16 : decode cX14_by 16 = .ok (.invokespecial 7, 3) := dk_183 0 7 (dk_at dksX14_by_0 16 rfl rfl)
theorem dX14_by_19 : decode cX14_by 19 = .ok (.ireturn, 1) := dk_172 (dk_at dksX14_by_0 19 rfl rfl)
theorem q127 : (Jvm.Cond.initialized "BeforeTheEnd$Learn") ∈ lw_all := lw_g (lw_at lw_m1 24 rfl) rfl
theorem q651 : (Jvm.Cond.instantiable "BeforeTheEnd$Learn" (3 : Nat)) ∈ lw_all := lw_g (lw_at lw_m3 68 rfl) rfl
theorem q653 : (Jvm.Cond.instanceMethod ({ cls := "BeforeTheEnd$Learn", name := "<init>", desc := "(III)V" } : Jvm.MethodName)) ∈ lw_all := lw_g (lw_at lw_m3 70 rfl) rfl
theorem q654 : (Jvm.Cond.code ({ cls := "BeforeTheEnd$Learn", name := "<init>", desc := "(III)V" } : Jvm.MethodName) prog_6_method_1_code (4 : Nat) (Option.none : Option Jvm.ClassFile.FieldType)) ∈ lw_all := lw_g (lw_at lw_m3 71 rfl) rfl
theorem q655 : (Jvm.Cond.methodLink "BeforeTheEnd$Learn" (1 : Nat) ({ cls := "BeforeTheEnd$Sure", name := "<init>", desc := "(III)V" } : Jvm.MethodName)) ∈ lw_all := lw_g (lw_at lw_m3 72 rfl) rfl
theorem q656 : (Jvm.Cond.laysFinal "BeforeTheEnd$Learn" "BeforeTheEnd$Player" "hand" "I") ∈ lw_all := lw_g (lw_at lw_m3 73 rfl) rfl
theorem q657 : (Jvm.Cond.laysFinal "BeforeTheEnd$Learn" "BeforeTheEnd$Player" "sure" "I") ∈ lw_all := lw_g (lw_at lw_m3 74 rfl) rfl
theorem q658 : (Jvm.Cond.laysFinal "BeforeTheEnd$Learn" "BeforeTheEnd$Player" "knows" "I") ∈ lw_all := lw_g (lw_at lw_m3 75 rfl) rfl
theorem q659 : (Jvm.Cond.superclass "BeforeTheEnd$Learn" "BeforeTheEnd$Sure") ∈ lw_all := lw_g (lw_at lw_m3 76 rfl) rfl
theorem q767 : (Jvm.Cond.selects "BeforeTheEnd$Learn" ({ cls := "BeforeTheEnd$Player", name := "kind", desc := "()I" } : Jvm.MethodName) ({ cls := "BeforeTheEnd$Learn", name := "kind", desc := "()I" } : Jvm.MethodName)) ∈ lw_all := lw_g (lw_at lw_m3 184 rfl) rfl
theorem q768 : (Jvm.Cond.instanceMethod ({ cls := "BeforeTheEnd$Learn", name := "kind", desc := "()I" } : Jvm.MethodName)) ∈ lw_all := lw_g (lw_at lw_m3 185 rfl) rfl
theorem q769 : (Jvm.Cond.code ({ cls := "BeforeTheEnd$Learn", name := "kind", desc := "()I" } : Jvm.MethodName) prog_6_method_2_code (1 : Nat) (Option.some Jvm.ClassFile.FieldType.int)) ∈ lw_all := lw_g (lw_at lw_m3 186 rfl) rfl
theorem q784 : (Jvm.Cond.selects "BeforeTheEnd$Learn" ({ cls := "BeforeTheEnd$Player", name := "set", desc := "()I" } : Jvm.MethodName) ({ cls := "BeforeTheEnd$Player", name := "set", desc := "()I" } : Jvm.MethodName)) ∈ lw_all := lw_g (lw_at lw_m3 201 rfl) rfl
theorem q889 : (Jvm.Cond.selects "BeforeTheEnd$Learn" ({ cls := "BeforeTheEnd$Sure", name := "isSure", desc := "(LBeforeTheEnd$Tree;IIZ)Z" } : Jvm.MethodName) ({ cls := "BeforeTheEnd$Sure", name := "isSure", desc := "(LBeforeTheEnd$Tree;IIZ)Z" } : Jvm.MethodName)) ∈ lw_all := lw_g (lw_at lw_m4 66 rfl) rfl
theorem q903 : (Jvm.Cond.selects "BeforeTheEnd$Learn" ({ cls := "BeforeTheEnd$Sure", name := "by", desc := "(Z)I" } : Jvm.MethodName) ({ cls := "BeforeTheEnd$Learn", name := "by", desc := "(Z)I" } : Jvm.MethodName)) ∈ lw_all := lw_g (lw_at lw_m4 80 rfl) rfl
theorem q904 : (Jvm.Cond.instanceMethod ({ cls := "BeforeTheEnd$Learn", name := "by", desc := "(Z)I" } : Jvm.MethodName)) ∈ lw_all := lw_g (lw_at lw_m4 81 rfl) rfl
theorem q905 : (Jvm.Cond.code ({ cls := "BeforeTheEnd$Learn", name := "by", desc := "(Z)I" } : Jvm.MethodName) prog_6_method_3_code (2 : Nat) (Option.some Jvm.ClassFile.FieldType.int)) ∈ lw_all := lw_g (lw_at lw_m4 82 rfl) rfl
theorem q906 : (Jvm.Cond.methodLink "BeforeTheEnd$Learn" (7 : Nat) ({ cls := "BeforeTheEnd$Sure", name := "by", desc := "(Z)I" } : Jvm.MethodName)) ∈ lw_all := lw_g (lw_at lw_m4 83 rfl) rfl
theorem q909 : (Jvm.Cond.selects "BeforeTheEnd$Learn" ({ cls := "BeforeTheEnd$Player", name := "wants", desc := "(LBeforeTheEnd;IIZ)Z" } : Jvm.MethodName) ({ cls := "BeforeTheEnd$Sure", name := "wants", desc := "(LBeforeTheEnd;IIZ)Z" } : Jvm.MethodName)) ∈ lw_all := lw_g (lw_at lw_m4 86 rfl) rfl
theorem q1047 : (Jvm.Cond.selects "BeforeTheEnd$Learn" ({ cls := "BeforeTheEnd$Player", name := "copied", desc := "()LBeforeTheEnd$Player;" } : Jvm.MethodName) ({ cls := "BeforeTheEnd$Player", name := "copied", desc := "()LBeforeTheEnd$Player;" } : Jvm.MethodName)) ∈ lw_all := lw_g (lw_at lw_m4 224 rfl) rfl
theorem q1723 : (Jvm.Cond.selects "BeforeTheEnd$Learn" ({ cls := "BeforeTheEnd$Sure", name := "wants", desc := "(LBeforeTheEnd;IIZ)Z" } : Jvm.MethodName) ({ cls := "BeforeTheEnd$Sure", name := "wants", desc := "(LBeforeTheEnd;IIZ)Z" } : Jvm.MethodName)) ∈ lw_all := lw_g (lw_at lw_m7 180 rfl) rfl
theorem q1729 : (Jvm.Cond.castable "BeforeTheEnd$Learn" "BeforeTheEnd$Sure") ∈ lw_tbl := lw_at lw_m7 186 rfl
theorem q1733 : (Jvm.Cond.castable "BeforeTheEnd$Learn" "BeforeTheEnd$Player") ∈ lw_tbl := lw_at lw_m7 190 rfl
theorem in_X14 : ∀ w ∈ wsX140, w ∈ lw_all := lw_in wsX140 [656, 657, 658] (by decide +kernel) (by decide +kernel)
/-! BeforeTheEnd$ToldPlayer -/
set_option maxRecDepth 100000
def RX15 : String := "BeforeTheEnd$ToldPlayer"
def TX15 : u_T := fun k => match k with
  | 0 => ("BeforeTheEnd$Player", "hand", "I", true)
  | 1 => ("BeforeTheEnd$Player", "sure", "I", true)
  | 2 => ("BeforeTheEnd$Player", "knows", "I", true)
  | _ => ("BeforeTheEnd$ToldPlayer", "set", "I", false)
def tyX15 : Nat → FieldType := fun k => match k with
  | 0 => .int
  | 1 => .int
  | 2 => .int
  | _ => .int
abbrev wsX150 : List Cond := u_ws RX15 TX15 4
theorem nmX15 : ∀ a, a < 4 → ∀ b, b < 4 → a ≠ b → (TX15 a).2.1 ≠ (TX15 b).2.1 := by decide +kernel
theorem tyX15_ok : ∀ k, k < 4 → parseFieldDescriptor (TX15 k).2.2.1 = some (tyX15 k) := by decide +kernel
abbrev cX15_init : ByteArray := prog_14_method_1_code
def yX15_init : MethodName := ⟨RX15, "<init>", "(III)V"⟩
def dkwX15_init_0 : List UInt8 := [42, 27, 28, 29, 183, 0, 1, 177]
abbrev dktX15_init_0 : List UInt8 := dkwX15_init_0 ++ []
theorem dksX15_init_0 : cX15_init.data.toList.drop 0 = dktX15_init_0 := by decide +kernel
theorem dX15_init_0 : decode cX15_init 0 = .ok (.aload_n 0, 1) := dk_42 (dk_at dksX15_init_0 0 rfl rfl)
theorem dX15_init_1 : decode cX15_init 1 = .ok (.iload_n 1, 1) := dk_27 (dk_at dksX15_init_0 1 rfl rfl)
theorem dX15_init_2 : decode cX15_init 2 = .ok (.iload_n 2, 1) := dk_28 (dk_at dksX15_init_0 2 rfl rfl)
theorem dX15_init_3 : decode cX15_init 3 = .ok (.iload_n 3, 1) := dk_29 (dk_at dksX15_init_0 3 rfl rfl)
theorem dX15_init_4 : decode cX15_init 4 = .ok (.invokespecial 1, 3) := dk_183 0 1 (dk_at dksX15_init_0 4 rfl rfl)
theorem dX15_init_7 : decode cX15_init 7 = .ok (.return_, 1) := dk_177 (dk_at dksX15_init_0 7 rfl rfl)
abbrev cX15_kind : ByteArray := prog_14_method_2_code
def yX15_kind : MethodName := ⟨RX15, "kind", "()I"⟩
theorem dX15_kind_0 : decode cX15_kind 0 = .ok (.iconst 4, 1) := by decide +kernel
theorem dX15_kind_1 : decode cX15_kind 1 = .ok (.ireturn, 1) := by decide +kernel
abbrev cX15_set : ByteArray := prog_14_method_3_code
def yX15_set : MethodName := ⟨RX15, "set", "()I"⟩
theorem dX15_set_0 : decode cX15_set 0 = .ok (.aload_n 0, 1) := by decide +kernel
theorem dX15_set_1 : decode cX15_set 1 = .ok (.getfield 7, 3) := by decide +kernel
theorem dX15_set_4 : decode cX15_set 4 = .ok (.ireturn, 1) := by decide +kernel
abbrev cX15_wants : ByteArray := prog_14_method_5_code
def yX15_wants : MethodName := ⟨RX15, "wants", "(LBeforeTheEnd;IIZ)Z"⟩
def dkwX15_wants_0 : List UInt8 := [42, 43, 182, 0, 13, 28, 122, 4, 126, 4, 160, 0, 7, 4, 167, 0, 4, 3, 172]
abbrev dktX15_wants_0 : List UInt8 := dkwX15_wants_0 ++ []
theorem dksX15_wants_0 : cX15_wants.data.toList.drop 0 = dktX15_wants_0 := by decide +kernel
theorem dX15_wants_0 : decode cX15_wants 0 = .ok (.aload_n 0, 1) := dk_42 (dk_at dksX15_wants_0 0 rfl rfl)
theorem dX15_wants_1 : decode cX15_wants 1 = .ok (.aload_n 1, 1) := dk_43 (dk_at dksX15_wants_0 1 rfl rfl)
theorem dX15_wants_2 : decode cX15_wants 2 = .ok (.invokevirtual 13, 3) := dk_182 0 13 (dk_at dksX15_wants_0 2 rfl rfl)
theorem dX15_wants_5 : decode cX15_wants 5 = .ok (.iload_n 2, 1) := dk_28 (dk_at dksX15_wants_0 5 rfl rfl)
theorem dX15_wants_6 : decode cX15_wants 6 = .ok (.ishr, 1) := dk_122 (dk_at dksX15_wants_0 6 rfl rfl)
theorem dX15_wants_7 : decode cX15_wants 7 = .ok (.iconst 1, 1) := dk_4 (dk_at dksX15_wants_0 7 rfl rfl)
theorem dX15_wants_8 : decode cX15_wants 8 = .ok (.iand, 1) := dk_126 (dk_at dksX15_wants_0 8 rfl rfl)
theorem dX15_wants_9 : decode cX15_wants 9 = .ok (.iconst 1, 1) := dk_4 (dk_at dksX15_wants_0 9 rfl rfl)
theorem dX15_wants_10 : decode cX15_wants 10 = .ok (.if_icmp .ne 7, 3) := dk_160 0 7 (dk_at dksX15_wants_0 10 rfl rfl)
theorem dX15_wants_13 : decode cX15_wants 13 = .ok (.iconst 1, 1) := dk_4 (dk_at dksX15_wants_0 13 rfl rfl)
theorem dX15_wants_14 : decode cX15_wants 14 = .ok (.goto 4, 3) := dk_167 0 4 (dk_at dksX15_wants_0 14 rfl rfl)
theorem dX15_wants_17 : decode cX15_wants 17 = .ok (.iconst 0, 1) := dk_3 (dk_at dksX15_wants_0 17 rfl rfl)
theorem dX15_wants_18 : decode cX15_wants 18 = .ok (.ireturn, 1) := dk_172 (dk_at dksX15_wants_0 18 rfl rfl)
abbrev cX15_words : ByteArray := prog_14_method_4_code
def yX15_words : MethodName := ⟨RX15, "words", "(LBeforeTheEnd;)I"⟩
theorem dX15_words_0 : decode cX15_words 0 = .ok (.aload_n 0, 1) := by decide +kernel
theorem dX15_words_1 : decode cX15_words 1 = .ok (.getfield 7, 3) := by decide +kernel
theorem dX15_words_4 : decode cX15_words 4 = .ok (.ireturn, 1) := by decide +kernel
abbrev cX15_copied : ByteArray := prog_14_method_6_code
def yX15_copied : MethodName := ⟨RX15, "copied", "()LBeforeTheEnd$Player;"⟩
def dkwX15_copied_1 : List UInt8 := [180, 0, 7, 181, 0, 7, 43, 176]
abbrev dktX15_copied_1 : List UInt8 := dkwX15_copied_1 ++ []
def dkwX15_copied_0 : List UInt8 := [187, 0, 8, 89, 42, 180, 0, 17, 42, 180, 0, 20, 42, 180, 0, 23, 183, 0, 26, 76, 43, 42]
abbrev dktX15_copied_0 : List UInt8 := dkwX15_copied_0 ++ dktX15_copied_1
theorem dksX15_copied_0 : cX15_copied.data.toList.drop 0 = dktX15_copied_0 := by decide +kernel
theorem dksX15_copied_1 : cX15_copied.data.toList.drop 22 = dktX15_copied_1 := dk_seg dksX15_copied_0 22 rfl rfl
theorem dX15_copied_0 : decode cX15_copied 0 = .ok (.new 8, 3) := dk_187 0 8 (dk_at dksX15_copied_0 0 rfl rfl)
theorem dX15_copied_3 : decode cX15_copied 3 = .ok (.dup, 1) := dk_89 (dk_at dksX15_copied_0 3 rfl rfl)
theorem dX15_copied_4 : decode cX15_copied 4 = .ok (.aload_n 0, 1) := dk_42 (dk_at dksX15_copied_0 4 rfl rfl)
theorem dX15_copied_5 : decode cX15_copied 5 = .ok (.getfield 17, 3) := dk_180 0 17 (dk_at dksX15_copied_0 5 rfl rfl)
theorem dX15_copied_8 : decode cX15_copied 8 = .ok (.aload_n 0, 1) := dk_42 (dk_at dksX15_copied_0 8 rfl rfl)
theorem dX15_copied_9 : decode cX15_copied 9 = .ok (.getfield 20, 3) := dk_180 0 20 (dk_at dksX15_copied_0 9 rfl rfl)
theorem dX15_copied_12 : decode cX15_copied 12 = .ok (.aload_n 0, 1) := dk_42 (dk_at dksX15_copied_0 12 rfl rfl)
theorem dX15_copied_13 : decode cX15_copied 13 = .ok (.getfield 23, 3) := dk_180 0 23 (dk_at dksX15_copied_0 13 rfl rfl)
theorem dX15_copied_16 : decode cX15_copied 16 = .ok (.invokespecial 26, 3) := dk_183 0 26 (dk_at dksX15_copied_0 16 rfl rfl)
theorem dX15_copied_19 : decode cX15_copied 19 = .ok (.astore_n 1, 1) := dk_76 (dk_at dksX15_copied_0 19 rfl rfl)
theorem dX15_copied_20 : decode cX15_copied 20 = .ok (.aload_n 1, 1) := dk_43 (dk_at dksX15_copied_0 20 rfl rfl)
theorem dX15_copied_21 : decode cX15_copied 21 = .ok (.aload_n 0, 1) := dk_42 (dk_at dksX15_copied_0 21 rfl rfl)
theorem dX15_copied_22 : decode cX15_copied 22 = .ok (.getfield 7, 3) := dk_180 0 7 (dk_at dksX15_copied_1 0 rfl rfl)
theorem dX15_copied_25 : decode cX15_copied 25 = .ok (.putfield 7, 3) := dk_181 0 7 (dk_at dksX15_copied_1 3 rfl rfl)
theorem dX15_copied_28 : decode cX15_copied 28 = .ok (.aload_n 1, 1) := dk_43 (dk_at dksX15_copied_1 6 rfl rfl)
theorem dX15_copied_29 : decode cX15_copied 29 = .ok (.areturn, 1) := dk_176 (dk_at dksX15_copied_1 7 rfl rfl)
theorem q128 : (Jvm.Cond.initialized "BeforeTheEnd$ToldPlayer") ∈ lw_all := lw_g (lw_at lw_m1 25 rfl) rfl
theorem q605 : (Jvm.Cond.fieldLink "BeforeTheEnd$ToldPlayer" (17 : Nat) "BeforeTheEnd$ToldPlayer" "hand" "I") ∈ lw_all := lw_g (lw_at lw_m3 22 rfl) rfl
theorem q606 : (Jvm.Cond.sameField "BeforeTheEnd$ToldPlayer" "BeforeTheEnd$Player" "hand" "I") ∈ lw_all := lw_g (lw_at lw_m3 23 rfl) rfl
theorem q614 : (Jvm.Cond.fieldLink "BeforeTheEnd$ToldPlayer" (20 : Nat) "BeforeTheEnd$ToldPlayer" "sure" "I") ∈ lw_all := lw_g (lw_at lw_m3 31 rfl) rfl
theorem q615 : (Jvm.Cond.sameField "BeforeTheEnd$ToldPlayer" "BeforeTheEnd$Player" "sure" "I") ∈ lw_all := lw_g (lw_at lw_m3 32 rfl) rfl
theorem q620 : (Jvm.Cond.fieldLink "BeforeTheEnd$ToldPlayer" (23 : Nat) "BeforeTheEnd$ToldPlayer" "knows" "I") ∈ lw_all := lw_g (lw_at lw_m3 37 rfl) rfl
theorem q621 : (Jvm.Cond.sameField "BeforeTheEnd$ToldPlayer" "BeforeTheEnd$Player" "knows" "I") ∈ lw_all := lw_g (lw_at lw_m3 38 rfl) rfl
theorem q661 : (Jvm.Cond.instantiable "BeforeTheEnd$ToldPlayer" (4 : Nat)) ∈ lw_all := lw_g (lw_at lw_m3 78 rfl) rfl
theorem q663 : (Jvm.Cond.instanceMethod ({ cls := "BeforeTheEnd$ToldPlayer", name := "<init>", desc := "(III)V" } : Jvm.MethodName)) ∈ lw_all := lw_g (lw_at lw_m3 80 rfl) rfl
theorem q664 : (Jvm.Cond.code ({ cls := "BeforeTheEnd$ToldPlayer", name := "<init>", desc := "(III)V" } : Jvm.MethodName) prog_14_method_1_code (4 : Nat) (Option.none : Option Jvm.ClassFile.FieldType)) ∈ lw_all := lw_g (lw_at lw_m3 81 rfl) rfl
theorem q665 : (Jvm.Cond.methodLink "BeforeTheEnd$ToldPlayer" (1 : Nat) ({ cls := "BeforeTheEnd$Player", name := "<init>", desc := "(III)V" } : Jvm.MethodName)) ∈ lw_all := lw_g (lw_at lw_m3 82 rfl) rfl
theorem q666 : (Jvm.Cond.fieldLink "BeforeTheEnd$ToldPlayer" (7 : Nat) "BeforeTheEnd$ToldPlayer" "set" "I") ∈ lw_all := lw_g (lw_at lw_m3 83 rfl) rfl
theorem q668 : (Jvm.Cond.lays "BeforeTheEnd$ToldPlayer" "BeforeTheEnd$ToldPlayer" "set" "I") ∈ lw_all := lw_g (lw_at lw_m3 85 rfl) rfl
theorem q669 : (Jvm.Cond.soleField "BeforeTheEnd$ToldPlayer" "set") ∈ lw_all := lw_g (lw_at lw_m3 86 rfl) rfl
theorem q670 : (Jvm.Cond.laysFinal "BeforeTheEnd$ToldPlayer" "BeforeTheEnd$Player" "hand" "I") ∈ lw_all := lw_g (lw_at lw_m3 87 rfl) rfl
theorem q671 : (Jvm.Cond.laysFinal "BeforeTheEnd$ToldPlayer" "BeforeTheEnd$Player" "sure" "I") ∈ lw_all := lw_g (lw_at lw_m3 88 rfl) rfl
theorem q672 : (Jvm.Cond.laysFinal "BeforeTheEnd$ToldPlayer" "BeforeTheEnd$Player" "knows" "I") ∈ lw_all := lw_g (lw_at lw_m3 89 rfl) rfl
theorem q673 : (Jvm.Cond.superclass "BeforeTheEnd$ToldPlayer" "BeforeTheEnd$Player") ∈ lw_all := lw_g (lw_at lw_m3 90 rfl) rfl
theorem q773 : (Jvm.Cond.selects "BeforeTheEnd$ToldPlayer" ({ cls := "BeforeTheEnd$Player", name := "kind", desc := "()I" } : Jvm.MethodName) ({ cls := "BeforeTheEnd$ToldPlayer", name := "kind", desc := "()I" } : Jvm.MethodName)) ∈ lw_all := lw_g (lw_at lw_m3 190 rfl) rfl
theorem q774 : (Jvm.Cond.instanceMethod ({ cls := "BeforeTheEnd$ToldPlayer", name := "kind", desc := "()I" } : Jvm.MethodName)) ∈ lw_all := lw_g (lw_at lw_m3 191 rfl) rfl
theorem q775 : (Jvm.Cond.code ({ cls := "BeforeTheEnd$ToldPlayer", name := "kind", desc := "()I" } : Jvm.MethodName) prog_14_method_2_code (1 : Nat) (Option.some Jvm.ClassFile.FieldType.int)) ∈ lw_all := lw_g (lw_at lw_m3 192 rfl) rfl
theorem q780 : (Jvm.Cond.instanceMethod ({ cls := "BeforeTheEnd$ToldPlayer", name := "set", desc := "()I" } : Jvm.MethodName)) ∈ lw_all := lw_g (lw_at lw_m3 197 rfl) rfl
theorem q781 : (Jvm.Cond.code ({ cls := "BeforeTheEnd$ToldPlayer", name := "set", desc := "()I" } : Jvm.MethodName) prog_14_method_3_code (1 : Nat) (Option.some Jvm.ClassFile.FieldType.int)) ∈ lw_all := lw_g (lw_at lw_m3 198 rfl) rfl
theorem q786 : (Jvm.Cond.selects "BeforeTheEnd$ToldPlayer" ({ cls := "BeforeTheEnd$Player", name := "set", desc := "()I" } : Jvm.MethodName) ({ cls := "BeforeTheEnd$ToldPlayer", name := "set", desc := "()I" } : Jvm.MethodName)) ∈ lw_all := lw_g (lw_at lw_m3 203 rfl) rfl
theorem q853 : (Jvm.Cond.instanceMethod ({ cls := "BeforeTheEnd$ToldPlayer", name := "wants", desc := "(LBeforeTheEnd;IIZ)Z" } : Jvm.MethodName)) ∈ lw_all := lw_g (lw_at lw_m4 30 rfl) rfl
theorem q854 : (Jvm.Cond.code ({ cls := "BeforeTheEnd$ToldPlayer", name := "wants", desc := "(LBeforeTheEnd;IIZ)Z" } : Jvm.MethodName) prog_14_method_5_code (5 : Nat) (Option.some Jvm.ClassFile.FieldType.boolean)) ∈ lw_all := lw_g (lw_at lw_m4 31 rfl) rfl
theorem q855 : (Jvm.Cond.methodLink "BeforeTheEnd$ToldPlayer" (13 : Nat) ({ cls := "BeforeTheEnd$ToldPlayer", name := "words", desc := "(LBeforeTheEnd;)I" } : Jvm.MethodName)) ∈ lw_all := lw_g (lw_at lw_m4 32 rfl) rfl
theorem q856 : (Jvm.Cond.instanceMethod ({ cls := "BeforeTheEnd$ToldPlayer", name := "words", desc := "(LBeforeTheEnd;)I" } : Jvm.MethodName)) ∈ lw_all := lw_g (lw_at lw_m4 33 rfl) rfl
theorem q857 : (Jvm.Cond.selects "BeforeTheEnd$ToldPlayer" ({ cls := "BeforeTheEnd$ToldPlayer", name := "words", desc := "(LBeforeTheEnd;)I" } : Jvm.MethodName) ({ cls := "BeforeTheEnd$ToldPlayer", name := "words", desc := "(LBeforeTheEnd;)I" } : Jvm.MethodName)) ∈ lw_all := lw_g (lw_at lw_m4 34 rfl) rfl
theorem q858 : (Jvm.Cond.sameMethod "BeforeTheEnd$ToldPlayer" "BeforeTheEnd$ToldPlayer" "words" "(LBeforeTheEnd;)I") ∈ lw_all := lw_g (lw_at lw_m4 35 rfl) rfl
theorem q876 : (Jvm.Cond.code ({ cls := "BeforeTheEnd$ToldPlayer", name := "words", desc := "(LBeforeTheEnd;)I" } : Jvm.MethodName) prog_14_method_4_code (2 : Nat) (Option.some Jvm.ClassFile.FieldType.int)) ∈ lw_all := lw_g (lw_at lw_m4 53 rfl) rfl
theorem q911 : (Jvm.Cond.selects "BeforeTheEnd$ToldPlayer" ({ cls := "BeforeTheEnd$Player", name := "wants", desc := "(LBeforeTheEnd;IIZ)Z" } : Jvm.MethodName) ({ cls := "BeforeTheEnd$ToldPlayer", name := "wants", desc := "(LBeforeTheEnd;IIZ)Z" } : Jvm.MethodName)) ∈ lw_all := lw_g (lw_at lw_m4 88 rfl) rfl
theorem q1049 : (Jvm.Cond.selects "BeforeTheEnd$ToldPlayer" ({ cls := "BeforeTheEnd$Player", name := "copied", desc := "()LBeforeTheEnd$Player;" } : Jvm.MethodName) ({ cls := "BeforeTheEnd$ToldPlayer", name := "copied", desc := "()LBeforeTheEnd$Player;" } : Jvm.MethodName)) ∈ lw_all := lw_g (lw_at lw_m4 226 rfl) rfl
theorem q1050 : (Jvm.Cond.instanceMethod ({ cls := "BeforeTheEnd$ToldPlayer", name := "copied", desc := "()LBeforeTheEnd$Player;" } : Jvm.MethodName)) ∈ lw_all := lw_g (lw_at lw_m4 227 rfl) rfl
theorem q1051 : (Jvm.Cond.code ({ cls := "BeforeTheEnd$ToldPlayer", name := "copied", desc := "()LBeforeTheEnd$Player;" } : Jvm.MethodName) prog_14_method_6_code (2 : Nat) (Option.some (Jvm.ClassFile.FieldType.object "BeforeTheEnd$Player"))) ∈ lw_all := lw_g (lw_at lw_m4 228 rfl) rfl
theorem q1052 : (Jvm.Cond.classLink "BeforeTheEnd$ToldPlayer" (8 : Nat) "BeforeTheEnd$ToldPlayer") ∈ lw_all := lw_g (lw_at lw_m4 229 rfl) rfl
theorem q1053 : (Jvm.Cond.methodLink "BeforeTheEnd$ToldPlayer" (26 : Nat) ({ cls := "BeforeTheEnd$ToldPlayer", name := "<init>", desc := "(III)V" } : Jvm.MethodName)) ∈ lw_all := lw_g (lw_at lw_m4 230 rfl) rfl
theorem q1734 : (Jvm.Cond.castable "BeforeTheEnd$ToldPlayer" "BeforeTheEnd$Player") ∈ lw_tbl := lw_at lw_m7 191 rfl
theorem in_X15 : ∀ w ∈ wsX150, w ∈ lw_all := lw_in wsX150 [670, 671, 672, 668] (by decide +kernel) (by decide +kernel)
/-! BeforeTheEnd$Alone -/
set_option maxRecDepth 100000
def RX16 : String := "BeforeTheEnd$Alone"
def TX16 : u_T := fun k => match k with
  | 0 => ("BeforeTheEnd$Player", "hand", "I", true)
  | 1 => ("BeforeTheEnd$Player", "sure", "I", true)
  | 2 => ("BeforeTheEnd$Player", "knows", "I", true)
  | 3 => ("BeforeTheEnd$ToldPlayer", "set", "I", false)
  | 4 => ("BeforeTheEnd$Alone", "known", "I", false)
  | _ => ("BeforeTheEnd$Alone", "knownAt", "I", false)
def tyX16 : Nat → FieldType := fun k => match k with
  | 0 => .int
  | 1 => .int
  | 2 => .int
  | 3 => .int
  | 4 => .int
  | _ => .int
abbrev wsX160 : List Cond := u_ws RX16 TX16 6
theorem nmX16 : ∀ a, a < 6 → ∀ b, b < 6 → a ≠ b → (TX16 a).2.1 ≠ (TX16 b).2.1 := by decide +kernel
theorem tyX16_ok : ∀ k, k < 6 → parseFieldDescriptor (TX16 k).2.2.1 = some (tyX16 k) := by decide +kernel
abbrev cX16_init : ByteArray := prog_2_method_1_code
def yX16_init : MethodName := ⟨RX16, "<init>", "(III)V"⟩
def dkwX16_init_0 : List UInt8 := [42, 27, 28, 29, 183, 0, 3, 42, 16, 247, 181, 0, 9, 177]
abbrev dktX16_init_0 : List UInt8 := dkwX16_init_0 ++ []
theorem dksX16_init_0 : cX16_init.data.toList.drop 0 = dktX16_init_0 := by decide +kernel
theorem dX16_init_0 : decode cX16_init 0 = .ok (.aload_n 0, 1) := dk_42 (dk_at dksX16_init_0 0 rfl rfl)
theorem dX16_init_1 : decode cX16_init 1 = .ok (.iload_n 1, 1) := dk_27 (dk_at dksX16_init_0 1 rfl rfl)
theorem dX16_init_2 : decode cX16_init 2 = .ok (.iload_n 2, 1) := dk_28 (dk_at dksX16_init_0 2 rfl rfl)
theorem dX16_init_3 : decode cX16_init 3 = .ok (.iload_n 3, 1) := dk_29 (dk_at dksX16_init_0 3 rfl rfl)
theorem dX16_init_4 : decode cX16_init 4 = .ok (.invokespecial 3, 3) := dk_183 0 3 (dk_at dksX16_init_0 4 rfl rfl)
theorem dX16_init_7 : decode cX16_init 7 = .ok (.aload_n 0, 1) := dk_42 (dk_at dksX16_init_0 7 rfl rfl)
theorem dX16_init_8 : decode cX16_init 8 = .ok (.bipush (-9), 2) := dk_16 247 (dk_at dksX16_init_0 8 rfl rfl)
theorem dX16_init_10 : decode cX16_init 10 = .ok (.putfield 9, 3) := dk_181 0 9 (dk_at dksX16_init_0 10 rfl rfl)
theorem dX16_init_13 : decode cX16_init 13 = .ok (.return_, 1) := dk_177 (dk_at dksX16_init_0 13 rfl rfl)
abbrev cX16_kind : ByteArray := prog_2_method_2_code
def yX16_kind : MethodName := ⟨RX16, "kind", "()I"⟩
theorem dX16_kind_0 : decode cX16_kind 0 = .ok (.iconst 5, 1) := by decide +kernel
theorem dX16_kind_1 : decode cX16_kind 1 = .ok (.ireturn, 1) := by decide +kernel
abbrev cX16_words : ByteArray := prog_2_method_3_code
def yX16_words : MethodName := ⟨RX16, "words", "(LBeforeTheEnd;)I"⟩
def dkwX16_words_1 : List UInt8 := [181, 0, 18, 42, 43, 180, 0, 15, 181, 0, 9, 42, 180, 0, 18, 172]
abbrev dktX16_words_1 : List UInt8 := dkwX16_words_1 ++ []
def dkwX16_words_0 : List UInt8 := [42, 42, 180, 0, 9, 43, 180, 0, 15, 160, 0, 10, 42, 180, 0, 18, 167, 0, 8, 43, 42, 182, 0, 21]
abbrev dktX16_words_0 : List UInt8 := dkwX16_words_0 ++ dktX16_words_1
theorem dksX16_words_0 : cX16_words.data.toList.drop 0 = dktX16_words_0 := by decide +kernel
theorem dksX16_words_1 : cX16_words.data.toList.drop 24 = dktX16_words_1 := dk_seg dksX16_words_0 24 rfl rfl
theorem dX16_words_0 : decode cX16_words 0 = .ok (.aload_n 0, 1) := dk_42 (dk_at dksX16_words_0 0 rfl rfl)
theorem dX16_words_1 : decode cX16_words 1 = .ok (.aload_n 0, 1) := dk_42 (dk_at dksX16_words_0 1 rfl rfl)
theorem dX16_words_2 : decode cX16_words 2 = .ok (.getfield 9, 3) := dk_180 0 9 (dk_at dksX16_words_0 2 rfl rfl)
theorem dX16_words_5 : decode cX16_words 5 = .ok (.aload_n 1, 1) := dk_43 (dk_at dksX16_words_0 5 rfl rfl)
theorem dX16_words_6 : decode cX16_words 6 = .ok (.getfield 15, 3) := dk_180 0 15 (dk_at dksX16_words_0 6 rfl rfl)
theorem dX16_words_9 : decode cX16_words 9 = .ok (.if_icmp .ne 10, 3) := dk_160 0 10 (dk_at dksX16_words_0 9 rfl rfl)
theorem dX16_words_12 : decode cX16_words 12 = .ok (.aload_n 0, 1) := dk_42 (dk_at dksX16_words_0 12 rfl rfl)
theorem dX16_words_13 : decode cX16_words 13 = .ok (.getfield 18, 3) := dk_180 0 18 (dk_at dksX16_words_0 13 rfl rfl)
theorem dX16_words_16 : decode cX16_words 16 = .ok (.goto 8, 3) := dk_167 0 8 (dk_at dksX16_words_0 16 rfl rfl)
theorem dX16_words_19 : decode cX16_words 19 = .ok (.aload_n 1, 1) := dk_43 (dk_at dksX16_words_0 19 rfl rfl)
theorem dX16_words_20 : decode cX16_words 20 = .ok (.aload_n 0, 1) := dk_42 (dk_at dksX16_words_0 20 rfl rfl)
theorem dX16_words_21 : decode cX16_words 21 = .ok (.invokevirtual 21, 3) := dk_182 0 21 (dk_at dksX16_words_0 21 rfl rfl)
theorem dX16_words_24 : decode cX16_words 24 = .ok (.putfield 18, 3) := dk_181 0 18 (dk_at dksX16_words_1 0 rfl rfl)
theorem dX16_words_27 : decode cX16_words 27 = .ok (.aload_n 0, 1) := dk_42 (dk_at dksX16_words_1 3 rfl rfl)
theorem dX16_words_28 : decode cX16_words 28 = .ok (.aload_n 1, 1) := dk_43 (dk_at dksX16_words_1 4 rfl rfl)
theorem dX16_words_29 : decode cX16_words 29 = .ok (.getfield 15, 3) := dk_180 0 15 (dk_at dksX16_words_1 5 rfl rfl)
theorem dX16_words_32 : decode cX16_words 32 = .ok (.putfield 9, 3) := dk_181 0 9 (dk_at dksX16_words_1 8 rfl rfl)
theorem dX16_words_35 : decode cX16_words 35 = .ok (.aload_n 0, 1) := dk_42 (dk_at dksX16_words_1 11 rfl rfl)
theorem dX16_words_36 : decode cX16_words 36 = .ok (.getfield 18, 3) := dk_180 0 18 (dk_at dksX16_words_1 12 rfl rfl)
theorem dX16_words_39 : decode cX16_words 39 = .ok (.ireturn, 1) := dk_172 (dk_at dksX16_words_1 15 rfl rfl)
abbrev cX16_copied : ByteArray := prog_2_method_4_code
def yX16_copied : MethodName := ⟨RX16, "copied", "()LBeforeTheEnd$Player;"⟩
def dkwX16_copied_0 : List UInt8 := [187, 0, 10, 89, 42, 180, 0, 25, 42, 180, 0, 28, 42, 180, 0, 31, 183, 0, 34, 176]
abbrev dktX16_copied_0 : List UInt8 := dkwX16_copied_0 ++ []
theorem dksX16_copied_0 : cX16_copied.data.toList.drop 0 = dktX16_copied_0 := by decide +kernel
theorem dX16_copied_0 : decode cX16_copied 0 = .ok (.new 10, 3) := dk_187 0 10 (dk_at dksX16_copied_0 0 rfl rfl)
theorem dX16_copied_3 : decode cX16_copied 3 = .ok (.dup, 1) := dk_89 (dk_at dksX16_copied_0 3 rfl rfl)
theorem dX16_copied_4 : decode cX16_copied 4 = .ok (.aload_n 0, 1) := dk_42 (dk_at dksX16_copied_0 4 rfl rfl)
theorem dX16_copied_5 : decode cX16_copied 5 = .ok (.getfield 25, 3) := dk_180 0 25 (dk_at dksX16_copied_0 5 rfl rfl)
theorem dX16_copied_8 : decode cX16_copied 8 = .ok (.aload_n 0, 1) := dk_42 (dk_at dksX16_copied_0 8 rfl rfl)
theorem dX16_copied_9 : decode cX16_copied 9 = .ok (.getfield 28, 3) := dk_180 0 28 (dk_at dksX16_copied_0 9 rfl rfl)
theorem dX16_copied_12 : decode cX16_copied 12 = .ok (.aload_n 0, 1) := dk_42 (dk_at dksX16_copied_0 12 rfl rfl)
theorem dX16_copied_13 : decode cX16_copied 13 = .ok (.getfield 31, 3) := dk_180 0 31 (dk_at dksX16_copied_0 13 rfl rfl)
theorem dX16_copied_16 : decode cX16_copied 16 = .ok (.invokespecial 34, 3) := dk_183 0 34 (dk_at dksX16_copied_0 16 rfl rfl)
theorem dX16_copied_19 : decode cX16_copied 19 = .ok (.areturn, 1) := dk_176 (dk_at dksX16_copied_0 19 rfl rfl)
theorem q129 : (Jvm.Cond.initialized "BeforeTheEnd$Alone") ∈ lw_all := lw_g (lw_at lw_m1 26 rfl) rfl
theorem q184 : (Jvm.Cond.fieldLinkNest "BeforeTheEnd$Alone" (15 : Nat) "BeforeTheEnd" "version" "I" "BeforeTheEnd") ∈ lw_tbl := lw_at lw_m1 81 rfl
theorem q603 : (Jvm.Cond.fieldLink "BeforeTheEnd$Alone" (25 : Nat) "BeforeTheEnd$Alone" "hand" "I") ∈ lw_all := lw_g (lw_at lw_m3 20 rfl) rfl
theorem q604 : (Jvm.Cond.sameField "BeforeTheEnd$Alone" "BeforeTheEnd$Player" "hand" "I") ∈ lw_all := lw_g (lw_at lw_m3 21 rfl) rfl
theorem q612 : (Jvm.Cond.fieldLink "BeforeTheEnd$Alone" (28 : Nat) "BeforeTheEnd$Alone" "sure" "I") ∈ lw_all := lw_g (lw_at lw_m3 29 rfl) rfl
theorem q613 : (Jvm.Cond.sameField "BeforeTheEnd$Alone" "BeforeTheEnd$Player" "sure" "I") ∈ lw_all := lw_g (lw_at lw_m3 30 rfl) rfl
theorem q618 : (Jvm.Cond.fieldLink "BeforeTheEnd$Alone" (31 : Nat) "BeforeTheEnd$Alone" "knows" "I") ∈ lw_all := lw_g (lw_at lw_m3 35 rfl) rfl
theorem q619 : (Jvm.Cond.sameField "BeforeTheEnd$Alone" "BeforeTheEnd$Player" "knows" "I") ∈ lw_all := lw_g (lw_at lw_m3 36 rfl) rfl
theorem q675 : (Jvm.Cond.instantiable "BeforeTheEnd$Alone" (6 : Nat)) ∈ lw_all := lw_g (lw_at lw_m3 92 rfl) rfl
theorem q677 : (Jvm.Cond.instanceMethod ({ cls := "BeforeTheEnd$Alone", name := "<init>", desc := "(III)V" } : Jvm.MethodName)) ∈ lw_all := lw_g (lw_at lw_m3 94 rfl) rfl
theorem q678 : (Jvm.Cond.code ({ cls := "BeforeTheEnd$Alone", name := "<init>", desc := "(III)V" } : Jvm.MethodName) prog_2_method_1_code (4 : Nat) (Option.none : Option Jvm.ClassFile.FieldType)) ∈ lw_all := lw_g (lw_at lw_m3 95 rfl) rfl
theorem q679 : (Jvm.Cond.methodLink "BeforeTheEnd$Alone" (3 : Nat) ({ cls := "BeforeTheEnd$ToldPlayer", name := "<init>", desc := "(III)V" } : Jvm.MethodName)) ∈ lw_all := lw_g (lw_at lw_m3 96 rfl) rfl
theorem q680 : (Jvm.Cond.fieldLink "BeforeTheEnd$Alone" (18 : Nat) "BeforeTheEnd$Alone" "known" "I") ∈ lw_all := lw_g (lw_at lw_m3 97 rfl) rfl
theorem q681 : (Jvm.Cond.fieldLink "BeforeTheEnd$Alone" (9 : Nat) "BeforeTheEnd$Alone" "knownAt" "I") ∈ lw_all := lw_g (lw_at lw_m3 98 rfl) rfl
theorem q682 : (Jvm.Cond.lays "BeforeTheEnd$Alone" "BeforeTheEnd$Alone" "known" "I") ∈ lw_all := lw_g (lw_at lw_m3 99 rfl) rfl
theorem q683 : (Jvm.Cond.soleField "BeforeTheEnd$Alone" "known") ∈ lw_all := lw_g (lw_at lw_m3 100 rfl) rfl
theorem q684 : (Jvm.Cond.lays "BeforeTheEnd$Alone" "BeforeTheEnd$Alone" "knownAt" "I") ∈ lw_all := lw_g (lw_at lw_m3 101 rfl) rfl
theorem q685 : (Jvm.Cond.soleField "BeforeTheEnd$Alone" "knownAt") ∈ lw_all := lw_g (lw_at lw_m3 102 rfl) rfl
theorem q686 : (Jvm.Cond.lays "BeforeTheEnd$Alone" "BeforeTheEnd$ToldPlayer" "set" "I") ∈ lw_all := lw_g (lw_at lw_m3 103 rfl) rfl
theorem q687 : (Jvm.Cond.laysFinal "BeforeTheEnd$Alone" "BeforeTheEnd$Player" "hand" "I") ∈ lw_all := lw_g (lw_at lw_m3 104 rfl) rfl
theorem q688 : (Jvm.Cond.laysFinal "BeforeTheEnd$Alone" "BeforeTheEnd$Player" "sure" "I") ∈ lw_all := lw_g (lw_at lw_m3 105 rfl) rfl
theorem q689 : (Jvm.Cond.laysFinal "BeforeTheEnd$Alone" "BeforeTheEnd$Player" "knows" "I") ∈ lw_all := lw_g (lw_at lw_m3 106 rfl) rfl
theorem q690 : (Jvm.Cond.superclass "BeforeTheEnd$Alone" "BeforeTheEnd$ToldPlayer") ∈ lw_all := lw_g (lw_at lw_m3 107 rfl) rfl
theorem q758 : (Jvm.Cond.selects "BeforeTheEnd$Alone" ({ cls := "BeforeTheEnd$Player", name := "kind", desc := "()I" } : Jvm.MethodName) ({ cls := "BeforeTheEnd$Alone", name := "kind", desc := "()I" } : Jvm.MethodName)) ∈ lw_all := lw_g (lw_at lw_m3 175 rfl) rfl
theorem q759 : (Jvm.Cond.instanceMethod ({ cls := "BeforeTheEnd$Alone", name := "kind", desc := "()I" } : Jvm.MethodName)) ∈ lw_all := lw_g (lw_at lw_m3 176 rfl) rfl
theorem q760 : (Jvm.Cond.code ({ cls := "BeforeTheEnd$Alone", name := "kind", desc := "()I" } : Jvm.MethodName) prog_2_method_2_code (1 : Nat) (Option.some Jvm.ClassFile.FieldType.int)) ∈ lw_all := lw_g (lw_at lw_m3 177 rfl) rfl
theorem q779 : (Jvm.Cond.selects "BeforeTheEnd$Alone" ({ cls := "BeforeTheEnd$Player", name := "set", desc := "()I" } : Jvm.MethodName) ({ cls := "BeforeTheEnd$ToldPlayer", name := "set", desc := "()I" } : Jvm.MethodName)) ∈ lw_all := lw_g (lw_at lw_m3 196 rfl) rfl
theorem q852 : (Jvm.Cond.selects "BeforeTheEnd$Alone" ({ cls := "BeforeTheEnd$Player", name := "wants", desc := "(LBeforeTheEnd;IIZ)Z" } : Jvm.MethodName) ({ cls := "BeforeTheEnd$ToldPlayer", name := "wants", desc := "(LBeforeTheEnd;IIZ)Z" } : Jvm.MethodName)) ∈ lw_all := lw_g (lw_at lw_m4 29 rfl) rfl
theorem q859 : (Jvm.Cond.selects "BeforeTheEnd$Alone" ({ cls := "BeforeTheEnd$ToldPlayer", name := "words", desc := "(LBeforeTheEnd;)I" } : Jvm.MethodName) ({ cls := "BeforeTheEnd$Alone", name := "words", desc := "(LBeforeTheEnd;)I" } : Jvm.MethodName)) ∈ lw_all := lw_g (lw_at lw_m4 36 rfl) rfl
theorem q860 : (Jvm.Cond.instanceMethod ({ cls := "BeforeTheEnd$Alone", name := "words", desc := "(LBeforeTheEnd;)I" } : Jvm.MethodName)) ∈ lw_all := lw_g (lw_at lw_m4 37 rfl) rfl
theorem q861 : (Jvm.Cond.code ({ cls := "BeforeTheEnd$Alone", name := "words", desc := "(LBeforeTheEnd;)I" } : Jvm.MethodName) prog_2_method_3_code (2 : Nat) (Option.some Jvm.ClassFile.FieldType.int)) ∈ lw_all := lw_g (lw_at lw_m4 38 rfl) rfl
theorem q862 : (Jvm.Cond.methodLinkNest "BeforeTheEnd$Alone" (21 : Nat) ({ cls := "BeforeTheEnd", name := "findValues", desc := "(LBeforeTheEnd$Player;)I" } : Jvm.MethodName) "BeforeTheEnd") ∈ lw_tbl := lw_at lw_m4 39 rfl
theorem q1040 : (Jvm.Cond.selects "BeforeTheEnd$Alone" ({ cls := "BeforeTheEnd$Player", name := "copied", desc := "()LBeforeTheEnd$Player;" } : Jvm.MethodName) ({ cls := "BeforeTheEnd$Alone", name := "copied", desc := "()LBeforeTheEnd$Player;" } : Jvm.MethodName)) ∈ lw_all := lw_g (lw_at lw_m4 217 rfl) rfl
theorem q1041 : (Jvm.Cond.instanceMethod ({ cls := "BeforeTheEnd$Alone", name := "copied", desc := "()LBeforeTheEnd$Player;" } : Jvm.MethodName)) ∈ lw_all := lw_g (lw_at lw_m4 218 rfl) rfl
theorem q1042 : (Jvm.Cond.code ({ cls := "BeforeTheEnd$Alone", name := "copied", desc := "()LBeforeTheEnd$Player;" } : Jvm.MethodName) prog_2_method_4_code (1 : Nat) (Option.some (Jvm.ClassFile.FieldType.object "BeforeTheEnd$Player"))) ∈ lw_all := lw_g (lw_at lw_m4 219 rfl) rfl
theorem q1043 : (Jvm.Cond.classLink "BeforeTheEnd$Alone" (10 : Nat) "BeforeTheEnd$Alone") ∈ lw_all := lw_g (lw_at lw_m4 220 rfl) rfl
theorem q1044 : (Jvm.Cond.methodLink "BeforeTheEnd$Alone" (34 : Nat) ({ cls := "BeforeTheEnd$Alone", name := "<init>", desc := "(III)V" } : Jvm.MethodName)) ∈ lw_all := lw_g (lw_at lw_m4 221 rfl) rfl
theorem q1727 : (Jvm.Cond.castable "BeforeTheEnd$Alone" "BeforeTheEnd$ToldPlayer") ∈ lw_tbl := lw_at lw_m7 184 rfl
theorem q1735 : (Jvm.Cond.castable "BeforeTheEnd$Alone" "BeforeTheEnd$Player") ∈ lw_tbl := lw_at lw_m7 192 rfl
theorem in_X16 : ∀ w ∈ wsX160, w ∈ lw_all := lw_in wsX160 [687, 688, 689, 686, 682, 684] (by decide +kernel) (by decide +kernel)
