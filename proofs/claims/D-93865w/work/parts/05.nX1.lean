/-! BeforeTheEnd$Tree -/
set_option maxRecDepth 100000
def RX1 : String := "BeforeTheEnd$Tree"
def TX1 : u_T := fun k => match k with
  | 0 => ("BeforeTheEnd$Tree", "many", "I", false)
  | 1 => ("BeforeTheEnd$Tree", "parents", "[I", true)
  | 2 => ("BeforeTheEnd$Tree", "weights", "[I", true)
  | 3 => ("BeforeTheEnd$Tree", "answers", "[I", true)
  | 4 => ("BeforeTheEnd$Tree", "lengths", "[I", true)
  | 5 => ("BeforeTheEnd$Tree", "nexts", "[I", true)
  | 6 => ("BeforeTheEnd$Tree", "units", "[J", true)
  | 7 => ("BeforeTheEnd$Tree", "behind", "[J", true)
  | _ => ("BeforeTheEnd$Tree", "areUnits", "Z", false)
def tyX1 : Nat → FieldType := fun k => match k with
  | 0 => .int
  | 1 => .array .int
  | 2 => .array .int
  | 3 => .array .int
  | 4 => .array .int
  | 5 => .array .int
  | 6 => .array .long
  | 7 => .array .long
  | _ => .boolean
abbrev wsX10 : List Cond := u_ws RX1 TX1 9
theorem nmX1 : ∀ a, a < 9 → ∀ b, b < 9 → a ≠ b → (TX1 a).2.1 ≠ (TX1 b).2.1 := by decide +kernel
theorem tyX1_ok : ∀ k, k < 9 → parseFieldDescriptor (TX1 k).2.2.1 = some (tyX1 k) := by decide +kernel
abbrev cX1_init : ByteArray := prog_15_method_1_code
def yX1_init : MethodName := ⟨RX1, "<init>", "()V"⟩
def dkwX1_init_2 : List UInt8 := [181, 0, 28, 42, 16, 24, 188, 11, 181, 0, 31, 42, 17, 0, 240, 188, 11, 181, 0, 35, 177]
abbrev dktX1_init_2 : List UInt8 := dkwX1_init_2 ++ []
def dkwX1_init_1 : List UInt8 := [181, 0, 19, 42, 16, 24, 188, 10, 181, 0, 22, 42, 16, 24, 188, 10, 181, 0, 25, 42, 16, 24, 188, 10]
abbrev dktX1_init_1 : List UInt8 := dkwX1_init_1 ++ dktX1_init_2
def dkwX1_init_0 : List UInt8 := [42, 183, 0, 3, 42, 4, 181, 0, 9, 42, 16, 24, 188, 10, 181, 0, 15, 42, 16, 24, 188, 10]
abbrev dktX1_init_0 : List UInt8 := dkwX1_init_0 ++ dktX1_init_1
theorem dksX1_init_0 : cX1_init.data.toList.drop 0 = dktX1_init_0 := by decide +kernel
theorem dksX1_init_1 : cX1_init.data.toList.drop 22 = dktX1_init_1 := dk_seg dksX1_init_0 22 rfl rfl
theorem dksX1_init_2 : cX1_init.data.toList.drop 46 = dktX1_init_2 := dk_seg dksX1_init_1 24 rfl rfl
theorem dX1_init_0 : decode cX1_init 0 = .ok (.aload_n 0, 1) := dk_42 (dk_at dksX1_init_0 0 rfl rfl)
theorem dX1_init_1 : decode cX1_init 1 = .ok (.invokespecial 3, 3) := dk_183 0 3 (dk_at dksX1_init_0 1 rfl rfl)
theorem dX1_init_4 : decode cX1_init 4 = .ok (.aload_n 0, 1) := dk_42 (dk_at dksX1_init_0 4 rfl rfl)
theorem dX1_init_5 : decode cX1_init 5 = .ok (.iconst 1, 1) := dk_4 (dk_at dksX1_init_0 5 rfl rfl)
theorem dX1_init_6 : decode cX1_init 6 = .ok (.putfield 9, 3) := dk_181 0 9 (dk_at dksX1_init_0 6 rfl rfl)
theorem dX1_init_9 : decode cX1_init 9 = .ok (.aload_n 0, 1) := dk_42 (dk_at dksX1_init_0 9 rfl rfl)
theorem dX1_init_10 : decode cX1_init 10 = .ok (.bipush 24, 2) := dk_16 24 (dk_at dksX1_init_0 10 rfl rfl)
theorem dX1_init_12 : decode cX1_init 12 = .ok (.newarray .int, 2) := dk_188_10 (dk_at dksX1_init_0 12 rfl rfl)
theorem dX1_init_14 : decode cX1_init 14 = .ok (.putfield 15, 3) := dk_181 0 15 (dk_at dksX1_init_0 14 rfl rfl)
theorem dX1_init_17 : decode cX1_init 17 = .ok (.aload_n 0, 1) := dk_42 (dk_at dksX1_init_0 17 rfl rfl)
theorem dX1_init_18 : decode cX1_init 18 = .ok (.bipush 24, 2) := dk_16 24 (dk_at dksX1_init_0 18 rfl rfl)
theorem dX1_init_20 : decode cX1_init 20 = .ok (.newarray .int, 2) := dk_188_10 (dk_at dksX1_init_0 20 rfl rfl)
theorem dX1_init_22 : decode cX1_init 22 = .ok (.putfield 19, 3) := dk_181 0 19 (dk_at dksX1_init_1 0 rfl rfl)
theorem dX1_init_25 : decode cX1_init 25 = .ok (.aload_n 0, 1) := dk_42 (dk_at dksX1_init_1 3 rfl rfl)
theorem dX1_init_26 : decode cX1_init 26 = .ok (.bipush 24, 2) := dk_16 24 (dk_at dksX1_init_1 4 rfl rfl)
theorem dX1_init_28 : decode cX1_init 28 = .ok (.newarray .int, 2) := dk_188_10 (dk_at dksX1_init_1 6 rfl rfl)
theorem dX1_init_30 : decode cX1_init 30 = .ok (.putfield 22, 3) := dk_181 0 22 (dk_at dksX1_init_1 8 rfl rfl)
theorem dX1_init_33 : decode cX1_init 33 = .ok (.aload_n 0, 1) := dk_42 (dk_at dksX1_init_1 11 rfl rfl)
theorem dX1_init_34 : decode cX1_init 34 = .ok (.bipush 24, 2) := dk_16 24 (dk_at dksX1_init_1 12 rfl rfl)
theorem dX1_init_36 : decode cX1_init 36 = .ok (.newarray .int, 2) := dk_188_10 (dk_at dksX1_init_1 14 rfl rfl)
theorem dX1_init_38 : decode cX1_init 38 = .ok (.putfield 25, 3) := dk_181 0 25 (dk_at dksX1_init_1 16 rfl rfl)
theorem dX1_init_41 : decode cX1_init 41 = .ok (.aload_n 0, 1) := dk_42 (dk_at dksX1_init_1 19 rfl rfl)
theorem dX1_init_42 : decode cX1_init 42 = .ok (.bipush 24, 2) := dk_16 24 (dk_at dksX1_init_1 20 rfl rfl)
theorem dX1_init_44 : decode cX1_init 44 = .ok (.newarray .int, 2) := dk_188_10 (dk_at dksX1_init_1 22 rfl rfl)
theorem dX1_init_46 : decode cX1_init 46 = .ok (.putfield 28, 3) := dk_181 0 28 (dk_at dksX1_init_2 0 rfl rfl)
theorem dX1_init_49 : decode cX1_init 49 = .ok (.aload_n 0, 1) := dk_42 (dk_at dksX1_init_2 3 rfl rfl)
theorem dX1_init_50 : decode cX1_init 50 = .ok (.bipush 24, 2) := dk_16 24 (dk_at dksX1_init_2 4 rfl rfl)
theorem dX1_init_52 : decode cX1_init 52 = .ok (.newarray .long, 2) := dk_188_11 (dk_at dksX1_init_2 6 rfl rfl)
theorem dX1_init_54 : decode cX1_init 54 = .ok (.putfield 31, 3) := dk_181 0 31 (dk_at dksX1_init_2 8 rfl rfl)
theorem dX1_init_57 : decode cX1_init 57 = .ok (.aload_n 0, 1) := dk_42 (dk_at dksX1_init_2 11 rfl rfl)
theorem dX1_init_58 : decode cX1_init 58 = .ok (.sipush 240, 3) := dk_17 0 240 (dk_at dksX1_init_2 12 rfl rfl)
theorem dX1_init_61 : decode cX1_init 61 = .ok (.newarray .long, 2) := dk_188_11 (dk_at dksX1_init_2 15 rfl rfl)
theorem dX1_init_63 : decode cX1_init 63 = .ok (.putfield 35, 3) := dk_181 0 35 (dk_at dksX1_init_2 17 rfl rfl)
theorem dX1_init_66 : decode cX1_init 66 = .ok (.return_, 1) := dk_177 (dk_at dksX1_init_2 20 rfl rfl)
abbrev cX1_copied : ByteArray := prog_15_method_2_code
def yX1_copied : MethodName := ⟨RX1, "copied", "()LBeforeTheEnd$Tree;"⟩
def dkwX1_copied_3 : List UInt8 := [3, 16, 24, 184, 0, 39, 42, 180, 0, 28, 3, 43, 180, 0, 28, 3, 16, 24, 184, 0, 39, 43, 176]
abbrev dktX1_copied_3 : List UInt8 := dkwX1_copied_3 ++ []
def dkwX1_copied_2 : List UInt8 := [42, 180, 0, 22, 3, 43, 180, 0, 22, 3, 16, 24, 184, 0, 39, 42, 180, 0, 25, 3, 43, 180, 0, 25]
abbrev dktX1_copied_2 : List UInt8 := dkwX1_copied_2 ++ dktX1_copied_3
def dkwX1_copied_1 : List UInt8 := [180, 0, 15, 3, 16, 24, 184, 0, 39, 42, 180, 0, 19, 3, 43, 180, 0, 19, 3, 16, 24, 184, 0, 39]
abbrev dktX1_copied_1 : List UInt8 := dkwX1_copied_1 ++ dktX1_copied_2
def dkwX1_copied_0 : List UInt8 := [187, 0, 10, 89, 183, 0, 38, 76, 43, 42, 180, 0, 9, 181, 0, 9, 42, 180, 0, 15, 3, 43]
abbrev dktX1_copied_0 : List UInt8 := dkwX1_copied_0 ++ dktX1_copied_1
theorem dksX1_copied_0 : cX1_copied.data.toList.drop 0 = dktX1_copied_0 := by decide +kernel
theorem dksX1_copied_1 : cX1_copied.data.toList.drop 22 = dktX1_copied_1 := dk_seg dksX1_copied_0 22 rfl rfl
theorem dksX1_copied_2 : cX1_copied.data.toList.drop 46 = dktX1_copied_2 := dk_seg dksX1_copied_1 24 rfl rfl
theorem dksX1_copied_3 : cX1_copied.data.toList.drop 70 = dktX1_copied_3 := dk_seg dksX1_copied_2 24 rfl rfl
theorem dX1_copied_0 : decode cX1_copied 0 = .ok (.new 10, 3) := dk_187 0 10 (dk_at dksX1_copied_0 0 rfl rfl)
theorem dX1_copied_3 : decode cX1_copied 3 = .ok (.dup, 1) := dk_89 (dk_at dksX1_copied_0 3 rfl rfl)
theorem dX1_copied_4 : decode cX1_copied 4 = .ok (.invokespecial 38, 3) := dk_183 0 38 (dk_at dksX1_copied_0 4 rfl rfl)
theorem dX1_copied_7 : decode cX1_copied 7 = .ok (.astore_n 1, 1) := dk_76 (dk_at dksX1_copied_0 7 rfl rfl)
theorem dX1_copied_8 : decode cX1_copied 8 = .ok (.aload_n 1, 1) := dk_43 (dk_at dksX1_copied_0 8 rfl rfl)
theorem dX1_copied_9 : decode cX1_copied 9 = .ok (.aload_n 0, 1) := dk_42 (dk_at dksX1_copied_0 9 rfl rfl)
theorem dX1_copied_10 : decode cX1_copied 10 = .ok (.getfield 9, 3) := dk_180 0 9 (dk_at dksX1_copied_0 10 rfl rfl)
theorem dX1_copied_13 : decode cX1_copied 13 = .ok (.putfield 9, 3) := dk_181 0 9 (dk_at dksX1_copied_0 13 rfl rfl)
theorem dX1_copied_16 : decode cX1_copied 16 = .ok (.aload_n 0, 1) := dk_42 (dk_at dksX1_copied_0 16 rfl rfl)
theorem dX1_copied_17 : decode cX1_copied 17 = .ok (.getfield 15, 3) := dk_180 0 15 (dk_at dksX1_copied_0 17 rfl rfl)
theorem dX1_copied_20 : decode cX1_copied 20 = .ok (.iconst 0, 1) := dk_3 (dk_at dksX1_copied_0 20 rfl rfl)
theorem dX1_copied_21 : decode cX1_copied 21 = .ok (.aload_n 1, 1) := dk_43 (dk_at dksX1_copied_0 21 rfl rfl)
theorem dX1_copied_22 : decode cX1_copied 22 = .ok (.getfield 15, 3) := dk_180 0 15 (dk_at dksX1_copied_1 0 rfl rfl)
theorem dX1_copied_25 : decode cX1_copied 25 = .ok (.iconst 0, 1) := dk_3 (dk_at dksX1_copied_1 3 rfl rfl)
theorem dX1_copied_26 : decode cX1_copied 26 = .ok (.bipush 24, 2) := dk_16 24 (dk_at dksX1_copied_1 4 rfl rfl)
theorem dX1_copied_28 : decode cX1_copied 28 = .ok (.invokestatic 39, 3) := dk_184 0 39 (dk_at dksX1_copied_1 6 rfl rfl)
theorem dX1_copied_31 : decode cX1_copied 31 = .ok (.aload_n 0, 1) := dk_42 (dk_at dksX1_copied_1 9 rfl rfl)
theorem dX1_copied_32 : decode cX1_copied 32 = .ok (.getfield 19, 3) := dk_180 0 19 (dk_at dksX1_copied_1 10 rfl rfl)
theorem dX1_copied_35 : decode cX1_copied 35 = .ok (.iconst 0, 1) := dk_3 (dk_at dksX1_copied_1 13 rfl rfl)
theorem dX1_copied_36 : decode cX1_copied 36 = .ok (.aload_n 1, 1) := dk_43 (dk_at dksX1_copied_1 14 rfl rfl)
theorem dX1_copied_37 : decode cX1_copied 37 = .ok (.getfield 19, 3) := dk_180 0 19 (dk_at dksX1_copied_1 15 rfl rfl)
theorem dX1_copied_40 : decode cX1_copied 40 = .ok (.iconst 0, 1) := dk_3 (dk_at dksX1_copied_1 18 rfl rfl)
theorem dX1_copied_41 : decode cX1_copied 41 = .ok (.bipush 24, 2) := dk_16 24 (dk_at dksX1_copied_1 19 rfl rfl)
theorem dX1_copied_43 : decode cX1_copied 43 = .ok (.invokestatic 39, 3) := dk_184 0 39 (dk_at dksX1_copied_1 21 rfl rfl)
theorem dX1_copied_46 : decode cX1_copied 46 = .ok (.aload_n 0, 1) := dk_42 (dk_at dksX1_copied_2 0 rfl rfl)
theorem dX1_copied_47 : decode cX1_copied 47 = .ok (.getfield 22, 3) := dk_180 0 22 (dk_at dksX1_copied_2 1 rfl rfl)
theorem dX1_copied_50 : decode cX1_copied 50 = .ok (.iconst 0, 1) := dk_3 (dk_at dksX1_copied_2 4 rfl rfl)
theorem dX1_copied_51 : decode cX1_copied 51 = .ok (.aload_n 1, 1) := dk_43 (dk_at dksX1_copied_2 5 rfl rfl)
theorem dX1_copied_52 : decode cX1_copied 52 = .ok (.getfield 22, 3) := dk_180 0 22 (dk_at dksX1_copied_2 6 rfl rfl)
theorem dX1_copied_55 : decode cX1_copied 55 = .ok (.iconst 0, 1) := dk_3 (dk_at dksX1_copied_2 9 rfl rfl)
theorem dX1_copied_56 : decode cX1_copied 56 = .ok (.bipush 24, 2) := dk_16 24 (dk_at dksX1_copied_2 10 rfl rfl)
theorem dX1_copied_58 : decode cX1_copied 58 = .ok (.invokestatic 39, 3) := dk_184 0 39 (dk_at dksX1_copied_2 12 rfl rfl)
theorem dX1_copied_61 : decode cX1_copied 61 = .ok (.aload_n 0, 1) := dk_42 (dk_at dksX1_copied_2 15 rfl rfl)
theorem dX1_copied_62 : decode cX1_copied 62 = .ok (.getfield 25, 3) := dk_180 0 25 (dk_at dksX1_copied_2 16 rfl rfl)
theorem dX1_copied_65 : decode cX1_copied 65 = .ok (.iconst 0, 1) := dk_3 (dk_at dksX1_copied_2 19 rfl rfl)
theorem dX1_copied_66 : decode cX1_copied 66 = .ok (.aload_n 1, 1) := dk_43 (dk_at dksX1_copied_2 20 rfl rfl)
theorem dX1_copied_67 : decode cX1_copied 67 = .ok (.getfield 25, 3) := dk_180 0 25 (dk_at dksX1_copied_2 21 rfl rfl)
theorem dX1_copied_70 : decode cX1_copied 70 = .ok (.iconst 0, 1) := dk_3 (dk_at dksX1_copied_3 0 rfl rfl)
theorem dX1_copied_71 : decode cX1_copied 71 = .ok (.bipush 24, 2) := dk_16 24 (dk_at dksX1_copied_3 1 rfl rfl)
theorem dX1_copied_73 : decode cX1_copied 73 = .ok (.invokestatic 39, 3) := dk_184 0 39 (dk_at dksX1_copied_3 3 rfl rfl)
theorem dX1_copied_76 : decode cX1_copied 76 = .ok (.aload_n 0, 1) := dk_42 (dk_at dksX1_copied_3 6 rfl rfl)
theorem dX1_copied_77 : decode cX1_copied 77 = .ok (.getfield 28, 3) := dk_180 0 28 (dk_at dksX1_copied_3 7 rfl rfl)
theorem dX1_copied_80 : decode cX1_copied 80 = .ok (.iconst 0, 1) := dk_3 (dk_at dksX1_copied_3 10 rfl rfl)
theorem dX1_copied_81 : decode cX1_copied 81 = .ok (.aload_n 1, 1) := dk_43 (dk_at dksX1_copied_3 11 rfl rfl)
theorem dX1_copied_82 : decode cX1_copied 82 = .ok (.getfield 28, 3) := dk_180 0 28 (dk_at dksX1_copied_3 12 rfl rfl)
theorem dX1_copied_85 : decode cX1_copied 85 = .ok (.iconst 0, 1) := dk_3 (dk_at dksX1_copied_3 15 rfl rfl)
theorem dX1_copied_86 : decode cX1_copied 86 = .ok (.bipush 24, 2) := dk_16 24 (dk_at dksX1_copied_3 16 rfl rfl)
theorem dX1_copied_88 : decode cX1_copied 88 = .ok (.invokestatic 39, 3) := dk_184 0 39 (dk_at dksX1_copied_3 18 rfl rfl)
theorem dX1_copied_91 : decode cX1_copied 91 = .ok (.aload_n 1, 1) := dk_43 (dk_at dksX1_copied_3 21 rfl rfl)
theorem dX1_copied_92 : decode cX1_copied 92 = .ok (.areturn, 1) := dk_176 (dk_at dksX1_copied_3 22 rfl rfl)
abbrev cX1_isEnd : ByteArray := prog_15_method_3_code
def yX1_isEnd : MethodName := ⟨RX1, "isEnd", "(I)Z"⟩
def dkwX1_isEnd_0 : List UInt8 := [42, 180, 0, 22, 27, 46, 158, 0, 7, 4, 167, 0, 4, 3, 172]
abbrev dktX1_isEnd_0 : List UInt8 := dkwX1_isEnd_0 ++ []
theorem dksX1_isEnd_0 : cX1_isEnd.data.toList.drop 0 = dktX1_isEnd_0 := by decide +kernel
theorem dX1_isEnd_0 : decode cX1_isEnd 0 = .ok (.aload_n 0, 1) := dk_42 (dk_at dksX1_isEnd_0 0 rfl rfl)
theorem dX1_isEnd_1 : decode cX1_isEnd 1 = .ok (.getfield 22, 3) := dk_180 0 22 (dk_at dksX1_isEnd_0 1 rfl rfl)
theorem dX1_isEnd_4 : decode cX1_isEnd 4 = .ok (.iload_n 1, 1) := dk_27 (dk_at dksX1_isEnd_0 4 rfl rfl)
theorem dX1_isEnd_5 : decode cX1_isEnd 5 = .ok (.iaload, 1) := dk_46 (dk_at dksX1_isEnd_0 5 rfl rfl)
theorem dX1_isEnd_6 : decode cX1_isEnd 6 = .ok (.ifCond .le 7, 3) := dk_158 0 7 (dk_at dksX1_isEnd_0 6 rfl rfl)
theorem dX1_isEnd_9 : decode cX1_isEnd 9 = .ok (.iconst 1, 1) := dk_4 (dk_at dksX1_isEnd_0 9 rfl rfl)
theorem dX1_isEnd_10 : decode cX1_isEnd 10 = .ok (.goto 4, 3) := dk_167 0 4 (dk_at dksX1_isEnd_0 10 rfl rfl)
theorem dX1_isEnd_13 : decode cX1_isEnd 13 = .ok (.iconst 0, 1) := dk_3 (dk_at dksX1_isEnd_0 13 rfl rfl)
theorem dX1_isEnd_14 : decode cX1_isEnd 14 = .ok (.ireturn, 1) := dk_172 (dk_at dksX1_isEnd_0 14 rfl rfl)
abbrev cX1_add : ByteArray := prog_15_method_5_code
def yX1_add : MethodName := ⟨RX1, "add", "(III)V"⟩
def dkwX1_add_3 : List UInt8 := [4, 96, 181, 0, 9, 42, 3, 181, 0, 49, 177]
abbrev dktX1_add_3 : List UInt8 := dkwX1_add_3 ++ []
def dkwX1_add_2 : List UInt8 := [180, 0, 28, 42, 180, 0, 9, 3, 79, 42, 180, 0, 28, 27, 92, 46, 4, 96, 79, 42, 89, 180, 0, 9]
abbrev dktX1_add_2 : List UInt8 := dkwX1_add_2 ++ dktX1_add_3
def dkwX1_add_1 : List UInt8 := [42, 180, 0, 9, 29, 79, 42, 180, 0, 25, 42, 180, 0, 9, 42, 180, 0, 25, 27, 46, 4, 96, 79, 42]
abbrev dktX1_add_1 : List UInt8 := dkwX1_add_1 ++ dktX1_add_2
def dkwX1_add_0 : List UInt8 := [42, 180, 0, 15, 42, 180, 0, 9, 27, 79, 42, 180, 0, 19, 42, 180, 0, 9, 28, 79, 42, 180, 0, 22]
abbrev dktX1_add_0 : List UInt8 := dkwX1_add_0 ++ dktX1_add_1
theorem dksX1_add_0 : cX1_add.data.toList.drop 0 = dktX1_add_0 := by decide +kernel
theorem dksX1_add_1 : cX1_add.data.toList.drop 24 = dktX1_add_1 := dk_seg dksX1_add_0 24 rfl rfl
theorem dksX1_add_2 : cX1_add.data.toList.drop 48 = dktX1_add_2 := dk_seg dksX1_add_1 24 rfl rfl
theorem dksX1_add_3 : cX1_add.data.toList.drop 72 = dktX1_add_3 := dk_seg dksX1_add_2 24 rfl rfl
theorem dX1_add_0 : decode cX1_add 0 = .ok (.aload_n 0, 1) := dk_42 (dk_at dksX1_add_0 0 rfl rfl)
theorem dX1_add_1 : decode cX1_add 1 = .ok (.getfield 15, 3) := dk_180 0 15 (dk_at dksX1_add_0 1 rfl rfl)
theorem dX1_add_4 : decode cX1_add 4 = .ok (.aload_n 0, 1) := dk_42 (dk_at dksX1_add_0 4 rfl rfl)
theorem dX1_add_5 : decode cX1_add 5 = .ok (.getfield 9, 3) := dk_180 0 9 (dk_at dksX1_add_0 5 rfl rfl)
theorem dX1_add_8 : decode cX1_add 8 = .ok (.iload_n 1, 1) := dk_27 (dk_at dksX1_add_0 8 rfl rfl)
theorem dX1_add_9 : decode cX1_add 9 = .ok (.iastore, 1) := dk_79 (dk_at dksX1_add_0 9 rfl rfl)
theorem dX1_add_10 : decode cX1_add 10 = .ok (.aload_n 0, 1) := dk_42 (dk_at dksX1_add_0 10 rfl rfl)
theorem dX1_add_11 : decode cX1_add 11 = .ok (.getfield 19, 3) := dk_180 0 19 (dk_at dksX1_add_0 11 rfl rfl)
theorem dX1_add_14 : decode cX1_add 14 = .ok (.aload_n 0, 1) := dk_42 (dk_at dksX1_add_0 14 rfl rfl)
theorem dX1_add_15 : decode cX1_add 15 = .ok (.getfield 9, 3) := dk_180 0 9 (dk_at dksX1_add_0 15 rfl rfl)
theorem dX1_add_18 : decode cX1_add 18 = .ok (.iload_n 2, 1) := dk_28 (dk_at dksX1_add_0 18 rfl rfl)
theorem dX1_add_19 : decode cX1_add 19 = .ok (.iastore, 1) := dk_79 (dk_at dksX1_add_0 19 rfl rfl)
theorem dX1_add_20 : decode cX1_add 20 = .ok (.aload_n 0, 1) := dk_42 (dk_at dksX1_add_0 20 rfl rfl)
theorem dX1_add_21 : decode cX1_add 21 = .ok (.getfield 22, 3) := dk_180 0 22 (dk_at dksX1_add_0 21 rfl rfl)
theorem dX1_add_24 : decode cX1_add 24 = .ok (.aload_n 0, 1) := dk_42 (dk_at dksX1_add_1 0 rfl rfl)
theorem dX1_add_25 : decode cX1_add 25 = .ok (.getfield 9, 3) := dk_180 0 9 (dk_at dksX1_add_1 1 rfl rfl)
theorem dX1_add_28 : decode cX1_add 28 = .ok (.iload_n 3, 1) := dk_29 (dk_at dksX1_add_1 4 rfl rfl)
theorem dX1_add_29 : decode cX1_add 29 = .ok (.iastore, 1) := dk_79 (dk_at dksX1_add_1 5 rfl rfl)
theorem dX1_add_30 : decode cX1_add 30 = .ok (.aload_n 0, 1) := dk_42 (dk_at dksX1_add_1 6 rfl rfl)
theorem dX1_add_31 : decode cX1_add 31 = .ok (.getfield 25, 3) := dk_180 0 25 (dk_at dksX1_add_1 7 rfl rfl)
theorem dX1_add_34 : decode cX1_add 34 = .ok (.aload_n 0, 1) := dk_42 (dk_at dksX1_add_1 10 rfl rfl)
theorem dX1_add_35 : decode cX1_add 35 = .ok (.getfield 9, 3) := dk_180 0 9 (dk_at dksX1_add_1 11 rfl rfl)
theorem dX1_add_38 : decode cX1_add 38 = .ok (.aload_n 0, 1) := dk_42 (dk_at dksX1_add_1 14 rfl rfl)
theorem dX1_add_39 : decode cX1_add 39 = .ok (.getfield 25, 3) := dk_180 0 25 (dk_at dksX1_add_1 15 rfl rfl)
theorem dX1_add_42 : decode cX1_add 42 = .ok (.iload_n 1, 1) := dk_27 (dk_at dksX1_add_1 18 rfl rfl)
theorem dX1_add_43 : decode cX1_add 43 = .ok (.iaload, 1) := dk_46 (dk_at dksX1_add_1 19 rfl rfl)
theorem dX1_add_44 : decode cX1_add 44 = .ok (.iconst 1, 1) := dk_4 (dk_at dksX1_add_1 20 rfl rfl)
theorem dX1_add_45 : decode cX1_add 45 = .ok (.iadd, 1) := dk_96 (dk_at dksX1_add_1 21 rfl rfl)
theorem dX1_add_46 : decode cX1_add 46 = .ok (.iastore, 1) := dk_79 (dk_at dksX1_add_1 22 rfl rfl)
theorem dX1_add_47 : decode cX1_add 47 = .ok (.aload_n 0, 1) := dk_42 (dk_at dksX1_add_1 23 rfl rfl)
theorem dX1_add_48 : decode cX1_add 48 = .ok (.getfield 28, 3) := dk_180 0 28 (dk_at dksX1_add_2 0 rfl rfl)
theorem dX1_add_51 : decode cX1_add 51 = .ok (.aload_n 0, 1) := dk_42 (dk_at dksX1_add_2 3 rfl rfl)
theorem dX1_add_52 : decode cX1_add 52 = .ok (.getfield 9, 3) := dk_180 0 9 (dk_at dksX1_add_2 4 rfl rfl)
theorem dX1_add_55 : decode cX1_add 55 = .ok (.iconst 0, 1) := dk_3 (dk_at dksX1_add_2 7 rfl rfl)
theorem dX1_add_56 : decode cX1_add 56 = .ok (.iastore, 1) := dk_79 (dk_at dksX1_add_2 8 rfl rfl)
theorem dX1_add_57 : decode cX1_add 57 = .ok (.aload_n 0, 1) := dk_42 (dk_at dksX1_add_2 9 rfl rfl)
theorem dX1_add_58 : decode cX1_add 58 = .ok (.getfield 28, 3) := dk_180 0 28 (dk_at dksX1_add_2 10 rfl rfl)
theorem dX1_add_61 : decode cX1_add 61 = .ok (.iload_n 1, 1) := dk_27 (dk_at dksX1_add_2 13 rfl rfl)
theorem dX1_add_62 : decode cX1_add 62 = .ok (.dup2, 1) := dk_92 (dk_at dksX1_add_2 14 rfl rfl)
theorem dX1_add_63 : decode cX1_add 63 = .ok (.iaload, 1) := dk_46 (dk_at dksX1_add_2 15 rfl rfl)
theorem dX1_add_64 : decode cX1_add 64 = .ok (.iconst 1, 1) := dk_4 (dk_at dksX1_add_2 16 rfl rfl)
theorem dX1_add_65 : decode cX1_add 65 = .ok (.iadd, 1) := dk_96 (dk_at dksX1_add_2 17 rfl rfl)
theorem dX1_add_66 : decode cX1_add 66 = .ok (.iastore, 1) := dk_79 (dk_at dksX1_add_2 18 rfl rfl)
theorem dX1_add_67 : decode cX1_add 67 = .ok (.aload_n 0, 1) := dk_42 (dk_at dksX1_add_2 19 rfl rfl)
theorem dX1_add_68 : decode cX1_add 68 = .ok (.dup, 1) := dk_89 (dk_at dksX1_add_2 20 rfl rfl)
theorem dX1_add_69 : decode cX1_add 69 = .ok (.getfield 9, 3) := dk_180 0 9 (dk_at dksX1_add_2 21 rfl rfl)
theorem dX1_add_72 : decode cX1_add 72 = .ok (.iconst 1, 1) := dk_4 (dk_at dksX1_add_3 0 rfl rfl)
theorem dX1_add_73 : decode cX1_add 73 = .ok (.iadd, 1) := dk_96 (dk_at dksX1_add_3 1 rfl rfl)
theorem dX1_add_74 : decode cX1_add 74 = .ok (.putfield 9, 3) := dk_181 0 9 (dk_at dksX1_add_3 2 rfl rfl)
theorem dX1_add_77 : decode cX1_add 77 = .ok (.aload_n 0, 1) := dk_42 (dk_at dksX1_add_3 5 rfl rfl)
theorem dX1_add_78 : decode cX1_add 78 = .ok (.iconst 0, 1) := dk_3 (dk_at dksX1_add_3 6 rfl rfl)
theorem dX1_add_79 : decode cX1_add 79 = .ok (.putfield 49, 3) := dk_181 0 49 (dk_at dksX1_add_3 7 rfl rfl)
theorem dX1_add_82 : decode cX1_add 82 = .ok (.return_, 1) := dk_177 (dk_at dksX1_add_3 10 rfl rfl)
abbrev cX1_isWhole : ByteArray := prog_15_method_4_code
def yX1_isWhole : MethodName := ⟨RX1, "isWhole", "()Z"⟩
def dkwX1_isWhole_1 : List UInt8 := [180, 0, 28, 28, 46, 158, 0, 7, 4, 167, 0, 4, 3, 126, 60, 132, 2, 1, 167, 255, 220, 27, 172]
abbrev dktX1_isWhole_1 : List UInt8 := dkwX1_isWhole_1 ++ []
def dkwX1_isWhole_0 : List UInt8 := [4, 60, 3, 61, 28, 42, 180, 0, 9, 162, 0, 34, 27, 42, 28, 182, 0, 45, 154, 0, 12, 42]
abbrev dktX1_isWhole_0 : List UInt8 := dkwX1_isWhole_0 ++ dktX1_isWhole_1
theorem dksX1_isWhole_0 : cX1_isWhole.data.toList.drop 0 = dktX1_isWhole_0 := by decide +kernel
theorem dksX1_isWhole_1 : cX1_isWhole.data.toList.drop 22 = dktX1_isWhole_1 := dk_seg dksX1_isWhole_0 22 rfl rfl
theorem dX1_isWhole_0 : decode cX1_isWhole 0 = .ok (.iconst 1, 1) := dk_4 (dk_at dksX1_isWhole_0 0 rfl rfl)
theorem dX1_isWhole_1 : decode cX1_isWhole 1 = .ok (.istore_n 1, 1) := dk_60 (dk_at dksX1_isWhole_0 1 rfl rfl)
theorem dX1_isWhole_2 : decode cX1_isWhole 2 = .ok (.iconst 0, 1) := dk_3 (dk_at dksX1_isWhole_0 2 rfl rfl)
theorem dX1_isWhole_3 : decode cX1_isWhole 3 = .ok (.istore_n 2, 1) := dk_61 (dk_at dksX1_isWhole_0 3 rfl rfl)
theorem dX1_isWhole_4 : decode cX1_isWhole 4 = .ok (.iload_n 2, 1) := dk_28 (dk_at dksX1_isWhole_0 4 rfl rfl)
theorem dX1_isWhole_5 : decode cX1_isWhole 5 = .ok (.aload_n 0, 1) := dk_42 (dk_at dksX1_isWhole_0 5 rfl rfl)
theorem dX1_isWhole_6 : decode cX1_isWhole 6 = .ok (.getfield 9, 3) := dk_180 0 9 (dk_at dksX1_isWhole_0 6 rfl rfl)
theorem dX1_isWhole_9 : decode cX1_isWhole 9 = .ok (.if_icmp .ge 34, 3) := dk_162 0 34 (dk_at dksX1_isWhole_0 9 rfl rfl)
theorem dX1_isWhole_12 : decode cX1_isWhole 12 = .ok (.iload_n 1, 1) := dk_27 (dk_at dksX1_isWhole_0 12 rfl rfl)
theorem dX1_isWhole_13 : decode cX1_isWhole 13 = .ok (.aload_n 0, 1) := dk_42 (dk_at dksX1_isWhole_0 13 rfl rfl)
theorem dX1_isWhole_14 : decode cX1_isWhole 14 = .ok (.iload_n 2, 1) := dk_28 (dk_at dksX1_isWhole_0 14 rfl rfl)
theorem dX1_isWhole_15 : decode cX1_isWhole 15 = .ok (.invokevirtual 45, 3) := dk_182 0 45 (dk_at dksX1_isWhole_0 15 rfl rfl)
theorem dX1_isWhole_18 : decode cX1_isWhole 18 = .ok (.ifCond .ne 12, 3) := dk_154 0 12 (dk_at dksX1_isWhole_0 18 rfl rfl)
theorem dX1_isWhole_21 : decode cX1_isWhole 21 = .ok (.aload_n 0, 1) := dk_42 (dk_at dksX1_isWhole_0 21 rfl rfl)
theorem dX1_isWhole_22 : decode cX1_isWhole 22 = .ok (.getfield 28, 3) := dk_180 0 28 (dk_at dksX1_isWhole_1 0 rfl rfl)
theorem dX1_isWhole_25 : decode cX1_isWhole 25 = .ok (.iload_n 2, 1) := dk_28 (dk_at dksX1_isWhole_1 3 rfl rfl)
theorem dX1_isWhole_26 : decode cX1_isWhole 26 = .ok (.iaload, 1) := dk_46 (dk_at dksX1_isWhole_1 4 rfl rfl)
theorem dX1_isWhole_27 : decode cX1_isWhole 27 = .ok (.ifCond .le 7, 3) := dk_158 0 7 (dk_at dksX1_isWhole_1 5 rfl rfl)
theorem dX1_isWhole_30 : decode cX1_isWhole 30 = .ok (.iconst 1, 1) := dk_4 (dk_at dksX1_isWhole_1 8 rfl rfl)
theorem dX1_isWhole_31 : decode cX1_isWhole 31 = .ok (.goto 4, 3) := dk_167 0 4 (dk_at dksX1_isWhole_1 9 rfl rfl)
theorem dX1_isWhole_34 : decode cX1_isWhole 34 = .ok (.iconst 0, 1) := dk_3 (dk_at dksX1_isWhole_1 12 rfl rfl)
theorem dX1_isWhole_35 : decode cX1_isWhole 35 = .ok (.iand, 1) := dk_126 (dk_at dksX1_isWhole_1 13 rfl rfl)
theorem dX1_isWhole_36 : decode cX1_isWhole 36 = .ok (.istore_n 1, 1) := dk_60 (dk_at dksX1_isWhole_1 14 rfl rfl)
theorem dX1_isWhole_37 : decode cX1_isWhole 37 = .ok (.iinc 2 1, 3) := dk_132 2 1 (dk_at dksX1_isWhole_1 15 rfl rfl)
theorem dX1_isWhole_40 : decode cX1_isWhole 40 = .ok (.goto (-36), 3) := dk_167 255 220 (dk_at dksX1_isWhole_1 18 rfl rfl)
theorem dX1_isWhole_43 : decode cX1_isWhole 43 = .ok (.iload_n 1, 1) := dk_27 (dk_at dksX1_isWhole_1 21 rfl rfl)
theorem dX1_isWhole_44 : decode cX1_isWhole 44 = .ok (.ireturn, 1) := dk_172 (dk_at dksX1_isWhole_1 22 rfl rfl)
abbrev cX1_left : ByteArray := prog_15_method_11_code
def yX1_left : MethodName := ⟨RX1, "left", "(I)I"⟩
def dkwX1_left_2 : List UInt8 := [167, 255, 213, 28, 172]
abbrev dktX1_left_2 : List UInt8 := dkwX1_left_2 ++ []
def dkwX1_left_1 : List UInt8 := [182, 0, 69, 153, 0, 14, 4, 42, 180, 0, 22, 29, 46, 120, 167, 0, 4, 3, 128, 61, 132, 3, 1]
abbrev dktX1_left_1 : List UInt8 := dkwX1_left_1 ++ dktX1_left_2
def dkwX1_left_0 : List UInt8 := [3, 61, 27, 62, 29, 42, 180, 0, 9, 162, 0, 41, 28, 42, 29, 182, 0, 45, 153, 0, 23, 42, 29, 27]
abbrev dktX1_left_0 : List UInt8 := dkwX1_left_0 ++ dktX1_left_1
theorem dksX1_left_0 : cX1_left.data.toList.drop 0 = dktX1_left_0 := by decide +kernel
theorem dksX1_left_1 : cX1_left.data.toList.drop 24 = dktX1_left_1 := dk_seg dksX1_left_0 24 rfl rfl
theorem dksX1_left_2 : cX1_left.data.toList.drop 47 = dktX1_left_2 := dk_seg dksX1_left_1 23 rfl rfl
theorem dX1_left_0 : decode cX1_left 0 = .ok (.iconst 0, 1) := dk_3 (dk_at dksX1_left_0 0 rfl rfl)
theorem dX1_left_1 : decode cX1_left 1 = .ok (.istore_n 2, 1) := dk_61 (dk_at dksX1_left_0 1 rfl rfl)
theorem dX1_left_2 : decode cX1_left 2 = .ok (.iload_n 1, 1) := dk_27 (dk_at dksX1_left_0 2 rfl rfl)
theorem dX1_left_3 : decode cX1_left 3 = .ok (.istore_n 3, 1) := dk_62 (dk_at dksX1_left_0 3 rfl rfl)
theorem dX1_left_4 : decode cX1_left 4 = .ok (.iload_n 3, 1) := dk_29 (dk_at dksX1_left_0 4 rfl rfl)
theorem dX1_left_5 : decode cX1_left 5 = .ok (.aload_n 0, 1) := dk_42 (dk_at dksX1_left_0 5 rfl rfl)
theorem dX1_left_6 : decode cX1_left 6 = .ok (.getfield 9, 3) := dk_180 0 9 (dk_at dksX1_left_0 6 rfl rfl)
theorem dX1_left_9 : decode cX1_left 9 = .ok (.if_icmp .ge 41, 3) := dk_162 0 41 (dk_at dksX1_left_0 9 rfl rfl)
theorem dX1_left_12 : decode cX1_left 12 = .ok (.iload_n 2, 1) := dk_28 (dk_at dksX1_left_0 12 rfl rfl)
theorem dX1_left_13 : decode cX1_left 13 = .ok (.aload_n 0, 1) := dk_42 (dk_at dksX1_left_0 13 rfl rfl)
theorem dX1_left_14 : decode cX1_left 14 = .ok (.iload_n 3, 1) := dk_29 (dk_at dksX1_left_0 14 rfl rfl)
theorem dX1_left_15 : decode cX1_left 15 = .ok (.invokevirtual 45, 3) := dk_182 0 45 (dk_at dksX1_left_0 15 rfl rfl)
theorem dX1_left_18 : decode cX1_left 18 = .ok (.ifCond .eq 23, 3) := dk_153 0 23 (dk_at dksX1_left_0 18 rfl rfl)
theorem dX1_left_21 : decode cX1_left 21 = .ok (.aload_n 0, 1) := dk_42 (dk_at dksX1_left_0 21 rfl rfl)
theorem dX1_left_22 : decode cX1_left 22 = .ok (.iload_n 3, 1) := dk_29 (dk_at dksX1_left_0 22 rfl rfl)
theorem dX1_left_23 : decode cX1_left 23 = .ok (.iload_n 1, 1) := dk_27 (dk_at dksX1_left_0 23 rfl rfl)
theorem dX1_left_24 : decode cX1_left 24 = .ok (.invokevirtual 69, 3) := dk_182 0 69 (dk_at dksX1_left_1 0 rfl rfl)
theorem dX1_left_27 : decode cX1_left 27 = .ok (.ifCond .eq 14, 3) := dk_153 0 14 (dk_at dksX1_left_1 3 rfl rfl)
theorem dX1_left_30 : decode cX1_left 30 = .ok (.iconst 1, 1) := dk_4 (dk_at dksX1_left_1 6 rfl rfl)
theorem dX1_left_31 : decode cX1_left 31 = .ok (.aload_n 0, 1) := dk_42 (dk_at dksX1_left_1 7 rfl rfl)
theorem dX1_left_32 : decode cX1_left 32 = .ok (.getfield 22, 3) := dk_180 0 22 (dk_at dksX1_left_1 8 rfl rfl)
theorem dX1_left_35 : decode cX1_left 35 = .ok (.iload_n 3, 1) := dk_29 (dk_at dksX1_left_1 11 rfl rfl)
theorem dX1_left_36 : decode cX1_left 36 = .ok (.iaload, 1) := dk_46 (dk_at dksX1_left_1 12 rfl rfl)
theorem dX1_left_37 : decode cX1_left 37 = .ok (.ishl, 1) := dk_120 (dk_at dksX1_left_1 13 rfl rfl)
theorem dX1_left_38 : decode cX1_left 38 = .ok (.goto 4, 3) := dk_167 0 4 (dk_at dksX1_left_1 14 rfl rfl)
theorem dX1_left_41 : decode cX1_left 41 = .ok (.iconst 0, 1) := dk_3 (dk_at dksX1_left_1 17 rfl rfl)
theorem dX1_left_42 : decode cX1_left 42 = .ok (.ior, 1) := dk_128 (dk_at dksX1_left_1 18 rfl rfl)
theorem dX1_left_43 : decode cX1_left 43 = .ok (.istore_n 2, 1) := dk_61 (dk_at dksX1_left_1 19 rfl rfl)
theorem dX1_left_44 : decode cX1_left 44 = .ok (.iinc 3 1, 3) := dk_132 3 1 (dk_at dksX1_left_1 20 rfl rfl)
theorem dX1_left_47 : decode cX1_left 47 = .ok (.goto (-43), 3) := dk_167 255 213 (dk_at dksX1_left_2 0 rfl rfl)
theorem dX1_left_50 : decode cX1_left 50 = .ok (.iload_n 2, 1) := dk_28 (dk_at dksX1_left_2 3 rfl rfl)
theorem dX1_left_51 : decode cX1_left 51 = .ok (.ireturn, 1) := dk_172 (dk_at dksX1_left_2 4 rfl rfl)
abbrev cX1_isBehind : ByteArray := prog_15_method_9_code
def yX1_isBehind : MethodName := ⟨RX1, "isBehind", "(II)Z"⟩
def dkwX1_isBehind_1 : List UInt8 := [167, 255, 234, 29, 28, 160, 0, 7, 4, 167, 0, 4, 3, 172]
abbrev dktX1_isBehind_1 : List UInt8 := dkwX1_isBehind_1 ++ []
def dkwX1_isBehind_0 : List UInt8 := [27, 62, 42, 180, 0, 25, 29, 46, 42, 180, 0, 25, 28, 46, 164, 0, 13, 42, 180, 0, 15, 29, 46, 62]
abbrev dktX1_isBehind_0 : List UInt8 := dkwX1_isBehind_0 ++ dktX1_isBehind_1
theorem dksX1_isBehind_0 : cX1_isBehind.data.toList.drop 0 = dktX1_isBehind_0 := by decide +kernel
theorem dksX1_isBehind_1 : cX1_isBehind.data.toList.drop 24 = dktX1_isBehind_1 := dk_seg dksX1_isBehind_0 24 rfl rfl
theorem dX1_isBehind_0 : decode cX1_isBehind 0 = .ok (.iload_n 1, 1) := dk_27 (dk_at dksX1_isBehind_0 0 rfl rfl)
theorem dX1_isBehind_1 : decode cX1_isBehind 1 = .ok (.istore_n 3, 1) := dk_62 (dk_at dksX1_isBehind_0 1 rfl rfl)
theorem dX1_isBehind_2 : decode cX1_isBehind 2 = .ok (.aload_n 0, 1) := dk_42 (dk_at dksX1_isBehind_0 2 rfl rfl)
theorem dX1_isBehind_3 : decode cX1_isBehind 3 = .ok (.getfield 25, 3) := dk_180 0 25 (dk_at dksX1_isBehind_0 3 rfl rfl)
theorem dX1_isBehind_6 : decode cX1_isBehind 6 = .ok (.iload_n 3, 1) := dk_29 (dk_at dksX1_isBehind_0 6 rfl rfl)
theorem dX1_isBehind_7 : decode cX1_isBehind 7 = .ok (.iaload, 1) := dk_46 (dk_at dksX1_isBehind_0 7 rfl rfl)
theorem dX1_isBehind_8 : decode cX1_isBehind 8 = .ok (.aload_n 0, 1) := dk_42 (dk_at dksX1_isBehind_0 8 rfl rfl)
theorem dX1_isBehind_9 : decode cX1_isBehind 9 = .ok (.getfield 25, 3) := dk_180 0 25 (dk_at dksX1_isBehind_0 9 rfl rfl)
theorem dX1_isBehind_12 : decode cX1_isBehind 12 = .ok (.iload_n 2, 1) := dk_28 (dk_at dksX1_isBehind_0 12 rfl rfl)
theorem dX1_isBehind_13 : decode cX1_isBehind 13 = .ok (.iaload, 1) := dk_46 (dk_at dksX1_isBehind_0 13 rfl rfl)
theorem dX1_isBehind_14 : decode cX1_isBehind 14 = .ok (.if_icmp .le 13, 3) := dk_164 0 13 (dk_at dksX1_isBehind_0 14 rfl rfl)
theorem dX1_isBehind_17 : decode cX1_isBehind 17 = .ok (.aload_n 0, 1) := dk_42 (dk_at dksX1_isBehind_0 17 rfl rfl)
theorem dX1_isBehind_18 : decode cX1_isBehind 18 = .ok (.getfield 15, 3) := dk_180 0 15 (dk_at dksX1_isBehind_0 18 rfl rfl)
theorem dX1_isBehind_21 : decode cX1_isBehind 21 = .ok (.iload_n 3, 1) := dk_29 (dk_at dksX1_isBehind_0 21 rfl rfl)
theorem dX1_isBehind_22 : decode cX1_isBehind 22 = .ok (.iaload, 1) := dk_46 (dk_at dksX1_isBehind_0 22 rfl rfl)
theorem dX1_isBehind_23 : decode cX1_isBehind 23 = .ok (.istore_n 3, 1) := dk_62 (dk_at dksX1_isBehind_0 23 rfl rfl)
theorem dX1_isBehind_24 : decode cX1_isBehind 24 = .ok (.goto (-22), 3) := dk_167 255 234 (dk_at dksX1_isBehind_1 0 rfl rfl)
theorem dX1_isBehind_27 : decode cX1_isBehind 27 = .ok (.iload_n 3, 1) := dk_29 (dk_at dksX1_isBehind_1 3 rfl rfl)
theorem dX1_isBehind_28 : decode cX1_isBehind 28 = .ok (.iload_n 2, 1) := dk_28 (dk_at dksX1_isBehind_1 4 rfl rfl)
theorem dX1_isBehind_29 : decode cX1_isBehind 29 = .ok (.if_icmp .ne 7, 3) := dk_160 0 7 (dk_at dksX1_isBehind_1 5 rfl rfl)
theorem dX1_isBehind_32 : decode cX1_isBehind 32 = .ok (.iconst 1, 1) := dk_4 (dk_at dksX1_isBehind_1 8 rfl rfl)
theorem dX1_isBehind_33 : decode cX1_isBehind 33 = .ok (.goto 4, 3) := dk_167 0 4 (dk_at dksX1_isBehind_1 9 rfl rfl)
theorem dX1_isBehind_36 : decode cX1_isBehind 36 = .ok (.iconst 0, 1) := dk_3 (dk_at dksX1_isBehind_1 12 rfl rfl)
theorem dX1_isBehind_37 : decode cX1_isBehind 37 = .ok (.ireturn, 1) := dk_172 (dk_at dksX1_isBehind_1 13 rfl rfl)
abbrev cX1_unitsOf : ByteArray := prog_15_method_10_code
def yX1_unitsOf : MethodName := ⟨RX1, "unitsOf", "(II)J"⟩
def dkwX1_unitsOf_0 : List UInt8 := [42, 180, 0, 49, 154, 0, 7, 42, 182, 0, 66, 42, 180, 0, 35, 16, 10, 27, 104, 28, 96, 47, 173]
abbrev dktX1_unitsOf_0 : List UInt8 := dkwX1_unitsOf_0 ++ []
theorem dksX1_unitsOf_0 : cX1_unitsOf.data.toList.drop 0 = dktX1_unitsOf_0 := by decide +kernel
theorem dX1_unitsOf_0 : decode cX1_unitsOf 0 = .ok (.aload_n 0, 1) := dk_42 (dk_at dksX1_unitsOf_0 0 rfl rfl)
theorem dX1_unitsOf_1 : decode cX1_unitsOf 1 = .ok (.getfield 49, 3) := dk_180 0 49 (dk_at dksX1_unitsOf_0 1 rfl rfl)
theorem dX1_unitsOf_4 : decode cX1_unitsOf 4 = .ok (.ifCond .ne 7, 3) := dk_154 0 7 (dk_at dksX1_unitsOf_0 4 rfl rfl)
theorem dX1_unitsOf_7 : decode cX1_unitsOf 7 = .ok (.aload_n 0, 1) := dk_42 (dk_at dksX1_unitsOf_0 7 rfl rfl)
theorem dX1_unitsOf_8 : decode cX1_unitsOf 8 = .ok (.invokevirtual 66, 3) := dk_182 0 66 (dk_at dksX1_unitsOf_0 8 rfl rfl)
theorem dX1_unitsOf_11 : decode cX1_unitsOf 11 = .ok (.aload_n 0, 1) := dk_42 (dk_at dksX1_unitsOf_0 11 rfl rfl)
theorem dX1_unitsOf_12 : decode cX1_unitsOf 12 = .ok (.getfield 35, 3) := dk_180 0 35 (dk_at dksX1_unitsOf_0 12 rfl rfl)
theorem dX1_unitsOf_15 : decode cX1_unitsOf 15 = .ok (.bipush 10, 2) := dk_16 10 (dk_at dksX1_unitsOf_0 15 rfl rfl)
theorem dX1_unitsOf_17 : decode cX1_unitsOf 17 = .ok (.iload_n 1, 1) := dk_27 (dk_at dksX1_unitsOf_0 17 rfl rfl)
theorem dX1_unitsOf_18 : decode cX1_unitsOf 18 = .ok (.imul, 1) := dk_104 (dk_at dksX1_unitsOf_0 18 rfl rfl)
theorem dX1_unitsOf_19 : decode cX1_unitsOf 19 = .ok (.iload_n 2, 1) := dk_28 (dk_at dksX1_unitsOf_0 19 rfl rfl)
theorem dX1_unitsOf_20 : decode cX1_unitsOf 20 = .ok (.iadd, 1) := dk_96 (dk_at dksX1_unitsOf_0 20 rfl rfl)
theorem dX1_unitsOf_21 : decode cX1_unitsOf 21 = .ok (.laload, 1) := dk_47 (dk_at dksX1_unitsOf_0 21 rfl rfl)
theorem dX1_unitsOf_22 : decode cX1_unitsOf 22 = .ok (.lreturn, 1) := dk_173 (dk_at dksX1_unitsOf_0 22 rfl rfl)
abbrev cX1_findUnits : ByteArray := prog_15_method_7_code
def yX1_findUnits : MethodName := ⟨RX1, "findUnits", "()V"⟩
def dkwX1_findUnits_10 : List UInt8 := [132, 1, 1, 167, 255, 164, 177]
abbrev dktX1_findUnits_10 : List UInt8 := dkwX1_findUnits_10 ++ []
def dkwX1_findUnits_9 : List UInt8 := [92, 47, 42, 27, 182, 0, 45, 153, 0, 12, 42, 180, 0, 31, 27, 47, 167, 0, 4, 9, 97, 80]
abbrev dktX1_findUnits_9 : List UInt8 := dkwX1_findUnits_9 ++ dktX1_findUnits_10
def dkwX1_findUnits_8 : List UInt8 := [27, 47, 97, 80, 42, 180, 0, 15, 28, 46, 61, 167, 255, 212, 42, 180, 0, 35, 42, 180, 0, 22, 27, 46]
abbrev dktX1_findUnits_8 : List UInt8 := dkwX1_findUnits_8 ++ dktX1_findUnits_9
def dkwX1_findUnits_7 : List UInt8 := [158, 0, 38, 42, 180, 0, 35, 16, 10, 28, 104, 42, 180, 0, 22, 27, 46, 96, 92, 47, 42, 180, 0, 31]
abbrev dktX1_findUnits_7 : List UInt8 := dkwX1_findUnits_7 ++ dktX1_findUnits_8
def dkwX1_findUnits_6 : List UInt8 := [167, 255, 237, 4, 60, 27, 42, 180, 0, 9, 162, 0, 90, 27, 61, 42, 27, 182, 0, 45, 153, 0, 42, 28]
abbrev dktX1_findUnits_6 : List UInt8 := dkwX1_findUnits_6 ++ dktX1_findUnits_7
def dkwX1_findUnits_5 : List UInt8 := [167, 255, 188, 3, 60, 27, 42, 180, 0, 35, 190, 162, 0, 16, 42, 180, 0, 35, 27, 9, 80, 132, 1, 1]
abbrev dktX1_findUnits_5 : List UInt8 := dkwX1_findUnits_5 ++ dktX1_findUnits_6
def dkwX1_findUnits_4 : List UInt8 := [180, 0, 15, 27, 46, 47, 32, 109, 42, 180, 0, 19, 27, 46, 133, 22, 4, 109, 105, 80, 132, 1, 1]
abbrev dktX1_findUnits_4 : List UInt8 := dkwX1_findUnits_4 ++ dktX1_findUnits_5
def dkwX1_findUnits_3 : List UInt8 := [180, 0, 15, 27, 46, 3, 182, 0, 57, 32, 109, 55, 4, 42, 180, 0, 31, 27, 42, 180, 0, 31, 42]
abbrev dktX1_findUnits_3 : List UInt8 := dkwX1_findUnits_3 ++ dktX1_findUnits_4
def dkwX1_findUnits_2 : List UInt8 := [4, 60, 27, 42, 180, 0, 9, 162, 0, 66, 42, 42, 180, 0, 15, 27, 46, 4, 182, 0, 57, 65, 42, 42]
abbrev dktX1_findUnits_2 : List UInt8 := dkwX1_findUnits_2 ++ dktX1_findUnits_3
def dkwX1_findUnits_1 : List UInt8 := [180, 0, 31, 3, 92, 47, 10, 42, 27, 4, 182, 0, 57, 184, 0, 61, 105, 80, 132, 1, 1, 167, 255, 226]
abbrev dktX1_findUnits_1 : List UInt8 := dkwX1_findUnits_1 ++ dktX1_findUnits_2
def dkwX1_findUnits_0 : List UInt8 := [42, 4, 181, 0, 49, 42, 180, 0, 31, 3, 10, 80, 3, 60, 27, 42, 180, 0, 9, 162, 0, 28, 42]
abbrev dktX1_findUnits_0 : List UInt8 := dkwX1_findUnits_0 ++ dktX1_findUnits_1
theorem dksX1_findUnits_0 : cX1_findUnits.data.toList.drop 0 = dktX1_findUnits_0 := by decide +kernel
theorem dksX1_findUnits_1 : cX1_findUnits.data.toList.drop 23 = dktX1_findUnits_1 := dk_seg dksX1_findUnits_0 23 rfl rfl
theorem dksX1_findUnits_2 : cX1_findUnits.data.toList.drop 47 = dktX1_findUnits_2 := dk_seg dksX1_findUnits_1 24 rfl rfl
theorem dksX1_findUnits_3 : cX1_findUnits.data.toList.drop 71 = dktX1_findUnits_3 := dk_seg dksX1_findUnits_2 24 rfl rfl
theorem dksX1_findUnits_4 : cX1_findUnits.data.toList.drop 94 = dktX1_findUnits_4 := dk_seg dksX1_findUnits_3 23 rfl rfl
theorem dksX1_findUnits_5 : cX1_findUnits.data.toList.drop 117 = dktX1_findUnits_5 := dk_seg dksX1_findUnits_4 23 rfl rfl
theorem dksX1_findUnits_6 : cX1_findUnits.data.toList.drop 141 = dktX1_findUnits_6 := dk_seg dksX1_findUnits_5 24 rfl rfl
theorem dksX1_findUnits_7 : cX1_findUnits.data.toList.drop 165 = dktX1_findUnits_7 := dk_seg dksX1_findUnits_6 24 rfl rfl
theorem dksX1_findUnits_8 : cX1_findUnits.data.toList.drop 189 = dktX1_findUnits_8 := dk_seg dksX1_findUnits_7 24 rfl rfl
theorem dksX1_findUnits_9 : cX1_findUnits.data.toList.drop 213 = dktX1_findUnits_9 := dk_seg dksX1_findUnits_8 24 rfl rfl
theorem dksX1_findUnits_10 : cX1_findUnits.data.toList.drop 235 = dktX1_findUnits_10 := dk_seg dksX1_findUnits_9 22 rfl rfl
theorem dX1_findUnits_0 : decode cX1_findUnits 0 = .ok (.aload_n 0, 1) := dk_42 (dk_at dksX1_findUnits_0 0 rfl rfl)
theorem dX1_findUnits_1 : decode cX1_findUnits 1 = .ok (.iconst 1, 1) := dk_4 (dk_at dksX1_findUnits_0 1 rfl rfl)
theorem dX1_findUnits_2 : decode cX1_findUnits 2 = .ok (.putfield 49, 3) := dk_181 0 49 (dk_at dksX1_findUnits_0 2 rfl rfl)
theorem dX1_findUnits_5 : decode cX1_findUnits 5 = .ok (.aload_n 0, 1) := dk_42 (dk_at dksX1_findUnits_0 5 rfl rfl)
theorem dX1_findUnits_6 : decode cX1_findUnits 6 = .ok (.getfield 31, 3) := dk_180 0 31 (dk_at dksX1_findUnits_0 6 rfl rfl)
theorem dX1_findUnits_9 : decode cX1_findUnits 9 = .ok (.iconst 0, 1) := dk_3 (dk_at dksX1_findUnits_0 9 rfl rfl)
theorem dX1_findUnits_10 : decode cX1_findUnits 10 = .ok (.lconst 1, 1) := dk_10 (dk_at dksX1_findUnits_0 10 rfl rfl)
theorem dX1_findUnits_11 : decode cX1_findUnits 11 = .ok (.lastore, 1) := dk_80 (dk_at dksX1_findUnits_0 11 rfl rfl)
theorem dX1_findUnits_12 : decode cX1_findUnits 12 = .ok (.iconst 0, 1) := dk_3 (dk_at dksX1_findUnits_0 12 rfl rfl)
theorem dX1_findUnits_13 : decode cX1_findUnits 13 = .ok (.istore_n 1, 1) := dk_60 (dk_at dksX1_findUnits_0 13 rfl rfl)
theorem dX1_findUnits_14 : decode cX1_findUnits 14 = .ok (.iload_n 1, 1) := dk_27 (dk_at dksX1_findUnits_0 14 rfl rfl)
theorem dX1_findUnits_15 : decode cX1_findUnits 15 = .ok (.aload_n 0, 1) := dk_42 (dk_at dksX1_findUnits_0 15 rfl rfl)
theorem dX1_findUnits_16 : decode cX1_findUnits 16 = .ok (.getfield 9, 3) := dk_180 0 9 (dk_at dksX1_findUnits_0 16 rfl rfl)
theorem dX1_findUnits_19 : decode cX1_findUnits 19 = .ok (.if_icmp .ge 28, 3) := dk_162 0 28 (dk_at dksX1_findUnits_0 19 rfl rfl)
theorem dX1_findUnits_22 : decode cX1_findUnits 22 = .ok (.aload_n 0, 1) := dk_42 (dk_at dksX1_findUnits_0 22 rfl rfl)
theorem dX1_findUnits_23 : decode cX1_findUnits 23 = .ok (.getfield 31, 3) := dk_180 0 31 (dk_at dksX1_findUnits_1 0 rfl rfl)
theorem dX1_findUnits_26 : decode cX1_findUnits 26 = .ok (.iconst 0, 1) := dk_3 (dk_at dksX1_findUnits_1 3 rfl rfl)
theorem dX1_findUnits_27 : decode cX1_findUnits 27 = .ok (.dup2, 1) := dk_92 (dk_at dksX1_findUnits_1 4 rfl rfl)
theorem dX1_findUnits_28 : decode cX1_findUnits 28 = .ok (.laload, 1) := dk_47 (dk_at dksX1_findUnits_1 5 rfl rfl)
theorem dX1_findUnits_29 : decode cX1_findUnits 29 = .ok (.lconst 1, 1) := dk_10 (dk_at dksX1_findUnits_1 6 rfl rfl)
theorem dX1_findUnits_30 : decode cX1_findUnits 30 = .ok (.aload_n 0, 1) := dk_42 (dk_at dksX1_findUnits_1 7 rfl rfl)
theorem dX1_findUnits_31 : decode cX1_findUnits 31 = .ok (.iload_n 1, 1) := dk_27 (dk_at dksX1_findUnits_1 8 rfl rfl)
theorem dX1_findUnits_32 : decode cX1_findUnits 32 = .ok (.iconst 1, 1) := dk_4 (dk_at dksX1_findUnits_1 9 rfl rfl)
theorem dX1_findUnits_33 : decode cX1_findUnits 33 = .ok (.invokevirtual 57, 3) := dk_182 0 57 (dk_at dksX1_findUnits_1 10 rfl rfl)
theorem dX1_findUnits_36 : decode cX1_findUnits 36 = .ok (.invokestatic 61, 3) := dk_184 0 61 (dk_at dksX1_findUnits_1 13 rfl rfl)
theorem dX1_findUnits_39 : decode cX1_findUnits 39 = .ok (.lmul, 1) := dk_105 (dk_at dksX1_findUnits_1 16 rfl rfl)
theorem dX1_findUnits_40 : decode cX1_findUnits 40 = .ok (.lastore, 1) := dk_80 (dk_at dksX1_findUnits_1 17 rfl rfl)
theorem dX1_findUnits_41 : decode cX1_findUnits 41 = .ok (.iinc 1 1, 3) := dk_132 1 1 (dk_at dksX1_findUnits_1 18 rfl rfl)
theorem dX1_findUnits_44 : decode cX1_findUnits 44 = .ok (.goto (-30), 3) := dk_167 255 226 (dk_at dksX1_findUnits_1 21 rfl rfl)
theorem dX1_findUnits_47 : decode cX1_findUnits 47 = .ok (.iconst 1, 1) := dk_4 (dk_at dksX1_findUnits_2 0 rfl rfl)
theorem dX1_findUnits_48 : decode cX1_findUnits 48 = .ok (.istore_n 1, 1) := dk_60 (dk_at dksX1_findUnits_2 1 rfl rfl)
theorem dX1_findUnits_49 : decode cX1_findUnits 49 = .ok (.iload_n 1, 1) := dk_27 (dk_at dksX1_findUnits_2 2 rfl rfl)
theorem dX1_findUnits_50 : decode cX1_findUnits 50 = .ok (.aload_n 0, 1) := dk_42 (dk_at dksX1_findUnits_2 3 rfl rfl)
theorem dX1_findUnits_51 : decode cX1_findUnits 51 = .ok (.getfield 9, 3) := dk_180 0 9 (dk_at dksX1_findUnits_2 4 rfl rfl)
theorem dX1_findUnits_54 : decode cX1_findUnits 54 = .ok (.if_icmp .ge 66, 3) := dk_162 0 66 (dk_at dksX1_findUnits_2 7 rfl rfl)
theorem dX1_findUnits_57 : decode cX1_findUnits 57 = .ok (.aload_n 0, 1) := dk_42 (dk_at dksX1_findUnits_2 10 rfl rfl)
theorem dX1_findUnits_58 : decode cX1_findUnits 58 = .ok (.aload_n 0, 1) := dk_42 (dk_at dksX1_findUnits_2 11 rfl rfl)
theorem dX1_findUnits_59 : decode cX1_findUnits 59 = .ok (.getfield 15, 3) := dk_180 0 15 (dk_at dksX1_findUnits_2 12 rfl rfl)
theorem dX1_findUnits_62 : decode cX1_findUnits 62 = .ok (.iload_n 1, 1) := dk_27 (dk_at dksX1_findUnits_2 15 rfl rfl)
theorem dX1_findUnits_63 : decode cX1_findUnits 63 = .ok (.iaload, 1) := dk_46 (dk_at dksX1_findUnits_2 16 rfl rfl)
theorem dX1_findUnits_64 : decode cX1_findUnits 64 = .ok (.iconst 1, 1) := dk_4 (dk_at dksX1_findUnits_2 17 rfl rfl)
theorem dX1_findUnits_65 : decode cX1_findUnits 65 = .ok (.invokevirtual 57, 3) := dk_182 0 57 (dk_at dksX1_findUnits_2 18 rfl rfl)
theorem dX1_findUnits_68 : decode cX1_findUnits 68 = .ok (.lstore_n 2, 1) := dk_65 (dk_at dksX1_findUnits_2 21 rfl rfl)
theorem dX1_findUnits_69 : decode cX1_findUnits 69 = .ok (.aload_n 0, 1) := dk_42 (dk_at dksX1_findUnits_2 22 rfl rfl)
theorem dX1_findUnits_70 : decode cX1_findUnits 70 = .ok (.aload_n 0, 1) := dk_42 (dk_at dksX1_findUnits_2 23 rfl rfl)
theorem dX1_findUnits_71 : decode cX1_findUnits 71 = .ok (.getfield 15, 3) := dk_180 0 15 (dk_at dksX1_findUnits_3 0 rfl rfl)
theorem dX1_findUnits_74 : decode cX1_findUnits 74 = .ok (.iload_n 1, 1) := dk_27 (dk_at dksX1_findUnits_3 3 rfl rfl)
theorem dX1_findUnits_75 : decode cX1_findUnits 75 = .ok (.iaload, 1) := dk_46 (dk_at dksX1_findUnits_3 4 rfl rfl)
theorem dX1_findUnits_76 : decode cX1_findUnits 76 = .ok (.iconst 0, 1) := dk_3 (dk_at dksX1_findUnits_3 5 rfl rfl)
theorem dX1_findUnits_77 : decode cX1_findUnits 77 = .ok (.invokevirtual 57, 3) := dk_182 0 57 (dk_at dksX1_findUnits_3 6 rfl rfl)
theorem dX1_findUnits_80 : decode cX1_findUnits 80 = .ok (.lload_n 2, 1) := dk_32 (dk_at dksX1_findUnits_3 9 rfl rfl)
theorem dX1_findUnits_81 : decode cX1_findUnits 81 = .ok (.ldiv, 1) := dk_109 (dk_at dksX1_findUnits_3 10 rfl rfl)
theorem dX1_findUnits_82 : decode cX1_findUnits 82 = .ok (.lstore 4, 2) := dk_55 4 (dk_at dksX1_findUnits_3 11 rfl rfl)
theorem dX1_findUnits_84 : decode cX1_findUnits 84 = .ok (.aload_n 0, 1) := dk_42 (dk_at dksX1_findUnits_3 13 rfl rfl)
theorem dX1_findUnits_85 : decode cX1_findUnits 85 = .ok (.getfield 31, 3) := dk_180 0 31 (dk_at dksX1_findUnits_3 14 rfl rfl)
theorem dX1_findUnits_88 : decode cX1_findUnits 88 = .ok (.iload_n 1, 1) := dk_27 (dk_at dksX1_findUnits_3 17 rfl rfl)
theorem dX1_findUnits_89 : decode cX1_findUnits 89 = .ok (.aload_n 0, 1) := dk_42 (dk_at dksX1_findUnits_3 18 rfl rfl)
theorem dX1_findUnits_90 : decode cX1_findUnits 90 = .ok (.getfield 31, 3) := dk_180 0 31 (dk_at dksX1_findUnits_3 19 rfl rfl)
theorem dX1_findUnits_93 : decode cX1_findUnits 93 = .ok (.aload_n 0, 1) := dk_42 (dk_at dksX1_findUnits_3 22 rfl rfl)
theorem dX1_findUnits_94 : decode cX1_findUnits 94 = .ok (.getfield 15, 3) := dk_180 0 15 (dk_at dksX1_findUnits_4 0 rfl rfl)
theorem dX1_findUnits_97 : decode cX1_findUnits 97 = .ok (.iload_n 1, 1) := dk_27 (dk_at dksX1_findUnits_4 3 rfl rfl)
theorem dX1_findUnits_98 : decode cX1_findUnits 98 = .ok (.iaload, 1) := dk_46 (dk_at dksX1_findUnits_4 4 rfl rfl)
theorem dX1_findUnits_99 : decode cX1_findUnits 99 = .ok (.laload, 1) := dk_47 (dk_at dksX1_findUnits_4 5 rfl rfl)
theorem dX1_findUnits_100 : decode cX1_findUnits 100 = .ok (.lload_n 2, 1) := dk_32 (dk_at dksX1_findUnits_4 6 rfl rfl)
theorem dX1_findUnits_101 : decode cX1_findUnits 101 = .ok (.ldiv, 1) := dk_109 (dk_at dksX1_findUnits_4 7 rfl rfl)
theorem dX1_findUnits_102 : decode cX1_findUnits 102 = .ok (.aload_n 0, 1) := dk_42 (dk_at dksX1_findUnits_4 8 rfl rfl)
theorem dX1_findUnits_103 : decode cX1_findUnits 103 = .ok (.getfield 19, 3) := dk_180 0 19 (dk_at dksX1_findUnits_4 9 rfl rfl)
theorem dX1_findUnits_106 : decode cX1_findUnits 106 = .ok (.iload_n 1, 1) := dk_27 (dk_at dksX1_findUnits_4 12 rfl rfl)
theorem dX1_findUnits_107 : decode cX1_findUnits 107 = .ok (.iaload, 1) := dk_46 (dk_at dksX1_findUnits_4 13 rfl rfl)
theorem dX1_findUnits_108 : decode cX1_findUnits 108 = .ok (.i2l, 1) := dk_133 (dk_at dksX1_findUnits_4 14 rfl rfl)
theorem dX1_findUnits_109 : decode cX1_findUnits 109 = .ok (.lload 4, 2) := dk_22 4 (dk_at dksX1_findUnits_4 15 rfl rfl)
theorem dX1_findUnits_111 : decode cX1_findUnits 111 = .ok (.ldiv, 1) := dk_109 (dk_at dksX1_findUnits_4 17 rfl rfl)
theorem dX1_findUnits_112 : decode cX1_findUnits 112 = .ok (.lmul, 1) := dk_105 (dk_at dksX1_findUnits_4 18 rfl rfl)
theorem dX1_findUnits_113 : decode cX1_findUnits 113 = .ok (.lastore, 1) := dk_80 (dk_at dksX1_findUnits_4 19 rfl rfl)
theorem dX1_findUnits_114 : decode cX1_findUnits 114 = .ok (.iinc 1 1, 3) := dk_132 1 1 (dk_at dksX1_findUnits_4 20 rfl rfl)
theorem dX1_findUnits_117 : decode cX1_findUnits 117 = .ok (.goto (-68), 3) := dk_167 255 188 (dk_at dksX1_findUnits_5 0 rfl rfl)
theorem dX1_findUnits_120 : decode cX1_findUnits 120 = .ok (.iconst 0, 1) := dk_3 (dk_at dksX1_findUnits_5 3 rfl rfl)
theorem dX1_findUnits_121 : decode cX1_findUnits 121 = .ok (.istore_n 1, 1) := dk_60 (dk_at dksX1_findUnits_5 4 rfl rfl)
theorem dX1_findUnits_122 : decode cX1_findUnits 122 = .ok (.iload_n 1, 1) := dk_27 (dk_at dksX1_findUnits_5 5 rfl rfl)
theorem dX1_findUnits_123 : decode cX1_findUnits 123 = .ok (.aload_n 0, 1) := dk_42 (dk_at dksX1_findUnits_5 6 rfl rfl)
theorem dX1_findUnits_124 : decode cX1_findUnits 124 = .ok (.getfield 35, 3) := dk_180 0 35 (dk_at dksX1_findUnits_5 7 rfl rfl)
theorem dX1_findUnits_127 : decode cX1_findUnits 127 = .ok (.arraylength, 1) := dk_190 (dk_at dksX1_findUnits_5 10 rfl rfl)
theorem dX1_findUnits_128 : decode cX1_findUnits 128 = .ok (.if_icmp .ge 16, 3) := dk_162 0 16 (dk_at dksX1_findUnits_5 11 rfl rfl)
theorem dX1_findUnits_131 : decode cX1_findUnits 131 = .ok (.aload_n 0, 1) := dk_42 (dk_at dksX1_findUnits_5 14 rfl rfl)
theorem dX1_findUnits_132 : decode cX1_findUnits 132 = .ok (.getfield 35, 3) := dk_180 0 35 (dk_at dksX1_findUnits_5 15 rfl rfl)
theorem dX1_findUnits_135 : decode cX1_findUnits 135 = .ok (.iload_n 1, 1) := dk_27 (dk_at dksX1_findUnits_5 18 rfl rfl)
theorem dX1_findUnits_136 : decode cX1_findUnits 136 = .ok (.lconst 0, 1) := dk_9 (dk_at dksX1_findUnits_5 19 rfl rfl)
theorem dX1_findUnits_137 : decode cX1_findUnits 137 = .ok (.lastore, 1) := dk_80 (dk_at dksX1_findUnits_5 20 rfl rfl)
theorem dX1_findUnits_138 : decode cX1_findUnits 138 = .ok (.iinc 1 1, 3) := dk_132 1 1 (dk_at dksX1_findUnits_5 21 rfl rfl)
theorem dX1_findUnits_141 : decode cX1_findUnits 141 = .ok (.goto (-19), 3) := dk_167 255 237 (dk_at dksX1_findUnits_6 0 rfl rfl)
theorem dX1_findUnits_144 : decode cX1_findUnits 144 = .ok (.iconst 1, 1) := dk_4 (dk_at dksX1_findUnits_6 3 rfl rfl)
theorem dX1_findUnits_145 : decode cX1_findUnits 145 = .ok (.istore_n 1, 1) := dk_60 (dk_at dksX1_findUnits_6 4 rfl rfl)
theorem dX1_findUnits_146 : decode cX1_findUnits 146 = .ok (.iload_n 1, 1) := dk_27 (dk_at dksX1_findUnits_6 5 rfl rfl)
theorem dX1_findUnits_147 : decode cX1_findUnits 147 = .ok (.aload_n 0, 1) := dk_42 (dk_at dksX1_findUnits_6 6 rfl rfl)
theorem dX1_findUnits_148 : decode cX1_findUnits 148 = .ok (.getfield 9, 3) := dk_180 0 9 (dk_at dksX1_findUnits_6 7 rfl rfl)
theorem dX1_findUnits_151 : decode cX1_findUnits 151 = .ok (.if_icmp .ge 90, 3) := dk_162 0 90 (dk_at dksX1_findUnits_6 10 rfl rfl)
theorem dX1_findUnits_154 : decode cX1_findUnits 154 = .ok (.iload_n 1, 1) := dk_27 (dk_at dksX1_findUnits_6 13 rfl rfl)
theorem dX1_findUnits_155 : decode cX1_findUnits 155 = .ok (.istore_n 2, 1) := dk_61 (dk_at dksX1_findUnits_6 14 rfl rfl)
theorem dX1_findUnits_156 : decode cX1_findUnits 156 = .ok (.aload_n 0, 1) := dk_42 (dk_at dksX1_findUnits_6 15 rfl rfl)
theorem dX1_findUnits_157 : decode cX1_findUnits 157 = .ok (.iload_n 1, 1) := dk_27 (dk_at dksX1_findUnits_6 16 rfl rfl)
theorem dX1_findUnits_158 : decode cX1_findUnits 158 = .ok (.invokevirtual 45, 3) := dk_182 0 45 (dk_at dksX1_findUnits_6 17 rfl rfl)
theorem dX1_findUnits_161 : decode cX1_findUnits 161 = .ok (.ifCond .eq 42, 3) := dk_153 0 42 (dk_at dksX1_findUnits_6 20 rfl rfl)
theorem dX1_findUnits_164 : decode cX1_findUnits 164 = .ok (.iload_n 2, 1) := dk_28 (dk_at dksX1_findUnits_6 23 rfl rfl)
theorem dX1_findUnits_165 : decode cX1_findUnits 165 = .ok (.ifCond .le 38, 3) := dk_158 0 38 (dk_at dksX1_findUnits_7 0 rfl rfl)
theorem dX1_findUnits_168 : decode cX1_findUnits 168 = .ok (.aload_n 0, 1) := dk_42 (dk_at dksX1_findUnits_7 3 rfl rfl)
theorem dX1_findUnits_169 : decode cX1_findUnits 169 = .ok (.getfield 35, 3) := dk_180 0 35 (dk_at dksX1_findUnits_7 4 rfl rfl)
theorem dX1_findUnits_172 : decode cX1_findUnits 172 = .ok (.bipush 10, 2) := dk_16 10 (dk_at dksX1_findUnits_7 7 rfl rfl)
theorem dX1_findUnits_174 : decode cX1_findUnits 174 = .ok (.iload_n 2, 1) := dk_28 (dk_at dksX1_findUnits_7 9 rfl rfl)
theorem dX1_findUnits_175 : decode cX1_findUnits 175 = .ok (.imul, 1) := dk_104 (dk_at dksX1_findUnits_7 10 rfl rfl)
theorem dX1_findUnits_176 : decode cX1_findUnits 176 = .ok (.aload_n 0, 1) := dk_42 (dk_at dksX1_findUnits_7 11 rfl rfl)
theorem dX1_findUnits_177 : decode cX1_findUnits 177 = .ok (.getfield 22, 3) := dk_180 0 22 (dk_at dksX1_findUnits_7 12 rfl rfl)
theorem dX1_findUnits_180 : decode cX1_findUnits 180 = .ok (.iload_n 1, 1) := dk_27 (dk_at dksX1_findUnits_7 15 rfl rfl)
theorem dX1_findUnits_181 : decode cX1_findUnits 181 = .ok (.iaload, 1) := dk_46 (dk_at dksX1_findUnits_7 16 rfl rfl)
theorem dX1_findUnits_182 : decode cX1_findUnits 182 = .ok (.iadd, 1) := dk_96 (dk_at dksX1_findUnits_7 17 rfl rfl)
theorem dX1_findUnits_183 : decode cX1_findUnits 183 = .ok (.dup2, 1) := dk_92 (dk_at dksX1_findUnits_7 18 rfl rfl)
theorem dX1_findUnits_184 : decode cX1_findUnits 184 = .ok (.laload, 1) := dk_47 (dk_at dksX1_findUnits_7 19 rfl rfl)
theorem dX1_findUnits_185 : decode cX1_findUnits 185 = .ok (.aload_n 0, 1) := dk_42 (dk_at dksX1_findUnits_7 20 rfl rfl)
theorem dX1_findUnits_186 : decode cX1_findUnits 186 = .ok (.getfield 31, 3) := dk_180 0 31 (dk_at dksX1_findUnits_7 21 rfl rfl)
theorem dX1_findUnits_189 : decode cX1_findUnits 189 = .ok (.iload_n 1, 1) := dk_27 (dk_at dksX1_findUnits_8 0 rfl rfl)
theorem dX1_findUnits_190 : decode cX1_findUnits 190 = .ok (.laload, 1) := dk_47 (dk_at dksX1_findUnits_8 1 rfl rfl)
theorem dX1_findUnits_191 : decode cX1_findUnits 191 = .ok (.ladd, 1) := dk_97 (dk_at dksX1_findUnits_8 2 rfl rfl)
theorem dX1_findUnits_192 : decode cX1_findUnits 192 = .ok (.lastore, 1) := dk_80 (dk_at dksX1_findUnits_8 3 rfl rfl)
theorem dX1_findUnits_193 : decode cX1_findUnits 193 = .ok (.aload_n 0, 1) := dk_42 (dk_at dksX1_findUnits_8 4 rfl rfl)
theorem dX1_findUnits_194 : decode cX1_findUnits 194 = .ok (.getfield 15, 3) := dk_180 0 15 (dk_at dksX1_findUnits_8 5 rfl rfl)
theorem dX1_findUnits_197 : decode cX1_findUnits 197 = .ok (.iload_n 2, 1) := dk_28 (dk_at dksX1_findUnits_8 8 rfl rfl)
theorem dX1_findUnits_198 : decode cX1_findUnits 198 = .ok (.iaload, 1) := dk_46 (dk_at dksX1_findUnits_8 9 rfl rfl)
theorem dX1_findUnits_199 : decode cX1_findUnits 199 = .ok (.istore_n 2, 1) := dk_61 (dk_at dksX1_findUnits_8 10 rfl rfl)
theorem dX1_findUnits_200 : decode cX1_findUnits 200 = .ok (.goto (-44), 3) := dk_167 255 212 (dk_at dksX1_findUnits_8 11 rfl rfl)
theorem dX1_findUnits_203 : decode cX1_findUnits 203 = .ok (.aload_n 0, 1) := dk_42 (dk_at dksX1_findUnits_8 14 rfl rfl)
theorem dX1_findUnits_204 : decode cX1_findUnits 204 = .ok (.getfield 35, 3) := dk_180 0 35 (dk_at dksX1_findUnits_8 15 rfl rfl)
theorem dX1_findUnits_207 : decode cX1_findUnits 207 = .ok (.aload_n 0, 1) := dk_42 (dk_at dksX1_findUnits_8 18 rfl rfl)
theorem dX1_findUnits_208 : decode cX1_findUnits 208 = .ok (.getfield 22, 3) := dk_180 0 22 (dk_at dksX1_findUnits_8 19 rfl rfl)
theorem dX1_findUnits_211 : decode cX1_findUnits 211 = .ok (.iload_n 1, 1) := dk_27 (dk_at dksX1_findUnits_8 22 rfl rfl)
theorem dX1_findUnits_212 : decode cX1_findUnits 212 = .ok (.iaload, 1) := dk_46 (dk_at dksX1_findUnits_8 23 rfl rfl)
theorem dX1_findUnits_213 : decode cX1_findUnits 213 = .ok (.dup2, 1) := dk_92 (dk_at dksX1_findUnits_9 0 rfl rfl)
theorem dX1_findUnits_214 : decode cX1_findUnits 214 = .ok (.laload, 1) := dk_47 (dk_at dksX1_findUnits_9 1 rfl rfl)
theorem dX1_findUnits_215 : decode cX1_findUnits 215 = .ok (.aload_n 0, 1) := dk_42 (dk_at dksX1_findUnits_9 2 rfl rfl)
theorem dX1_findUnits_216 : decode cX1_findUnits 216 = .ok (.iload_n 1, 1) := dk_27 (dk_at dksX1_findUnits_9 3 rfl rfl)
theorem dX1_findUnits_217 : decode cX1_findUnits 217 = .ok (.invokevirtual 45, 3) := dk_182 0 45 (dk_at dksX1_findUnits_9 4 rfl rfl)
theorem dX1_findUnits_220 : decode cX1_findUnits 220 = .ok (.ifCond .eq 12, 3) := dk_153 0 12 (dk_at dksX1_findUnits_9 7 rfl rfl)
theorem dX1_findUnits_223 : decode cX1_findUnits 223 = .ok (.aload_n 0, 1) := dk_42 (dk_at dksX1_findUnits_9 10 rfl rfl)
theorem dX1_findUnits_224 : decode cX1_findUnits 224 = .ok (.getfield 31, 3) := dk_180 0 31 (dk_at dksX1_findUnits_9 11 rfl rfl)
theorem dX1_findUnits_227 : decode cX1_findUnits 227 = .ok (.iload_n 1, 1) := dk_27 (dk_at dksX1_findUnits_9 14 rfl rfl)
theorem dX1_findUnits_228 : decode cX1_findUnits 228 = .ok (.laload, 1) := dk_47 (dk_at dksX1_findUnits_9 15 rfl rfl)
theorem dX1_findUnits_229 : decode cX1_findUnits 229 = .ok (.goto 4, 3) := dk_167 0 4 (dk_at dksX1_findUnits_9 16 rfl rfl)
theorem dX1_findUnits_232 : decode cX1_findUnits 232 = .ok (.lconst 0, 1) := dk_9 (dk_at dksX1_findUnits_9 19 rfl rfl)
theorem dX1_findUnits_233 : decode cX1_findUnits 233 = .ok (.ladd, 1) := dk_97 (dk_at dksX1_findUnits_9 20 rfl rfl)
theorem dX1_findUnits_234 : decode cX1_findUnits 234 = .ok (.lastore, 1) := dk_80 (dk_at dksX1_findUnits_9 21 rfl rfl)
theorem dX1_findUnits_235 : decode cX1_findUnits 235 = .ok (.iinc 1 1, 3) := dk_132 1 1 (dk_at dksX1_findUnits_10 0 rfl rfl)
theorem dX1_findUnits_238 : decode cX1_findUnits 238 = .ok (.goto (-92), 3) := dk_167 255 164 (dk_at dksX1_findUnits_10 3 rfl rfl)
theorem dX1_findUnits_241 : decode cX1_findUnits 241 = .ok (.return_, 1) := dk_177 (dk_at dksX1_findUnits_10 6 rfl rfl)
abbrev cX1_sumOf : ByteArray := prog_15_method_6_code
def yX1_sumOf : MethodName := ⟨RX1, "sumOf", "(IZ)J"⟩
def dkwX1_sumOf_3 : List UInt8 := [33, 22, 5, 109, 167, 0, 4, 33, 173]
abbrev dktX1_sumOf_3 : List UInt8 := dkwX1_sumOf_3 ++ []
def dkwX1_sumOf_2 : List UInt8 := [22, 5, 184, 0, 53, 55, 5, 132, 7, 1, 167, 255, 207, 28, 153, 0, 17, 22, 5, 9, 148, 158, 0, 10]
abbrev dktX1_sumOf_2 : List UInt8 := dkwX1_sumOf_2 ++ dktX1_sumOf_3
def dkwX1_sumOf_1 : List UInt8 := [27, 160, 0, 29, 33, 42, 180, 0, 19, 21, 7, 46, 133, 97, 66, 42, 180, 0, 19, 21, 7, 46, 133]
abbrev dktX1_sumOf_1 : List UInt8 := dkwX1_sumOf_1 ++ dktX1_sumOf_2
def dkwX1_sumOf_0 : List UInt8 := [9, 66, 9, 55, 5, 4, 54, 7, 21, 7, 42, 180, 0, 9, 162, 0, 46, 42, 180, 0, 15, 21, 7, 46]
abbrev dktX1_sumOf_0 : List UInt8 := dkwX1_sumOf_0 ++ dktX1_sumOf_1
theorem dksX1_sumOf_0 : cX1_sumOf.data.toList.drop 0 = dktX1_sumOf_0 := by decide +kernel
theorem dksX1_sumOf_1 : cX1_sumOf.data.toList.drop 24 = dktX1_sumOf_1 := dk_seg dksX1_sumOf_0 24 rfl rfl
theorem dksX1_sumOf_2 : cX1_sumOf.data.toList.drop 47 = dktX1_sumOf_2 := dk_seg dksX1_sumOf_1 23 rfl rfl
theorem dksX1_sumOf_3 : cX1_sumOf.data.toList.drop 71 = dktX1_sumOf_3 := dk_seg dksX1_sumOf_2 24 rfl rfl
theorem dX1_sumOf_0 : decode cX1_sumOf 0 = .ok (.lconst 0, 1) := dk_9 (dk_at dksX1_sumOf_0 0 rfl rfl)
theorem dX1_sumOf_1 : decode cX1_sumOf 1 = .ok (.lstore_n 3, 1) := dk_66 (dk_at dksX1_sumOf_0 1 rfl rfl)
theorem dX1_sumOf_2 : decode cX1_sumOf 2 = .ok (.lconst 0, 1) := dk_9 (dk_at dksX1_sumOf_0 2 rfl rfl)
theorem dX1_sumOf_3 : decode cX1_sumOf 3 = .ok (.lstore 5, 2) := dk_55 5 (dk_at dksX1_sumOf_0 3 rfl rfl)
theorem dX1_sumOf_5 : decode cX1_sumOf 5 = .ok (.iconst 1, 1) := dk_4 (dk_at dksX1_sumOf_0 5 rfl rfl)
theorem dX1_sumOf_6 : decode cX1_sumOf 6 = .ok (.istore 7, 2) := dk_54 7 (dk_at dksX1_sumOf_0 6 rfl rfl)
theorem dX1_sumOf_8 : decode cX1_sumOf 8 = .ok (.iload 7, 2) := dk_21 7 (dk_at dksX1_sumOf_0 8 rfl rfl)
theorem dX1_sumOf_10 : decode cX1_sumOf 10 = .ok (.aload_n 0, 1) := dk_42 (dk_at dksX1_sumOf_0 10 rfl rfl)
theorem dX1_sumOf_11 : decode cX1_sumOf 11 = .ok (.getfield 9, 3) := dk_180 0 9 (dk_at dksX1_sumOf_0 11 rfl rfl)
theorem dX1_sumOf_14 : decode cX1_sumOf 14 = .ok (.if_icmp .ge 46, 3) := dk_162 0 46 (dk_at dksX1_sumOf_0 14 rfl rfl)
theorem dX1_sumOf_17 : decode cX1_sumOf 17 = .ok (.aload_n 0, 1) := dk_42 (dk_at dksX1_sumOf_0 17 rfl rfl)
theorem dX1_sumOf_18 : decode cX1_sumOf 18 = .ok (.getfield 15, 3) := dk_180 0 15 (dk_at dksX1_sumOf_0 18 rfl rfl)
theorem dX1_sumOf_21 : decode cX1_sumOf 21 = .ok (.iload 7, 2) := dk_21 7 (dk_at dksX1_sumOf_0 21 rfl rfl)
theorem dX1_sumOf_23 : decode cX1_sumOf 23 = .ok (.iaload, 1) := dk_46 (dk_at dksX1_sumOf_0 23 rfl rfl)
theorem dX1_sumOf_24 : decode cX1_sumOf 24 = .ok (.iload_n 1, 1) := dk_27 (dk_at dksX1_sumOf_1 0 rfl rfl)
theorem dX1_sumOf_25 : decode cX1_sumOf 25 = .ok (.if_icmp .ne 29, 3) := dk_160 0 29 (dk_at dksX1_sumOf_1 1 rfl rfl)
theorem dX1_sumOf_28 : decode cX1_sumOf 28 = .ok (.lload_n 3, 1) := dk_33 (dk_at dksX1_sumOf_1 4 rfl rfl)
theorem dX1_sumOf_29 : decode cX1_sumOf 29 = .ok (.aload_n 0, 1) := dk_42 (dk_at dksX1_sumOf_1 5 rfl rfl)
theorem dX1_sumOf_30 : decode cX1_sumOf 30 = .ok (.getfield 19, 3) := dk_180 0 19 (dk_at dksX1_sumOf_1 6 rfl rfl)
theorem dX1_sumOf_33 : decode cX1_sumOf 33 = .ok (.iload 7, 2) := dk_21 7 (dk_at dksX1_sumOf_1 9 rfl rfl)
theorem dX1_sumOf_35 : decode cX1_sumOf 35 = .ok (.iaload, 1) := dk_46 (dk_at dksX1_sumOf_1 11 rfl rfl)
theorem dX1_sumOf_36 : decode cX1_sumOf 36 = .ok (.i2l, 1) := dk_133 (dk_at dksX1_sumOf_1 12 rfl rfl)
theorem dX1_sumOf_37 : decode cX1_sumOf 37 = .ok (.ladd, 1) := dk_97 (dk_at dksX1_sumOf_1 13 rfl rfl)
theorem dX1_sumOf_38 : decode cX1_sumOf 38 = .ok (.lstore_n 3, 1) := dk_66 (dk_at dksX1_sumOf_1 14 rfl rfl)
theorem dX1_sumOf_39 : decode cX1_sumOf 39 = .ok (.aload_n 0, 1) := dk_42 (dk_at dksX1_sumOf_1 15 rfl rfl)
theorem dX1_sumOf_40 : decode cX1_sumOf 40 = .ok (.getfield 19, 3) := dk_180 0 19 (dk_at dksX1_sumOf_1 16 rfl rfl)
theorem dX1_sumOf_43 : decode cX1_sumOf 43 = .ok (.iload 7, 2) := dk_21 7 (dk_at dksX1_sumOf_1 19 rfl rfl)
theorem dX1_sumOf_45 : decode cX1_sumOf 45 = .ok (.iaload, 1) := dk_46 (dk_at dksX1_sumOf_1 21 rfl rfl)
theorem dX1_sumOf_46 : decode cX1_sumOf 46 = .ok (.i2l, 1) := dk_133 (dk_at dksX1_sumOf_1 22 rfl rfl)
theorem dX1_sumOf_47 : decode cX1_sumOf 47 = .ok (.lload 5, 2) := dk_22 5 (dk_at dksX1_sumOf_2 0 rfl rfl)
theorem dX1_sumOf_49 : decode cX1_sumOf 49 = .ok (.invokestatic 53, 3) := dk_184 0 53 (dk_at dksX1_sumOf_2 2 rfl rfl)
theorem dX1_sumOf_52 : decode cX1_sumOf 52 = .ok (.lstore 5, 2) := dk_55 5 (dk_at dksX1_sumOf_2 5 rfl rfl)
theorem dX1_sumOf_54 : decode cX1_sumOf 54 = .ok (.iinc 7 1, 3) := dk_132 7 1 (dk_at dksX1_sumOf_2 7 rfl rfl)
theorem dX1_sumOf_57 : decode cX1_sumOf 57 = .ok (.goto (-49), 3) := dk_167 255 207 (dk_at dksX1_sumOf_2 10 rfl rfl)
theorem dX1_sumOf_60 : decode cX1_sumOf 60 = .ok (.iload_n 2, 1) := dk_28 (dk_at dksX1_sumOf_2 13 rfl rfl)
theorem dX1_sumOf_61 : decode cX1_sumOf 61 = .ok (.ifCond .eq 17, 3) := dk_153 0 17 (dk_at dksX1_sumOf_2 14 rfl rfl)
theorem dX1_sumOf_64 : decode cX1_sumOf 64 = .ok (.lload 5, 2) := dk_22 5 (dk_at dksX1_sumOf_2 17 rfl rfl)
theorem dX1_sumOf_66 : decode cX1_sumOf 66 = .ok (.lconst 0, 1) := dk_9 (dk_at dksX1_sumOf_2 19 rfl rfl)
theorem dX1_sumOf_67 : decode cX1_sumOf 67 = .ok (.lcmp, 1) := dk_148 (dk_at dksX1_sumOf_2 20 rfl rfl)
theorem dX1_sumOf_68 : decode cX1_sumOf 68 = .ok (.ifCond .le 10, 3) := dk_158 0 10 (dk_at dksX1_sumOf_2 21 rfl rfl)
theorem dX1_sumOf_71 : decode cX1_sumOf 71 = .ok (.lload_n 3, 1) := dk_33 (dk_at dksX1_sumOf_3 0 rfl rfl)
theorem dX1_sumOf_72 : decode cX1_sumOf 72 = .ok (.lload 5, 2) := dk_22 5 (dk_at dksX1_sumOf_3 1 rfl rfl)
theorem dX1_sumOf_74 : decode cX1_sumOf 74 = .ok (.ldiv, 1) := dk_109 (dk_at dksX1_sumOf_3 3 rfl rfl)
theorem dX1_sumOf_75 : decode cX1_sumOf 75 = .ok (.goto 4, 3) := dk_167 0 4 (dk_at dksX1_sumOf_3 4 rfl rfl)
theorem dX1_sumOf_78 : decode cX1_sumOf 78 = .ok (.lload_n 3, 1) := dk_33 (dk_at dksX1_sumOf_3 7 rfl rfl)
theorem dX1_sumOf_79 : decode cX1_sumOf 79 = .ok (.lreturn, 1) := dk_173 (dk_at dksX1_sumOf_3 8 rfl rfl)
abbrev cX1_units : ByteArray := prog_15_method_8_code
def yX1_units : MethodName := ⟨RX1, "units", "(I)J"⟩
def dkwX1_units_0 : List UInt8 := [42, 180, 0, 49, 154, 0, 7, 42, 182, 0, 66, 42, 180, 0, 31, 27, 47, 173]
abbrev dktX1_units_0 : List UInt8 := dkwX1_units_0 ++ []
theorem dksX1_units_0 : cX1_units.data.toList.drop 0 = dktX1_units_0 := by decide +kernel
theorem dX1_units_0 : decode cX1_units 0 = .ok (.aload_n 0, 1) := dk_42 (dk_at dksX1_units_0 0 rfl rfl)
theorem dX1_units_1 : decode cX1_units 1 = .ok (.getfield 49, 3) := dk_180 0 49 (dk_at dksX1_units_0 1 rfl rfl)
theorem dX1_units_4 : decode cX1_units 4 = .ok (.ifCond .ne 7, 3) := dk_154 0 7 (dk_at dksX1_units_0 4 rfl rfl)
theorem dX1_units_7 : decode cX1_units 7 = .ok (.aload_n 0, 1) := dk_42 (dk_at dksX1_units_0 7 rfl rfl)
theorem dX1_units_8 : decode cX1_units 8 = .ok (.invokevirtual 66, 3) := dk_182 0 66 (dk_at dksX1_units_0 8 rfl rfl)
theorem dX1_units_11 : decode cX1_units 11 = .ok (.aload_n 0, 1) := dk_42 (dk_at dksX1_units_0 11 rfl rfl)
theorem dX1_units_12 : decode cX1_units 12 = .ok (.getfield 31, 3) := dk_180 0 31 (dk_at dksX1_units_0 12 rfl rfl)
theorem dX1_units_15 : decode cX1_units 15 = .ok (.iload_n 1, 1) := dk_27 (dk_at dksX1_units_0 15 rfl rfl)
theorem dX1_units_16 : decode cX1_units 16 = .ok (.laload, 1) := dk_47 (dk_at dksX1_units_0 16 rfl rfl)
theorem dX1_units_17 : decode cX1_units 17 = .ok (.lreturn, 1) := dk_173 (dk_at dksX1_units_0 17 rfl rfl)
abbrev cX1_on : ByteArray := prog_15_method_12_code
def yX1_on : MethodName := ⟨RX1, "on", "(II)I"⟩
def dkwX1_on_0 : List UInt8 := [27, 62, 42, 180, 0, 25, 29, 46, 28, 164, 0, 13, 42, 180, 0, 15, 29, 46, 62, 167, 255, 239, 29, 172]
abbrev dktX1_on_0 : List UInt8 := dkwX1_on_0 ++ []
theorem dksX1_on_0 : cX1_on.data.toList.drop 0 = dktX1_on_0 := by decide +kernel
theorem dX1_on_0 : decode cX1_on 0 = .ok (.iload_n 1, 1) := dk_27 (dk_at dksX1_on_0 0 rfl rfl)
theorem dX1_on_1 : decode cX1_on 1 = .ok (.istore_n 3, 1) := dk_62 (dk_at dksX1_on_0 1 rfl rfl)
theorem dX1_on_2 : decode cX1_on 2 = .ok (.aload_n 0, 1) := dk_42 (dk_at dksX1_on_0 2 rfl rfl)
theorem dX1_on_3 : decode cX1_on 3 = .ok (.getfield 25, 3) := dk_180 0 25 (dk_at dksX1_on_0 3 rfl rfl)
theorem dX1_on_6 : decode cX1_on 6 = .ok (.iload_n 3, 1) := dk_29 (dk_at dksX1_on_0 6 rfl rfl)
theorem dX1_on_7 : decode cX1_on 7 = .ok (.iaload, 1) := dk_46 (dk_at dksX1_on_0 7 rfl rfl)
theorem dX1_on_8 : decode cX1_on 8 = .ok (.iload_n 2, 1) := dk_28 (dk_at dksX1_on_0 8 rfl rfl)
theorem dX1_on_9 : decode cX1_on 9 = .ok (.if_icmp .le 13, 3) := dk_164 0 13 (dk_at dksX1_on_0 9 rfl rfl)
theorem dX1_on_12 : decode cX1_on 12 = .ok (.aload_n 0, 1) := dk_42 (dk_at dksX1_on_0 12 rfl rfl)
theorem dX1_on_13 : decode cX1_on 13 = .ok (.getfield 15, 3) := dk_180 0 15 (dk_at dksX1_on_0 13 rfl rfl)
theorem dX1_on_16 : decode cX1_on 16 = .ok (.iload_n 3, 1) := dk_29 (dk_at dksX1_on_0 16 rfl rfl)
theorem dX1_on_17 : decode cX1_on 17 = .ok (.iaload, 1) := dk_46 (dk_at dksX1_on_0 17 rfl rfl)
theorem dX1_on_18 : decode cX1_on 18 = .ok (.istore_n 3, 1) := dk_62 (dk_at dksX1_on_0 18 rfl rfl)
theorem dX1_on_19 : decode cX1_on 19 = .ok (.goto (-17), 3) := dk_167 255 239 (dk_at dksX1_on_0 19 rfl rfl)
theorem dX1_on_22 : decode cX1_on 22 = .ok (.iload_n 3, 1) := dk_29 (dk_at dksX1_on_0 22 rfl rfl)
theorem dX1_on_23 : decode cX1_on 23 = .ok (.ireturn, 1) := dk_172 (dk_at dksX1_on_0 23 rfl rfl)
theorem q105 : (Jvm.Cond.initialized "BeforeTheEnd$Tree") ∈ lw_all := lw_g (lw_at lw_m1 2 rfl) rfl
theorem q140 : (Jvm.Cond.instantiable "BeforeTheEnd$Tree" (9 : Nat)) ∈ lw_all := lw_g (lw_at lw_m1 37 rfl) rfl
theorem q142 : (Jvm.Cond.instanceMethod ({ cls := "BeforeTheEnd$Tree", name := "<init>", desc := "()V" } : Jvm.MethodName)) ∈ lw_all := lw_g (lw_at lw_m1 39 rfl) rfl
theorem q143 : (Jvm.Cond.code ({ cls := "BeforeTheEnd$Tree", name := "<init>", desc := "()V" } : Jvm.MethodName) prog_15_method_1_code (1 : Nat) (Option.none : Option Jvm.ClassFile.FieldType)) ∈ lw_all := lw_g (lw_at lw_m1 40 rfl) rfl
theorem q144 : (Jvm.Cond.methodLink "BeforeTheEnd$Tree" (3 : Nat) ({ cls := "java/lang/Object", name := "<init>", desc := "()V" } : Jvm.MethodName)) ∈ lw_all := lw_g (lw_at lw_m1 41 rfl) rfl
theorem q145 : (Jvm.Cond.fieldLink "BeforeTheEnd$Tree" (9 : Nat) "BeforeTheEnd$Tree" "many" "I") ∈ lw_all := lw_g (lw_at lw_m1 42 rfl) rfl
theorem q148 : (Jvm.Cond.fieldLink "BeforeTheEnd$Tree" (15 : Nat) "BeforeTheEnd$Tree" "parents" "[I") ∈ lw_all := lw_g (lw_at lw_m1 45 rfl) rfl
theorem q150 : (Jvm.Cond.fieldLink "BeforeTheEnd$Tree" (19 : Nat) "BeforeTheEnd$Tree" "weights" "[I") ∈ lw_all := lw_g (lw_at lw_m1 47 rfl) rfl
theorem q152 : (Jvm.Cond.fieldLink "BeforeTheEnd$Tree" (22 : Nat) "BeforeTheEnd$Tree" "answers" "[I") ∈ lw_all := lw_g (lw_at lw_m1 49 rfl) rfl
theorem q154 : (Jvm.Cond.fieldLink "BeforeTheEnd$Tree" (25 : Nat) "BeforeTheEnd$Tree" "lengths" "[I") ∈ lw_all := lw_g (lw_at lw_m1 51 rfl) rfl
theorem q156 : (Jvm.Cond.fieldLink "BeforeTheEnd$Tree" (28 : Nat) "BeforeTheEnd$Tree" "nexts" "[I") ∈ lw_all := lw_g (lw_at lw_m1 53 rfl) rfl
theorem q158 : (Jvm.Cond.fieldLink "BeforeTheEnd$Tree" (31 : Nat) "BeforeTheEnd$Tree" "units" "[J") ∈ lw_all := lw_g (lw_at lw_m1 55 rfl) rfl
theorem q159 : (Jvm.Cond.fieldLink "BeforeTheEnd$Tree" (35 : Nat) "BeforeTheEnd$Tree" "behind" "[J") ∈ lw_all := lw_g (lw_at lw_m1 56 rfl) rfl
theorem q160 : (Jvm.Cond.fieldLink "BeforeTheEnd$Tree" (49 : Nat) "BeforeTheEnd$Tree" "areUnits" "Z") ∈ lw_all := lw_g (lw_at lw_m1 57 rfl) rfl
theorem q161 : (Jvm.Cond.lays "BeforeTheEnd$Tree" "BeforeTheEnd$Tree" "many" "I") ∈ lw_all := lw_g (lw_at lw_m1 58 rfl) rfl
theorem q162 : (Jvm.Cond.soleField "BeforeTheEnd$Tree" "many") ∈ lw_all := lw_g (lw_at lw_m1 59 rfl) rfl
theorem q163 : (Jvm.Cond.laysFinal "BeforeTheEnd$Tree" "BeforeTheEnd$Tree" "parents" "[I") ∈ lw_all := lw_g (lw_at lw_m1 60 rfl) rfl
theorem q164 : (Jvm.Cond.soleField "BeforeTheEnd$Tree" "parents") ∈ lw_all := lw_g (lw_at lw_m1 61 rfl) rfl
theorem q165 : (Jvm.Cond.laysFinal "BeforeTheEnd$Tree" "BeforeTheEnd$Tree" "weights" "[I") ∈ lw_all := lw_g (lw_at lw_m1 62 rfl) rfl
theorem q166 : (Jvm.Cond.soleField "BeforeTheEnd$Tree" "weights") ∈ lw_all := lw_g (lw_at lw_m1 63 rfl) rfl
theorem q167 : (Jvm.Cond.laysFinal "BeforeTheEnd$Tree" "BeforeTheEnd$Tree" "answers" "[I") ∈ lw_all := lw_g (lw_at lw_m1 64 rfl) rfl
theorem q168 : (Jvm.Cond.soleField "BeforeTheEnd$Tree" "answers") ∈ lw_all := lw_g (lw_at lw_m1 65 rfl) rfl
theorem q169 : (Jvm.Cond.laysFinal "BeforeTheEnd$Tree" "BeforeTheEnd$Tree" "lengths" "[I") ∈ lw_all := lw_g (lw_at lw_m1 66 rfl) rfl
theorem q170 : (Jvm.Cond.soleField "BeforeTheEnd$Tree" "lengths") ∈ lw_all := lw_g (lw_at lw_m1 67 rfl) rfl
theorem q171 : (Jvm.Cond.laysFinal "BeforeTheEnd$Tree" "BeforeTheEnd$Tree" "nexts" "[I") ∈ lw_all := lw_g (lw_at lw_m1 68 rfl) rfl
theorem q172 : (Jvm.Cond.soleField "BeforeTheEnd$Tree" "nexts") ∈ lw_all := lw_g (lw_at lw_m1 69 rfl) rfl
theorem q173 : (Jvm.Cond.laysFinal "BeforeTheEnd$Tree" "BeforeTheEnd$Tree" "units" "[J") ∈ lw_all := lw_g (lw_at lw_m1 70 rfl) rfl
theorem q174 : (Jvm.Cond.soleField "BeforeTheEnd$Tree" "units") ∈ lw_all := lw_g (lw_at lw_m1 71 rfl) rfl
theorem q175 : (Jvm.Cond.laysFinal "BeforeTheEnd$Tree" "BeforeTheEnd$Tree" "behind" "[J") ∈ lw_all := lw_g (lw_at lw_m1 72 rfl) rfl
theorem q176 : (Jvm.Cond.soleField "BeforeTheEnd$Tree" "behind") ∈ lw_all := lw_g (lw_at lw_m1 73 rfl) rfl
theorem q177 : (Jvm.Cond.lays "BeforeTheEnd$Tree" "BeforeTheEnd$Tree" "areUnits" "Z") ∈ lw_all := lw_g (lw_at lw_m1 74 rfl) rfl
theorem q178 : (Jvm.Cond.soleField "BeforeTheEnd$Tree" "areUnits") ∈ lw_all := lw_g (lw_at lw_m1 75 rfl) rfl
theorem q179 : (Jvm.Cond.superclass "BeforeTheEnd$Tree" "java/lang/Object") ∈ lw_all := lw_g (lw_at lw_m1 76 rfl) rfl
theorem q705 : (Jvm.Cond.instanceMethod ({ cls := "BeforeTheEnd$Tree", name := "copied", desc := "()LBeforeTheEnd$Tree;" } : Jvm.MethodName)) ∈ lw_all := lw_g (lw_at lw_m3 122 rfl) rfl
theorem q706 : (Jvm.Cond.selects "BeforeTheEnd$Tree" ({ cls := "BeforeTheEnd$Tree", name := "copied", desc := "()LBeforeTheEnd$Tree;" } : Jvm.MethodName) ({ cls := "BeforeTheEnd$Tree", name := "copied", desc := "()LBeforeTheEnd$Tree;" } : Jvm.MethodName)) ∈ lw_all := lw_g (lw_at lw_m3 123 rfl) rfl
theorem q707 : (Jvm.Cond.code ({ cls := "BeforeTheEnd$Tree", name := "copied", desc := "()LBeforeTheEnd$Tree;" } : Jvm.MethodName) prog_15_method_2_code (2 : Nat) (Option.some (Jvm.ClassFile.FieldType.object "BeforeTheEnd$Tree"))) ∈ lw_all := lw_g (lw_at lw_m3 124 rfl) rfl
theorem q708 : (Jvm.Cond.classLink "BeforeTheEnd$Tree" (10 : Nat) "BeforeTheEnd$Tree") ∈ lw_all := lw_g (lw_at lw_m3 125 rfl) rfl
theorem q709 : (Jvm.Cond.methodLink "BeforeTheEnd$Tree" (38 : Nat) ({ cls := "BeforeTheEnd$Tree", name := "<init>", desc := "()V" } : Jvm.MethodName)) ∈ lw_all := lw_g (lw_at lw_m3 126 rfl) rfl
theorem q710 : (Jvm.Cond.methodLink "BeforeTheEnd$Tree" (39 : Nat) ({ cls := "java/lang/System", name := "arraycopy", desc := "(Ljava/lang/Object;ILjava/lang/Object;II)V" } : Jvm.MethodName)) ∈ lw_all := lw_g (lw_at lw_m3 127 rfl) rfl
theorem q723 : (Jvm.Cond.instanceMethod ({ cls := "BeforeTheEnd$Tree", name := "isEnd", desc := "(I)Z" } : Jvm.MethodName)) ∈ lw_all := lw_g (lw_at lw_m3 140 rfl) rfl
theorem q724 : (Jvm.Cond.selects "BeforeTheEnd$Tree" ({ cls := "BeforeTheEnd$Tree", name := "isEnd", desc := "(I)Z" } : Jvm.MethodName) ({ cls := "BeforeTheEnd$Tree", name := "isEnd", desc := "(I)Z" } : Jvm.MethodName)) ∈ lw_all := lw_g (lw_at lw_m3 141 rfl) rfl
theorem q725 : (Jvm.Cond.code ({ cls := "BeforeTheEnd$Tree", name := "isEnd", desc := "(I)Z" } : Jvm.MethodName) prog_15_method_3_code (2 : Nat) (Option.some Jvm.ClassFile.FieldType.boolean)) ∈ lw_all := lw_g (lw_at lw_m3 142 rfl) rfl
theorem q730 : (Jvm.Cond.instanceMethod ({ cls := "BeforeTheEnd$Tree", name := "add", desc := "(III)V" } : Jvm.MethodName)) ∈ lw_all := lw_g (lw_at lw_m3 147 rfl) rfl
theorem q731 : (Jvm.Cond.selects "BeforeTheEnd$Tree" ({ cls := "BeforeTheEnd$Tree", name := "add", desc := "(III)V" } : Jvm.MethodName) ({ cls := "BeforeTheEnd$Tree", name := "add", desc := "(III)V" } : Jvm.MethodName)) ∈ lw_all := lw_g (lw_at lw_m3 148 rfl) rfl
theorem q732 : (Jvm.Cond.code ({ cls := "BeforeTheEnd$Tree", name := "add", desc := "(III)V" } : Jvm.MethodName) prog_15_method_5_code (4 : Nat) (Option.none : Option Jvm.ClassFile.FieldType)) ∈ lw_all := lw_g (lw_at lw_m3 149 rfl) rfl
theorem q789 : (Jvm.Cond.instanceMethod ({ cls := "BeforeTheEnd$Tree", name := "isWhole", desc := "()Z" } : Jvm.MethodName)) ∈ lw_all := lw_g (lw_at lw_m3 206 rfl) rfl
theorem q790 : (Jvm.Cond.selects "BeforeTheEnd$Tree" ({ cls := "BeforeTheEnd$Tree", name := "isWhole", desc := "()Z" } : Jvm.MethodName) ({ cls := "BeforeTheEnd$Tree", name := "isWhole", desc := "()Z" } : Jvm.MethodName)) ∈ lw_all := lw_g (lw_at lw_m3 207 rfl) rfl
theorem q791 : (Jvm.Cond.code ({ cls := "BeforeTheEnd$Tree", name := "isWhole", desc := "()Z" } : Jvm.MethodName) prog_15_method_4_code (3 : Nat) (Option.some Jvm.ClassFile.FieldType.boolean)) ∈ lw_all := lw_g (lw_at lw_m3 208 rfl) rfl
theorem q792 : (Jvm.Cond.methodLink "BeforeTheEnd$Tree" (45 : Nat) ({ cls := "BeforeTheEnd$Tree", name := "isEnd", desc := "(I)Z" } : Jvm.MethodName)) ∈ lw_all := lw_g (lw_at lw_m3 209 rfl) rfl
theorem q794 : (Jvm.Cond.instanceMethod ({ cls := "BeforeTheEnd$Tree", name := "left", desc := "(I)I" } : Jvm.MethodName)) ∈ lw_all := lw_g (lw_at lw_m3 211 rfl) rfl
theorem q795 : (Jvm.Cond.selects "BeforeTheEnd$Tree" ({ cls := "BeforeTheEnd$Tree", name := "left", desc := "(I)I" } : Jvm.MethodName) ({ cls := "BeforeTheEnd$Tree", name := "left", desc := "(I)I" } : Jvm.MethodName)) ∈ lw_all := lw_g (lw_at lw_m3 212 rfl) rfl
theorem q796 : (Jvm.Cond.code ({ cls := "BeforeTheEnd$Tree", name := "left", desc := "(I)I" } : Jvm.MethodName) prog_15_method_11_code (4 : Nat) (Option.some Jvm.ClassFile.FieldType.int)) ∈ lw_all := lw_g (lw_at lw_m3 213 rfl) rfl
theorem q797 : (Jvm.Cond.methodLink "BeforeTheEnd$Tree" (69 : Nat) ({ cls := "BeforeTheEnd$Tree", name := "isBehind", desc := "(II)Z" } : Jvm.MethodName)) ∈ lw_all := lw_g (lw_at lw_m3 214 rfl) rfl
theorem q798 : (Jvm.Cond.instanceMethod ({ cls := "BeforeTheEnd$Tree", name := "isBehind", desc := "(II)Z" } : Jvm.MethodName)) ∈ lw_all := lw_g (lw_at lw_m3 215 rfl) rfl
theorem q799 : (Jvm.Cond.selects "BeforeTheEnd$Tree" ({ cls := "BeforeTheEnd$Tree", name := "isBehind", desc := "(II)Z" } : Jvm.MethodName) ({ cls := "BeforeTheEnd$Tree", name := "isBehind", desc := "(II)Z" } : Jvm.MethodName)) ∈ lw_all := lw_g (lw_at lw_m3 216 rfl) rfl
theorem q800 : (Jvm.Cond.code ({ cls := "BeforeTheEnd$Tree", name := "isBehind", desc := "(II)Z" } : Jvm.MethodName) prog_15_method_9_code (4 : Nat) (Option.some Jvm.ClassFile.FieldType.boolean)) ∈ lw_all := lw_g (lw_at lw_m3 217 rfl) rfl
theorem q810 : (Jvm.Cond.instanceMethod ({ cls := "BeforeTheEnd$Tree", name := "unitsOf", desc := "(II)J" } : Jvm.MethodName)) ∈ lw_all := lw_g (lw_at lw_m3 227 rfl) rfl
theorem q811 : (Jvm.Cond.selects "BeforeTheEnd$Tree" ({ cls := "BeforeTheEnd$Tree", name := "unitsOf", desc := "(II)J" } : Jvm.MethodName) ({ cls := "BeforeTheEnd$Tree", name := "unitsOf", desc := "(II)J" } : Jvm.MethodName)) ∈ lw_all := lw_g (lw_at lw_m3 228 rfl) rfl
theorem q812 : (Jvm.Cond.code ({ cls := "BeforeTheEnd$Tree", name := "unitsOf", desc := "(II)J" } : Jvm.MethodName) prog_15_method_10_code (3 : Nat) (Option.some Jvm.ClassFile.FieldType.long)) ∈ lw_all := lw_g (lw_at lw_m3 229 rfl) rfl
theorem q813 : (Jvm.Cond.methodLink "BeforeTheEnd$Tree" (66 : Nat) ({ cls := "BeforeTheEnd$Tree", name := "findUnits", desc := "()V" } : Jvm.MethodName)) ∈ lw_all := lw_g (lw_at lw_m3 230 rfl) rfl
theorem q814 : (Jvm.Cond.privateMethod ({ cls := "BeforeTheEnd$Tree", name := "findUnits", desc := "()V" } : Jvm.MethodName)) ∈ lw_tbl := lw_at lw_m3 231 rfl
theorem q815 : (Jvm.Cond.instanceMethod ({ cls := "BeforeTheEnd$Tree", name := "findUnits", desc := "()V" } : Jvm.MethodName)) ∈ lw_all := lw_g (lw_at lw_m3 232 rfl) rfl
theorem q816 : (Jvm.Cond.code ({ cls := "BeforeTheEnd$Tree", name := "findUnits", desc := "()V" } : Jvm.MethodName) prog_15_method_7_code (6 : Nat) (Option.none : Option Jvm.ClassFile.FieldType)) ∈ lw_all := lw_g (lw_at lw_m3 233 rfl) rfl
theorem q817 : (Jvm.Cond.methodLink "BeforeTheEnd$Tree" (57 : Nat) ({ cls := "BeforeTheEnd$Tree", name := "sumOf", desc := "(IZ)J" } : Jvm.MethodName)) ∈ lw_all := lw_g (lw_at lw_m3 234 rfl) rfl
theorem q818 : (Jvm.Cond.privateMethod ({ cls := "BeforeTheEnd$Tree", name := "sumOf", desc := "(IZ)J" } : Jvm.MethodName)) ∈ lw_tbl := lw_at lw_m3 235 rfl
theorem q819 : (Jvm.Cond.instanceMethod ({ cls := "BeforeTheEnd$Tree", name := "sumOf", desc := "(IZ)J" } : Jvm.MethodName)) ∈ lw_all := lw_g (lw_at lw_m3 236 rfl) rfl
theorem q820 : (Jvm.Cond.code ({ cls := "BeforeTheEnd$Tree", name := "sumOf", desc := "(IZ)J" } : Jvm.MethodName) prog_15_method_6_code (8 : Nat) (Option.some Jvm.ClassFile.FieldType.long)) ∈ lw_all := lw_g (lw_at lw_m3 237 rfl) rfl
theorem q821 : (Jvm.Cond.methodLinkNest "BeforeTheEnd$Tree" (53 : Nat) ({ cls := "BeforeTheEnd", name := "divisor", desc := "(JJ)J" } : Jvm.MethodName) "BeforeTheEnd") ∈ lw_tbl := lw_at lw_m3 238 rfl
theorem q824 : (Jvm.Cond.methodLink "BeforeTheEnd$Tree" (61 : Nat) ({ cls := "java/lang/Math", name := "max", desc := "(JJ)J" } : Jvm.MethodName)) ∈ lw_all := lw_g (lw_at lw_m4 1 rfl) rfl
theorem q873 : (Jvm.Cond.instanceMethod ({ cls := "BeforeTheEnd$Tree", name := "units", desc := "(I)J" } : Jvm.MethodName)) ∈ lw_all := lw_g (lw_at lw_m4 50 rfl) rfl
theorem q874 : (Jvm.Cond.selects "BeforeTheEnd$Tree" ({ cls := "BeforeTheEnd$Tree", name := "units", desc := "(I)J" } : Jvm.MethodName) ({ cls := "BeforeTheEnd$Tree", name := "units", desc := "(I)J" } : Jvm.MethodName)) ∈ lw_all := lw_g (lw_at lw_m4 51 rfl) rfl
theorem q875 : (Jvm.Cond.code ({ cls := "BeforeTheEnd$Tree", name := "units", desc := "(I)J" } : Jvm.MethodName) prog_15_method_8_code (2 : Nat) (Option.some Jvm.ClassFile.FieldType.long)) ∈ lw_all := lw_g (lw_at lw_m4 52 rfl) rfl
theorem q926 : (Jvm.Cond.instanceMethod ({ cls := "BeforeTheEnd$Tree", name := "on", desc := "(II)I" } : Jvm.MethodName)) ∈ lw_all := lw_g (lw_at lw_m4 103 rfl) rfl
theorem q927 : (Jvm.Cond.selects "BeforeTheEnd$Tree" ({ cls := "BeforeTheEnd$Tree", name := "on", desc := "(II)I" } : Jvm.MethodName) ({ cls := "BeforeTheEnd$Tree", name := "on", desc := "(II)I" } : Jvm.MethodName)) ∈ lw_all := lw_g (lw_at lw_m4 104 rfl) rfl
theorem q928 : (Jvm.Cond.code ({ cls := "BeforeTheEnd$Tree", name := "on", desc := "(II)I" } : Jvm.MethodName) prog_15_method_12_code (4 : Nat) (Option.some Jvm.ClassFile.FieldType.int)) ∈ lw_all := lw_g (lw_at lw_m4 105 rfl) rfl
theorem in_X1 : ∀ w ∈ wsX10, w ∈ lw_all := lw_in wsX10 [161, 163, 165, 167, 169, 171, 173, 175, 177] (by decide +kernel) (by decide +kernel)
