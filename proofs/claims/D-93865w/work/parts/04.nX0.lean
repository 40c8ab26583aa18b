/-! BeforeTheEnd -/
set_option maxRecDepth 100000
def RX0 : String := "BeforeTheEnd"
def TX0 : u_T := fun k => match k with
  | 0 => ("BeforeTheEnd", "version", "I", false)
  | 1 => ("BeforeTheEnd", "tree", "LBeforeTheEnd$Tree;", false)
  | 2 => ("BeforeTheEnd", "players", "[LBeforeTheEnd$Player;", true)
  | 3 => ("BeforeTheEnd", "playerMany", "I", false)
  | 4 => ("BeforeTheEnd", "points", "[I", true)
  | 5 => ("BeforeTheEnd", "facts", "[I", true)
  | 6 => ("BeforeTheEnd", "factMany", "I", false)
  | 7 => ("BeforeTheEnd", "imagedTree", "LBeforeTheEnd$Tree;", false)
  | 8 => ("BeforeTheEnd", "imagedPlayers", "[LBeforeTheEnd$Player;", true)
  | 9 => ("BeforeTheEnd", "imagedPlayerMany", "I", false)
  | 10 => ("BeforeTheEnd", "imaged", "[I", true)
  | 11 => ("BeforeTheEnd", "row", "[B", true)
  | 12 => ("BeforeTheEnd", "rowMany", "I", false)
  | 13 => ("BeforeTheEnd", "tape", "[B", true)
  | 14 => ("BeforeTheEnd", "tapeMany", "I", false)
  | 15 => ("BeforeTheEnd", "refused", "[I", true)
  | 16 => ("BeforeTheEnd", "winner", "I", false)
  | 17 => ("BeforeTheEnd", "firstWord", "I", false)
  | 18 => ("BeforeTheEnd", "firstPlayer", "I", false)
  | 19 => ("BeforeTheEnd", "wrongs", "I", false)
  | 20 => ("BeforeTheEnd", "has", "[I", true)
  | 21 => ("BeforeTheEnd", "isOut", "[Z", true)
  | 22 => ("BeforeTheEnd", "winUnits", "[J", true)
  | 23 => ("BeforeTheEnd", "worthUnits", "[J", true)
  | 24 => ("BeforeTheEnd", "nobodyUnits", "J", false)
  | 25 => ("BeforeTheEnd", "dullUnits", "J", false)
  | 26 => ("BeforeTheEnd", "values", "[J", true)
  | 27 => ("BeforeTheEnd", "factOrder", "[I", true)
  | 28 => ("BeforeTheEnd", "bestOrder", "[I", true)
  | 29 => ("BeforeTheEnd", "bestHad", "I", false)
  | _ => ("BeforeTheEnd", "drawnZ", "I", false)
def tyX0 : Nat → FieldType := fun k => match k with
  | 0 => .int
  | 1 => .object "BeforeTheEnd$Tree"
  | 2 => .array (.object "BeforeTheEnd$Player")
  | 3 => .int
  | 4 => .array .int
  | 5 => .array .int
  | 6 => .int
  | 7 => .object "BeforeTheEnd$Tree"
  | 8 => .array (.object "BeforeTheEnd$Player")
  | 9 => .int
  | 10 => .array .int
  | 11 => .array .byte
  | 12 => .int
  | 13 => .array .byte
  | 14 => .int
  | 15 => .array .int
  | 16 => .int
  | 17 => .int
  | 18 => .int
  | 19 => .int
  | 20 => .array .int
  | 21 => .array .boolean
  | 22 => .array .long
  | 23 => .array .long
  | 24 => .long
  | 25 => .long
  | 26 => .array .long
  | 27 => .array .int
  | 28 => .array .int
  | 29 => .int
  | _ => .int
abbrev wsX00 : List Cond := u_ws RX0 TX0 31
set_option maxRecDepth 100000 in
theorem nmX0 : ∀ a, a < 31 → ∀ b, b < 31 → a ≠ b → (TX0 a).2.1 ≠ (TX0 b).2.1 := by decide +kernel
set_option maxRecDepth 100000 in
theorem tyX0_ok : ∀ k, k < 31 → parseFieldDescriptor (TX0 k).2.2.1 = some (tyX0 k) := by decide +kernel
abbrev cX0_init : ByteArray := prog_1_method_8_code
def yX0_init : MethodName := ⟨RX0, "<init>", "()V"⟩
def dkwX0_init_6 : List UInt8 := [181, 0, 108, 177]
abbrev dktX0_init_6 : List UInt8 := dkwX0_init_6 ++ []
def dkwX0_init_5 : List UInt8 := [181, 0, 99, 42, 16, 24, 188, 11, 181, 0, 102, 42, 8, 188, 10, 181, 0, 105, 42, 8, 188, 10]
abbrev dktX0_init_5 : List UInt8 := dkwX0_init_5 ++ dktX0_init_6
def dkwX0_init_4 : List UInt8 := [7, 188, 10, 181, 0, 88, 42, 7, 188, 4, 181, 0, 91, 42, 7, 188, 11, 181, 0, 95, 42, 7, 188, 11]
abbrev dktX0_init_4 : List UInt8 := dkwX0_init_4 ++ dktX0_init_5
def dkwX0_init_3 : List UInt8 := [16, 20, 188, 8, 181, 0, 78, 42, 16, 64, 188, 8, 181, 0, 82, 42, 16, 7, 188, 10, 181, 0, 85, 42]
abbrev dktX0_init_3 : List UInt8 := dkwX0_init_3 ++ dktX0_init_4
def dkwX0_init_2 : List UInt8 := [8, 188, 10, 181, 0, 69, 42, 7, 189, 0, 59, 181, 0, 72, 42, 16, 10, 188, 10, 181, 0, 75, 42]
abbrev dktX0_init_2 : List UInt8 := dkwX0_init_2 ++ dktX0_init_3
def dkwX0_init_1 : List UInt8 := [7, 188, 10, 89, 3, 16, 10, 79, 89, 4, 8, 79, 89, 5, 3, 79, 89, 6, 4, 79, 181, 0, 65, 42]
abbrev dktX0_init_1 : List UInt8 := dkwX0_init_1 ++ dktX0_init_2
def dkwX0_init_0 : List UInt8 := [42, 183, 0, 47, 42, 187, 0, 52, 89, 183, 0, 54, 181, 0, 55, 42, 7, 189, 0, 59, 181, 0, 61, 42]
abbrev dktX0_init_0 : List UInt8 := dkwX0_init_0 ++ dktX0_init_1
theorem dksX0_init_0 : cX0_init.data.toList.drop 0 = dktX0_init_0 := by decide +kernel
theorem dksX0_init_1 : cX0_init.data.toList.drop 24 = dktX0_init_1 := dk_seg dksX0_init_0 24 rfl rfl
theorem dksX0_init_2 : cX0_init.data.toList.drop 48 = dktX0_init_2 := dk_seg dksX0_init_1 24 rfl rfl
theorem dksX0_init_3 : cX0_init.data.toList.drop 71 = dktX0_init_3 := dk_seg dksX0_init_2 23 rfl rfl
theorem dksX0_init_4 : cX0_init.data.toList.drop 95 = dktX0_init_4 := dk_seg dksX0_init_3 24 rfl rfl
theorem dksX0_init_5 : cX0_init.data.toList.drop 119 = dktX0_init_5 := dk_seg dksX0_init_4 24 rfl rfl
theorem dksX0_init_6 : cX0_init.data.toList.drop 141 = dktX0_init_6 := dk_seg dksX0_init_5 22 rfl rfl
theorem dX0_init_0 : decode cX0_init 0 = .ok (.aload_n 0, 1) := dk_42 (dk_at dksX0_init_0 0 rfl rfl)
theorem dX0_init_1 : decode cX0_init 1 = .ok (.invokespecial 47, 3) := dk_183 0 47 (dk_at dksX0_init_0 1 rfl rfl)
theorem dX0_init_4 : decode cX0_init 4 = .ok (.aload_n 0, 1) := dk_42 (dk_at dksX0_init_0 4 rfl rfl)
theorem dX0_init_5 : decode cX0_init 5 = .ok (.new 52, 3) := dk_187 0 52 (dk_at dksX0_init_0 5 rfl rfl)
theorem dX0_init_8 : decode cX0_init 8 = .ok (.dup, 1) := dk_89 (dk_at dksX0_init_0 8 rfl rfl)
theorem dX0_init_9 : decode cX0_init 9 = .ok (.invokespecial 54, 3) := dk_183 0 54 (dk_at dksX0_init_0 9 rfl rfl)
theorem dX0_init_12 : decode cX0_init 12 = .ok (.putfield 55, 3) := dk_181 0 55 (dk_at dksX0_init_0 12 rfl rfl)
theorem dX0_init_15 : decode cX0_init 15 = .ok (.aload_n 0, 1) := dk_42 (dk_at dksX0_init_0 15 rfl rfl)
theorem dX0_init_16 : decode cX0_init 16 = .ok (.iconst 4, 1) := dk_7 (dk_at dksX0_init_0 16 rfl rfl)
theorem dX0_init_17 : decode cX0_init 17 = .ok (.anewarray 59, 3) := dk_189 0 59 (dk_at dksX0_init_0 17 rfl rfl)
theorem dX0_init_20 : decode cX0_init 20 = .ok (.putfield 61, 3) := dk_181 0 61 (dk_at dksX0_init_0 20 rfl rfl)
theorem dX0_init_23 : decode cX0_init 23 = .ok (.aload_n 0, 1) := dk_42 (dk_at dksX0_init_0 23 rfl rfl)
theorem dX0_init_24 : decode cX0_init 24 = .ok (.iconst 4, 1) := dk_7 (dk_at dksX0_init_1 0 rfl rfl)
theorem dX0_init_25 : decode cX0_init 25 = .ok (.newarray .int, 2) := dk_188_10 (dk_at dksX0_init_1 1 rfl rfl)
theorem dX0_init_27 : decode cX0_init 27 = .ok (.dup, 1) := dk_89 (dk_at dksX0_init_1 3 rfl rfl)
theorem dX0_init_28 : decode cX0_init 28 = .ok (.iconst 0, 1) := dk_3 (dk_at dksX0_init_1 4 rfl rfl)
theorem dX0_init_29 : decode cX0_init 29 = .ok (.bipush 10, 2) := dk_16 10 (dk_at dksX0_init_1 5 rfl rfl)
theorem dX0_init_31 : decode cX0_init 31 = .ok (.iastore, 1) := dk_79 (dk_at dksX0_init_1 7 rfl rfl)
theorem dX0_init_32 : decode cX0_init 32 = .ok (.dup, 1) := dk_89 (dk_at dksX0_init_1 8 rfl rfl)
theorem dX0_init_33 : decode cX0_init 33 = .ok (.iconst 1, 1) := dk_4 (dk_at dksX0_init_1 9 rfl rfl)
theorem dX0_init_34 : decode cX0_init 34 = .ok (.iconst 5, 1) := dk_8 (dk_at dksX0_init_1 10 rfl rfl)
theorem dX0_init_35 : decode cX0_init 35 = .ok (.iastore, 1) := dk_79 (dk_at dksX0_init_1 11 rfl rfl)
theorem dX0_init_36 : decode cX0_init 36 = .ok (.dup, 1) := dk_89 (dk_at dksX0_init_1 12 rfl rfl)
theorem dX0_init_37 : decode cX0_init 37 = .ok (.iconst 2, 1) := dk_5 (dk_at dksX0_init_1 13 rfl rfl)
theorem dX0_init_38 : decode cX0_init 38 = .ok (.iconst 0, 1) := dk_3 (dk_at dksX0_init_1 14 rfl rfl)
theorem dX0_init_39 : decode cX0_init 39 = .ok (.iastore, 1) := dk_79 (dk_at dksX0_init_1 15 rfl rfl)
theorem dX0_init_40 : decode cX0_init 40 = .ok (.dup, 1) := dk_89 (dk_at dksX0_init_1 16 rfl rfl)
theorem dX0_init_41 : decode cX0_init 41 = .ok (.iconst 3, 1) := dk_6 (dk_at dksX0_init_1 17 rfl rfl)
theorem dX0_init_42 : decode cX0_init 42 = .ok (.iconst 1, 1) := dk_4 (dk_at dksX0_init_1 18 rfl rfl)
theorem dX0_init_43 : decode cX0_init 43 = .ok (.iastore, 1) := dk_79 (dk_at dksX0_init_1 19 rfl rfl)
theorem dX0_init_44 : decode cX0_init 44 = .ok (.putfield 65, 3) := dk_181 0 65 (dk_at dksX0_init_1 20 rfl rfl)
theorem dX0_init_47 : decode cX0_init 47 = .ok (.aload_n 0, 1) := dk_42 (dk_at dksX0_init_1 23 rfl rfl)
theorem dX0_init_48 : decode cX0_init 48 = .ok (.iconst 5, 1) := dk_8 (dk_at dksX0_init_2 0 rfl rfl)
theorem dX0_init_49 : decode cX0_init 49 = .ok (.newarray .int, 2) := dk_188_10 (dk_at dksX0_init_2 1 rfl rfl)
theorem dX0_init_51 : decode cX0_init 51 = .ok (.putfield 69, 3) := dk_181 0 69 (dk_at dksX0_init_2 3 rfl rfl)
theorem dX0_init_54 : decode cX0_init 54 = .ok (.aload_n 0, 1) := dk_42 (dk_at dksX0_init_2 6 rfl rfl)
theorem dX0_init_55 : decode cX0_init 55 = .ok (.iconst 4, 1) := dk_7 (dk_at dksX0_init_2 7 rfl rfl)
theorem dX0_init_56 : decode cX0_init 56 = .ok (.anewarray 59, 3) := dk_189 0 59 (dk_at dksX0_init_2 8 rfl rfl)
theorem dX0_init_59 : decode cX0_init 59 = .ok (.putfield 72, 3) := dk_181 0 72 (dk_at dksX0_init_2 11 rfl rfl)
theorem dX0_init_62 : decode cX0_init 62 = .ok (.aload_n 0, 1) := dk_42 (dk_at dksX0_init_2 14 rfl rfl)
theorem dX0_init_63 : decode cX0_init 63 = .ok (.bipush 10, 2) := dk_16 10 (dk_at dksX0_init_2 15 rfl rfl)
theorem dX0_init_65 : decode cX0_init 65 = .ok (.newarray .int, 2) := dk_188_10 (dk_at dksX0_init_2 17 rfl rfl)
theorem dX0_init_67 : decode cX0_init 67 = .ok (.putfield 75, 3) := dk_181 0 75 (dk_at dksX0_init_2 19 rfl rfl)
theorem dX0_init_70 : decode cX0_init 70 = .ok (.aload_n 0, 1) := dk_42 (dk_at dksX0_init_2 22 rfl rfl)
theorem dX0_init_71 : decode cX0_init 71 = .ok (.bipush 20, 2) := dk_16 20 (dk_at dksX0_init_3 0 rfl rfl)
theorem dX0_init_73 : decode cX0_init 73 = .ok (.newarray .byte, 2) := dk_188_8 (dk_at dksX0_init_3 2 rfl rfl)
theorem dX0_init_75 : decode cX0_init 75 = .ok (.putfield 78, 3) := dk_181 0 78 (dk_at dksX0_init_3 4 rfl rfl)
theorem dX0_init_78 : decode cX0_init 78 = .ok (.aload_n 0, 1) := dk_42 (dk_at dksX0_init_3 7 rfl rfl)
theorem dX0_init_79 : decode cX0_init 79 = .ok (.bipush 64, 2) := dk_16 64 (dk_at dksX0_init_3 8 rfl rfl)
theorem dX0_init_81 : decode cX0_init 81 = .ok (.newarray .byte, 2) := dk_188_8 (dk_at dksX0_init_3 10 rfl rfl)
theorem dX0_init_83 : decode cX0_init 83 = .ok (.putfield 82, 3) := dk_181 0 82 (dk_at dksX0_init_3 12 rfl rfl)
theorem dX0_init_86 : decode cX0_init 86 = .ok (.aload_n 0, 1) := dk_42 (dk_at dksX0_init_3 15 rfl rfl)
theorem dX0_init_87 : decode cX0_init 87 = .ok (.bipush 7, 2) := dk_16 7 (dk_at dksX0_init_3 16 rfl rfl)
theorem dX0_init_89 : decode cX0_init 89 = .ok (.newarray .int, 2) := dk_188_10 (dk_at dksX0_init_3 18 rfl rfl)
theorem dX0_init_91 : decode cX0_init 91 = .ok (.putfield 85, 3) := dk_181 0 85 (dk_at dksX0_init_3 20 rfl rfl)
theorem dX0_init_94 : decode cX0_init 94 = .ok (.aload_n 0, 1) := dk_42 (dk_at dksX0_init_3 23 rfl rfl)
theorem dX0_init_95 : decode cX0_init 95 = .ok (.iconst 4, 1) := dk_7 (dk_at dksX0_init_4 0 rfl rfl)
theorem dX0_init_96 : decode cX0_init 96 = .ok (.newarray .int, 2) := dk_188_10 (dk_at dksX0_init_4 1 rfl rfl)
theorem dX0_init_98 : decode cX0_init 98 = .ok (.putfield 88, 3) := dk_181 0 88 (dk_at dksX0_init_4 3 rfl rfl)
theorem dX0_init_101 : decode cX0_init 101 = .ok (.aload_n 0, 1) := dk_42 (dk_at dksX0_init_4 6 rfl rfl)
theorem dX0_init_102 : decode cX0_init 102 = .ok (.iconst 4, 1) := dk_7 (dk_at dksX0_init_4 7 rfl rfl)
theorem dX0_init_103 : decode cX0_init 103 = .ok (.newarray .boolean, 2) := dk_188_4 (dk_at dksX0_init_4 8 rfl rfl)
theorem dX0_init_105 : decode cX0_init 105 = .ok (.putfield 91, 3) := dk_181 0 91 (dk_at dksX0_init_4 10 rfl rfl)
theorem dX0_init_108 : decode cX0_init 108 = .ok (.aload_n 0, 1) := dk_42 (dk_at dksX0_init_4 13 rfl rfl)
theorem dX0_init_109 : decode cX0_init 109 = .ok (.iconst 4, 1) := dk_7 (dk_at dksX0_init_4 14 rfl rfl)
theorem dX0_init_110 : decode cX0_init 110 = .ok (.newarray .long, 2) := dk_188_11 (dk_at dksX0_init_4 15 rfl rfl)
theorem dX0_init_112 : decode cX0_init 112 = .ok (.putfield 95, 3) := dk_181 0 95 (dk_at dksX0_init_4 17 rfl rfl)
theorem dX0_init_115 : decode cX0_init 115 = .ok (.aload_n 0, 1) := dk_42 (dk_at dksX0_init_4 20 rfl rfl)
theorem dX0_init_116 : decode cX0_init 116 = .ok (.iconst 4, 1) := dk_7 (dk_at dksX0_init_4 21 rfl rfl)
theorem dX0_init_117 : decode cX0_init 117 = .ok (.newarray .long, 2) := dk_188_11 (dk_at dksX0_init_4 22 rfl rfl)
theorem dX0_init_119 : decode cX0_init 119 = .ok (.putfield 99, 3) := dk_181 0 99 (dk_at dksX0_init_5 0 rfl rfl)
theorem dX0_init_122 : decode cX0_init 122 = .ok (.aload_n 0, 1) := dk_42 (dk_at dksX0_init_5 3 rfl rfl)
theorem dX0_init_123 : decode cX0_init 123 = .ok (.bipush 24, 2) := dk_16 24 (dk_at dksX0_init_5 4 rfl rfl)
theorem dX0_init_125 : decode cX0_init 125 = .ok (.newarray .long, 2) := dk_188_11 (dk_at dksX0_init_5 6 rfl rfl)
theorem dX0_init_127 : decode cX0_init 127 = .ok (.putfield 102, 3) := dk_181 0 102 (dk_at dksX0_init_5 8 rfl rfl)
theorem dX0_init_130 : decode cX0_init 130 = .ok (.aload_n 0, 1) := dk_42 (dk_at dksX0_init_5 11 rfl rfl)
theorem dX0_init_131 : decode cX0_init 131 = .ok (.iconst 5, 1) := dk_8 (dk_at dksX0_init_5 12 rfl rfl)
theorem dX0_init_132 : decode cX0_init 132 = .ok (.newarray .int, 2) := dk_188_10 (dk_at dksX0_init_5 13 rfl rfl)
theorem dX0_init_134 : decode cX0_init 134 = .ok (.putfield 105, 3) := dk_181 0 105 (dk_at dksX0_init_5 15 rfl rfl)
theorem dX0_init_137 : decode cX0_init 137 = .ok (.aload_n 0, 1) := dk_42 (dk_at dksX0_init_5 18 rfl rfl)
theorem dX0_init_138 : decode cX0_init 138 = .ok (.iconst 5, 1) := dk_8 (dk_at dksX0_init_5 19 rfl rfl)
theorem dX0_init_139 : decode cX0_init 139 = .ok (.newarray .int, 2) := dk_188_10 (dk_at dksX0_init_5 20 rfl rfl)
theorem dX0_init_141 : decode cX0_init 141 = .ok (.putfield 108, 3) := dk_181 0 108 (dk_at dksX0_init_6 0 rfl rfl)
theorem dX0_init_144 : decode cX0_init 144 = .ok (.return_, 1) := dk_177 (dk_at dksX0_init_6 3 rfl rfl)
abbrev cX0_feed : ByteArray := prog_1_method_60_code
def yX0_feed : MethodName := ⟨RX0, "feed", "(IJ)I"⟩
def dkwX0_feed_0 : List UInt8 := [42, 27, 32, 182, 1, 224, 172, 58, 4, 42, 25, 4, 182, 1, 89, 182, 1, 92, 172]
abbrev dktX0_feed_0 : List UInt8 := dkwX0_feed_0 ++ []
theorem dksX0_feed_0 : cX0_feed.data.toList.drop 0 = dktX0_feed_0 := by decide +kernel
theorem dX0_feed_0 : decode cX0_feed 0 = .ok (.aload_n 0, 1) := dk_42 (dk_at dksX0_feed_0 0 rfl rfl)
theorem dX0_feed_1 : decode cX0_feed 1 = .ok (.iload_n 1, 1) := dk_27 (dk_at dksX0_feed_0 1 rfl rfl)
theorem dX0_feed_2 : decode cX0_feed 2 = .ok (.lload_n 2, 1) := dk_32 (dk_at dksX0_feed_0 2 rfl rfl)
theorem dX0_feed_3 : decode cX0_feed 3 = .ok (.invokevirtual 480, 3) := dk_182 1 224 (dk_at dksX0_feed_0 3 rfl rfl)
theorem dX0_feed_6 : decode cX0_feed 6 = .ok (.ireturn, 1) := dk_172 (dk_at dksX0_feed_0 6 rfl rfl)
theorem dX0_feed_7 : decode cX0_feed 7 = .ok (.astore 4, 2) := dk_58 4 (dk_at dksX0_feed_0 7 rfl rfl)
theorem dX0_feed_9 : decode cX0_feed 9 = .ok (.aload_n 0, 1) := dk_42 (dk_at dksX0_feed_0 9 rfl rfl)
theorem dX0_feed_10 : decode cX0_feed 10 = .ok (.aload 4, 2) := dk_25 4 (dk_at dksX0_feed_0 10 rfl rfl)
theorem dX0_feed_12 : decode cX0_feed 12 = .ok (.invokevirtual 345, 3) := dk_182 1 89 (dk_at dksX0_feed_0 12 rfl rfl)
theorem dX0_feed_15 : decode cX0_feed 15 = .ok (.invokevirtual 348, 3) := dk_182 1 92 (dk_at dksX0_feed_0 15 rfl rfl)
theorem dX0_feed_18 : decode cX0_feed 18 = .ok (.ireturn, 1) := dk_172 (dk_at dksX0_feed_0 18 rfl rfl)
abbrev cX0_feedIt : ByteArray := prog_1_method_59_code
def yX0_feedIt : MethodName := ⟨RX0, "feedIt", "(IJ)I"⟩
def dkwX0_feedIt_3 : List UInt8 := [42, 89, 180, 0, 116, 4, 96, 181, 0, 116, 132, 4, 1, 167, 255, 219, 42, 180, 0, 116, 172]
abbrev dktX0_feedIt_3 : List UInt8 := dkwX0_feedIt_3 ++ []
def dkwX0_feedIt_2 : List UInt8 := [21, 4, 27, 162, 0, 37, 42, 180, 0, 82, 42, 180, 0, 116, 32, 16, 8, 21, 4, 104, 123, 136, 145, 84]
abbrev dktX0_feedIt_2 : List UInt8 := dkwX0_feedIt_2 ++ dktX0_feedIt_3
def dkwX0_feedIt_1 : List UInt8 := [180, 0, 116, 27, 96, 16, 64, 163, 0, 7, 4, 167, 0, 4, 3, 16, 250, 184, 0, 9, 3, 54, 4]
abbrev dktX0_feedIt_1 : List UInt8 := dkwX0_feedIt_1 ++ dktX0_feedIt_2
def dkwX0_feedIt_0 : List UInt8 := [27, 4, 161, 0, 7, 4, 167, 0, 4, 3, 16, 252, 184, 0, 9, 27, 16, 8, 163, 0, 18, 42]
abbrev dktX0_feedIt_0 : List UInt8 := dkwX0_feedIt_0 ++ dktX0_feedIt_1
theorem dksX0_feedIt_0 : cX0_feedIt.data.toList.drop 0 = dktX0_feedIt_0 := by decide +kernel
theorem dksX0_feedIt_1 : cX0_feedIt.data.toList.drop 22 = dktX0_feedIt_1 := dk_seg dksX0_feedIt_0 22 rfl rfl
theorem dksX0_feedIt_2 : cX0_feedIt.data.toList.drop 45 = dktX0_feedIt_2 := dk_seg dksX0_feedIt_1 23 rfl rfl
theorem dksX0_feedIt_3 : cX0_feedIt.data.toList.drop 69 = dktX0_feedIt_3 := dk_seg dksX0_feedIt_2 24 rfl rfl
theorem dX0_feedIt_0 : decode cX0_feedIt 0 = .ok (.iload_n 1, 1) := dk_27 (dk_at dksX0_feedIt_0 0 rfl rfl)
theorem dX0_feedIt_1 : decode cX0_feedIt 1 = .ok (.iconst 1, 1) := dk_4 (dk_at dksX0_feedIt_0 1 rfl rfl)
theorem dX0_feedIt_2 : decode cX0_feedIt 2 = .ok (.if_icmp .lt 7, 3) := dk_161 0 7 (dk_at dksX0_feedIt_0 2 rfl rfl)
theorem dX0_feedIt_5 : decode cX0_feedIt 5 = .ok (.iconst 1, 1) := dk_4 (dk_at dksX0_feedIt_0 5 rfl rfl)
theorem dX0_feedIt_6 : decode cX0_feedIt 6 = .ok (.goto 4, 3) := dk_167 0 4 (dk_at dksX0_feedIt_0 6 rfl rfl)
theorem dX0_feedIt_9 : decode cX0_feedIt 9 = .ok (.iconst 0, 1) := dk_3 (dk_at dksX0_feedIt_0 9 rfl rfl)
theorem dX0_feedIt_10 : decode cX0_feedIt 10 = .ok (.bipush (-4), 2) := dk_16 252 (dk_at dksX0_feedIt_0 10 rfl rfl)
theorem dX0_feedIt_12 : decode cX0_feedIt 12 = .ok (.invokestatic 9, 3) := dk_184 0 9 (dk_at dksX0_feedIt_0 12 rfl rfl)
theorem dX0_feedIt_15 : decode cX0_feedIt 15 = .ok (.iload_n 1, 1) := dk_27 (dk_at dksX0_feedIt_0 15 rfl rfl)
theorem dX0_feedIt_16 : decode cX0_feedIt 16 = .ok (.bipush 8, 2) := dk_16 8 (dk_at dksX0_feedIt_0 16 rfl rfl)
theorem dX0_feedIt_18 : decode cX0_feedIt 18 = .ok (.if_icmp .gt 18, 3) := dk_163 0 18 (dk_at dksX0_feedIt_0 18 rfl rfl)
theorem dX0_feedIt_21 : decode cX0_feedIt 21 = .ok (.aload_n 0, 1) := dk_42 (dk_at dksX0_feedIt_0 21 rfl rfl)
theorem dX0_feedIt_22 : decode cX0_feedIt 22 = .ok (.getfield 116, 3) := dk_180 0 116 (dk_at dksX0_feedIt_1 0 rfl rfl)
theorem dX0_feedIt_25 : decode cX0_feedIt 25 = .ok (.iload_n 1, 1) := dk_27 (dk_at dksX0_feedIt_1 3 rfl rfl)
theorem dX0_feedIt_26 : decode cX0_feedIt 26 = .ok (.iadd, 1) := dk_96 (dk_at dksX0_feedIt_1 4 rfl rfl)
theorem dX0_feedIt_27 : decode cX0_feedIt 27 = .ok (.bipush 64, 2) := dk_16 64 (dk_at dksX0_feedIt_1 5 rfl rfl)
theorem dX0_feedIt_29 : decode cX0_feedIt 29 = .ok (.if_icmp .gt 7, 3) := dk_163 0 7 (dk_at dksX0_feedIt_1 7 rfl rfl)
theorem dX0_feedIt_32 : decode cX0_feedIt 32 = .ok (.iconst 1, 1) := dk_4 (dk_at dksX0_feedIt_1 10 rfl rfl)
theorem dX0_feedIt_33 : decode cX0_feedIt 33 = .ok (.goto 4, 3) := dk_167 0 4 (dk_at dksX0_feedIt_1 11 rfl rfl)
theorem dX0_feedIt_36 : decode cX0_feedIt 36 = .ok (.iconst 0, 1) := dk_3 (dk_at dksX0_feedIt_1 14 rfl rfl)
theorem dX0_feedIt_37 : decode cX0_feedIt 37 = .ok (.bipush (-6), 2) := dk_16 250 (dk_at dksX0_feedIt_1 15 rfl rfl)
theorem dX0_feedIt_39 : decode cX0_feedIt 39 = .ok (.invokestatic 9, 3) := dk_184 0 9 (dk_at dksX0_feedIt_1 17 rfl rfl)
theorem dX0_feedIt_42 : decode cX0_feedIt 42 = .ok (.iconst 0, 1) := dk_3 (dk_at dksX0_feedIt_1 20 rfl rfl)
theorem dX0_feedIt_43 : decode cX0_feedIt 43 = .ok (.istore 4, 2) := dk_54 4 (dk_at dksX0_feedIt_1 21 rfl rfl)
theorem dX0_feedIt_45 : decode cX0_feedIt 45 = .ok (.iload 4, 2) := dk_21 4 (dk_at dksX0_feedIt_2 0 rfl rfl)
theorem dX0_feedIt_47 : decode cX0_feedIt 47 = .ok (.iload_n 1, 1) := dk_27 (dk_at dksX0_feedIt_2 2 rfl rfl)
theorem dX0_feedIt_48 : decode cX0_feedIt 48 = .ok (.if_icmp .ge 37, 3) := dk_162 0 37 (dk_at dksX0_feedIt_2 3 rfl rfl)
theorem dX0_feedIt_51 : decode cX0_feedIt 51 = .ok (.aload_n 0, 1) := dk_42 (dk_at dksX0_feedIt_2 6 rfl rfl)
theorem dX0_feedIt_52 : decode cX0_feedIt 52 = .ok (.getfield 82, 3) := dk_180 0 82 (dk_at dksX0_feedIt_2 7 rfl rfl)
theorem dX0_feedIt_55 : decode cX0_feedIt 55 = .ok (.aload_n 0, 1) := dk_42 (dk_at dksX0_feedIt_2 10 rfl rfl)
theorem dX0_feedIt_56 : decode cX0_feedIt 56 = .ok (.getfield 116, 3) := dk_180 0 116 (dk_at dksX0_feedIt_2 11 rfl rfl)
theorem dX0_feedIt_59 : decode cX0_feedIt 59 = .ok (.lload_n 2, 1) := dk_32 (dk_at dksX0_feedIt_2 14 rfl rfl)
theorem dX0_feedIt_60 : decode cX0_feedIt 60 = .ok (.bipush 8, 2) := dk_16 8 (dk_at dksX0_feedIt_2 15 rfl rfl)
theorem dX0_feedIt_62 : decode cX0_feedIt 62 = .ok (.iload 4, 2) := dk_21 4 (dk_at dksX0_feedIt_2 17 rfl rfl)
theorem dX0_feedIt_64 : decode cX0_feedIt 64 = .ok (.imul, 1) := dk_104 (dk_at dksX0_feedIt_2 19 rfl rfl)
theorem dX0_feedIt_65 : decode cX0_feedIt 65 = .ok (.lshr, 1) := dk_123 (dk_at dksX0_feedIt_2 20 rfl rfl)
theorem dX0_feedIt_66 : decode cX0_feedIt 66 = .ok (.l2i, 1) := dk_136 (dk_at dksX0_feedIt_2 21 rfl rfl)
theorem dX0_feedIt_67 : decode cX0_feedIt 67 = .ok (.i2b, 1) := dk_145 (dk_at dksX0_feedIt_2 22 rfl rfl)
theorem dX0_feedIt_68 : decode cX0_feedIt 68 = .ok (.bastore, 1) := dk_84 (dk_at dksX0_feedIt_2 23 rfl rfl)
theorem dX0_feedIt_69 : decode cX0_feedIt 69 = .ok (.aload_n 0, 1) := dk_42 (dk_at dksX0_feedIt_3 0 rfl rfl)
theorem dX0_feedIt_70 : decode cX0_feedIt 70 = .ok (.dup, 1) := dk_89 (dk_at dksX0_feedIt_3 1 rfl rfl)
theorem dX0_feedIt_71 : decode cX0_feedIt 71 = .ok (.getfield 116, 3) := dk_180 0 116 (dk_at dksX0_feedIt_3 2 rfl rfl)
theorem dX0_feedIt_74 : decode cX0_feedIt 74 = .ok (.iconst 1, 1) := dk_4 (dk_at dksX0_feedIt_3 5 rfl rfl)
theorem dX0_feedIt_75 : decode cX0_feedIt 75 = .ok (.iadd, 1) := dk_96 (dk_at dksX0_feedIt_3 6 rfl rfl)
theorem dX0_feedIt_76 : decode cX0_feedIt 76 = .ok (.putfield 116, 3) := dk_181 0 116 (dk_at dksX0_feedIt_3 7 rfl rfl)
theorem dX0_feedIt_79 : decode cX0_feedIt 79 = .ok (.iinc 4 1, 3) := dk_132 4 1 (dk_at dksX0_feedIt_3 10 rfl rfl)
theorem dX0_feedIt_82 : decode cX0_feedIt 82 = .ok (.goto (-37), 3) := dk_167 255 219 (dk_at dksX0_feedIt_3 13 rfl rfl)
theorem dX0_feedIt_85 : decode cX0_feedIt 85 = .ok (.aload_n 0, 1) := dk_42 (dk_at dksX0_feedIt_3 16 rfl rfl)
theorem dX0_feedIt_86 : decode cX0_feedIt 86 = .ok (.getfield 116, 3) := dk_180 0 116 (dk_at dksX0_feedIt_3 17 rfl rfl)
theorem dX0_feedIt_89 : decode cX0_feedIt 89 = .ok (.ireturn, 1) := dk_172 (dk_at dksX0_feedIt_3 20 rfl rfl)
abbrev cX0_must : ByteArray := prog_1_method_2_code
def yX0_must : MethodName := ⟨RX0, "must", "(ZI)V"⟩
def dkwX0_must_0 : List UInt8 := [26, 154, 0, 12, 187, 0, 1, 89, 27, 183, 0, 3, 191, 177]
abbrev dktX0_must_0 : List UInt8 := dkwX0_must_0 ++ []
theorem dksX0_must_0 : cX0_must.data.toList.drop 0 = dktX0_must_0 := by decide +kernel
theorem dX0_must_0 : decode cX0_must 0 = .ok (.iload_n 0, 1) := dk_26 (dk_at dksX0_must_0 0 rfl rfl)
theorem dX0_must_1 : decode cX0_must 1 = .ok (.ifCond .ne 12, 3) := dk_154 0 12 (dk_at dksX0_must_0 1 rfl rfl)
theorem dX0_must_4 : decode cX0_must 4 = .ok (.new 1, 3) := dk_187 0 1 (dk_at dksX0_must_0 4 rfl rfl)
theorem dX0_must_7 : decode cX0_must 7 = .ok (.dup, 1) := dk_89 (dk_at dksX0_must_0 7 rfl rfl)
theorem dX0_must_8 : decode cX0_must 8 = .ok (.iload_n 1, 1) := dk_27 (dk_at dksX0_must_0 8 rfl rfl)
theorem dX0_must_9 : decode cX0_must 9 = .ok (.invokespecial 3, 3) := dk_183 0 3 (dk_at dksX0_must_0 9 rfl rfl)
theorem dX0_must_12 : decode cX0_must 12 = .ok (.athrow, 1) := dk_191 (dk_at dksX0_must_0 12 rfl rfl)
theorem dX0_must_13 : decode cX0_must 13 = .ok (.return_, 1) := dk_177 (dk_at dksX0_must_0 13 rfl rfl)
abbrev cX0_refuse : ByteArray := prog_1_method_34_code
def yX0_refuse : MethodName := ⟨RX0, "refuse", "(I)I"⟩
def dkwX0_refuse_0 : List UInt8 := [27, 16, 236, 164, 0, 14, 42, 180, 0, 85, 27, 116, 92, 46, 4, 96, 79, 27, 172]
abbrev dktX0_refuse_0 : List UInt8 := dkwX0_refuse_0 ++ []
theorem dksX0_refuse_0 : cX0_refuse.data.toList.drop 0 = dktX0_refuse_0 := by decide +kernel
theorem dX0_refuse_0 : decode cX0_refuse 0 = .ok (.iload_n 1, 1) := dk_27 (dk_at dksX0_refuse_0 0 rfl rfl)
theorem dX0_refuse_1 : decode cX0_refuse 1 = .ok (.bipush (-20), 2) := dk_16 236 (dk_at dksX0_refuse_0 1 rfl rfl)
theorem dX0_refuse_3 : decode cX0_refuse 3 = .ok (.if_icmp .le 14, 3) := dk_164 0 14 (dk_at dksX0_refuse_0 3 rfl rfl)
theorem dX0_refuse_6 : decode cX0_refuse 6 = .ok (.aload_n 0, 1) := dk_42 (dk_at dksX0_refuse_0 6 rfl rfl)
theorem dX0_refuse_7 : decode cX0_refuse 7 = .ok (.getfield 85, 3) := dk_180 0 85 (dk_at dksX0_refuse_0 7 rfl rfl)
theorem dX0_refuse_10 : decode cX0_refuse 10 = .ok (.iload_n 1, 1) := dk_27 (dk_at dksX0_refuse_0 10 rfl rfl)
theorem dX0_refuse_11 : decode cX0_refuse 11 = .ok (.ineg, 1) := dk_116 (dk_at dksX0_refuse_0 11 rfl rfl)
theorem dX0_refuse_12 : decode cX0_refuse 12 = .ok (.dup2, 1) := dk_92 (dk_at dksX0_refuse_0 12 rfl rfl)
theorem dX0_refuse_13 : decode cX0_refuse 13 = .ok (.iaload, 1) := dk_46 (dk_at dksX0_refuse_0 13 rfl rfl)
theorem dX0_refuse_14 : decode cX0_refuse 14 = .ok (.iconst 1, 1) := dk_4 (dk_at dksX0_refuse_0 14 rfl rfl)
theorem dX0_refuse_15 : decode cX0_refuse 15 = .ok (.iadd, 1) := dk_96 (dk_at dksX0_refuse_0 15 rfl rfl)
theorem dX0_refuse_16 : decode cX0_refuse 16 = .ok (.iastore, 1) := dk_79 (dk_at dksX0_refuse_0 16 rfl rfl)
theorem dX0_refuse_17 : decode cX0_refuse 17 = .ok (.iload_n 1, 1) := dk_27 (dk_at dksX0_refuse_0 17 rfl rfl)
theorem dX0_refuse_18 : decode cX0_refuse 18 = .ok (.ireturn, 1) := dk_172 (dk_at dksX0_refuse_0 18 rfl rfl)
abbrev cX0_quiz : ByteArray := prog_1_method_61_code
def yX0_quiz : MethodName := ⟨RX0, "quiz", "()I"⟩
def dkwX0_quiz_0 : List UInt8 := [42, 3, 3, 3, 3, 182, 1, 228, 172]
abbrev dktX0_quiz_0 : List UInt8 := dkwX0_quiz_0 ++ []
theorem dksX0_quiz_0 : cX0_quiz.data.toList.drop 0 = dktX0_quiz_0 := by decide +kernel
theorem dX0_quiz_0 : decode cX0_quiz 0 = .ok (.aload_n 0, 1) := dk_42 (dk_at dksX0_quiz_0 0 rfl rfl)
theorem dX0_quiz_1 : decode cX0_quiz 1 = .ok (.iconst 0, 1) := dk_3 (dk_at dksX0_quiz_0 1 rfl rfl)
theorem dX0_quiz_2 : decode cX0_quiz 2 = .ok (.iconst 0, 1) := dk_3 (dk_at dksX0_quiz_0 2 rfl rfl)
theorem dX0_quiz_3 : decode cX0_quiz 3 = .ok (.iconst 0, 1) := dk_3 (dk_at dksX0_quiz_0 3 rfl rfl)
theorem dX0_quiz_4 : decode cX0_quiz 4 = .ok (.iconst 0, 1) := dk_3 (dk_at dksX0_quiz_0 4 rfl rfl)
theorem dX0_quiz_5 : decode cX0_quiz 5 = .ok (.invokevirtual 484, 3) := dk_182 1 228 (dk_at dksX0_quiz_0 5 rfl rfl)
theorem dX0_quiz_8 : decode cX0_quiz 8 = .ok (.ireturn, 1) := dk_172 (dk_at dksX0_quiz_0 8 rfl rfl)
abbrev cX0_act : ByteArray := prog_1_method_36_code
def yX0_act : MethodName := ⟨RX0, "act", "(IIII)I"⟩
def dkwX0_act_0 : List UInt8 := [42, 27, 28, 29, 21, 4, 182, 1, 84, 172, 58, 5, 42, 25, 5, 182, 1, 89, 182, 1, 92, 172]
abbrev dktX0_act_0 : List UInt8 := dkwX0_act_0 ++ []
theorem dksX0_act_0 : cX0_act.data.toList.drop 0 = dktX0_act_0 := by decide +kernel
theorem dX0_act_0 : decode cX0_act 0 = .ok (.aload_n 0, 1) := dk_42 (dk_at dksX0_act_0 0 rfl rfl)
theorem dX0_act_1 : decode cX0_act 1 = .ok (.iload_n 1, 1) := dk_27 (dk_at dksX0_act_0 1 rfl rfl)
theorem dX0_act_2 : decode cX0_act 2 = .ok (.iload_n 2, 1) := dk_28 (dk_at dksX0_act_0 2 rfl rfl)
theorem dX0_act_3 : decode cX0_act 3 = .ok (.iload_n 3, 1) := dk_29 (dk_at dksX0_act_0 3 rfl rfl)
theorem dX0_act_4 : decode cX0_act 4 = .ok (.iload 4, 2) := dk_21 4 (dk_at dksX0_act_0 4 rfl rfl)
theorem dX0_act_6 : decode cX0_act 6 = .ok (.invokevirtual 340, 3) := dk_182 1 84 (dk_at dksX0_act_0 6 rfl rfl)
theorem dX0_act_9 : decode cX0_act 9 = .ok (.ireturn, 1) := dk_172 (dk_at dksX0_act_0 9 rfl rfl)
theorem dX0_act_10 : decode cX0_act 10 = .ok (.astore 5, 2) := dk_58 5 (dk_at dksX0_act_0 10 rfl rfl)
theorem dX0_act_12 : decode cX0_act 12 = .ok (.aload_n 0, 1) := dk_42 (dk_at dksX0_act_0 12 rfl rfl)
theorem dX0_act_13 : decode cX0_act 13 = .ok (.aload 5, 2) := dk_25 5 (dk_at dksX0_act_0 13 rfl rfl)
theorem dX0_act_15 : decode cX0_act 15 = .ok (.invokevirtual 345, 3) := dk_182 1 89 (dk_at dksX0_act_0 15 rfl rfl)
theorem dX0_act_18 : decode cX0_act 18 = .ok (.invokevirtual 348, 3) := dk_182 1 92 (dk_at dksX0_act_0 18 rfl rfl)
theorem dX0_act_21 : decode cX0_act 21 = .ok (.ireturn, 1) := dk_172 (dk_at dksX0_act_0 21 rfl rfl)
abbrev cX0_doIt : ByteArray := prog_1_method_35_code
def yX0_doIt : MethodName := ⟨RX0, "doIt", "(IIII)I"⟩
def dkwX0_doIt_1 : List UInt8 := [28, 29, 21, 4, 182, 1, 77, 167, 0, 12, 42, 27, 28, 29, 21, 4, 182, 1, 81, 172]
abbrev dktX0_doIt_1 : List UInt8 := dkwX0_doIt_1 ++ []
def dkwX0_doIt_0 : List UInt8 := [27, 16, 9, 162, 0, 13, 42, 27, 28, 29, 182, 1, 73, 167, 0, 30, 27, 16, 17, 162, 0, 15, 42, 27]
abbrev dktX0_doIt_0 : List UInt8 := dkwX0_doIt_0 ++ dktX0_doIt_1
theorem dksX0_doIt_0 : cX0_doIt.data.toList.drop 0 = dktX0_doIt_0 := by decide +kernel
theorem dksX0_doIt_1 : cX0_doIt.data.toList.drop 24 = dktX0_doIt_1 := dk_seg dksX0_doIt_0 24 rfl rfl
theorem dX0_doIt_0 : decode cX0_doIt 0 = .ok (.iload_n 1, 1) := dk_27 (dk_at dksX0_doIt_0 0 rfl rfl)
theorem dX0_doIt_1 : decode cX0_doIt 1 = .ok (.bipush 9, 2) := dk_16 9 (dk_at dksX0_doIt_0 1 rfl rfl)
theorem dX0_doIt_3 : decode cX0_doIt 3 = .ok (.if_icmp .ge 13, 3) := dk_162 0 13 (dk_at dksX0_doIt_0 3 rfl rfl)
theorem dX0_doIt_6 : decode cX0_doIt 6 = .ok (.aload_n 0, 1) := dk_42 (dk_at dksX0_doIt_0 6 rfl rfl)
theorem dX0_doIt_7 : decode cX0_doIt 7 = .ok (.iload_n 1, 1) := dk_27 (dk_at dksX0_doIt_0 7 rfl rfl)
theorem dX0_doIt_8 : decode cX0_doIt 8 = .ok (.iload_n 2, 1) := dk_28 (dk_at dksX0_doIt_0 8 rfl rfl)
theorem dX0_doIt_9 : decode cX0_doIt 9 = .ok (.iload_n 3, 1) := dk_29 (dk_at dksX0_doIt_0 9 rfl rfl)
theorem dX0_doIt_10 : decode cX0_doIt 10 = .ok (.invokevirtual 329, 3) := dk_182 1 73 (dk_at dksX0_doIt_0 10 rfl rfl)
theorem dX0_doIt_13 : decode cX0_doIt 13 = .ok (.goto 30, 3) := dk_167 0 30 (dk_at dksX0_doIt_0 13 rfl rfl)
theorem dX0_doIt_16 : decode cX0_doIt 16 = .ok (.iload_n 1, 1) := dk_27 (dk_at dksX0_doIt_0 16 rfl rfl)
theorem dX0_doIt_17 : decode cX0_doIt 17 = .ok (.bipush 17, 2) := dk_16 17 (dk_at dksX0_doIt_0 17 rfl rfl)
theorem dX0_doIt_19 : decode cX0_doIt 19 = .ok (.if_icmp .ge 15, 3) := dk_162 0 15 (dk_at dksX0_doIt_0 19 rfl rfl)
theorem dX0_doIt_22 : decode cX0_doIt 22 = .ok (.aload_n 0, 1) := dk_42 (dk_at dksX0_doIt_0 22 rfl rfl)
theorem dX0_doIt_23 : decode cX0_doIt 23 = .ok (.iload_n 1, 1) := dk_27 (dk_at dksX0_doIt_0 23 rfl rfl)
theorem dX0_doIt_24 : decode cX0_doIt 24 = .ok (.iload_n 2, 1) := dk_28 (dk_at dksX0_doIt_1 0 rfl rfl)
theorem dX0_doIt_25 : decode cX0_doIt 25 = .ok (.iload_n 3, 1) := dk_29 (dk_at dksX0_doIt_1 1 rfl rfl)
theorem dX0_doIt_26 : decode cX0_doIt 26 = .ok (.iload 4, 2) := dk_21 4 (dk_at dksX0_doIt_1 2 rfl rfl)
theorem dX0_doIt_28 : decode cX0_doIt 28 = .ok (.invokevirtual 333, 3) := dk_182 1 77 (dk_at dksX0_doIt_1 4 rfl rfl)
theorem dX0_doIt_31 : decode cX0_doIt 31 = .ok (.goto 12, 3) := dk_167 0 12 (dk_at dksX0_doIt_1 7 rfl rfl)
theorem dX0_doIt_34 : decode cX0_doIt 34 = .ok (.aload_n 0, 1) := dk_42 (dk_at dksX0_doIt_1 10 rfl rfl)
theorem dX0_doIt_35 : decode cX0_doIt 35 = .ok (.iload_n 1, 1) := dk_27 (dk_at dksX0_doIt_1 11 rfl rfl)
theorem dX0_doIt_36 : decode cX0_doIt 36 = .ok (.iload_n 2, 1) := dk_28 (dk_at dksX0_doIt_1 12 rfl rfl)
theorem dX0_doIt_37 : decode cX0_doIt 37 = .ok (.iload_n 3, 1) := dk_29 (dk_at dksX0_doIt_1 13 rfl rfl)
theorem dX0_doIt_38 : decode cX0_doIt 38 = .ok (.iload 4, 2) := dk_21 4 (dk_at dksX0_doIt_1 14 rfl rfl)
theorem dX0_doIt_40 : decode cX0_doIt 40 = .ok (.invokevirtual 337, 3) := dk_182 1 81 (dk_at dksX0_doIt_1 16 rfl rfl)
theorem dX0_doIt_43 : decode cX0_doIt 43 = .ok (.ireturn, 1) := dk_172 (dk_at dksX0_doIt_1 19 rfl rfl)
abbrev cX0_ofQuiz : ByteArray := prog_1_method_47_code
def yX0_ofQuiz : MethodName := ⟨RX0, "ofQuiz", "(III)I"⟩
def dkwX0_ofQuiz_7 : List UInt8 := [182, 0, 190, 153, 0, 7, 4, 167, 0, 4, 3, 172]
abbrev dktX0_ofQuiz_7 : List UInt8 := dkwX0_ofQuiz_7 ++ []
def dkwX0_ofQuiz_6 : List UInt8 := [28, 182, 1, 112, 42, 29, 182, 1, 104, 42, 182, 1, 141, 42, 42, 180, 0, 61, 28, 50, 29, 3]
abbrev dktX0_ofQuiz_6 : List UInt8 := dkwX0_ofQuiz_6 ++ dktX0_ofQuiz_7
def dkwX0_ofQuiz_5 : List UInt8 := [50, 180, 0, 176, 29, 182, 0, 179, 172, 42, 28, 29, 182, 1, 144, 172, 42, 28, 29, 182, 1, 147, 172, 42]
abbrev dktX0_ofQuiz_5 : List UInt8 := dkwX0_ofQuiz_5 ++ dktX0_ofQuiz_6
def dkwX0_ofQuiz_4 : List UInt8 := [182, 1, 138, 172, 42, 28, 182, 1, 112, 42, 29, 182, 1, 104, 42, 182, 1, 141, 42, 42, 180, 0, 61, 28]
abbrev dktX0_ofQuiz_4 : List UInt8 := dkwX0_ofQuiz_4 ++ dktX0_ofQuiz_5
def dkwX0_ofQuiz_3 : List UInt8 := [182, 1, 100, 153, 0, 7, 4, 167, 0, 4, 3, 172, 42, 28, 182, 1, 104, 42, 180, 0, 55, 28]
abbrev dktX0_ofQuiz_3 : List UInt8 := dkwX0_ofQuiz_3 ++ dktX0_ofQuiz_4
def dkwX0_ofQuiz_2 : List UInt8 := [42, 182, 1, 129, 172, 42, 28, 29, 182, 1, 132, 172, 42, 28, 29, 182, 1, 135, 172, 42, 180, 0, 55]
abbrev dktX0_ofQuiz_2 : List UInt8 := dkwX0_ofQuiz_2 ++ dktX0_ofQuiz_3
def dkwX0_ofQuiz_1 : List UInt8 := [170, 0, 0, 0, 0, 0, 139, 0, 0, 0, 0, 0, 0, 0, 7, 0, 0, 0, 47, 0, 0, 0, 52, 0, 0, 0, 59, 0, 0, 0, 66, 0, 0, 0, 82, 0, 0, 0, 96, 0, 0, 0, 125, 0, 0, 0, 132]
abbrev dktX0_ofQuiz_1 : List UInt8 := dkwX0_ofQuiz_1 ++ dktX0_ofQuiz_2
def dkwX0_ofQuiz_0 : List UInt8 := [27]
abbrev dktX0_ofQuiz_0 : List UInt8 := dkwX0_ofQuiz_0 ++ dktX0_ofQuiz_1
theorem dksX0_ofQuiz_0 : cX0_ofQuiz.data.toList.drop 0 = dktX0_ofQuiz_0 := by decide +kernel
theorem dksX0_ofQuiz_1 : cX0_ofQuiz.data.toList.drop 1 = dktX0_ofQuiz_1 := dk_seg dksX0_ofQuiz_0 1 rfl rfl
theorem dksX0_ofQuiz_2 : cX0_ofQuiz.data.toList.drop 48 = dktX0_ofQuiz_2 := dk_seg dksX0_ofQuiz_1 47 rfl rfl
theorem dksX0_ofQuiz_3 : cX0_ofQuiz.data.toList.drop 71 = dktX0_ofQuiz_3 := dk_seg dksX0_ofQuiz_2 23 rfl rfl
theorem dksX0_ofQuiz_4 : cX0_ofQuiz.data.toList.drop 93 = dktX0_ofQuiz_4 := dk_seg dksX0_ofQuiz_3 22 rfl rfl
theorem dksX0_ofQuiz_5 : cX0_ofQuiz.data.toList.drop 117 = dktX0_ofQuiz_5 := dk_seg dksX0_ofQuiz_4 24 rfl rfl
theorem dksX0_ofQuiz_6 : cX0_ofQuiz.data.toList.drop 141 = dktX0_ofQuiz_6 := dk_seg dksX0_ofQuiz_5 24 rfl rfl
theorem dksX0_ofQuiz_7 : cX0_ofQuiz.data.toList.drop 163 = dktX0_ofQuiz_7 := dk_seg dksX0_ofQuiz_6 22 rfl rfl
theorem dX0_ofQuiz_0 : decode cX0_ofQuiz 0 = .ok (.iload_n 1, 1) := dk_27 (dk_at dksX0_ofQuiz_0 0 rfl rfl)
theorem dX0_ofQuiz_1 : decode cX0_ofQuiz 1 = .ok (.tableswitch 139 0 7 #[47, 52, 59, 66, 82, 96, 125, 132], 47) := by decide +kernel
theorem dX0_ofQuiz_48 : decode cX0_ofQuiz 48 = .ok (.aload_n 0, 1) := dk_42 (dk_at dksX0_ofQuiz_2 0 rfl rfl)
theorem dX0_ofQuiz_49 : decode cX0_ofQuiz 49 = .ok (.invokevirtual 385, 3) := dk_182 1 129 (dk_at dksX0_ofQuiz_2 1 rfl rfl)
theorem dX0_ofQuiz_52 : decode cX0_ofQuiz 52 = .ok (.ireturn, 1) := dk_172 (dk_at dksX0_ofQuiz_2 4 rfl rfl)
theorem dX0_ofQuiz_53 : decode cX0_ofQuiz 53 = .ok (.aload_n 0, 1) := dk_42 (dk_at dksX0_ofQuiz_2 5 rfl rfl)
theorem dX0_ofQuiz_54 : decode cX0_ofQuiz 54 = .ok (.iload_n 2, 1) := dk_28 (dk_at dksX0_ofQuiz_2 6 rfl rfl)
theorem dX0_ofQuiz_55 : decode cX0_ofQuiz 55 = .ok (.iload_n 3, 1) := dk_29 (dk_at dksX0_ofQuiz_2 7 rfl rfl)
theorem dX0_ofQuiz_56 : decode cX0_ofQuiz 56 = .ok (.invokevirtual 388, 3) := dk_182 1 132 (dk_at dksX0_ofQuiz_2 8 rfl rfl)
theorem dX0_ofQuiz_59 : decode cX0_ofQuiz 59 = .ok (.ireturn, 1) := dk_172 (dk_at dksX0_ofQuiz_2 11 rfl rfl)
theorem dX0_ofQuiz_60 : decode cX0_ofQuiz 60 = .ok (.aload_n 0, 1) := dk_42 (dk_at dksX0_ofQuiz_2 12 rfl rfl)
theorem dX0_ofQuiz_61 : decode cX0_ofQuiz 61 = .ok (.iload_n 2, 1) := dk_28 (dk_at dksX0_ofQuiz_2 13 rfl rfl)
theorem dX0_ofQuiz_62 : decode cX0_ofQuiz 62 = .ok (.iload_n 3, 1) := dk_29 (dk_at dksX0_ofQuiz_2 14 rfl rfl)
theorem dX0_ofQuiz_63 : decode cX0_ofQuiz 63 = .ok (.invokevirtual 391, 3) := dk_182 1 135 (dk_at dksX0_ofQuiz_2 15 rfl rfl)
theorem dX0_ofQuiz_66 : decode cX0_ofQuiz 66 = .ok (.ireturn, 1) := dk_172 (dk_at dksX0_ofQuiz_2 18 rfl rfl)
theorem dX0_ofQuiz_67 : decode cX0_ofQuiz 67 = .ok (.aload_n 0, 1) := dk_42 (dk_at dksX0_ofQuiz_2 19 rfl rfl)
theorem dX0_ofQuiz_68 : decode cX0_ofQuiz 68 = .ok (.getfield 55, 3) := dk_180 0 55 (dk_at dksX0_ofQuiz_2 20 rfl rfl)
theorem dX0_ofQuiz_71 : decode cX0_ofQuiz 71 = .ok (.invokevirtual 356, 3) := dk_182 1 100 (dk_at dksX0_ofQuiz_3 0 rfl rfl)
theorem dX0_ofQuiz_74 : decode cX0_ofQuiz 74 = .ok (.ifCond .eq 7, 3) := dk_153 0 7 (dk_at dksX0_ofQuiz_3 3 rfl rfl)
theorem dX0_ofQuiz_77 : decode cX0_ofQuiz 77 = .ok (.iconst 1, 1) := dk_4 (dk_at dksX0_ofQuiz_3 6 rfl rfl)
theorem dX0_ofQuiz_78 : decode cX0_ofQuiz 78 = .ok (.goto 4, 3) := dk_167 0 4 (dk_at dksX0_ofQuiz_3 7 rfl rfl)
theorem dX0_ofQuiz_81 : decode cX0_ofQuiz 81 = .ok (.iconst 0, 1) := dk_3 (dk_at dksX0_ofQuiz_3 10 rfl rfl)
theorem dX0_ofQuiz_82 : decode cX0_ofQuiz 82 = .ok (.ireturn, 1) := dk_172 (dk_at dksX0_ofQuiz_3 11 rfl rfl)
theorem dX0_ofQuiz_83 : decode cX0_ofQuiz 83 = .ok (.aload_n 0, 1) := dk_42 (dk_at dksX0_ofQuiz_3 12 rfl rfl)
theorem dX0_ofQuiz_84 : decode cX0_ofQuiz 84 = .ok (.iload_n 2, 1) := dk_28 (dk_at dksX0_ofQuiz_3 13 rfl rfl)
theorem dX0_ofQuiz_85 : decode cX0_ofQuiz 85 = .ok (.invokevirtual 360, 3) := dk_182 1 104 (dk_at dksX0_ofQuiz_3 14 rfl rfl)
theorem dX0_ofQuiz_88 : decode cX0_ofQuiz 88 = .ok (.aload_n 0, 1) := dk_42 (dk_at dksX0_ofQuiz_3 17 rfl rfl)
theorem dX0_ofQuiz_89 : decode cX0_ofQuiz 89 = .ok (.getfield 55, 3) := dk_180 0 55 (dk_at dksX0_ofQuiz_3 18 rfl rfl)
theorem dX0_ofQuiz_92 : decode cX0_ofQuiz 92 = .ok (.iload_n 2, 1) := dk_28 (dk_at dksX0_ofQuiz_3 21 rfl rfl)
theorem dX0_ofQuiz_93 : decode cX0_ofQuiz 93 = .ok (.invokevirtual 394, 3) := dk_182 1 138 (dk_at dksX0_ofQuiz_4 0 rfl rfl)
theorem dX0_ofQuiz_96 : decode cX0_ofQuiz 96 = .ok (.ireturn, 1) := dk_172 (dk_at dksX0_ofQuiz_4 3 rfl rfl)
theorem dX0_ofQuiz_97 : decode cX0_ofQuiz 97 = .ok (.aload_n 0, 1) := dk_42 (dk_at dksX0_ofQuiz_4 4 rfl rfl)
theorem dX0_ofQuiz_98 : decode cX0_ofQuiz 98 = .ok (.iload_n 2, 1) := dk_28 (dk_at dksX0_ofQuiz_4 5 rfl rfl)
theorem dX0_ofQuiz_99 : decode cX0_ofQuiz 99 = .ok (.invokevirtual 368, 3) := dk_182 1 112 (dk_at dksX0_ofQuiz_4 6 rfl rfl)
theorem dX0_ofQuiz_102 : decode cX0_ofQuiz 102 = .ok (.aload_n 0, 1) := dk_42 (dk_at dksX0_ofQuiz_4 9 rfl rfl)
theorem dX0_ofQuiz_103 : decode cX0_ofQuiz 103 = .ok (.iload_n 3, 1) := dk_29 (dk_at dksX0_ofQuiz_4 10 rfl rfl)
theorem dX0_ofQuiz_104 : decode cX0_ofQuiz 104 = .ok (.invokevirtual 360, 3) := dk_182 1 104 (dk_at dksX0_ofQuiz_4 11 rfl rfl)
theorem dX0_ofQuiz_107 : decode cX0_ofQuiz 107 = .ok (.aload_n 0, 1) := dk_42 (dk_at dksX0_ofQuiz_4 14 rfl rfl)
theorem dX0_ofQuiz_108 : decode cX0_ofQuiz 108 = .ok (.invokevirtual 397, 3) := dk_182 1 141 (dk_at dksX0_ofQuiz_4 15 rfl rfl)
theorem dX0_ofQuiz_111 : decode cX0_ofQuiz 111 = .ok (.aload_n 0, 1) := dk_42 (dk_at dksX0_ofQuiz_4 18 rfl rfl)
theorem dX0_ofQuiz_112 : decode cX0_ofQuiz 112 = .ok (.aload_n 0, 1) := dk_42 (dk_at dksX0_ofQuiz_4 19 rfl rfl)
theorem dX0_ofQuiz_113 : decode cX0_ofQuiz 113 = .ok (.getfield 61, 3) := dk_180 0 61 (dk_at dksX0_ofQuiz_4 20 rfl rfl)
theorem dX0_ofQuiz_116 : decode cX0_ofQuiz 116 = .ok (.iload_n 2, 1) := dk_28 (dk_at dksX0_ofQuiz_4 23 rfl rfl)
theorem dX0_ofQuiz_117 : decode cX0_ofQuiz 117 = .ok (.aaload, 1) := dk_50 (dk_at dksX0_ofQuiz_5 0 rfl rfl)
theorem dX0_ofQuiz_118 : decode cX0_ofQuiz 118 = .ok (.getfield 176, 3) := dk_180 0 176 (dk_at dksX0_ofQuiz_5 1 rfl rfl)
theorem dX0_ofQuiz_121 : decode cX0_ofQuiz 121 = .ok (.iload_n 3, 1) := dk_29 (dk_at dksX0_ofQuiz_5 4 rfl rfl)
theorem dX0_ofQuiz_122 : decode cX0_ofQuiz 122 = .ok (.invokevirtual 179, 3) := dk_182 0 179 (dk_at dksX0_ofQuiz_5 5 rfl rfl)
theorem dX0_ofQuiz_125 : decode cX0_ofQuiz 125 = .ok (.ireturn, 1) := dk_172 (dk_at dksX0_ofQuiz_5 8 rfl rfl)
theorem dX0_ofQuiz_126 : decode cX0_ofQuiz 126 = .ok (.aload_n 0, 1) := dk_42 (dk_at dksX0_ofQuiz_5 9 rfl rfl)
theorem dX0_ofQuiz_127 : decode cX0_ofQuiz 127 = .ok (.iload_n 2, 1) := dk_28 (dk_at dksX0_ofQuiz_5 10 rfl rfl)
theorem dX0_ofQuiz_128 : decode cX0_ofQuiz 128 = .ok (.iload_n 3, 1) := dk_29 (dk_at dksX0_ofQuiz_5 11 rfl rfl)
theorem dX0_ofQuiz_129 : decode cX0_ofQuiz 129 = .ok (.invokevirtual 400, 3) := dk_182 1 144 (dk_at dksX0_ofQuiz_5 12 rfl rfl)
theorem dX0_ofQuiz_132 : decode cX0_ofQuiz 132 = .ok (.ireturn, 1) := dk_172 (dk_at dksX0_ofQuiz_5 15 rfl rfl)
theorem dX0_ofQuiz_133 : decode cX0_ofQuiz 133 = .ok (.aload_n 0, 1) := dk_42 (dk_at dksX0_ofQuiz_5 16 rfl rfl)
theorem dX0_ofQuiz_134 : decode cX0_ofQuiz 134 = .ok (.iload_n 2, 1) := dk_28 (dk_at dksX0_ofQuiz_5 17 rfl rfl)
theorem dX0_ofQuiz_135 : decode cX0_ofQuiz 135 = .ok (.iload_n 3, 1) := dk_29 (dk_at dksX0_ofQuiz_5 18 rfl rfl)
theorem dX0_ofQuiz_136 : decode cX0_ofQuiz 136 = .ok (.invokevirtual 403, 3) := dk_182 1 147 (dk_at dksX0_ofQuiz_5 19 rfl rfl)
theorem dX0_ofQuiz_139 : decode cX0_ofQuiz 139 = .ok (.ireturn, 1) := dk_172 (dk_at dksX0_ofQuiz_5 22 rfl rfl)
theorem dX0_ofQuiz_140 : decode cX0_ofQuiz 140 = .ok (.aload_n 0, 1) := dk_42 (dk_at dksX0_ofQuiz_5 23 rfl rfl)
theorem dX0_ofQuiz_141 : decode cX0_ofQuiz 141 = .ok (.iload_n 2, 1) := dk_28 (dk_at dksX0_ofQuiz_6 0 rfl rfl)
theorem dX0_ofQuiz_142 : decode cX0_ofQuiz 142 = .ok (.invokevirtual 368, 3) := dk_182 1 112 (dk_at dksX0_ofQuiz_6 1 rfl rfl)
theorem dX0_ofQuiz_145 : decode cX0_ofQuiz 145 = .ok (.aload_n 0, 1) := dk_42 (dk_at dksX0_ofQuiz_6 4 rfl rfl)
theorem dX0_ofQuiz_146 : decode cX0_ofQuiz 146 = .ok (.iload_n 3, 1) := dk_29 (dk_at dksX0_ofQuiz_6 5 rfl rfl)
theorem dX0_ofQuiz_147 : decode cX0_ofQuiz 147 = .ok (.invokevirtual 360, 3) := dk_182 1 104 (dk_at dksX0_ofQuiz_6 6 rfl rfl)
theorem dX0_ofQuiz_150 : decode cX0_ofQuiz 150 = .ok (.aload_n 0, 1) := dk_42 (dk_at dksX0_ofQuiz_6 9 rfl rfl)
theorem dX0_ofQuiz_151 : decode cX0_ofQuiz 151 = .ok (.invokevirtual 397, 3) := dk_182 1 141 (dk_at dksX0_ofQuiz_6 10 rfl rfl)
theorem dX0_ofQuiz_154 : decode cX0_ofQuiz 154 = .ok (.aload_n 0, 1) := dk_42 (dk_at dksX0_ofQuiz_6 13 rfl rfl)
theorem dX0_ofQuiz_155 : decode cX0_ofQuiz 155 = .ok (.aload_n 0, 1) := dk_42 (dk_at dksX0_ofQuiz_6 14 rfl rfl)
theorem dX0_ofQuiz_156 : decode cX0_ofQuiz 156 = .ok (.getfield 61, 3) := dk_180 0 61 (dk_at dksX0_ofQuiz_6 15 rfl rfl)
theorem dX0_ofQuiz_159 : decode cX0_ofQuiz 159 = .ok (.iload_n 2, 1) := dk_28 (dk_at dksX0_ofQuiz_6 18 rfl rfl)
theorem dX0_ofQuiz_160 : decode cX0_ofQuiz 160 = .ok (.aaload, 1) := dk_50 (dk_at dksX0_ofQuiz_6 19 rfl rfl)
theorem dX0_ofQuiz_161 : decode cX0_ofQuiz 161 = .ok (.iload_n 3, 1) := dk_29 (dk_at dksX0_ofQuiz_6 20 rfl rfl)
theorem dX0_ofQuiz_162 : decode cX0_ofQuiz 162 = .ok (.iconst 0, 1) := dk_3 (dk_at dksX0_ofQuiz_6 21 rfl rfl)
theorem dX0_ofQuiz_163 : decode cX0_ofQuiz 163 = .ok (.invokevirtual 190, 3) := dk_182 0 190 (dk_at dksX0_ofQuiz_7 0 rfl rfl)
theorem dX0_ofQuiz_166 : decode cX0_ofQuiz 166 = .ok (.ifCond .eq 7, 3) := dk_153 0 7 (dk_at dksX0_ofQuiz_7 3 rfl rfl)
theorem dX0_ofQuiz_169 : decode cX0_ofQuiz 169 = .ok (.iconst 1, 1) := dk_4 (dk_at dksX0_ofQuiz_7 6 rfl rfl)
theorem dX0_ofQuiz_170 : decode cX0_ofQuiz 170 = .ok (.goto 4, 3) := dk_167 0 4 (dk_at dksX0_ofQuiz_7 7 rfl rfl)
theorem dX0_ofQuiz_173 : decode cX0_ofQuiz 173 = .ok (.iconst 0, 1) := dk_3 (dk_at dksX0_ofQuiz_7 10 rfl rfl)
theorem dX0_ofQuiz_174 : decode cX0_ofQuiz 174 = .ok (.ireturn, 1) := dk_172 (dk_at dksX0_ofQuiz_7 11 rfl rfl)
abbrev cX0_readQuiz : ByteArray := prog_1_method_9_code
def yX0_readQuiz : MethodName := ⟨RX0, "readQuiz", "()I"⟩
def dkwX0_readQuiz_9 : List UInt8 := [25, 5, 21, 7, 50, 83, 42, 89, 180, 0, 136, 4, 96, 181, 0, 136, 132, 7, 1, 167, 255, 222, 29, 172]
abbrev dktX0_readQuiz_9 : List UInt8 := dkwX0_readQuiz_9 ++ []
def dkwX0_readQuiz_8 : List UInt8 := [4, 96, 181, 0, 169, 3, 54, 7, 21, 7, 21, 6, 162, 0, 33, 42, 180, 0, 61, 42, 180, 0, 136]
abbrev dktX0_readQuiz_8 : List UInt8 := dkwX0_readQuiz_8 ++ dktX0_readQuiz_9
def dkwX0_readQuiz_7 : List UInt8 := [180, 0, 165, 83, 132, 6, 1, 132, 7, 1, 167, 255, 149, 42, 25, 4, 181, 0, 55, 42, 89, 180, 0, 169]
abbrev dktX0_readQuiz_7 : List UInt8 := dkwX0_readQuiz_7 ++ dktX0_readQuiz_8
def dkwX0_readQuiz_6 : List UInt8 := [25, 8, 180, 0, 157, 182, 0, 160, 167, 0, 21, 25, 5, 21, 6, 44, 21, 7, 50, 192, 0, 163]
abbrev dktX0_readQuiz_6 : List UInt8 := dkwX0_readQuiz_6 ++ dktX0_readQuiz_7
def dkwX0_readQuiz_5 : List UInt8 := [153, 0, 35, 44, 21, 7, 50, 192, 0, 149, 58, 8, 25, 4, 25, 8, 180, 0, 151, 25, 8, 180, 0, 154]
abbrev dktX0_readQuiz_5 : List UInt8 := dkwX0_readQuiz_5 ++ dktX0_readQuiz_6
def dkwX0_readQuiz_4 : List UInt8 := [17, 248, 48, 44, 21, 7, 50, 180, 0, 145, 100, 183, 0, 148, 191, 44, 21, 7, 50, 193, 0, 149]
abbrev dktX0_readQuiz_4 : List UInt8 := dkwX0_readQuiz_4 ++ dktX0_readQuiz_5
def dkwX0_readQuiz_3 : List UInt8 := [21, 7, 50, 25, 4, 42, 180, 0, 136, 21, 6, 96, 182, 0, 139, 154, 0, 22, 187, 0, 143, 89]
abbrev dktX0_readQuiz_3 : List UInt8 := dkwX0_readQuiz_3 ++ dktX0_readQuiz_4
def dkwX0_readQuiz_2 : List UInt8 := [182, 0, 132, 58, 4, 7, 189, 0, 59, 58, 5, 3, 54, 6, 3, 54, 7, 21, 7, 29, 162, 0, 107, 44]
abbrev dktX0_readQuiz_2 : List UInt8 := dkwX0_readQuiz_2 ++ dktX0_readQuiz_3
def dkwX0_readQuiz_1 : List UInt8 := [43, 182, 0, 122, 83, 132, 3, 1, 43, 180, 0, 126, 43, 180, 0, 129, 161, 255, 238, 42, 180, 0, 55]
abbrev dktX0_readQuiz_1 : List UInt8 := dkwX0_readQuiz_1 ++ dktX0_readQuiz_2
def dkwX0_readQuiz_0 : List UInt8 := [187, 0, 111, 89, 42, 183, 0, 113, 76, 42, 3, 181, 0, 116, 16, 64, 189, 0, 120, 77, 3, 62, 44, 29]
abbrev dktX0_readQuiz_0 : List UInt8 := dkwX0_readQuiz_0 ++ dktX0_readQuiz_1
theorem dksX0_readQuiz_0 : cX0_readQuiz.data.toList.drop 0 = dktX0_readQuiz_0 := by decide +kernel
theorem dksX0_readQuiz_1 : cX0_readQuiz.data.toList.drop 24 = dktX0_readQuiz_1 := dk_seg dksX0_readQuiz_0 24 rfl rfl
theorem dksX0_readQuiz_2 : cX0_readQuiz.data.toList.drop 47 = dktX0_readQuiz_2 := dk_seg dksX0_readQuiz_1 23 rfl rfl
theorem dksX0_readQuiz_3 : cX0_readQuiz.data.toList.drop 71 = dktX0_readQuiz_3 := dk_seg dksX0_readQuiz_2 24 rfl rfl
theorem dksX0_readQuiz_4 : cX0_readQuiz.data.toList.drop 93 = dktX0_readQuiz_4 := dk_seg dksX0_readQuiz_3 22 rfl rfl
theorem dksX0_readQuiz_5 : cX0_readQuiz.data.toList.drop 115 = dktX0_readQuiz_5 := dk_seg dksX0_readQuiz_4 22 rfl rfl
theorem dksX0_readQuiz_6 : cX0_readQuiz.data.toList.drop 139 = dktX0_readQuiz_6 := dk_seg dksX0_readQuiz_5 24 rfl rfl
theorem dksX0_readQuiz_7 : cX0_readQuiz.data.toList.drop 161 = dktX0_readQuiz_7 := dk_seg dksX0_readQuiz_6 22 rfl rfl
theorem dksX0_readQuiz_8 : cX0_readQuiz.data.toList.drop 185 = dktX0_readQuiz_8 := dk_seg dksX0_readQuiz_7 24 rfl rfl
theorem dksX0_readQuiz_9 : cX0_readQuiz.data.toList.drop 208 = dktX0_readQuiz_9 := dk_seg dksX0_readQuiz_8 23 rfl rfl
theorem dX0_readQuiz_0 : decode cX0_readQuiz 0 = .ok (.new 111, 3) := dk_187 0 111 (dk_at dksX0_readQuiz_0 0 rfl rfl)
theorem dX0_readQuiz_3 : decode cX0_readQuiz 3 = .ok (.dup, 1) := dk_89 (dk_at dksX0_readQuiz_0 3 rfl rfl)
theorem dX0_readQuiz_4 : decode cX0_readQuiz 4 = .ok (.aload_n 0, 1) := dk_42 (dk_at dksX0_readQuiz_0 4 rfl rfl)
theorem dX0_readQuiz_5 : decode cX0_readQuiz 5 = .ok (.invokespecial 113, 3) := dk_183 0 113 (dk_at dksX0_readQuiz_0 5 rfl rfl)
theorem dX0_readQuiz_8 : decode cX0_readQuiz 8 = .ok (.astore_n 1, 1) := dk_76 (dk_at dksX0_readQuiz_0 8 rfl rfl)
theorem dX0_readQuiz_9 : decode cX0_readQuiz 9 = .ok (.aload_n 0, 1) := dk_42 (dk_at dksX0_readQuiz_0 9 rfl rfl)
theorem dX0_readQuiz_10 : decode cX0_readQuiz 10 = .ok (.iconst 0, 1) := dk_3 (dk_at dksX0_readQuiz_0 10 rfl rfl)
theorem dX0_readQuiz_11 : decode cX0_readQuiz 11 = .ok (.putfield 116, 3) := dk_181 0 116 (dk_at dksX0_readQuiz_0 11 rfl rfl)
theorem dX0_readQuiz_14 : decode cX0_readQuiz 14 = .ok (.bipush 64, 2) := dk_16 64 (dk_at dksX0_readQuiz_0 14 rfl rfl)
theorem dX0_readQuiz_16 : decode cX0_readQuiz 16 = .ok (.anewarray 120, 3) := dk_189 0 120 (dk_at dksX0_readQuiz_0 16 rfl rfl)
theorem dX0_readQuiz_19 : decode cX0_readQuiz 19 = .ok (.astore_n 2, 1) := dk_77 (dk_at dksX0_readQuiz_0 19 rfl rfl)
theorem dX0_readQuiz_20 : decode cX0_readQuiz 20 = .ok (.iconst 0, 1) := dk_3 (dk_at dksX0_readQuiz_0 20 rfl rfl)
theorem dX0_readQuiz_21 : decode cX0_readQuiz 21 = .ok (.istore_n 3, 1) := dk_62 (dk_at dksX0_readQuiz_0 21 rfl rfl)
theorem dX0_readQuiz_22 : decode cX0_readQuiz 22 = .ok (.aload_n 2, 1) := dk_44 (dk_at dksX0_readQuiz_0 22 rfl rfl)
theorem dX0_readQuiz_23 : decode cX0_readQuiz 23 = .ok (.iload_n 3, 1) := dk_29 (dk_at dksX0_readQuiz_0 23 rfl rfl)
theorem dX0_readQuiz_24 : decode cX0_readQuiz 24 = .ok (.aload_n 1, 1) := dk_43 (dk_at dksX0_readQuiz_1 0 rfl rfl)
theorem dX0_readQuiz_25 : decode cX0_readQuiz 25 = .ok (.invokevirtual 122, 3) := dk_182 0 122 (dk_at dksX0_readQuiz_1 1 rfl rfl)
theorem dX0_readQuiz_28 : decode cX0_readQuiz 28 = .ok (.aastore, 1) := dk_83 (dk_at dksX0_readQuiz_1 4 rfl rfl)
theorem dX0_readQuiz_29 : decode cX0_readQuiz 29 = .ok (.iinc 3 1, 3) := dk_132 3 1 (dk_at dksX0_readQuiz_1 5 rfl rfl)
theorem dX0_readQuiz_32 : decode cX0_readQuiz 32 = .ok (.aload_n 1, 1) := dk_43 (dk_at dksX0_readQuiz_1 8 rfl rfl)
theorem dX0_readQuiz_33 : decode cX0_readQuiz 33 = .ok (.getfield 126, 3) := dk_180 0 126 (dk_at dksX0_readQuiz_1 9 rfl rfl)
theorem dX0_readQuiz_36 : decode cX0_readQuiz 36 = .ok (.aload_n 1, 1) := dk_43 (dk_at dksX0_readQuiz_1 12 rfl rfl)
theorem dX0_readQuiz_37 : decode cX0_readQuiz 37 = .ok (.getfield 129, 3) := dk_180 0 129 (dk_at dksX0_readQuiz_1 13 rfl rfl)
theorem dX0_readQuiz_40 : decode cX0_readQuiz 40 = .ok (.if_icmp .lt (-18), 3) := dk_161 255 238 (dk_at dksX0_readQuiz_1 16 rfl rfl)
theorem dX0_readQuiz_43 : decode cX0_readQuiz 43 = .ok (.aload_n 0, 1) := dk_42 (dk_at dksX0_readQuiz_1 19 rfl rfl)
theorem dX0_readQuiz_44 : decode cX0_readQuiz 44 = .ok (.getfield 55, 3) := dk_180 0 55 (dk_at dksX0_readQuiz_1 20 rfl rfl)
theorem dX0_readQuiz_47 : decode cX0_readQuiz 47 = .ok (.invokevirtual 132, 3) := dk_182 0 132 (dk_at dksX0_readQuiz_2 0 rfl rfl)
theorem dX0_readQuiz_50 : decode cX0_readQuiz 50 = .ok (.astore 4, 2) := dk_58 4 (dk_at dksX0_readQuiz_2 3 rfl rfl)
theorem dX0_readQuiz_52 : decode cX0_readQuiz 52 = .ok (.iconst 4, 1) := dk_7 (dk_at dksX0_readQuiz_2 5 rfl rfl)
theorem dX0_readQuiz_53 : decode cX0_readQuiz 53 = .ok (.anewarray 59, 3) := dk_189 0 59 (dk_at dksX0_readQuiz_2 6 rfl rfl)
theorem dX0_readQuiz_56 : decode cX0_readQuiz 56 = .ok (.astore 5, 2) := dk_58 5 (dk_at dksX0_readQuiz_2 9 rfl rfl)
theorem dX0_readQuiz_58 : decode cX0_readQuiz 58 = .ok (.iconst 0, 1) := dk_3 (dk_at dksX0_readQuiz_2 11 rfl rfl)
theorem dX0_readQuiz_59 : decode cX0_readQuiz 59 = .ok (.istore 6, 2) := dk_54 6 (dk_at dksX0_readQuiz_2 12 rfl rfl)
theorem dX0_readQuiz_61 : decode cX0_readQuiz 61 = .ok (.iconst 0, 1) := dk_3 (dk_at dksX0_readQuiz_2 14 rfl rfl)
theorem dX0_readQuiz_62 : decode cX0_readQuiz 62 = .ok (.istore 7, 2) := dk_54 7 (dk_at dksX0_readQuiz_2 15 rfl rfl)
theorem dX0_readQuiz_64 : decode cX0_readQuiz 64 = .ok (.iload 7, 2) := dk_21 7 (dk_at dksX0_readQuiz_2 17 rfl rfl)
theorem dX0_readQuiz_66 : decode cX0_readQuiz 66 = .ok (.iload_n 3, 1) := dk_29 (dk_at dksX0_readQuiz_2 19 rfl rfl)
theorem dX0_readQuiz_67 : decode cX0_readQuiz 67 = .ok (.if_icmp .ge 107, 3) := dk_162 0 107 (dk_at dksX0_readQuiz_2 20 rfl rfl)
theorem dX0_readQuiz_70 : decode cX0_readQuiz 70 = .ok (.aload_n 2, 1) := dk_44 (dk_at dksX0_readQuiz_2 23 rfl rfl)
theorem dX0_readQuiz_71 : decode cX0_readQuiz 71 = .ok (.iload 7, 2) := dk_21 7 (dk_at dksX0_readQuiz_3 0 rfl rfl)
theorem dX0_readQuiz_73 : decode cX0_readQuiz 73 = .ok (.aaload, 1) := dk_50 (dk_at dksX0_readQuiz_3 2 rfl rfl)
theorem dX0_readQuiz_74 : decode cX0_readQuiz 74 = .ok (.aload 4, 2) := dk_25 4 (dk_at dksX0_readQuiz_3 3 rfl rfl)
theorem dX0_readQuiz_76 : decode cX0_readQuiz 76 = .ok (.aload_n 0, 1) := dk_42 (dk_at dksX0_readQuiz_3 5 rfl rfl)
theorem dX0_readQuiz_77 : decode cX0_readQuiz 77 = .ok (.getfield 136, 3) := dk_180 0 136 (dk_at dksX0_readQuiz_3 6 rfl rfl)
theorem dX0_readQuiz_80 : decode cX0_readQuiz 80 = .ok (.iload 6, 2) := dk_21 6 (dk_at dksX0_readQuiz_3 9 rfl rfl)
theorem dX0_readQuiz_82 : decode cX0_readQuiz 82 = .ok (.iadd, 1) := dk_96 (dk_at dksX0_readQuiz_3 11 rfl rfl)
theorem dX0_readQuiz_83 : decode cX0_readQuiz 83 = .ok (.invokevirtual 139, 3) := dk_182 0 139 (dk_at dksX0_readQuiz_3 12 rfl rfl)
theorem dX0_readQuiz_86 : decode cX0_readQuiz 86 = .ok (.ifCond .ne 22, 3) := dk_154 0 22 (dk_at dksX0_readQuiz_3 15 rfl rfl)
theorem dX0_readQuiz_89 : decode cX0_readQuiz 89 = .ok (.new 143, 3) := dk_187 0 143 (dk_at dksX0_readQuiz_3 18 rfl rfl)
theorem dX0_readQuiz_92 : decode cX0_readQuiz 92 = .ok (.dup, 1) := dk_89 (dk_at dksX0_readQuiz_3 21 rfl rfl)
theorem dX0_readQuiz_93 : decode cX0_readQuiz 93 = .ok (.sipush (-2000), 3) := dk_17 248 48 (dk_at dksX0_readQuiz_4 0 rfl rfl)
theorem dX0_readQuiz_96 : decode cX0_readQuiz 96 = .ok (.aload_n 2, 1) := dk_44 (dk_at dksX0_readQuiz_4 3 rfl rfl)
theorem dX0_readQuiz_97 : decode cX0_readQuiz 97 = .ok (.iload 7, 2) := dk_21 7 (dk_at dksX0_readQuiz_4 4 rfl rfl)
theorem dX0_readQuiz_99 : decode cX0_readQuiz 99 = .ok (.aaload, 1) := dk_50 (dk_at dksX0_readQuiz_4 6 rfl rfl)
theorem dX0_readQuiz_100 : decode cX0_readQuiz 100 = .ok (.getfield 145, 3) := dk_180 0 145 (dk_at dksX0_readQuiz_4 7 rfl rfl)
theorem dX0_readQuiz_103 : decode cX0_readQuiz 103 = .ok (.isub, 1) := dk_100 (dk_at dksX0_readQuiz_4 10 rfl rfl)
theorem dX0_readQuiz_104 : decode cX0_readQuiz 104 = .ok (.invokespecial 148, 3) := dk_183 0 148 (dk_at dksX0_readQuiz_4 11 rfl rfl)
theorem dX0_readQuiz_107 : decode cX0_readQuiz 107 = .ok (.athrow, 1) := dk_191 (dk_at dksX0_readQuiz_4 14 rfl rfl)
theorem dX0_readQuiz_108 : decode cX0_readQuiz 108 = .ok (.aload_n 2, 1) := dk_44 (dk_at dksX0_readQuiz_4 15 rfl rfl)
theorem dX0_readQuiz_109 : decode cX0_readQuiz 109 = .ok (.iload 7, 2) := dk_21 7 (dk_at dksX0_readQuiz_4 16 rfl rfl)
theorem dX0_readQuiz_111 : decode cX0_readQuiz 111 = .ok (.aaload, 1) := dk_50 (dk_at dksX0_readQuiz_4 18 rfl rfl)
theorem dX0_readQuiz_112 : decode cX0_readQuiz 112 = .ok (.instanceof 149, 3) := dk_193 0 149 (dk_at dksX0_readQuiz_4 19 rfl rfl)
theorem dX0_readQuiz_115 : decode cX0_readQuiz 115 = .ok (.ifCond .eq 35, 3) := dk_153 0 35 (dk_at dksX0_readQuiz_5 0 rfl rfl)
theorem dX0_readQuiz_118 : decode cX0_readQuiz 118 = .ok (.aload_n 2, 1) := dk_44 (dk_at dksX0_readQuiz_5 3 rfl rfl)
theorem dX0_readQuiz_119 : decode cX0_readQuiz 119 = .ok (.iload 7, 2) := dk_21 7 (dk_at dksX0_readQuiz_5 4 rfl rfl)
theorem dX0_readQuiz_121 : decode cX0_readQuiz 121 = .ok (.aaload, 1) := dk_50 (dk_at dksX0_readQuiz_5 6 rfl rfl)
theorem dX0_readQuiz_122 : decode cX0_readQuiz 122 = .ok (.checkcast 149, 3) := dk_192 0 149 (dk_at dksX0_readQuiz_5 7 rfl rfl)
theorem dX0_readQuiz_125 : decode cX0_readQuiz 125 = .ok (.astore 8, 2) := dk_58 8 (dk_at dksX0_readQuiz_5 10 rfl rfl)
theorem dX0_readQuiz_127 : decode cX0_readQuiz 127 = .ok (.aload 4, 2) := dk_25 4 (dk_at dksX0_readQuiz_5 12 rfl rfl)
theorem dX0_readQuiz_129 : decode cX0_readQuiz 129 = .ok (.aload 8, 2) := dk_25 8 (dk_at dksX0_readQuiz_5 14 rfl rfl)
theorem dX0_readQuiz_131 : decode cX0_readQuiz 131 = .ok (.getfield 151, 3) := dk_180 0 151 (dk_at dksX0_readQuiz_5 16 rfl rfl)
theorem dX0_readQuiz_134 : decode cX0_readQuiz 134 = .ok (.aload 8, 2) := dk_25 8 (dk_at dksX0_readQuiz_5 19 rfl rfl)
theorem dX0_readQuiz_136 : decode cX0_readQuiz 136 = .ok (.getfield 154, 3) := dk_180 0 154 (dk_at dksX0_readQuiz_5 21 rfl rfl)
theorem dX0_readQuiz_139 : decode cX0_readQuiz 139 = .ok (.aload 8, 2) := dk_25 8 (dk_at dksX0_readQuiz_6 0 rfl rfl)
theorem dX0_readQuiz_141 : decode cX0_readQuiz 141 = .ok (.getfield 157, 3) := dk_180 0 157 (dk_at dksX0_readQuiz_6 2 rfl rfl)
theorem dX0_readQuiz_144 : decode cX0_readQuiz 144 = .ok (.invokevirtual 160, 3) := dk_182 0 160 (dk_at dksX0_readQuiz_6 5 rfl rfl)
theorem dX0_readQuiz_147 : decode cX0_readQuiz 147 = .ok (.goto 21, 3) := dk_167 0 21 (dk_at dksX0_readQuiz_6 8 rfl rfl)
theorem dX0_readQuiz_150 : decode cX0_readQuiz 150 = .ok (.aload 5, 2) := dk_25 5 (dk_at dksX0_readQuiz_6 11 rfl rfl)
theorem dX0_readQuiz_152 : decode cX0_readQuiz 152 = .ok (.iload 6, 2) := dk_21 6 (dk_at dksX0_readQuiz_6 13 rfl rfl)
theorem dX0_readQuiz_154 : decode cX0_readQuiz 154 = .ok (.aload_n 2, 1) := dk_44 (dk_at dksX0_readQuiz_6 15 rfl rfl)
theorem dX0_readQuiz_155 : decode cX0_readQuiz 155 = .ok (.iload 7, 2) := dk_21 7 (dk_at dksX0_readQuiz_6 16 rfl rfl)
theorem dX0_readQuiz_157 : decode cX0_readQuiz 157 = .ok (.aaload, 1) := dk_50 (dk_at dksX0_readQuiz_6 18 rfl rfl)
theorem dX0_readQuiz_158 : decode cX0_readQuiz 158 = .ok (.checkcast 163, 3) := dk_192 0 163 (dk_at dksX0_readQuiz_6 19 rfl rfl)
theorem dX0_readQuiz_161 : decode cX0_readQuiz 161 = .ok (.getfield 165, 3) := dk_180 0 165 (dk_at dksX0_readQuiz_7 0 rfl rfl)
theorem dX0_readQuiz_164 : decode cX0_readQuiz 164 = .ok (.aastore, 1) := dk_83 (dk_at dksX0_readQuiz_7 3 rfl rfl)
theorem dX0_readQuiz_165 : decode cX0_readQuiz 165 = .ok (.iinc 6 1, 3) := dk_132 6 1 (dk_at dksX0_readQuiz_7 4 rfl rfl)
theorem dX0_readQuiz_168 : decode cX0_readQuiz 168 = .ok (.iinc 7 1, 3) := dk_132 7 1 (dk_at dksX0_readQuiz_7 7 rfl rfl)
theorem dX0_readQuiz_171 : decode cX0_readQuiz 171 = .ok (.goto (-107), 3) := dk_167 255 149 (dk_at dksX0_readQuiz_7 10 rfl rfl)
theorem dX0_readQuiz_174 : decode cX0_readQuiz 174 = .ok (.aload_n 0, 1) := dk_42 (dk_at dksX0_readQuiz_7 13 rfl rfl)
theorem dX0_readQuiz_175 : decode cX0_readQuiz 175 = .ok (.aload 4, 2) := dk_25 4 (dk_at dksX0_readQuiz_7 14 rfl rfl)
theorem dX0_readQuiz_177 : decode cX0_readQuiz 177 = .ok (.putfield 55, 3) := dk_181 0 55 (dk_at dksX0_readQuiz_7 16 rfl rfl)
theorem dX0_readQuiz_180 : decode cX0_readQuiz 180 = .ok (.aload_n 0, 1) := dk_42 (dk_at dksX0_readQuiz_7 19 rfl rfl)
theorem dX0_readQuiz_181 : decode cX0_readQuiz 181 = .ok (.dup, 1) := dk_89 (dk_at dksX0_readQuiz_7 20 rfl rfl)
theorem dX0_readQuiz_182 : decode cX0_readQuiz 182 = .ok (.getfield 169, 3) := dk_180 0 169 (dk_at dksX0_readQuiz_7 21 rfl rfl)
theorem dX0_readQuiz_185 : decode cX0_readQuiz 185 = .ok (.iconst 1, 1) := dk_4 (dk_at dksX0_readQuiz_8 0 rfl rfl)
theorem dX0_readQuiz_186 : decode cX0_readQuiz 186 = .ok (.iadd, 1) := dk_96 (dk_at dksX0_readQuiz_8 1 rfl rfl)
theorem dX0_readQuiz_187 : decode cX0_readQuiz 187 = .ok (.putfield 169, 3) := dk_181 0 169 (dk_at dksX0_readQuiz_8 2 rfl rfl)
theorem dX0_readQuiz_190 : decode cX0_readQuiz 190 = .ok (.iconst 0, 1) := dk_3 (dk_at dksX0_readQuiz_8 5 rfl rfl)
theorem dX0_readQuiz_191 : decode cX0_readQuiz 191 = .ok (.istore 7, 2) := dk_54 7 (dk_at dksX0_readQuiz_8 6 rfl rfl)
theorem dX0_readQuiz_193 : decode cX0_readQuiz 193 = .ok (.iload 7, 2) := dk_21 7 (dk_at dksX0_readQuiz_8 8 rfl rfl)
theorem dX0_readQuiz_195 : decode cX0_readQuiz 195 = .ok (.iload 6, 2) := dk_21 6 (dk_at dksX0_readQuiz_8 10 rfl rfl)
theorem dX0_readQuiz_197 : decode cX0_readQuiz 197 = .ok (.if_icmp .ge 33, 3) := dk_162 0 33 (dk_at dksX0_readQuiz_8 12 rfl rfl)
theorem dX0_readQuiz_200 : decode cX0_readQuiz 200 = .ok (.aload_n 0, 1) := dk_42 (dk_at dksX0_readQuiz_8 15 rfl rfl)
theorem dX0_readQuiz_201 : decode cX0_readQuiz 201 = .ok (.getfield 61, 3) := dk_180 0 61 (dk_at dksX0_readQuiz_8 16 rfl rfl)
theorem dX0_readQuiz_204 : decode cX0_readQuiz 204 = .ok (.aload_n 0, 1) := dk_42 (dk_at dksX0_readQuiz_8 19 rfl rfl)
theorem dX0_readQuiz_205 : decode cX0_readQuiz 205 = .ok (.getfield 136, 3) := dk_180 0 136 (dk_at dksX0_readQuiz_8 20 rfl rfl)
theorem dX0_readQuiz_208 : decode cX0_readQuiz 208 = .ok (.aload 5, 2) := dk_25 5 (dk_at dksX0_readQuiz_9 0 rfl rfl)
theorem dX0_readQuiz_210 : decode cX0_readQuiz 210 = .ok (.iload 7, 2) := dk_21 7 (dk_at dksX0_readQuiz_9 2 rfl rfl)
theorem dX0_readQuiz_212 : decode cX0_readQuiz 212 = .ok (.aaload, 1) := dk_50 (dk_at dksX0_readQuiz_9 4 rfl rfl)
theorem dX0_readQuiz_213 : decode cX0_readQuiz 213 = .ok (.aastore, 1) := dk_83 (dk_at dksX0_readQuiz_9 5 rfl rfl)
theorem dX0_readQuiz_214 : decode cX0_readQuiz 214 = .ok (.aload_n 0, 1) := dk_42 (dk_at dksX0_readQuiz_9 6 rfl rfl)
theorem dX0_readQuiz_215 : decode cX0_readQuiz 215 = .ok (.dup, 1) := dk_89 (dk_at dksX0_readQuiz_9 7 rfl rfl)
theorem dX0_readQuiz_216 : decode cX0_readQuiz 216 = .ok (.getfield 136, 3) := dk_180 0 136 (dk_at dksX0_readQuiz_9 8 rfl rfl)
theorem dX0_readQuiz_219 : decode cX0_readQuiz 219 = .ok (.iconst 1, 1) := dk_4 (dk_at dksX0_readQuiz_9 11 rfl rfl)
theorem dX0_readQuiz_220 : decode cX0_readQuiz 220 = .ok (.iadd, 1) := dk_96 (dk_at dksX0_readQuiz_9 12 rfl rfl)
theorem dX0_readQuiz_221 : decode cX0_readQuiz 221 = .ok (.putfield 136, 3) := dk_181 0 136 (dk_at dksX0_readQuiz_9 13 rfl rfl)
theorem dX0_readQuiz_224 : decode cX0_readQuiz 224 = .ok (.iinc 7 1, 3) := dk_132 7 1 (dk_at dksX0_readQuiz_9 16 rfl rfl)
theorem dX0_readQuiz_227 : decode cX0_readQuiz 227 = .ok (.goto (-34), 3) := dk_167 255 222 (dk_at dksX0_readQuiz_9 19 rfl rfl)
theorem dX0_readQuiz_230 : decode cX0_readQuiz 230 = .ok (.iload_n 3, 1) := dk_29 (dk_at dksX0_readQuiz_9 22 rfl rfl)
theorem dX0_readQuiz_231 : decode cX0_readQuiz 231 = .ok (.ireturn, 1) := dk_172 (dk_at dksX0_readQuiz_9 23 rfl rfl)
abbrev cX0_in : ByteArray := prog_1_method_1_code
def yX0_in : MethodName := ⟨RX0, "in", "(JJJ)Z"⟩
def dkwX0_in_0 : List UInt8 := [30, 32, 148, 155, 0, 14, 30, 22, 4, 148, 157, 0, 7, 4, 167, 0, 4, 3, 172]
abbrev dktX0_in_0 : List UInt8 := dkwX0_in_0 ++ []
theorem dksX0_in_0 : cX0_in.data.toList.drop 0 = dktX0_in_0 := by decide +kernel
theorem dX0_in_0 : decode cX0_in 0 = .ok (.lload_n 0, 1) := dk_30 (dk_at dksX0_in_0 0 rfl rfl)
theorem dX0_in_1 : decode cX0_in 1 = .ok (.lload_n 2, 1) := dk_32 (dk_at dksX0_in_0 1 rfl rfl)
theorem dX0_in_2 : decode cX0_in 2 = .ok (.lcmp, 1) := dk_148 (dk_at dksX0_in_0 2 rfl rfl)
theorem dX0_in_3 : decode cX0_in 3 = .ok (.ifCond .lt 14, 3) := dk_155 0 14 (dk_at dksX0_in_0 3 rfl rfl)
theorem dX0_in_6 : decode cX0_in 6 = .ok (.lload_n 0, 1) := dk_30 (dk_at dksX0_in_0 6 rfl rfl)
theorem dX0_in_7 : decode cX0_in 7 = .ok (.lload 4, 2) := dk_22 4 (dk_at dksX0_in_0 7 rfl rfl)
theorem dX0_in_9 : decode cX0_in 9 = .ok (.lcmp, 1) := dk_148 (dk_at dksX0_in_0 9 rfl rfl)
theorem dX0_in_10 : decode cX0_in 10 = .ok (.ifCond .gt 7, 3) := dk_157 0 7 (dk_at dksX0_in_0 10 rfl rfl)
theorem dX0_in_13 : decode cX0_in 13 = .ok (.iconst 1, 1) := dk_4 (dk_at dksX0_in_0 13 rfl rfl)
theorem dX0_in_14 : decode cX0_in 14 = .ok (.goto 4, 3) := dk_167 0 4 (dk_at dksX0_in_0 14 rfl rfl)
theorem dX0_in_17 : decode cX0_in 17 = .ok (.iconst 0, 1) := dk_3 (dk_at dksX0_in_0 17 rfl rfl)
theorem dX0_in_18 : decode cX0_in 18 = .ok (.ireturn, 1) := dk_172 (dk_at dksX0_in_0 18 rfl rfl)
abbrev cX0_playerOf : ByteArray := prog_1_method_7_code
def yX0_playerOf : MethodName := ⟨RX0, "playerOf", "(IIII)LBeforeTheEnd$Player;"⟩
def dkwX0_playerOf_4 : List UInt8 := [187, 0, 41, 89, 27, 28, 29, 183, 0, 43, 176, 187, 0, 44, 89, 27, 28, 29, 183, 0, 46, 176]
abbrev dktX0_playerOf_4 : List UInt8 := dkwX0_playerOf_4 ++ []
def dkwX0_playerOf_3 : List UInt8 := [187, 0, 35, 89, 27, 28, 29, 183, 0, 37, 176, 187, 0, 38, 89, 27, 28, 29, 183, 0, 40, 176]
abbrev dktX0_playerOf_3 : List UInt8 := dkwX0_playerOf_3 ++ dktX0_playerOf_4
def dkwX0_playerOf_2 : List UInt8 := [187, 0, 27, 89, 27, 28, 29, 183, 0, 29, 176, 187, 0, 32, 89, 27, 28, 29, 183, 0, 34, 176]
abbrev dktX0_playerOf_2 : List UInt8 := dkwX0_playerOf_2 ++ dktX0_playerOf_3
def dkwX0_playerOf_1 : List UInt8 := [170, 0, 0, 0, 0, 0, 90, 0, 0, 0, 0, 0, 0, 0, 4, 0, 0, 0, 35, 0, 0, 0, 46, 0, 0, 0, 57, 0, 0, 0, 68, 0, 0, 0, 79]
abbrev dktX0_playerOf_1 : List UInt8 := dkwX0_playerOf_1 ++ dktX0_playerOf_2
def dkwX0_playerOf_0 : List UInt8 := [26]
abbrev dktX0_playerOf_0 : List UInt8 := dkwX0_playerOf_0 ++ dktX0_playerOf_1
theorem dksX0_playerOf_0 : cX0_playerOf.data.toList.drop 0 = dktX0_playerOf_0 := by decide +kernel
theorem dksX0_playerOf_1 : cX0_playerOf.data.toList.drop 1 = dktX0_playerOf_1 := dk_seg dksX0_playerOf_0 1 rfl rfl
theorem dksX0_playerOf_2 : cX0_playerOf.data.toList.drop 36 = dktX0_playerOf_2 := dk_seg dksX0_playerOf_1 35 rfl rfl
theorem dksX0_playerOf_3 : cX0_playerOf.data.toList.drop 58 = dktX0_playerOf_3 := dk_seg dksX0_playerOf_2 22 rfl rfl
theorem dksX0_playerOf_4 : cX0_playerOf.data.toList.drop 80 = dktX0_playerOf_4 := dk_seg dksX0_playerOf_3 22 rfl rfl
theorem dX0_playerOf_0 : decode cX0_playerOf 0 = .ok (.iload_n 0, 1) := dk_26 (dk_at dksX0_playerOf_0 0 rfl rfl)
theorem dX0_playerOf_1 : decode cX0_playerOf 1 = .ok (.tableswitch 90 0 4 #[35, 46, 57, 68, 79], 35) := by decide +kernel
theorem dX0_playerOf_36 : decode cX0_playerOf 36 = .ok (.new 27, 3) := dk_187 0 27 (dk_at dksX0_playerOf_2 0 rfl rfl)
theorem dX0_playerOf_39 : decode cX0_playerOf 39 = .ok (.dup, 1) := dk_89 (dk_at dksX0_playerOf_2 3 rfl rfl)
theorem dX0_playerOf_40 : decode cX0_playerOf 40 = .ok (.iload_n 1, 1) := dk_27 (dk_at dksX0_playerOf_2 4 rfl rfl)
theorem dX0_playerOf_41 : decode cX0_playerOf 41 = .ok (.iload_n 2, 1) := dk_28 (dk_at dksX0_playerOf_2 5 rfl rfl)
theorem dX0_playerOf_42 : decode cX0_playerOf 42 = .ok (.iload_n 3, 1) := dk_29 (dk_at dksX0_playerOf_2 6 rfl rfl)
theorem dX0_playerOf_43 : decode cX0_playerOf 43 = .ok (.invokespecial 29, 3) := dk_183 0 29 (dk_at dksX0_playerOf_2 7 rfl rfl)
theorem dX0_playerOf_46 : decode cX0_playerOf 46 = .ok (.areturn, 1) := dk_176 (dk_at dksX0_playerOf_2 10 rfl rfl)
theorem dX0_playerOf_47 : decode cX0_playerOf 47 = .ok (.new 32, 3) := dk_187 0 32 (dk_at dksX0_playerOf_2 11 rfl rfl)
theorem dX0_playerOf_50 : decode cX0_playerOf 50 = .ok (.dup, 1) := dk_89 (dk_at dksX0_playerOf_2 14 rfl rfl)
theorem dX0_playerOf_51 : decode cX0_playerOf 51 = .ok (.iload_n 1, 1) := dk_27 (dk_at dksX0_playerOf_2 15 rfl rfl)
theorem dX0_playerOf_52 : decode cX0_playerOf 52 = .ok (.iload_n 2, 1) := dk_28 (dk_at dksX0_playerOf_2 16 rfl rfl)
theorem dX0_playerOf_53 : decode cX0_playerOf 53 = .ok (.iload_n 3, 1) := dk_29 (dk_at dksX0_playerOf_2 17 rfl rfl)
theorem dX0_playerOf_54 : decode cX0_playerOf 54 = .ok (.invokespecial 34, 3) := dk_183 0 34 (dk_at dksX0_playerOf_2 18 rfl rfl)
theorem dX0_playerOf_57 : decode cX0_playerOf 57 = .ok (.areturn, 1) := dk_176 (dk_at dksX0_playerOf_2 21 rfl rfl)
theorem dX0_playerOf_58 : decode cX0_playerOf 58 = .ok (.new 35, 3) := dk_187 0 35 (dk_at dksX0_playerOf_3 0 rfl rfl)
theorem dX0_playerOf_61 : decode cX0_playerOf 61 = .ok (.dup, 1) := dk_89 (dk_at dksX0_playerOf_3 3 rfl rfl)
theorem dX0_playerOf_62 : decode cX0_playerOf 62 = .ok (.iload_n 1, 1) := dk_27 (dk_at dksX0_playerOf_3 4 rfl rfl)
theorem dX0_playerOf_63 : decode cX0_playerOf 63 = .ok (.iload_n 2, 1) := dk_28 (dk_at dksX0_playerOf_3 5 rfl rfl)
theorem dX0_playerOf_64 : decode cX0_playerOf 64 = .ok (.iload_n 3, 1) := dk_29 (dk_at dksX0_playerOf_3 6 rfl rfl)
theorem dX0_playerOf_65 : decode cX0_playerOf 65 = .ok (.invokespecial 37, 3) := dk_183 0 37 (dk_at dksX0_playerOf_3 7 rfl rfl)
theorem dX0_playerOf_68 : decode cX0_playerOf 68 = .ok (.areturn, 1) := dk_176 (dk_at dksX0_playerOf_3 10 rfl rfl)
theorem dX0_playerOf_69 : decode cX0_playerOf 69 = .ok (.new 38, 3) := dk_187 0 38 (dk_at dksX0_playerOf_3 11 rfl rfl)
theorem dX0_playerOf_72 : decode cX0_playerOf 72 = .ok (.dup, 1) := dk_89 (dk_at dksX0_playerOf_3 14 rfl rfl)
theorem dX0_playerOf_73 : decode cX0_playerOf 73 = .ok (.iload_n 1, 1) := dk_27 (dk_at dksX0_playerOf_3 15 rfl rfl)
theorem dX0_playerOf_74 : decode cX0_playerOf 74 = .ok (.iload_n 2, 1) := dk_28 (dk_at dksX0_playerOf_3 16 rfl rfl)
theorem dX0_playerOf_75 : decode cX0_playerOf 75 = .ok (.iload_n 3, 1) := dk_29 (dk_at dksX0_playerOf_3 17 rfl rfl)
theorem dX0_playerOf_76 : decode cX0_playerOf 76 = .ok (.invokespecial 40, 3) := dk_183 0 40 (dk_at dksX0_playerOf_3 18 rfl rfl)
theorem dX0_playerOf_79 : decode cX0_playerOf 79 = .ok (.areturn, 1) := dk_176 (dk_at dksX0_playerOf_3 21 rfl rfl)
theorem dX0_playerOf_80 : decode cX0_playerOf 80 = .ok (.new 41, 3) := dk_187 0 41 (dk_at dksX0_playerOf_4 0 rfl rfl)
theorem dX0_playerOf_83 : decode cX0_playerOf 83 = .ok (.dup, 1) := dk_89 (dk_at dksX0_playerOf_4 3 rfl rfl)
theorem dX0_playerOf_84 : decode cX0_playerOf 84 = .ok (.iload_n 1, 1) := dk_27 (dk_at dksX0_playerOf_4 4 rfl rfl)
theorem dX0_playerOf_85 : decode cX0_playerOf 85 = .ok (.iload_n 2, 1) := dk_28 (dk_at dksX0_playerOf_4 5 rfl rfl)
theorem dX0_playerOf_86 : decode cX0_playerOf 86 = .ok (.iload_n 3, 1) := dk_29 (dk_at dksX0_playerOf_4 6 rfl rfl)
theorem dX0_playerOf_87 : decode cX0_playerOf 87 = .ok (.invokespecial 43, 3) := dk_183 0 43 (dk_at dksX0_playerOf_4 7 rfl rfl)
theorem dX0_playerOf_90 : decode cX0_playerOf 90 = .ok (.areturn, 1) := dk_176 (dk_at dksX0_playerOf_4 10 rfl rfl)
theorem dX0_playerOf_91 : decode cX0_playerOf 91 = .ok (.new 44, 3) := dk_187 0 44 (dk_at dksX0_playerOf_4 11 rfl rfl)
theorem dX0_playerOf_94 : decode cX0_playerOf 94 = .ok (.dup, 1) := dk_89 (dk_at dksX0_playerOf_4 14 rfl rfl)
theorem dX0_playerOf_95 : decode cX0_playerOf 95 = .ok (.iload_n 1, 1) := dk_27 (dk_at dksX0_playerOf_4 15 rfl rfl)
theorem dX0_playerOf_96 : decode cX0_playerOf 96 = .ok (.iload_n 2, 1) := dk_28 (dk_at dksX0_playerOf_4 16 rfl rfl)
theorem dX0_playerOf_97 : decode cX0_playerOf 97 = .ok (.iload_n 3, 1) := dk_29 (dk_at dksX0_playerOf_4 17 rfl rfl)
theorem dX0_playerOf_98 : decode cX0_playerOf 98 = .ok (.invokespecial 46, 3) := dk_183 0 46 (dk_at dksX0_playerOf_4 18 rfl rfl)
theorem dX0_playerOf_101 : decode cX0_playerOf 101 = .ok (.areturn, 1) := dk_176 (dk_at dksX0_playerOf_4 21 rfl rfl)
abbrev cX0_wordTold : ByteArray := prog_1_method_42_code
def yX0_wordTold : MethodName := ⟨RX0, "wordTold", "(II)I"⟩
def dkwX0_wordTold_4 : List UInt8 := [172]
abbrev dktX0_wordTold_4 : List UInt8 := dkwX0_wordTold_4 ++ []
def dkwX0_wordTold_3 : List UInt8 := [160, 0, 15, 42, 180, 0, 55, 180, 0, 206, 27, 46, 167, 0, 12, 42, 180, 0, 55, 180, 1, 109, 27, 46]
abbrev dktX0_wordTold_3 : List UInt8 := dkwX0_wordTold_3 ++ dktX0_wordTold_4
def dkwX0_wordTold_2 : List UInt8 := [46, 167, 0, 46, 28, 5, 160, 0, 15, 42, 180, 0, 55, 180, 0, 216, 27, 46, 167, 0, 29, 28, 6]
abbrev dktX0_wordTold_2 : List UInt8 := dkwX0_wordTold_2 ++ dktX0_wordTold_3
def dkwX0_wordTold_1 : List UInt8 := [180, 0, 55, 180, 0, 248, 27, 46, 167, 0, 63, 28, 4, 160, 0, 15, 42, 180, 0, 55, 180, 1, 54, 27]
abbrev dktX0_wordTold_1 : List UInt8 := dkwX0_wordTold_1 ++ dktX0_wordTold_2
def dkwX0_wordTold_0 : List UInt8 := [42, 27, 182, 1, 104, 28, 133, 9, 20, 1, 107, 184, 0, 13, 16, 254, 184, 0, 9, 28, 154, 0, 15, 42]
abbrev dktX0_wordTold_0 : List UInt8 := dkwX0_wordTold_0 ++ dktX0_wordTold_1
theorem dksX0_wordTold_0 : cX0_wordTold.data.toList.drop 0 = dktX0_wordTold_0 := by decide +kernel
theorem dksX0_wordTold_1 : cX0_wordTold.data.toList.drop 24 = dktX0_wordTold_1 := dk_seg dksX0_wordTold_0 24 rfl rfl
theorem dksX0_wordTold_2 : cX0_wordTold.data.toList.drop 48 = dktX0_wordTold_2 := dk_seg dksX0_wordTold_1 24 rfl rfl
theorem dksX0_wordTold_3 : cX0_wordTold.data.toList.drop 71 = dktX0_wordTold_3 := dk_seg dksX0_wordTold_2 23 rfl rfl
theorem dksX0_wordTold_4 : cX0_wordTold.data.toList.drop 95 = dktX0_wordTold_4 := dk_seg dksX0_wordTold_3 24 rfl rfl
theorem dX0_wordTold_0 : decode cX0_wordTold 0 = .ok (.aload_n 0, 1) := dk_42 (dk_at dksX0_wordTold_0 0 rfl rfl)
theorem dX0_wordTold_1 : decode cX0_wordTold 1 = .ok (.iload_n 1, 1) := dk_27 (dk_at dksX0_wordTold_0 1 rfl rfl)
theorem dX0_wordTold_2 : decode cX0_wordTold 2 = .ok (.invokevirtual 360, 3) := dk_182 1 104 (dk_at dksX0_wordTold_0 2 rfl rfl)
theorem dX0_wordTold_5 : decode cX0_wordTold 5 = .ok (.iload_n 2, 1) := dk_28 (dk_at dksX0_wordTold_0 5 rfl rfl)
theorem dX0_wordTold_6 : decode cX0_wordTold 6 = .ok (.i2l, 1) := dk_133 (dk_at dksX0_wordTold_0 6 rfl rfl)
theorem dX0_wordTold_7 : decode cX0_wordTold 7 = .ok (.lconst 0, 1) := dk_9 (dk_at dksX0_wordTold_0 7 rfl rfl)
theorem dX0_wordTold_8 : decode cX0_wordTold 8 = .ok (.ldc2_w 363, 3) := dk_20 1 107 (dk_at dksX0_wordTold_0 8 rfl rfl)
theorem dX0_wordTold_11 : decode cX0_wordTold 11 = .ok (.invokestatic 13, 3) := dk_184 0 13 (dk_at dksX0_wordTold_0 11 rfl rfl)
theorem dX0_wordTold_14 : decode cX0_wordTold 14 = .ok (.bipush (-2), 2) := dk_16 254 (dk_at dksX0_wordTold_0 14 rfl rfl)
theorem dX0_wordTold_16 : decode cX0_wordTold 16 = .ok (.invokestatic 9, 3) := dk_184 0 9 (dk_at dksX0_wordTold_0 16 rfl rfl)
theorem dX0_wordTold_19 : decode cX0_wordTold 19 = .ok (.iload_n 2, 1) := dk_28 (dk_at dksX0_wordTold_0 19 rfl rfl)
theorem dX0_wordTold_20 : decode cX0_wordTold 20 = .ok (.ifCond .ne 15, 3) := dk_154 0 15 (dk_at dksX0_wordTold_0 20 rfl rfl)
theorem dX0_wordTold_23 : decode cX0_wordTold 23 = .ok (.aload_n 0, 1) := dk_42 (dk_at dksX0_wordTold_0 23 rfl rfl)
theorem dX0_wordTold_24 : decode cX0_wordTold 24 = .ok (.getfield 55, 3) := dk_180 0 55 (dk_at dksX0_wordTold_1 0 rfl rfl)
theorem dX0_wordTold_27 : decode cX0_wordTold 27 = .ok (.getfield 248, 3) := dk_180 0 248 (dk_at dksX0_wordTold_1 3 rfl rfl)
theorem dX0_wordTold_30 : decode cX0_wordTold 30 = .ok (.iload_n 1, 1) := dk_27 (dk_at dksX0_wordTold_1 6 rfl rfl)
theorem dX0_wordTold_31 : decode cX0_wordTold 31 = .ok (.iaload, 1) := dk_46 (dk_at dksX0_wordTold_1 7 rfl rfl)
theorem dX0_wordTold_32 : decode cX0_wordTold 32 = .ok (.goto 63, 3) := dk_167 0 63 (dk_at dksX0_wordTold_1 8 rfl rfl)
theorem dX0_wordTold_35 : decode cX0_wordTold 35 = .ok (.iload_n 2, 1) := dk_28 (dk_at dksX0_wordTold_1 11 rfl rfl)
theorem dX0_wordTold_36 : decode cX0_wordTold 36 = .ok (.iconst 1, 1) := dk_4 (dk_at dksX0_wordTold_1 12 rfl rfl)
theorem dX0_wordTold_37 : decode cX0_wordTold 37 = .ok (.if_icmp .ne 15, 3) := dk_160 0 15 (dk_at dksX0_wordTold_1 13 rfl rfl)
theorem dX0_wordTold_40 : decode cX0_wordTold 40 = .ok (.aload_n 0, 1) := dk_42 (dk_at dksX0_wordTold_1 16 rfl rfl)
theorem dX0_wordTold_41 : decode cX0_wordTold 41 = .ok (.getfield 55, 3) := dk_180 0 55 (dk_at dksX0_wordTold_1 17 rfl rfl)
theorem dX0_wordTold_44 : decode cX0_wordTold 44 = .ok (.getfield 310, 3) := dk_180 1 54 (dk_at dksX0_wordTold_1 20 rfl rfl)
theorem dX0_wordTold_47 : decode cX0_wordTold 47 = .ok (.iload_n 1, 1) := dk_27 (dk_at dksX0_wordTold_1 23 rfl rfl)
theorem dX0_wordTold_48 : decode cX0_wordTold 48 = .ok (.iaload, 1) := dk_46 (dk_at dksX0_wordTold_2 0 rfl rfl)
theorem dX0_wordTold_49 : decode cX0_wordTold 49 = .ok (.goto 46, 3) := dk_167 0 46 (dk_at dksX0_wordTold_2 1 rfl rfl)
theorem dX0_wordTold_52 : decode cX0_wordTold 52 = .ok (.iload_n 2, 1) := dk_28 (dk_at dksX0_wordTold_2 4 rfl rfl)
theorem dX0_wordTold_53 : decode cX0_wordTold 53 = .ok (.iconst 2, 1) := dk_5 (dk_at dksX0_wordTold_2 5 rfl rfl)
theorem dX0_wordTold_54 : decode cX0_wordTold 54 = .ok (.if_icmp .ne 15, 3) := dk_160 0 15 (dk_at dksX0_wordTold_2 6 rfl rfl)
theorem dX0_wordTold_57 : decode cX0_wordTold 57 = .ok (.aload_n 0, 1) := dk_42 (dk_at dksX0_wordTold_2 9 rfl rfl)
theorem dX0_wordTold_58 : decode cX0_wordTold 58 = .ok (.getfield 55, 3) := dk_180 0 55 (dk_at dksX0_wordTold_2 10 rfl rfl)
theorem dX0_wordTold_61 : decode cX0_wordTold 61 = .ok (.getfield 216, 3) := dk_180 0 216 (dk_at dksX0_wordTold_2 13 rfl rfl)
theorem dX0_wordTold_64 : decode cX0_wordTold 64 = .ok (.iload_n 1, 1) := dk_27 (dk_at dksX0_wordTold_2 16 rfl rfl)
theorem dX0_wordTold_65 : decode cX0_wordTold 65 = .ok (.iaload, 1) := dk_46 (dk_at dksX0_wordTold_2 17 rfl rfl)
theorem dX0_wordTold_66 : decode cX0_wordTold 66 = .ok (.goto 29, 3) := dk_167 0 29 (dk_at dksX0_wordTold_2 18 rfl rfl)
theorem dX0_wordTold_69 : decode cX0_wordTold 69 = .ok (.iload_n 2, 1) := dk_28 (dk_at dksX0_wordTold_2 21 rfl rfl)
theorem dX0_wordTold_70 : decode cX0_wordTold 70 = .ok (.iconst 3, 1) := dk_6 (dk_at dksX0_wordTold_2 22 rfl rfl)
theorem dX0_wordTold_71 : decode cX0_wordTold 71 = .ok (.if_icmp .ne 15, 3) := dk_160 0 15 (dk_at dksX0_wordTold_3 0 rfl rfl)
theorem dX0_wordTold_74 : decode cX0_wordTold 74 = .ok (.aload_n 0, 1) := dk_42 (dk_at dksX0_wordTold_3 3 rfl rfl)
theorem dX0_wordTold_75 : decode cX0_wordTold 75 = .ok (.getfield 55, 3) := dk_180 0 55 (dk_at dksX0_wordTold_3 4 rfl rfl)
theorem dX0_wordTold_78 : decode cX0_wordTold 78 = .ok (.getfield 206, 3) := dk_180 0 206 (dk_at dksX0_wordTold_3 7 rfl rfl)
theorem dX0_wordTold_81 : decode cX0_wordTold 81 = .ok (.iload_n 1, 1) := dk_27 (dk_at dksX0_wordTold_3 10 rfl rfl)
theorem dX0_wordTold_82 : decode cX0_wordTold 82 = .ok (.iaload, 1) := dk_46 (dk_at dksX0_wordTold_3 11 rfl rfl)
theorem dX0_wordTold_83 : decode cX0_wordTold 83 = .ok (.goto 12, 3) := dk_167 0 12 (dk_at dksX0_wordTold_3 12 rfl rfl)
theorem dX0_wordTold_86 : decode cX0_wordTold 86 = .ok (.aload_n 0, 1) := dk_42 (dk_at dksX0_wordTold_3 15 rfl rfl)
theorem dX0_wordTold_87 : decode cX0_wordTold 87 = .ok (.getfield 55, 3) := dk_180 0 55 (dk_at dksX0_wordTold_3 16 rfl rfl)
theorem dX0_wordTold_90 : decode cX0_wordTold 90 = .ok (.getfield 365, 3) := dk_180 1 109 (dk_at dksX0_wordTold_3 19 rfl rfl)
theorem dX0_wordTold_93 : decode cX0_wordTold 93 = .ok (.iload_n 1, 1) := dk_27 (dk_at dksX0_wordTold_3 22 rfl rfl)
theorem dX0_wordTold_94 : decode cX0_wordTold 94 = .ok (.iaload, 1) := dk_46 (dk_at dksX0_wordTold_3 23 rfl rfl)
theorem dX0_wordTold_95 : decode cX0_wordTold 95 = .ok (.ireturn, 1) := dk_172 (dk_at dksX0_wordTold_4 0 rfl rfl)
abbrev cX0_mustBeWord : ByteArray := prog_1_method_38_code
def yX0_mustBeWord : MethodName := ⟨RX0, "mustBeWord", "(I)V"⟩
def dkwX0_mustBeWord_0 : List UInt8 := [27, 42, 180, 0, 55, 180, 0, 226, 184, 1, 96, 177]
abbrev dktX0_mustBeWord_0 : List UInt8 := dkwX0_mustBeWord_0 ++ []
theorem dksX0_mustBeWord_0 : cX0_mustBeWord.data.toList.drop 0 = dktX0_mustBeWord_0 := by decide +kernel
theorem dX0_mustBeWord_0 : decode cX0_mustBeWord 0 = .ok (.iload_n 1, 1) := dk_27 (dk_at dksX0_mustBeWord_0 0 rfl rfl)
theorem dX0_mustBeWord_1 : decode cX0_mustBeWord 1 = .ok (.aload_n 0, 1) := dk_42 (dk_at dksX0_mustBeWord_0 1 rfl rfl)
theorem dX0_mustBeWord_2 : decode cX0_mustBeWord 2 = .ok (.getfield 55, 3) := dk_180 0 55 (dk_at dksX0_mustBeWord_0 2 rfl rfl)
theorem dX0_mustBeWord_5 : decode cX0_mustBeWord 5 = .ok (.getfield 226, 3) := dk_180 0 226 (dk_at dksX0_mustBeWord_0 5 rfl rfl)
theorem dX0_mustBeWord_8 : decode cX0_mustBeWord 8 = .ok (.invokestatic 352, 3) := dk_184 1 96 (dk_at dksX0_mustBeWord_0 8 rfl rfl)
theorem dX0_mustBeWord_11 : decode cX0_mustBeWord 11 = .ok (.return_, 1) := dk_177 (dk_at dksX0_mustBeWord_0 11 rfl rfl)
abbrev cX0_mustBe : ByteArray := prog_1_method_4_code
def yX0_mustBe : MethodName := ⟨RX0, "mustBe", "(II)V"⟩
def dkwX0_mustBe_0 : List UInt8 := [26, 133, 9, 27, 4, 100, 133, 184, 0, 13, 2, 184, 0, 9, 177]
abbrev dktX0_mustBe_0 : List UInt8 := dkwX0_mustBe_0 ++ []
theorem dksX0_mustBe_0 : cX0_mustBe.data.toList.drop 0 = dktX0_mustBe_0 := by decide +kernel
theorem dX0_mustBe_0 : decode cX0_mustBe 0 = .ok (.iload_n 0, 1) := dk_26 (dk_at dksX0_mustBe_0 0 rfl rfl)
theorem dX0_mustBe_1 : decode cX0_mustBe 1 = .ok (.i2l, 1) := dk_133 (dk_at dksX0_mustBe_0 1 rfl rfl)
theorem dX0_mustBe_2 : decode cX0_mustBe 2 = .ok (.lconst 0, 1) := dk_9 (dk_at dksX0_mustBe_0 2 rfl rfl)
theorem dX0_mustBe_3 : decode cX0_mustBe 3 = .ok (.iload_n 1, 1) := dk_27 (dk_at dksX0_mustBe_0 3 rfl rfl)
theorem dX0_mustBe_4 : decode cX0_mustBe 4 = .ok (.iconst 1, 1) := dk_4 (dk_at dksX0_mustBe_0 4 rfl rfl)
theorem dX0_mustBe_5 : decode cX0_mustBe 5 = .ok (.isub, 1) := dk_100 (dk_at dksX0_mustBe_0 5 rfl rfl)
theorem dX0_mustBe_6 : decode cX0_mustBe 6 = .ok (.i2l, 1) := dk_133 (dk_at dksX0_mustBe_0 6 rfl rfl)
theorem dX0_mustBe_7 : decode cX0_mustBe 7 = .ok (.invokestatic 13, 3) := dk_184 0 13 (dk_at dksX0_mustBe_0 7 rfl rfl)
theorem dX0_mustBe_10 : decode cX0_mustBe 10 = .ok (.iconst (-1), 1) := dk_2 (dk_at dksX0_mustBe_0 10 rfl rfl)
theorem dX0_mustBe_11 : decode cX0_mustBe 11 = .ok (.invokestatic 9, 3) := dk_184 0 9 (dk_at dksX0_mustBe_0 11 rfl rfl)
theorem dX0_mustBe_14 : decode cX0_mustBe 14 = .ok (.return_, 1) := dk_177 (dk_at dksX0_mustBe_0 14 rfl rfl)
abbrev cX0_playerTold : ByteArray := prog_1_method_43_code
def yX0_playerTold : MethodName := ⟨RX0, "playerTold", "(II)I"⟩
def dkwX0_playerTold_3 : List UInt8 := [167, 0, 19, 45, 182, 1, 115, 7, 160, 0, 10, 45, 182, 1, 118, 167, 0, 4, 3, 172]
abbrev dktX0_playerTold_3 : List UInt8 := dkwX0_playerTold_3 ++ []
def dkwX0_playerTold_2 : List UInt8 := [167, 0, 43, 28, 5, 160, 0, 10, 45, 180, 0, 251, 167, 0, 31, 28, 6, 160, 0, 10, 45, 180, 0, 176]
abbrev dktX0_playerTold_2 : List UInt8 := dkwX0_playerTold_2 ++ dktX0_playerTold_3
def dkwX0_playerTold_1 : List UInt8 := [50, 78, 28, 154, 0, 10, 45, 182, 1, 115, 167, 0, 55, 28, 4, 160, 0, 10, 45, 180, 0, 194]
abbrev dktX0_playerTold_1 : List UInt8 := dkwX0_playerTold_1 ++ dktX0_playerTold_2
def dkwX0_playerTold_0 : List UInt8 := [42, 27, 182, 1, 112, 28, 133, 9, 20, 1, 107, 184, 0, 13, 16, 254, 184, 0, 9, 42, 180, 0, 61, 27]
abbrev dktX0_playerTold_0 : List UInt8 := dkwX0_playerTold_0 ++ dktX0_playerTold_1
theorem dksX0_playerTold_0 : cX0_playerTold.data.toList.drop 0 = dktX0_playerTold_0 := by decide +kernel
theorem dksX0_playerTold_1 : cX0_playerTold.data.toList.drop 24 = dktX0_playerTold_1 := dk_seg dksX0_playerTold_0 24 rfl rfl
theorem dksX0_playerTold_2 : cX0_playerTold.data.toList.drop 46 = dktX0_playerTold_2 := dk_seg dksX0_playerTold_1 22 rfl rfl
theorem dksX0_playerTold_3 : cX0_playerTold.data.toList.drop 70 = dktX0_playerTold_3 := dk_seg dksX0_playerTold_2 24 rfl rfl
theorem dX0_playerTold_0 : decode cX0_playerTold 0 = .ok (.aload_n 0, 1) := dk_42 (dk_at dksX0_playerTold_0 0 rfl rfl)
theorem dX0_playerTold_1 : decode cX0_playerTold 1 = .ok (.iload_n 1, 1) := dk_27 (dk_at dksX0_playerTold_0 1 rfl rfl)
theorem dX0_playerTold_2 : decode cX0_playerTold 2 = .ok (.invokevirtual 368, 3) := dk_182 1 112 (dk_at dksX0_playerTold_0 2 rfl rfl)
theorem dX0_playerTold_5 : decode cX0_playerTold 5 = .ok (.iload_n 2, 1) := dk_28 (dk_at dksX0_playerTold_0 5 rfl rfl)
theorem dX0_playerTold_6 : decode cX0_playerTold 6 = .ok (.i2l, 1) := dk_133 (dk_at dksX0_playerTold_0 6 rfl rfl)
theorem dX0_playerTold_7 : decode cX0_playerTold 7 = .ok (.lconst 0, 1) := dk_9 (dk_at dksX0_playerTold_0 7 rfl rfl)
theorem dX0_playerTold_8 : decode cX0_playerTold 8 = .ok (.ldc2_w 363, 3) := dk_20 1 107 (dk_at dksX0_playerTold_0 8 rfl rfl)
theorem dX0_playerTold_11 : decode cX0_playerTold 11 = .ok (.invokestatic 13, 3) := dk_184 0 13 (dk_at dksX0_playerTold_0 11 rfl rfl)
theorem dX0_playerTold_14 : decode cX0_playerTold 14 = .ok (.bipush (-2), 2) := dk_16 254 (dk_at dksX0_playerTold_0 14 rfl rfl)
theorem dX0_playerTold_16 : decode cX0_playerTold 16 = .ok (.invokestatic 9, 3) := dk_184 0 9 (dk_at dksX0_playerTold_0 16 rfl rfl)
theorem dX0_playerTold_19 : decode cX0_playerTold 19 = .ok (.aload_n 0, 1) := dk_42 (dk_at dksX0_playerTold_0 19 rfl rfl)
theorem dX0_playerTold_20 : decode cX0_playerTold 20 = .ok (.getfield 61, 3) := dk_180 0 61 (dk_at dksX0_playerTold_0 20 rfl rfl)
theorem dX0_playerTold_23 : decode cX0_playerTold 23 = .ok (.iload_n 1, 1) := dk_27 (dk_at dksX0_playerTold_0 23 rfl rfl)
theorem dX0_playerTold_24 : decode cX0_playerTold 24 = .ok (.aaload, 1) := dk_50 (dk_at dksX0_playerTold_1 0 rfl rfl)
theorem dX0_playerTold_25 : decode cX0_playerTold 25 = .ok (.astore_n 3, 1) := dk_78 (dk_at dksX0_playerTold_1 1 rfl rfl)
theorem dX0_playerTold_26 : decode cX0_playerTold 26 = .ok (.iload_n 2, 1) := dk_28 (dk_at dksX0_playerTold_1 2 rfl rfl)
theorem dX0_playerTold_27 : decode cX0_playerTold 27 = .ok (.ifCond .ne 10, 3) := dk_154 0 10 (dk_at dksX0_playerTold_1 3 rfl rfl)
theorem dX0_playerTold_30 : decode cX0_playerTold 30 = .ok (.aload_n 3, 1) := dk_45 (dk_at dksX0_playerTold_1 6 rfl rfl)
theorem dX0_playerTold_31 : decode cX0_playerTold 31 = .ok (.invokevirtual 371, 3) := dk_182 1 115 (dk_at dksX0_playerTold_1 7 rfl rfl)
theorem dX0_playerTold_34 : decode cX0_playerTold 34 = .ok (.goto 55, 3) := dk_167 0 55 (dk_at dksX0_playerTold_1 10 rfl rfl)
theorem dX0_playerTold_37 : decode cX0_playerTold 37 = .ok (.iload_n 2, 1) := dk_28 (dk_at dksX0_playerTold_1 13 rfl rfl)
theorem dX0_playerTold_38 : decode cX0_playerTold 38 = .ok (.iconst 1, 1) := dk_4 (dk_at dksX0_playerTold_1 14 rfl rfl)
theorem dX0_playerTold_39 : decode cX0_playerTold 39 = .ok (.if_icmp .ne 10, 3) := dk_160 0 10 (dk_at dksX0_playerTold_1 15 rfl rfl)
theorem dX0_playerTold_42 : decode cX0_playerTold 42 = .ok (.aload_n 3, 1) := dk_45 (dk_at dksX0_playerTold_1 18 rfl rfl)
theorem dX0_playerTold_43 : decode cX0_playerTold 43 = .ok (.getfield 194, 3) := dk_180 0 194 (dk_at dksX0_playerTold_1 19 rfl rfl)
theorem dX0_playerTold_46 : decode cX0_playerTold 46 = .ok (.goto 43, 3) := dk_167 0 43 (dk_at dksX0_playerTold_2 0 rfl rfl)
theorem dX0_playerTold_49 : decode cX0_playerTold 49 = .ok (.iload_n 2, 1) := dk_28 (dk_at dksX0_playerTold_2 3 rfl rfl)
theorem dX0_playerTold_50 : decode cX0_playerTold 50 = .ok (.iconst 2, 1) := dk_5 (dk_at dksX0_playerTold_2 4 rfl rfl)
theorem dX0_playerTold_51 : decode cX0_playerTold 51 = .ok (.if_icmp .ne 10, 3) := dk_160 0 10 (dk_at dksX0_playerTold_2 5 rfl rfl)
theorem dX0_playerTold_54 : decode cX0_playerTold 54 = .ok (.aload_n 3, 1) := dk_45 (dk_at dksX0_playerTold_2 8 rfl rfl)
theorem dX0_playerTold_55 : decode cX0_playerTold 55 = .ok (.getfield 251, 3) := dk_180 0 251 (dk_at dksX0_playerTold_2 9 rfl rfl)
theorem dX0_playerTold_58 : decode cX0_playerTold 58 = .ok (.goto 31, 3) := dk_167 0 31 (dk_at dksX0_playerTold_2 12 rfl rfl)
theorem dX0_playerTold_61 : decode cX0_playerTold 61 = .ok (.iload_n 2, 1) := dk_28 (dk_at dksX0_playerTold_2 15 rfl rfl)
theorem dX0_playerTold_62 : decode cX0_playerTold 62 = .ok (.iconst 3, 1) := dk_6 (dk_at dksX0_playerTold_2 16 rfl rfl)
theorem dX0_playerTold_63 : decode cX0_playerTold 63 = .ok (.if_icmp .ne 10, 3) := dk_160 0 10 (dk_at dksX0_playerTold_2 17 rfl rfl)
theorem dX0_playerTold_66 : decode cX0_playerTold 66 = .ok (.aload_n 3, 1) := dk_45 (dk_at dksX0_playerTold_2 20 rfl rfl)
theorem dX0_playerTold_67 : decode cX0_playerTold 67 = .ok (.getfield 176, 3) := dk_180 0 176 (dk_at dksX0_playerTold_2 21 rfl rfl)
theorem dX0_playerTold_70 : decode cX0_playerTold 70 = .ok (.goto 19, 3) := dk_167 0 19 (dk_at dksX0_playerTold_3 0 rfl rfl)
theorem dX0_playerTold_73 : decode cX0_playerTold 73 = .ok (.aload_n 3, 1) := dk_45 (dk_at dksX0_playerTold_3 3 rfl rfl)
theorem dX0_playerTold_74 : decode cX0_playerTold 74 = .ok (.invokevirtual 371, 3) := dk_182 1 115 (dk_at dksX0_playerTold_3 4 rfl rfl)
theorem dX0_playerTold_77 : decode cX0_playerTold 77 = .ok (.iconst 4, 1) := dk_7 (dk_at dksX0_playerTold_3 7 rfl rfl)
theorem dX0_playerTold_78 : decode cX0_playerTold 78 = .ok (.if_icmp .ne 10, 3) := dk_160 0 10 (dk_at dksX0_playerTold_3 8 rfl rfl)
theorem dX0_playerTold_81 : decode cX0_playerTold 81 = .ok (.aload_n 3, 1) := dk_45 (dk_at dksX0_playerTold_3 11 rfl rfl)
theorem dX0_playerTold_82 : decode cX0_playerTold 82 = .ok (.invokevirtual 374, 3) := dk_182 1 118 (dk_at dksX0_playerTold_3 12 rfl rfl)
theorem dX0_playerTold_85 : decode cX0_playerTold 85 = .ok (.goto 4, 3) := dk_167 0 4 (dk_at dksX0_playerTold_3 15 rfl rfl)
theorem dX0_playerTold_88 : decode cX0_playerTold 88 = .ok (.iconst 0, 1) := dk_3 (dk_at dksX0_playerTold_3 18 rfl rfl)
theorem dX0_playerTold_89 : decode cX0_playerTold 89 = .ok (.ireturn, 1) := dk_172 (dk_at dksX0_playerTold_3 19 rfl rfl)
abbrev cX0_mustBePlayer : ByteArray := prog_1_method_39_code
def yX0_mustBePlayer : MethodName := ⟨RX0, "mustBePlayer", "(I)V"⟩
def dkwX0_mustBePlayer_0 : List UInt8 := [27, 42, 180, 0, 136, 184, 1, 96, 177]
abbrev dktX0_mustBePlayer_0 : List UInt8 := dkwX0_mustBePlayer_0 ++ []
theorem dksX0_mustBePlayer_0 : cX0_mustBePlayer.data.toList.drop 0 = dktX0_mustBePlayer_0 := by decide +kernel
theorem dX0_mustBePlayer_0 : decode cX0_mustBePlayer 0 = .ok (.iload_n 1, 1) := dk_27 (dk_at dksX0_mustBePlayer_0 0 rfl rfl)
theorem dX0_mustBePlayer_1 : decode cX0_mustBePlayer 1 = .ok (.aload_n 0, 1) := dk_42 (dk_at dksX0_mustBePlayer_0 1 rfl rfl)
theorem dX0_mustBePlayer_2 : decode cX0_mustBePlayer 2 = .ok (.getfield 136, 3) := dk_180 0 136 (dk_at dksX0_mustBePlayer_0 2 rfl rfl)
theorem dX0_mustBePlayer_5 : decode cX0_mustBePlayer 5 = .ok (.invokestatic 352, 3) := dk_184 1 96 (dk_at dksX0_mustBePlayer_0 5 rfl rfl)
theorem dX0_mustBePlayer_8 : decode cX0_mustBePlayer 8 = .ok (.return_, 1) := dk_177 (dk_at dksX0_mustBePlayer_0 8 rfl rfl)
abbrev cX0_mustBeWhole : ByteArray := prog_1_method_40_code
def yX0_mustBeWhole : MethodName := ⟨RX0, "mustBeWhole", "()V"⟩
def dkwX0_mustBeWhole_0 : List UInt8 := [42, 180, 0, 55, 182, 1, 100, 16, 253, 184, 0, 9, 177]
abbrev dktX0_mustBeWhole_0 : List UInt8 := dkwX0_mustBeWhole_0 ++ []
theorem dksX0_mustBeWhole_0 : cX0_mustBeWhole.data.toList.drop 0 = dktX0_mustBeWhole_0 := by decide +kernel
theorem dX0_mustBeWhole_0 : decode cX0_mustBeWhole 0 = .ok (.aload_n 0, 1) := dk_42 (dk_at dksX0_mustBeWhole_0 0 rfl rfl)
theorem dX0_mustBeWhole_1 : decode cX0_mustBeWhole 1 = .ok (.getfield 55, 3) := dk_180 0 55 (dk_at dksX0_mustBeWhole_0 1 rfl rfl)
theorem dX0_mustBeWhole_4 : decode cX0_mustBeWhole 4 = .ok (.invokevirtual 356, 3) := dk_182 1 100 (dk_at dksX0_mustBeWhole_0 4 rfl rfl)
theorem dX0_mustBeWhole_7 : decode cX0_mustBeWhole 7 = .ok (.bipush (-3), 2) := dk_16 253 (dk_at dksX0_mustBeWhole_0 7 rfl rfl)
theorem dX0_mustBeWhole_9 : decode cX0_mustBeWhole 9 = .ok (.invokestatic 9, 3) := dk_184 0 9 (dk_at dksX0_mustBeWhole_0 9 rfl rfl)
theorem dX0_mustBeWhole_12 : decode cX0_mustBeWhole 12 = .ok (.return_, 1) := dk_177 (dk_at dksX0_mustBeWhole_0 12 rfl rfl)
abbrev cX0_guessOf : ByteArray := prog_1_method_10_code
def yX0_guessOf : MethodName := ⟨RX0, "guessOf", "(II)I"⟩
def dkwX0_guessOf_2 : List UInt8 := [158, 0, 10, 21, 6, 62, 22, 7, 55, 4, 132, 6, 1, 167, 255, 205, 29, 172]
abbrev dktX0_guessOf_2 : List UInt8 := dkwX0_guessOf_2 ++ []
def dkwX0_guessOf_1 : List UInt8 := [160, 0, 16, 42, 180, 0, 55, 28, 21, 6, 182, 0, 172, 167, 0, 4, 9, 55, 7, 22, 7, 22, 4, 148]
abbrev dktX0_guessOf_1 : List UInt8 := dkwX0_guessOf_1 ++ dktX0_guessOf_2
def dkwX0_guessOf_0 : List UInt8 := [3, 62, 9, 55, 4, 4, 54, 6, 21, 6, 16, 9, 163, 0, 50, 27, 21, 6, 122, 4, 126, 4]
abbrev dktX0_guessOf_0 : List UInt8 := dkwX0_guessOf_0 ++ dktX0_guessOf_1
theorem dksX0_guessOf_0 : cX0_guessOf.data.toList.drop 0 = dktX0_guessOf_0 := by decide +kernel
theorem dksX0_guessOf_1 : cX0_guessOf.data.toList.drop 22 = dktX0_guessOf_1 := dk_seg dksX0_guessOf_0 22 rfl rfl
theorem dksX0_guessOf_2 : cX0_guessOf.data.toList.drop 46 = dktX0_guessOf_2 := dk_seg dksX0_guessOf_1 24 rfl rfl
theorem dX0_guessOf_0 : decode cX0_guessOf 0 = .ok (.iconst 0, 1) := dk_3 (dk_at dksX0_guessOf_0 0 rfl rfl)
theorem dX0_guessOf_1 : decode cX0_guessOf 1 = .ok (.istore_n 3, 1) := dk_62 (dk_at dksX0_guessOf_0 1 rfl rfl)
theorem dX0_guessOf_2 : decode cX0_guessOf 2 = .ok (.lconst 0, 1) := dk_9 (dk_at dksX0_guessOf_0 2 rfl rfl)
theorem dX0_guessOf_3 : decode cX0_guessOf 3 = .ok (.lstore 4, 2) := dk_55 4 (dk_at dksX0_guessOf_0 3 rfl rfl)
theorem dX0_guessOf_5 : decode cX0_guessOf 5 = .ok (.iconst 1, 1) := dk_4 (dk_at dksX0_guessOf_0 5 rfl rfl)
theorem dX0_guessOf_6 : decode cX0_guessOf 6 = .ok (.istore 6, 2) := dk_54 6 (dk_at dksX0_guessOf_0 6 rfl rfl)
theorem dX0_guessOf_8 : decode cX0_guessOf 8 = .ok (.iload 6, 2) := dk_21 6 (dk_at dksX0_guessOf_0 8 rfl rfl)
theorem dX0_guessOf_10 : decode cX0_guessOf 10 = .ok (.bipush 9, 2) := dk_16 9 (dk_at dksX0_guessOf_0 10 rfl rfl)
theorem dX0_guessOf_12 : decode cX0_guessOf 12 = .ok (.if_icmp .gt 50, 3) := dk_163 0 50 (dk_at dksX0_guessOf_0 12 rfl rfl)
theorem dX0_guessOf_15 : decode cX0_guessOf 15 = .ok (.iload_n 1, 1) := dk_27 (dk_at dksX0_guessOf_0 15 rfl rfl)
theorem dX0_guessOf_16 : decode cX0_guessOf 16 = .ok (.iload 6, 2) := dk_21 6 (dk_at dksX0_guessOf_0 16 rfl rfl)
theorem dX0_guessOf_18 : decode cX0_guessOf 18 = .ok (.ishr, 1) := dk_122 (dk_at dksX0_guessOf_0 18 rfl rfl)
theorem dX0_guessOf_19 : decode cX0_guessOf 19 = .ok (.iconst 1, 1) := dk_4 (dk_at dksX0_guessOf_0 19 rfl rfl)
theorem dX0_guessOf_20 : decode cX0_guessOf 20 = .ok (.iand, 1) := dk_126 (dk_at dksX0_guessOf_0 20 rfl rfl)
theorem dX0_guessOf_21 : decode cX0_guessOf 21 = .ok (.iconst 1, 1) := dk_4 (dk_at dksX0_guessOf_0 21 rfl rfl)
theorem dX0_guessOf_22 : decode cX0_guessOf 22 = .ok (.if_icmp .ne 16, 3) := dk_160 0 16 (dk_at dksX0_guessOf_1 0 rfl rfl)
theorem dX0_guessOf_25 : decode cX0_guessOf 25 = .ok (.aload_n 0, 1) := dk_42 (dk_at dksX0_guessOf_1 3 rfl rfl)
theorem dX0_guessOf_26 : decode cX0_guessOf 26 = .ok (.getfield 55, 3) := dk_180 0 55 (dk_at dksX0_guessOf_1 4 rfl rfl)
theorem dX0_guessOf_29 : decode cX0_guessOf 29 = .ok (.iload_n 2, 1) := dk_28 (dk_at dksX0_guessOf_1 7 rfl rfl)
theorem dX0_guessOf_30 : decode cX0_guessOf 30 = .ok (.iload 6, 2) := dk_21 6 (dk_at dksX0_guessOf_1 8 rfl rfl)
theorem dX0_guessOf_32 : decode cX0_guessOf 32 = .ok (.invokevirtual 172, 3) := dk_182 0 172 (dk_at dksX0_guessOf_1 10 rfl rfl)
theorem dX0_guessOf_35 : decode cX0_guessOf 35 = .ok (.goto 4, 3) := dk_167 0 4 (dk_at dksX0_guessOf_1 13 rfl rfl)
theorem dX0_guessOf_38 : decode cX0_guessOf 38 = .ok (.lconst 0, 1) := dk_9 (dk_at dksX0_guessOf_1 16 rfl rfl)
theorem dX0_guessOf_39 : decode cX0_guessOf 39 = .ok (.lstore 7, 2) := dk_55 7 (dk_at dksX0_guessOf_1 17 rfl rfl)
theorem dX0_guessOf_41 : decode cX0_guessOf 41 = .ok (.lload 7, 2) := dk_22 7 (dk_at dksX0_guessOf_1 19 rfl rfl)
theorem dX0_guessOf_43 : decode cX0_guessOf 43 = .ok (.lload 4, 2) := dk_22 4 (dk_at dksX0_guessOf_1 21 rfl rfl)
theorem dX0_guessOf_45 : decode cX0_guessOf 45 = .ok (.lcmp, 1) := dk_148 (dk_at dksX0_guessOf_1 23 rfl rfl)
theorem dX0_guessOf_46 : decode cX0_guessOf 46 = .ok (.ifCond .le 10, 3) := dk_158 0 10 (dk_at dksX0_guessOf_2 0 rfl rfl)
theorem dX0_guessOf_49 : decode cX0_guessOf 49 = .ok (.iload 6, 2) := dk_21 6 (dk_at dksX0_guessOf_2 3 rfl rfl)
theorem dX0_guessOf_51 : decode cX0_guessOf 51 = .ok (.istore_n 3, 1) := dk_62 (dk_at dksX0_guessOf_2 5 rfl rfl)
theorem dX0_guessOf_52 : decode cX0_guessOf 52 = .ok (.lload 7, 2) := dk_22 7 (dk_at dksX0_guessOf_2 6 rfl rfl)
theorem dX0_guessOf_54 : decode cX0_guessOf 54 = .ok (.lstore 4, 2) := dk_55 4 (dk_at dksX0_guessOf_2 8 rfl rfl)
theorem dX0_guessOf_56 : decode cX0_guessOf 56 = .ok (.iinc 6 1, 3) := dk_132 6 1 (dk_at dksX0_guessOf_2 10 rfl rfl)
theorem dX0_guessOf_59 : decode cX0_guessOf 59 = .ok (.goto (-51), 3) := dk_167 255 205 (dk_at dksX0_guessOf_2 13 rfl rfl)
theorem dX0_guessOf_62 : decode cX0_guessOf 62 = .ok (.iload_n 3, 1) := dk_29 (dk_at dksX0_guessOf_2 16 rfl rfl)
theorem dX0_guessOf_63 : decode cX0_guessOf 63 = .ok (.ireturn, 1) := dk_172 (dk_at dksX0_guessOf_2 17 rfl rfl)
abbrev cX0_divisor : ByteArray := prog_1_method_5_code
def yX0_divisor : MethodName := ⟨RX0, "divisor", "(JJ)J"⟩
def dkwX0_divisor_1 : List UInt8 := [22, 8, 55, 6, 167, 255, 234, 22, 4, 173]
abbrev dktX0_divisor_1 : List UInt8 := dkwX0_divisor_1 ++ []
def dkwX0_divisor_0 : List UInt8 := [30, 55, 4, 32, 55, 6, 22, 6, 9, 148, 153, 0, 21, 22, 4, 22, 6, 113, 55, 8, 22, 6, 55, 4]
abbrev dktX0_divisor_0 : List UInt8 := dkwX0_divisor_0 ++ dktX0_divisor_1
theorem dksX0_divisor_0 : cX0_divisor.data.toList.drop 0 = dktX0_divisor_0 := by decide +kernel
theorem dksX0_divisor_1 : cX0_divisor.data.toList.drop 24 = dktX0_divisor_1 := dk_seg dksX0_divisor_0 24 rfl rfl
theorem dX0_divisor_0 : decode cX0_divisor 0 = .ok (.lload_n 0, 1) := dk_30 (dk_at dksX0_divisor_0 0 rfl rfl)
theorem dX0_divisor_1 : decode cX0_divisor 1 = .ok (.lstore 4, 2) := dk_55 4 (dk_at dksX0_divisor_0 1 rfl rfl)
theorem dX0_divisor_3 : decode cX0_divisor 3 = .ok (.lload_n 2, 1) := dk_32 (dk_at dksX0_divisor_0 3 rfl rfl)
theorem dX0_divisor_4 : decode cX0_divisor 4 = .ok (.lstore 6, 2) := dk_55 6 (dk_at dksX0_divisor_0 4 rfl rfl)
theorem dX0_divisor_6 : decode cX0_divisor 6 = .ok (.lload 6, 2) := dk_22 6 (dk_at dksX0_divisor_0 6 rfl rfl)
theorem dX0_divisor_8 : decode cX0_divisor 8 = .ok (.lconst 0, 1) := dk_9 (dk_at dksX0_divisor_0 8 rfl rfl)
theorem dX0_divisor_9 : decode cX0_divisor 9 = .ok (.lcmp, 1) := dk_148 (dk_at dksX0_divisor_0 9 rfl rfl)
theorem dX0_divisor_10 : decode cX0_divisor 10 = .ok (.ifCond .eq 21, 3) := dk_153 0 21 (dk_at dksX0_divisor_0 10 rfl rfl)
theorem dX0_divisor_13 : decode cX0_divisor 13 = .ok (.lload 4, 2) := dk_22 4 (dk_at dksX0_divisor_0 13 rfl rfl)
theorem dX0_divisor_15 : decode cX0_divisor 15 = .ok (.lload 6, 2) := dk_22 6 (dk_at dksX0_divisor_0 15 rfl rfl)
theorem dX0_divisor_17 : decode cX0_divisor 17 = .ok (.lrem, 1) := dk_113 (dk_at dksX0_divisor_0 17 rfl rfl)
theorem dX0_divisor_18 : decode cX0_divisor 18 = .ok (.lstore 8, 2) := dk_55 8 (dk_at dksX0_divisor_0 18 rfl rfl)
theorem dX0_divisor_20 : decode cX0_divisor 20 = .ok (.lload 6, 2) := dk_22 6 (dk_at dksX0_divisor_0 20 rfl rfl)
theorem dX0_divisor_22 : decode cX0_divisor 22 = .ok (.lstore 4, 2) := dk_55 4 (dk_at dksX0_divisor_0 22 rfl rfl)
theorem dX0_divisor_24 : decode cX0_divisor 24 = .ok (.lload 8, 2) := dk_22 8 (dk_at dksX0_divisor_1 0 rfl rfl)
theorem dX0_divisor_26 : decode cX0_divisor 26 = .ok (.lstore 6, 2) := dk_55 6 (dk_at dksX0_divisor_1 2 rfl rfl)
theorem dX0_divisor_28 : decode cX0_divisor 28 = .ok (.goto (-22), 3) := dk_167 255 234 (dk_at dksX0_divisor_1 4 rfl rfl)
theorem dX0_divisor_31 : decode cX0_divisor 31 = .ok (.lload 4, 2) := dk_22 4 (dk_at dksX0_divisor_1 7 rfl rfl)
theorem dX0_divisor_33 : decode cX0_divisor 33 = .ok (.lreturn, 1) := dk_173 (dk_at dksX0_divisor_1 9 rfl rfl)
abbrev cX0_pointsTold : ByteArray := prog_1_method_44_code
def yX0_pointsTold : MethodName := ⟨RX0, "pointsTold", "(II)I"⟩
def dkwX0_pointsTold_2 : List UInt8 := [181, 0, 169, 29, 172]
abbrev dktX0_pointsTold_2 : List UInt8 := dkwX0_pointsTold_2 ++ []
def dkwX0_pointsTold_1 : List UInt8 := [184, 1, 37, 42, 180, 0, 65, 27, 46, 62, 42, 180, 0, 65, 27, 28, 79, 42, 89, 180, 0, 169, 4, 96]
abbrev dktX0_pointsTold_1 : List UInt8 := dkwX0_pointsTold_1 ++ dktX0_pointsTold_2
def dkwX0_pointsTold_0 : List UInt8 := [27, 133, 9, 20, 1, 120, 184, 0, 13, 16, 254, 184, 0, 9, 28, 133, 9, 178, 1, 122, 27, 46, 133]
abbrev dktX0_pointsTold_0 : List UInt8 := dkwX0_pointsTold_0 ++ dktX0_pointsTold_1
theorem dksX0_pointsTold_0 : cX0_pointsTold.data.toList.drop 0 = dktX0_pointsTold_0 := by decide +kernel
theorem dksX0_pointsTold_1 : cX0_pointsTold.data.toList.drop 23 = dktX0_pointsTold_1 := dk_seg dksX0_pointsTold_0 23 rfl rfl
theorem dksX0_pointsTold_2 : cX0_pointsTold.data.toList.drop 47 = dktX0_pointsTold_2 := dk_seg dksX0_pointsTold_1 24 rfl rfl
theorem dX0_pointsTold_0 : decode cX0_pointsTold 0 = .ok (.iload_n 1, 1) := dk_27 (dk_at dksX0_pointsTold_0 0 rfl rfl)
theorem dX0_pointsTold_1 : decode cX0_pointsTold 1 = .ok (.i2l, 1) := dk_133 (dk_at dksX0_pointsTold_0 1 rfl rfl)
theorem dX0_pointsTold_2 : decode cX0_pointsTold 2 = .ok (.lconst 0, 1) := dk_9 (dk_at dksX0_pointsTold_0 2 rfl rfl)
theorem dX0_pointsTold_3 : decode cX0_pointsTold 3 = .ok (.ldc2_w 376, 3) := dk_20 1 120 (dk_at dksX0_pointsTold_0 3 rfl rfl)
theorem dX0_pointsTold_6 : decode cX0_pointsTold 6 = .ok (.invokestatic 13, 3) := dk_184 0 13 (dk_at dksX0_pointsTold_0 6 rfl rfl)
theorem dX0_pointsTold_9 : decode cX0_pointsTold 9 = .ok (.bipush (-2), 2) := dk_16 254 (dk_at dksX0_pointsTold_0 9 rfl rfl)
theorem dX0_pointsTold_11 : decode cX0_pointsTold 11 = .ok (.invokestatic 9, 3) := dk_184 0 9 (dk_at dksX0_pointsTold_0 11 rfl rfl)
theorem dX0_pointsTold_14 : decode cX0_pointsTold 14 = .ok (.iload_n 2, 1) := dk_28 (dk_at dksX0_pointsTold_0 14 rfl rfl)
theorem dX0_pointsTold_15 : decode cX0_pointsTold 15 = .ok (.i2l, 1) := dk_133 (dk_at dksX0_pointsTold_0 15 rfl rfl)
theorem dX0_pointsTold_16 : decode cX0_pointsTold 16 = .ok (.lconst 0, 1) := dk_9 (dk_at dksX0_pointsTold_0 16 rfl rfl)
theorem dX0_pointsTold_17 : decode cX0_pointsTold 17 = .ok (.getstatic 378, 3) := dk_178 1 122 (dk_at dksX0_pointsTold_0 17 rfl rfl)
theorem dX0_pointsTold_20 : decode cX0_pointsTold 20 = .ok (.iload_n 1, 1) := dk_27 (dk_at dksX0_pointsTold_0 20 rfl rfl)
theorem dX0_pointsTold_21 : decode cX0_pointsTold 21 = .ok (.iaload, 1) := dk_46 (dk_at dksX0_pointsTold_0 21 rfl rfl)
theorem dX0_pointsTold_22 : decode cX0_pointsTold 22 = .ok (.i2l, 1) := dk_133 (dk_at dksX0_pointsTold_0 22 rfl rfl)
theorem dX0_pointsTold_23 : decode cX0_pointsTold 23 = .ok (.invokestatic 293, 3) := dk_184 1 37 (dk_at dksX0_pointsTold_1 0 rfl rfl)
theorem dX0_pointsTold_26 : decode cX0_pointsTold 26 = .ok (.aload_n 0, 1) := dk_42 (dk_at dksX0_pointsTold_1 3 rfl rfl)
theorem dX0_pointsTold_27 : decode cX0_pointsTold 27 = .ok (.getfield 65, 3) := dk_180 0 65 (dk_at dksX0_pointsTold_1 4 rfl rfl)
theorem dX0_pointsTold_30 : decode cX0_pointsTold 30 = .ok (.iload_n 1, 1) := dk_27 (dk_at dksX0_pointsTold_1 7 rfl rfl)
theorem dX0_pointsTold_31 : decode cX0_pointsTold 31 = .ok (.iaload, 1) := dk_46 (dk_at dksX0_pointsTold_1 8 rfl rfl)
theorem dX0_pointsTold_32 : decode cX0_pointsTold 32 = .ok (.istore_n 3, 1) := dk_62 (dk_at dksX0_pointsTold_1 9 rfl rfl)
theorem dX0_pointsTold_33 : decode cX0_pointsTold 33 = .ok (.aload_n 0, 1) := dk_42 (dk_at dksX0_pointsTold_1 10 rfl rfl)
theorem dX0_pointsTold_34 : decode cX0_pointsTold 34 = .ok (.getfield 65, 3) := dk_180 0 65 (dk_at dksX0_pointsTold_1 11 rfl rfl)
theorem dX0_pointsTold_37 : decode cX0_pointsTold 37 = .ok (.iload_n 1, 1) := dk_27 (dk_at dksX0_pointsTold_1 14 rfl rfl)
theorem dX0_pointsTold_38 : decode cX0_pointsTold 38 = .ok (.iload_n 2, 1) := dk_28 (dk_at dksX0_pointsTold_1 15 rfl rfl)
theorem dX0_pointsTold_39 : decode cX0_pointsTold 39 = .ok (.iastore, 1) := dk_79 (dk_at dksX0_pointsTold_1 16 rfl rfl)
theorem dX0_pointsTold_40 : decode cX0_pointsTold 40 = .ok (.aload_n 0, 1) := dk_42 (dk_at dksX0_pointsTold_1 17 rfl rfl)
theorem dX0_pointsTold_41 : decode cX0_pointsTold 41 = .ok (.dup, 1) := dk_89 (dk_at dksX0_pointsTold_1 18 rfl rfl)
theorem dX0_pointsTold_42 : decode cX0_pointsTold 42 = .ok (.getfield 169, 3) := dk_180 0 169 (dk_at dksX0_pointsTold_1 19 rfl rfl)
theorem dX0_pointsTold_45 : decode cX0_pointsTold 45 = .ok (.iconst 1, 1) := dk_4 (dk_at dksX0_pointsTold_1 22 rfl rfl)
theorem dX0_pointsTold_46 : decode cX0_pointsTold 46 = .ok (.iadd, 1) := dk_96 (dk_at dksX0_pointsTold_1 23 rfl rfl)
theorem dX0_pointsTold_47 : decode cX0_pointsTold 47 = .ok (.putfield 169, 3) := dk_181 0 169 (dk_at dksX0_pointsTold_2 0 rfl rfl)
theorem dX0_pointsTold_50 : decode cX0_pointsTold 50 = .ok (.iload_n 3, 1) := dk_29 (dk_at dksX0_pointsTold_2 3 rfl rfl)
theorem dX0_pointsTold_51 : decode cX0_pointsTold 51 = .ok (.ireturn, 1) := dk_172 (dk_at dksX0_pointsTold_2 4 rfl rfl)
abbrev cX0_within : ByteArray := prog_1_method_3_code
def yX0_within : MethodName := ⟨RX0, "within", "(JJJ)V"⟩
def dkwX0_within_1 : List UInt8 := [167, 0, 4, 3, 16, 250, 184, 0, 9, 177]
abbrev dktX0_within_1 : List UInt8 := dkwX0_within_1 ++ []
def dkwX0_within_0 : List UInt8 := [30, 32, 148, 155, 0, 7, 4, 167, 0, 4, 3, 16, 252, 184, 0, 9, 30, 22, 4, 148, 157, 0, 7, 4]
abbrev dktX0_within_0 : List UInt8 := dkwX0_within_0 ++ dktX0_within_1
theorem dksX0_within_0 : cX0_within.data.toList.drop 0 = dktX0_within_0 := by decide +kernel
theorem dksX0_within_1 : cX0_within.data.toList.drop 24 = dktX0_within_1 := dk_seg dksX0_within_0 24 rfl rfl
theorem dX0_within_0 : decode cX0_within 0 = .ok (.lload_n 0, 1) := dk_30 (dk_at dksX0_within_0 0 rfl rfl)
theorem dX0_within_1 : decode cX0_within 1 = .ok (.lload_n 2, 1) := dk_32 (dk_at dksX0_within_0 1 rfl rfl)
theorem dX0_within_2 : decode cX0_within 2 = .ok (.lcmp, 1) := dk_148 (dk_at dksX0_within_0 2 rfl rfl)
theorem dX0_within_3 : decode cX0_within 3 = .ok (.ifCond .lt 7, 3) := dk_155 0 7 (dk_at dksX0_within_0 3 rfl rfl)
theorem dX0_within_6 : decode cX0_within 6 = .ok (.iconst 1, 1) := dk_4 (dk_at dksX0_within_0 6 rfl rfl)
theorem dX0_within_7 : decode cX0_within 7 = .ok (.goto 4, 3) := dk_167 0 4 (dk_at dksX0_within_0 7 rfl rfl)
theorem dX0_within_10 : decode cX0_within 10 = .ok (.iconst 0, 1) := dk_3 (dk_at dksX0_within_0 10 rfl rfl)
theorem dX0_within_11 : decode cX0_within 11 = .ok (.bipush (-4), 2) := dk_16 252 (dk_at dksX0_within_0 11 rfl rfl)
theorem dX0_within_13 : decode cX0_within 13 = .ok (.invokestatic 9, 3) := dk_184 0 9 (dk_at dksX0_within_0 13 rfl rfl)
theorem dX0_within_16 : decode cX0_within 16 = .ok (.lload_n 0, 1) := dk_30 (dk_at dksX0_within_0 16 rfl rfl)
theorem dX0_within_17 : decode cX0_within 17 = .ok (.lload 4, 2) := dk_22 4 (dk_at dksX0_within_0 17 rfl rfl)
theorem dX0_within_19 : decode cX0_within 19 = .ok (.lcmp, 1) := dk_148 (dk_at dksX0_within_0 19 rfl rfl)
theorem dX0_within_20 : decode cX0_within 20 = .ok (.ifCond .gt 7, 3) := dk_157 0 7 (dk_at dksX0_within_0 20 rfl rfl)
theorem dX0_within_23 : decode cX0_within 23 = .ok (.iconst 1, 1) := dk_4 (dk_at dksX0_within_0 23 rfl rfl)
theorem dX0_within_24 : decode cX0_within 24 = .ok (.goto 4, 3) := dk_167 0 4 (dk_at dksX0_within_1 0 rfl rfl)
theorem dX0_within_27 : decode cX0_within 27 = .ok (.iconst 0, 1) := dk_3 (dk_at dksX0_within_1 3 rfl rfl)
theorem dX0_within_28 : decode cX0_within 28 = .ok (.bipush (-6), 2) := dk_16 250 (dk_at dksX0_within_1 4 rfl rfl)
theorem dX0_within_30 : decode cX0_within 30 = .ok (.invokestatic 9, 3) := dk_184 0 9 (dk_at dksX0_within_1 6 rfl rfl)
theorem dX0_within_33 : decode cX0_within 33 = .ok (.return_, 1) := dk_177 (dk_at dksX0_within_1 9 rfl rfl)
abbrev cX0_setTold : ByteArray := prog_1_method_46_code
def yX0_setTold : MethodName := ⟨RX0, "setTold", "(II)I"⟩
def dkwX0_setTold_2 : List UInt8 := [181, 1, 1, 21, 4, 172]
abbrev dktX0_setTold_2 : List UInt8 := dkwX0_setTold_2 ++ []
def dkwX0_setTold_1 : List UInt8 := [167, 0, 4, 3, 2, 184, 0, 9, 42, 27, 182, 1, 125, 78, 45, 180, 1, 1, 54, 4, 45, 28]
abbrev dktX0_setTold_1 : List UInt8 := dkwX0_setTold_1 ++ dktX0_setTold_2
def dkwX0_setTold_0 : List UInt8 := [42, 27, 182, 1, 112, 28, 155, 0, 19, 28, 42, 180, 0, 55, 180, 0, 226, 122, 154, 0, 7, 4]
abbrev dktX0_setTold_0 : List UInt8 := dkwX0_setTold_0 ++ dktX0_setTold_1
theorem dksX0_setTold_0 : cX0_setTold.data.toList.drop 0 = dktX0_setTold_0 := by decide +kernel
theorem dksX0_setTold_1 : cX0_setTold.data.toList.drop 22 = dktX0_setTold_1 := dk_seg dksX0_setTold_0 22 rfl rfl
theorem dksX0_setTold_2 : cX0_setTold.data.toList.drop 44 = dktX0_setTold_2 := dk_seg dksX0_setTold_1 22 rfl rfl
theorem dX0_setTold_0 : decode cX0_setTold 0 = .ok (.aload_n 0, 1) := dk_42 (dk_at dksX0_setTold_0 0 rfl rfl)
theorem dX0_setTold_1 : decode cX0_setTold 1 = .ok (.iload_n 1, 1) := dk_27 (dk_at dksX0_setTold_0 1 rfl rfl)
theorem dX0_setTold_2 : decode cX0_setTold 2 = .ok (.invokevirtual 368, 3) := dk_182 1 112 (dk_at dksX0_setTold_0 2 rfl rfl)
theorem dX0_setTold_5 : decode cX0_setTold 5 = .ok (.iload_n 2, 1) := dk_28 (dk_at dksX0_setTold_0 5 rfl rfl)
theorem dX0_setTold_6 : decode cX0_setTold 6 = .ok (.ifCond .lt 19, 3) := dk_155 0 19 (dk_at dksX0_setTold_0 6 rfl rfl)
theorem dX0_setTold_9 : decode cX0_setTold 9 = .ok (.iload_n 2, 1) := dk_28 (dk_at dksX0_setTold_0 9 rfl rfl)
theorem dX0_setTold_10 : decode cX0_setTold 10 = .ok (.aload_n 0, 1) := dk_42 (dk_at dksX0_setTold_0 10 rfl rfl)
theorem dX0_setTold_11 : decode cX0_setTold 11 = .ok (.getfield 55, 3) := dk_180 0 55 (dk_at dksX0_setTold_0 11 rfl rfl)
theorem dX0_setTold_14 : decode cX0_setTold 14 = .ok (.getfield 226, 3) := dk_180 0 226 (dk_at dksX0_setTold_0 14 rfl rfl)
theorem dX0_setTold_17 : decode cX0_setTold 17 = .ok (.ishr, 1) := dk_122 (dk_at dksX0_setTold_0 17 rfl rfl)
theorem dX0_setTold_18 : decode cX0_setTold 18 = .ok (.ifCond .ne 7, 3) := dk_154 0 7 (dk_at dksX0_setTold_0 18 rfl rfl)
theorem dX0_setTold_21 : decode cX0_setTold 21 = .ok (.iconst 1, 1) := dk_4 (dk_at dksX0_setTold_0 21 rfl rfl)
theorem dX0_setTold_22 : decode cX0_setTold 22 = .ok (.goto 4, 3) := dk_167 0 4 (dk_at dksX0_setTold_1 0 rfl rfl)
theorem dX0_setTold_25 : decode cX0_setTold 25 = .ok (.iconst 0, 1) := dk_3 (dk_at dksX0_setTold_1 3 rfl rfl)
theorem dX0_setTold_26 : decode cX0_setTold 26 = .ok (.iconst (-1), 1) := dk_2 (dk_at dksX0_setTold_1 4 rfl rfl)
theorem dX0_setTold_27 : decode cX0_setTold 27 = .ok (.invokestatic 9, 3) := dk_184 0 9 (dk_at dksX0_setTold_1 5 rfl rfl)
theorem dX0_setTold_30 : decode cX0_setTold 30 = .ok (.aload_n 0, 1) := dk_42 (dk_at dksX0_setTold_1 8 rfl rfl)
theorem dX0_setTold_31 : decode cX0_setTold 31 = .ok (.iload_n 1, 1) := dk_27 (dk_at dksX0_setTold_1 9 rfl rfl)
theorem dX0_setTold_32 : decode cX0_setTold 32 = .ok (.invokevirtual 381, 3) := dk_182 1 125 (dk_at dksX0_setTold_1 10 rfl rfl)
theorem dX0_setTold_35 : decode cX0_setTold 35 = .ok (.astore_n 3, 1) := dk_78 (dk_at dksX0_setTold_1 13 rfl rfl)
theorem dX0_setTold_36 : decode cX0_setTold 36 = .ok (.aload_n 3, 1) := dk_45 (dk_at dksX0_setTold_1 14 rfl rfl)
theorem dX0_setTold_37 : decode cX0_setTold 37 = .ok (.getfield 257, 3) := dk_180 1 1 (dk_at dksX0_setTold_1 15 rfl rfl)
theorem dX0_setTold_40 : decode cX0_setTold 40 = .ok (.istore 4, 2) := dk_54 4 (dk_at dksX0_setTold_1 18 rfl rfl)
theorem dX0_setTold_42 : decode cX0_setTold 42 = .ok (.aload_n 3, 1) := dk_45 (dk_at dksX0_setTold_1 20 rfl rfl)
theorem dX0_setTold_43 : decode cX0_setTold 43 = .ok (.iload_n 2, 1) := dk_28 (dk_at dksX0_setTold_1 21 rfl rfl)
theorem dX0_setTold_44 : decode cX0_setTold 44 = .ok (.putfield 257, 3) := dk_181 1 1 (dk_at dksX0_setTold_2 0 rfl rfl)
theorem dX0_setTold_47 : decode cX0_setTold 47 = .ok (.iload 4, 2) := dk_21 4 (dk_at dksX0_setTold_2 3 rfl rfl)
theorem dX0_setTold_49 : decode cX0_setTold 49 = .ok (.ireturn, 1) := dk_172 (dk_at dksX0_setTold_2 5 rfl rfl)
abbrev cX0_toldAt : ByteArray := prog_1_method_45_code
def yX0_toldAt : MethodName := ⟨RX0, "toldAt", "(I)LBeforeTheEnd$ToldPlayer;"⟩
def dkwX0_toldAt_1 : List UInt8 := [180, 0, 61, 27, 50, 192, 0, 41, 176]
abbrev dktX0_toldAt_1 : List UInt8 := dkwX0_toldAt_1 ++ []
def dkwX0_toldAt_0 : List UInt8 := [42, 180, 0, 61, 27, 50, 182, 1, 115, 7, 160, 0, 7, 4, 167, 0, 4, 3, 16, 254, 184, 0, 9, 42]
abbrev dktX0_toldAt_0 : List UInt8 := dkwX0_toldAt_0 ++ dktX0_toldAt_1
theorem dksX0_toldAt_0 : cX0_toldAt.data.toList.drop 0 = dktX0_toldAt_0 := by decide +kernel
theorem dksX0_toldAt_1 : cX0_toldAt.data.toList.drop 24 = dktX0_toldAt_1 := dk_seg dksX0_toldAt_0 24 rfl rfl
theorem dX0_toldAt_0 : decode cX0_toldAt 0 = .ok (.aload_n 0, 1) := dk_42 (dk_at dksX0_toldAt_0 0 rfl rfl)
theorem dX0_toldAt_1 : decode cX0_toldAt 1 = .ok (.getfield 61, 3) := dk_180 0 61 (dk_at dksX0_toldAt_0 1 rfl rfl)
theorem dX0_toldAt_4 : decode cX0_toldAt 4 = .ok (.iload_n 1, 1) := dk_27 (dk_at dksX0_toldAt_0 4 rfl rfl)
theorem dX0_toldAt_5 : decode cX0_toldAt 5 = .ok (.aaload, 1) := dk_50 (dk_at dksX0_toldAt_0 5 rfl rfl)
theorem dX0_toldAt_6 : decode cX0_toldAt 6 = .ok (.invokevirtual 371, 3) := dk_182 1 115 (dk_at dksX0_toldAt_0 6 rfl rfl)
theorem dX0_toldAt_9 : decode cX0_toldAt 9 = .ok (.iconst 4, 1) := dk_7 (dk_at dksX0_toldAt_0 9 rfl rfl)
theorem dX0_toldAt_10 : decode cX0_toldAt 10 = .ok (.if_icmp .ne 7, 3) := dk_160 0 7 (dk_at dksX0_toldAt_0 10 rfl rfl)
theorem dX0_toldAt_13 : decode cX0_toldAt 13 = .ok (.iconst 1, 1) := dk_4 (dk_at dksX0_toldAt_0 13 rfl rfl)
theorem dX0_toldAt_14 : decode cX0_toldAt 14 = .ok (.goto 4, 3) := dk_167 0 4 (dk_at dksX0_toldAt_0 14 rfl rfl)
theorem dX0_toldAt_17 : decode cX0_toldAt 17 = .ok (.iconst 0, 1) := dk_3 (dk_at dksX0_toldAt_0 17 rfl rfl)
theorem dX0_toldAt_18 : decode cX0_toldAt 18 = .ok (.bipush (-2), 2) := dk_16 254 (dk_at dksX0_toldAt_0 18 rfl rfl)
theorem dX0_toldAt_20 : decode cX0_toldAt 20 = .ok (.invokestatic 9, 3) := dk_184 0 9 (dk_at dksX0_toldAt_0 20 rfl rfl)
theorem dX0_toldAt_23 : decode cX0_toldAt 23 = .ok (.aload_n 0, 1) := dk_42 (dk_at dksX0_toldAt_0 23 rfl rfl)
theorem dX0_toldAt_24 : decode cX0_toldAt 24 = .ok (.getfield 61, 3) := dk_180 0 61 (dk_at dksX0_toldAt_1 0 rfl rfl)
theorem dX0_toldAt_27 : decode cX0_toldAt 27 = .ok (.iload_n 1, 1) := dk_27 (dk_at dksX0_toldAt_1 3 rfl rfl)
theorem dX0_toldAt_28 : decode cX0_toldAt 28 = .ok (.aaload, 1) := dk_50 (dk_at dksX0_toldAt_1 4 rfl rfl)
theorem dX0_toldAt_29 : decode cX0_toldAt 29 = .ok (.checkcast 41, 3) := dk_192 0 41 (dk_at dksX0_toldAt_1 5 rfl rfl)
theorem dX0_toldAt_32 : decode cX0_toldAt 32 = .ok (.areturn, 1) := dk_176 (dk_at dksX0_toldAt_1 8 rfl rfl)
abbrev cX0_doesPress : ByteArray := prog_1_method_11_code
def yX0_doesPress : MethodName := ⟨RX0, "doesPress", "(LBeforeTheEnd$Player;IZ)Z"⟩
def dkwX0_doesPress_1 : List UInt8 := [43, 42, 28, 21, 4, 29, 182, 0, 183, 153, 0, 7, 4, 167, 0, 4, 3, 172]
abbrev dktX0_doesPress_1 : List UInt8 := dkwX0_doesPress_1 ++ []
def dkwX0_doesPress_0 : List UInt8 := [28, 154, 0, 7, 3, 167, 0, 12, 42, 43, 180, 0, 176, 28, 182, 0, 179, 54, 4, 21, 4, 158, 0, 19]
abbrev dktX0_doesPress_0 : List UInt8 := dkwX0_doesPress_0 ++ dktX0_doesPress_1
theorem dksX0_doesPress_0 : cX0_doesPress.data.toList.drop 0 = dktX0_doesPress_0 := by decide +kernel
theorem dksX0_doesPress_1 : cX0_doesPress.data.toList.drop 24 = dktX0_doesPress_1 := dk_seg dksX0_doesPress_0 24 rfl rfl
theorem dX0_doesPress_0 : decode cX0_doesPress 0 = .ok (.iload_n 2, 1) := dk_28 (dk_at dksX0_doesPress_0 0 rfl rfl)
theorem dX0_doesPress_1 : decode cX0_doesPress 1 = .ok (.ifCond .ne 7, 3) := dk_154 0 7 (dk_at dksX0_doesPress_0 1 rfl rfl)
theorem dX0_doesPress_4 : decode cX0_doesPress 4 = .ok (.iconst 0, 1) := dk_3 (dk_at dksX0_doesPress_0 4 rfl rfl)
theorem dX0_doesPress_5 : decode cX0_doesPress 5 = .ok (.goto 12, 3) := dk_167 0 12 (dk_at dksX0_doesPress_0 5 rfl rfl)
theorem dX0_doesPress_8 : decode cX0_doesPress 8 = .ok (.aload_n 0, 1) := dk_42 (dk_at dksX0_doesPress_0 8 rfl rfl)
theorem dX0_doesPress_9 : decode cX0_doesPress 9 = .ok (.aload_n 1, 1) := dk_43 (dk_at dksX0_doesPress_0 9 rfl rfl)
theorem dX0_doesPress_10 : decode cX0_doesPress 10 = .ok (.getfield 176, 3) := dk_180 0 176 (dk_at dksX0_doesPress_0 10 rfl rfl)
theorem dX0_doesPress_13 : decode cX0_doesPress 13 = .ok (.iload_n 2, 1) := dk_28 (dk_at dksX0_doesPress_0 13 rfl rfl)
theorem dX0_doesPress_14 : decode cX0_doesPress 14 = .ok (.invokevirtual 179, 3) := dk_182 0 179 (dk_at dksX0_doesPress_0 14 rfl rfl)
theorem dX0_doesPress_17 : decode cX0_doesPress 17 = .ok (.istore 4, 2) := dk_54 4 (dk_at dksX0_doesPress_0 17 rfl rfl)
theorem dX0_doesPress_19 : decode cX0_doesPress 19 = .ok (.iload 4, 2) := dk_21 4 (dk_at dksX0_doesPress_0 19 rfl rfl)
theorem dX0_doesPress_21 : decode cX0_doesPress 21 = .ok (.ifCond .le 19, 3) := dk_158 0 19 (dk_at dksX0_doesPress_0 21 rfl rfl)
theorem dX0_doesPress_24 : decode cX0_doesPress 24 = .ok (.aload_n 1, 1) := dk_43 (dk_at dksX0_doesPress_1 0 rfl rfl)
theorem dX0_doesPress_25 : decode cX0_doesPress 25 = .ok (.aload_n 0, 1) := dk_42 (dk_at dksX0_doesPress_1 1 rfl rfl)
theorem dX0_doesPress_26 : decode cX0_doesPress 26 = .ok (.iload_n 2, 1) := dk_28 (dk_at dksX0_doesPress_1 2 rfl rfl)
theorem dX0_doesPress_27 : decode cX0_doesPress 27 = .ok (.iload 4, 2) := dk_21 4 (dk_at dksX0_doesPress_1 3 rfl rfl)
theorem dX0_doesPress_29 : decode cX0_doesPress 29 = .ok (.iload_n 3, 1) := dk_29 (dk_at dksX0_doesPress_1 5 rfl rfl)
theorem dX0_doesPress_30 : decode cX0_doesPress 30 = .ok (.invokevirtual 183, 3) := dk_182 0 183 (dk_at dksX0_doesPress_1 6 rfl rfl)
theorem dX0_doesPress_33 : decode cX0_doesPress 33 = .ok (.ifCond .eq 7, 3) := dk_153 0 7 (dk_at dksX0_doesPress_1 9 rfl rfl)
theorem dX0_doesPress_36 : decode cX0_doesPress 36 = .ok (.iconst 1, 1) := dk_4 (dk_at dksX0_doesPress_1 12 rfl rfl)
theorem dX0_doesPress_37 : decode cX0_doesPress 37 = .ok (.goto 4, 3) := dk_167 0 4 (dk_at dksX0_doesPress_1 13 rfl rfl)
theorem dX0_doesPress_40 : decode cX0_doesPress 40 = .ok (.iconst 0, 1) := dk_3 (dk_at dksX0_doesPress_1 16 rfl rfl)
theorem dX0_doesPress_41 : decode cX0_doesPress 41 = .ok (.ireturn, 1) := dk_172 (dk_at dksX0_doesPress_1 17 rfl rfl)
abbrev cX0_findValues : ByteArray := prog_1_method_16_code
def yX0_findValues : MethodName := ⟨RX0, "findValues", "(LBeforeTheEnd$Player;)I"⟩
def dkwX0_findValues_7 : List UInt8 := [97, 80, 132, 3, 255, 167, 255, 123, 28, 172]
abbrev dktX0_findValues_7 : List UInt8 := dkwX0_findValues_7 ++ []
def dkwX0_findValues_6 : List UInt8 := [158, 0, 26, 42, 180, 0, 102, 42, 180, 0, 55, 180, 0, 248, 29, 46, 92, 47, 42, 180, 0, 102, 29, 47]
abbrev dktX0_findValues_6 : List UInt8 := dkwX0_findValues_6 ++ dktX0_findValues_7
def dkwX0_findValues_5 : List UInt8 := [61, 42, 180, 0, 102, 29, 21, 7, 153, 0, 8, 22, 5, 167, 0, 9, 42, 180, 0, 102, 29, 47, 80, 29]
abbrev dktX0_findValues_5 : List UInt8 := dkwX0_findValues_5 ++ dktX0_findValues_6
def dkwX0_findValues_4 : List UInt8 := [155, 0, 7, 4, 167, 0, 4, 3, 54, 7, 28, 21, 7, 153, 0, 9, 4, 29, 120, 167, 0, 4, 3, 128]
abbrev dktX0_findValues_4 : List UInt8 := dkwX0_findValues_4 ++ dktX0_findValues_5
def dkwX0_findValues_3 : List UInt8 := [42, 43, 29, 21, 4, 182, 0, 244, 55, 5, 21, 4, 158, 0, 19, 22, 5, 42, 180, 0, 102, 29, 47, 148]
abbrev dktX0_findValues_3 : List UInt8 := dkwX0_findValues_3 ++ dktX0_findValues_4
def dkwX0_findValues_2 : List UInt8 := [3, 167, 0, 12, 42, 43, 180, 0, 176, 29, 182, 0, 179, 54, 4, 21, 4, 154, 0, 7, 9, 167, 0, 11]
abbrev dktX0_findValues_2 : List UInt8 := dkwX0_findValues_2 ++ dktX0_findValues_3
def dkwX0_findValues_1 : List UInt8 := [132, 3, 1, 167, 255, 235, 42, 180, 0, 55, 180, 0, 226, 4, 100, 62, 29, 155, 0, 135, 29, 154, 0, 7]
abbrev dktX0_findValues_1 : List UInt8 := dkwX0_findValues_1 ++ dktX0_findValues_2
def dkwX0_findValues_0 : List UInt8 := [3, 61, 3, 62, 29, 42, 180, 0, 55, 180, 0, 226, 162, 0, 16, 42, 180, 0, 102, 29, 9, 80]
abbrev dktX0_findValues_0 : List UInt8 := dkwX0_findValues_0 ++ dktX0_findValues_1
theorem dksX0_findValues_0 : cX0_findValues.data.toList.drop 0 = dktX0_findValues_0 := by decide +kernel
theorem dksX0_findValues_1 : cX0_findValues.data.toList.drop 22 = dktX0_findValues_1 := dk_seg dksX0_findValues_0 22 rfl rfl
theorem dksX0_findValues_2 : cX0_findValues.data.toList.drop 46 = dktX0_findValues_2 := dk_seg dksX0_findValues_1 24 rfl rfl
theorem dksX0_findValues_3 : cX0_findValues.data.toList.drop 70 = dktX0_findValues_3 := dk_seg dksX0_findValues_2 24 rfl rfl
theorem dksX0_findValues_4 : cX0_findValues.data.toList.drop 94 = dktX0_findValues_4 := dk_seg dksX0_findValues_3 24 rfl rfl
theorem dksX0_findValues_5 : cX0_findValues.data.toList.drop 118 = dktX0_findValues_5 := dk_seg dksX0_findValues_4 24 rfl rfl
theorem dksX0_findValues_6 : cX0_findValues.data.toList.drop 142 = dktX0_findValues_6 := dk_seg dksX0_findValues_5 24 rfl rfl
theorem dksX0_findValues_7 : cX0_findValues.data.toList.drop 166 = dktX0_findValues_7 := dk_seg dksX0_findValues_6 24 rfl rfl
theorem dX0_findValues_0 : decode cX0_findValues 0 = .ok (.iconst 0, 1) := dk_3 (dk_at dksX0_findValues_0 0 rfl rfl)
theorem dX0_findValues_1 : decode cX0_findValues 1 = .ok (.istore_n 2, 1) := dk_61 (dk_at dksX0_findValues_0 1 rfl rfl)
theorem dX0_findValues_2 : decode cX0_findValues 2 = .ok (.iconst 0, 1) := dk_3 (dk_at dksX0_findValues_0 2 rfl rfl)
theorem dX0_findValues_3 : decode cX0_findValues 3 = .ok (.istore_n 3, 1) := dk_62 (dk_at dksX0_findValues_0 3 rfl rfl)
theorem dX0_findValues_4 : decode cX0_findValues 4 = .ok (.iload_n 3, 1) := dk_29 (dk_at dksX0_findValues_0 4 rfl rfl)
theorem dX0_findValues_5 : decode cX0_findValues 5 = .ok (.aload_n 0, 1) := dk_42 (dk_at dksX0_findValues_0 5 rfl rfl)
theorem dX0_findValues_6 : decode cX0_findValues 6 = .ok (.getfield 55, 3) := dk_180 0 55 (dk_at dksX0_findValues_0 6 rfl rfl)
theorem dX0_findValues_9 : decode cX0_findValues 9 = .ok (.getfield 226, 3) := dk_180 0 226 (dk_at dksX0_findValues_0 9 rfl rfl)
theorem dX0_findValues_12 : decode cX0_findValues 12 = .ok (.if_icmp .ge 16, 3) := dk_162 0 16 (dk_at dksX0_findValues_0 12 rfl rfl)
theorem dX0_findValues_15 : decode cX0_findValues 15 = .ok (.aload_n 0, 1) := dk_42 (dk_at dksX0_findValues_0 15 rfl rfl)
theorem dX0_findValues_16 : decode cX0_findValues 16 = .ok (.getfield 102, 3) := dk_180 0 102 (dk_at dksX0_findValues_0 16 rfl rfl)
theorem dX0_findValues_19 : decode cX0_findValues 19 = .ok (.iload_n 3, 1) := dk_29 (dk_at dksX0_findValues_0 19 rfl rfl)
theorem dX0_findValues_20 : decode cX0_findValues 20 = .ok (.lconst 0, 1) := dk_9 (dk_at dksX0_findValues_0 20 rfl rfl)
theorem dX0_findValues_21 : decode cX0_findValues 21 = .ok (.lastore, 1) := dk_80 (dk_at dksX0_findValues_0 21 rfl rfl)
theorem dX0_findValues_22 : decode cX0_findValues 22 = .ok (.iinc 3 1, 3) := dk_132 3 1 (dk_at dksX0_findValues_1 0 rfl rfl)
theorem dX0_findValues_25 : decode cX0_findValues 25 = .ok (.goto (-21), 3) := dk_167 255 235 (dk_at dksX0_findValues_1 3 rfl rfl)
theorem dX0_findValues_28 : decode cX0_findValues 28 = .ok (.aload_n 0, 1) := dk_42 (dk_at dksX0_findValues_1 6 rfl rfl)
theorem dX0_findValues_29 : decode cX0_findValues 29 = .ok (.getfield 55, 3) := dk_180 0 55 (dk_at dksX0_findValues_1 7 rfl rfl)
theorem dX0_findValues_32 : decode cX0_findValues 32 = .ok (.getfield 226, 3) := dk_180 0 226 (dk_at dksX0_findValues_1 10 rfl rfl)
theorem dX0_findValues_35 : decode cX0_findValues 35 = .ok (.iconst 1, 1) := dk_4 (dk_at dksX0_findValues_1 13 rfl rfl)
theorem dX0_findValues_36 : decode cX0_findValues 36 = .ok (.isub, 1) := dk_100 (dk_at dksX0_findValues_1 14 rfl rfl)
theorem dX0_findValues_37 : decode cX0_findValues 37 = .ok (.istore_n 3, 1) := dk_62 (dk_at dksX0_findValues_1 15 rfl rfl)
theorem dX0_findValues_38 : decode cX0_findValues 38 = .ok (.iload_n 3, 1) := dk_29 (dk_at dksX0_findValues_1 16 rfl rfl)
theorem dX0_findValues_39 : decode cX0_findValues 39 = .ok (.ifCond .lt 135, 3) := dk_155 0 135 (dk_at dksX0_findValues_1 17 rfl rfl)
theorem dX0_findValues_42 : decode cX0_findValues 42 = .ok (.iload_n 3, 1) := dk_29 (dk_at dksX0_findValues_1 20 rfl rfl)
theorem dX0_findValues_43 : decode cX0_findValues 43 = .ok (.ifCond .ne 7, 3) := dk_154 0 7 (dk_at dksX0_findValues_1 21 rfl rfl)
theorem dX0_findValues_46 : decode cX0_findValues 46 = .ok (.iconst 0, 1) := dk_3 (dk_at dksX0_findValues_2 0 rfl rfl)
theorem dX0_findValues_47 : decode cX0_findValues 47 = .ok (.goto 12, 3) := dk_167 0 12 (dk_at dksX0_findValues_2 1 rfl rfl)
theorem dX0_findValues_50 : decode cX0_findValues 50 = .ok (.aload_n 0, 1) := dk_42 (dk_at dksX0_findValues_2 4 rfl rfl)
theorem dX0_findValues_51 : decode cX0_findValues 51 = .ok (.aload_n 1, 1) := dk_43 (dk_at dksX0_findValues_2 5 rfl rfl)
theorem dX0_findValues_52 : decode cX0_findValues 52 = .ok (.getfield 176, 3) := dk_180 0 176 (dk_at dksX0_findValues_2 6 rfl rfl)
theorem dX0_findValues_55 : decode cX0_findValues 55 = .ok (.iload_n 3, 1) := dk_29 (dk_at dksX0_findValues_2 9 rfl rfl)
theorem dX0_findValues_56 : decode cX0_findValues 56 = .ok (.invokevirtual 179, 3) := dk_182 0 179 (dk_at dksX0_findValues_2 10 rfl rfl)
theorem dX0_findValues_59 : decode cX0_findValues 59 = .ok (.istore 4, 2) := dk_54 4 (dk_at dksX0_findValues_2 13 rfl rfl)
theorem dX0_findValues_61 : decode cX0_findValues 61 = .ok (.iload 4, 2) := dk_21 4 (dk_at dksX0_findValues_2 15 rfl rfl)
theorem dX0_findValues_63 : decode cX0_findValues 63 = .ok (.ifCond .ne 7, 3) := dk_154 0 7 (dk_at dksX0_findValues_2 17 rfl rfl)
theorem dX0_findValues_66 : decode cX0_findValues 66 = .ok (.lconst 0, 1) := dk_9 (dk_at dksX0_findValues_2 20 rfl rfl)
theorem dX0_findValues_67 : decode cX0_findValues 67 = .ok (.goto 11, 3) := dk_167 0 11 (dk_at dksX0_findValues_2 21 rfl rfl)
theorem dX0_findValues_70 : decode cX0_findValues 70 = .ok (.aload_n 0, 1) := dk_42 (dk_at dksX0_findValues_3 0 rfl rfl)
theorem dX0_findValues_71 : decode cX0_findValues 71 = .ok (.aload_n 1, 1) := dk_43 (dk_at dksX0_findValues_3 1 rfl rfl)
theorem dX0_findValues_72 : decode cX0_findValues 72 = .ok (.iload_n 3, 1) := dk_29 (dk_at dksX0_findValues_3 2 rfl rfl)
theorem dX0_findValues_73 : decode cX0_findValues 73 = .ok (.iload 4, 2) := dk_21 4 (dk_at dksX0_findValues_3 3 rfl rfl)
theorem dX0_findValues_75 : decode cX0_findValues 75 = .ok (.invokevirtual 244, 3) := dk_182 0 244 (dk_at dksX0_findValues_3 5 rfl rfl)
theorem dX0_findValues_78 : decode cX0_findValues 78 = .ok (.lstore 5, 2) := dk_55 5 (dk_at dksX0_findValues_3 8 rfl rfl)
theorem dX0_findValues_80 : decode cX0_findValues 80 = .ok (.iload 4, 2) := dk_21 4 (dk_at dksX0_findValues_3 10 rfl rfl)
theorem dX0_findValues_82 : decode cX0_findValues 82 = .ok (.ifCond .le 19, 3) := dk_158 0 19 (dk_at dksX0_findValues_3 12 rfl rfl)
theorem dX0_findValues_85 : decode cX0_findValues 85 = .ok (.lload 5, 2) := dk_22 5 (dk_at dksX0_findValues_3 15 rfl rfl)
theorem dX0_findValues_87 : decode cX0_findValues 87 = .ok (.aload_n 0, 1) := dk_42 (dk_at dksX0_findValues_3 17 rfl rfl)
theorem dX0_findValues_88 : decode cX0_findValues 88 = .ok (.getfield 102, 3) := dk_180 0 102 (dk_at dksX0_findValues_3 18 rfl rfl)
theorem dX0_findValues_91 : decode cX0_findValues 91 = .ok (.iload_n 3, 1) := dk_29 (dk_at dksX0_findValues_3 21 rfl rfl)
theorem dX0_findValues_92 : decode cX0_findValues 92 = .ok (.laload, 1) := dk_47 (dk_at dksX0_findValues_3 22 rfl rfl)
theorem dX0_findValues_93 : decode cX0_findValues 93 = .ok (.lcmp, 1) := dk_148 (dk_at dksX0_findValues_3 23 rfl rfl)
theorem dX0_findValues_94 : decode cX0_findValues 94 = .ok (.ifCond .lt 7, 3) := dk_155 0 7 (dk_at dksX0_findValues_4 0 rfl rfl)
theorem dX0_findValues_97 : decode cX0_findValues 97 = .ok (.iconst 1, 1) := dk_4 (dk_at dksX0_findValues_4 3 rfl rfl)
theorem dX0_findValues_98 : decode cX0_findValues 98 = .ok (.goto 4, 3) := dk_167 0 4 (dk_at dksX0_findValues_4 4 rfl rfl)
theorem dX0_findValues_101 : decode cX0_findValues 101 = .ok (.iconst 0, 1) := dk_3 (dk_at dksX0_findValues_4 7 rfl rfl)
theorem dX0_findValues_102 : decode cX0_findValues 102 = .ok (.istore 7, 2) := dk_54 7 (dk_at dksX0_findValues_4 8 rfl rfl)
theorem dX0_findValues_104 : decode cX0_findValues 104 = .ok (.iload_n 2, 1) := dk_28 (dk_at dksX0_findValues_4 10 rfl rfl)
theorem dX0_findValues_105 : decode cX0_findValues 105 = .ok (.iload 7, 2) := dk_21 7 (dk_at dksX0_findValues_4 11 rfl rfl)
theorem dX0_findValues_107 : decode cX0_findValues 107 = .ok (.ifCond .eq 9, 3) := dk_153 0 9 (dk_at dksX0_findValues_4 13 rfl rfl)
theorem dX0_findValues_110 : decode cX0_findValues 110 = .ok (.iconst 1, 1) := dk_4 (dk_at dksX0_findValues_4 16 rfl rfl)
theorem dX0_findValues_111 : decode cX0_findValues 111 = .ok (.iload_n 3, 1) := dk_29 (dk_at dksX0_findValues_4 17 rfl rfl)
theorem dX0_findValues_112 : decode cX0_findValues 112 = .ok (.ishl, 1) := dk_120 (dk_at dksX0_findValues_4 18 rfl rfl)
theorem dX0_findValues_113 : decode cX0_findValues 113 = .ok (.goto 4, 3) := dk_167 0 4 (dk_at dksX0_findValues_4 19 rfl rfl)
theorem dX0_findValues_116 : decode cX0_findValues 116 = .ok (.iconst 0, 1) := dk_3 (dk_at dksX0_findValues_4 22 rfl rfl)
theorem dX0_findValues_117 : decode cX0_findValues 117 = .ok (.ior, 1) := dk_128 (dk_at dksX0_findValues_4 23 rfl rfl)
theorem dX0_findValues_118 : decode cX0_findValues 118 = .ok (.istore_n 2, 1) := dk_61 (dk_at dksX0_findValues_5 0 rfl rfl)
theorem dX0_findValues_119 : decode cX0_findValues 119 = .ok (.aload_n 0, 1) := dk_42 (dk_at dksX0_findValues_5 1 rfl rfl)
theorem dX0_findValues_120 : decode cX0_findValues 120 = .ok (.getfield 102, 3) := dk_180 0 102 (dk_at dksX0_findValues_5 2 rfl rfl)
theorem dX0_findValues_123 : decode cX0_findValues 123 = .ok (.iload_n 3, 1) := dk_29 (dk_at dksX0_findValues_5 5 rfl rfl)
theorem dX0_findValues_124 : decode cX0_findValues 124 = .ok (.iload 7, 2) := dk_21 7 (dk_at dksX0_findValues_5 6 rfl rfl)
theorem dX0_findValues_126 : decode cX0_findValues 126 = .ok (.ifCond .eq 8, 3) := dk_153 0 8 (dk_at dksX0_findValues_5 8 rfl rfl)
theorem dX0_findValues_129 : decode cX0_findValues 129 = .ok (.lload 5, 2) := dk_22 5 (dk_at dksX0_findValues_5 11 rfl rfl)
theorem dX0_findValues_131 : decode cX0_findValues 131 = .ok (.goto 9, 3) := dk_167 0 9 (dk_at dksX0_findValues_5 13 rfl rfl)
theorem dX0_findValues_134 : decode cX0_findValues 134 = .ok (.aload_n 0, 1) := dk_42 (dk_at dksX0_findValues_5 16 rfl rfl)
theorem dX0_findValues_135 : decode cX0_findValues 135 = .ok (.getfield 102, 3) := dk_180 0 102 (dk_at dksX0_findValues_5 17 rfl rfl)
theorem dX0_findValues_138 : decode cX0_findValues 138 = .ok (.iload_n 3, 1) := dk_29 (dk_at dksX0_findValues_5 20 rfl rfl)
theorem dX0_findValues_139 : decode cX0_findValues 139 = .ok (.laload, 1) := dk_47 (dk_at dksX0_findValues_5 21 rfl rfl)
theorem dX0_findValues_140 : decode cX0_findValues 140 = .ok (.lastore, 1) := dk_80 (dk_at dksX0_findValues_5 22 rfl rfl)
theorem dX0_findValues_141 : decode cX0_findValues 141 = .ok (.iload_n 3, 1) := dk_29 (dk_at dksX0_findValues_5 23 rfl rfl)
theorem dX0_findValues_142 : decode cX0_findValues 142 = .ok (.ifCond .le 26, 3) := dk_158 0 26 (dk_at dksX0_findValues_6 0 rfl rfl)
theorem dX0_findValues_145 : decode cX0_findValues 145 = .ok (.aload_n 0, 1) := dk_42 (dk_at dksX0_findValues_6 3 rfl rfl)
theorem dX0_findValues_146 : decode cX0_findValues 146 = .ok (.getfield 102, 3) := dk_180 0 102 (dk_at dksX0_findValues_6 4 rfl rfl)
theorem dX0_findValues_149 : decode cX0_findValues 149 = .ok (.aload_n 0, 1) := dk_42 (dk_at dksX0_findValues_6 7 rfl rfl)
theorem dX0_findValues_150 : decode cX0_findValues 150 = .ok (.getfield 55, 3) := dk_180 0 55 (dk_at dksX0_findValues_6 8 rfl rfl)
theorem dX0_findValues_153 : decode cX0_findValues 153 = .ok (.getfield 248, 3) := dk_180 0 248 (dk_at dksX0_findValues_6 11 rfl rfl)
theorem dX0_findValues_156 : decode cX0_findValues 156 = .ok (.iload_n 3, 1) := dk_29 (dk_at dksX0_findValues_6 14 rfl rfl)
theorem dX0_findValues_157 : decode cX0_findValues 157 = .ok (.iaload, 1) := dk_46 (dk_at dksX0_findValues_6 15 rfl rfl)
theorem dX0_findValues_158 : decode cX0_findValues 158 = .ok (.dup2, 1) := dk_92 (dk_at dksX0_findValues_6 16 rfl rfl)
theorem dX0_findValues_159 : decode cX0_findValues 159 = .ok (.laload, 1) := dk_47 (dk_at dksX0_findValues_6 17 rfl rfl)
theorem dX0_findValues_160 : decode cX0_findValues 160 = .ok (.aload_n 0, 1) := dk_42 (dk_at dksX0_findValues_6 18 rfl rfl)
theorem dX0_findValues_161 : decode cX0_findValues 161 = .ok (.getfield 102, 3) := dk_180 0 102 (dk_at dksX0_findValues_6 19 rfl rfl)
theorem dX0_findValues_164 : decode cX0_findValues 164 = .ok (.iload_n 3, 1) := dk_29 (dk_at dksX0_findValues_6 22 rfl rfl)
theorem dX0_findValues_165 : decode cX0_findValues 165 = .ok (.laload, 1) := dk_47 (dk_at dksX0_findValues_6 23 rfl rfl)
theorem dX0_findValues_166 : decode cX0_findValues 166 = .ok (.ladd, 1) := dk_97 (dk_at dksX0_findValues_7 0 rfl rfl)
theorem dX0_findValues_167 : decode cX0_findValues 167 = .ok (.lastore, 1) := dk_80 (dk_at dksX0_findValues_7 1 rfl rfl)
theorem dX0_findValues_168 : decode cX0_findValues 168 = .ok (.iinc 3 (-1), 3) := dk_132 3 255 (dk_at dksX0_findValues_7 2 rfl rfl)
theorem dX0_findValues_171 : decode cX0_findValues 171 = .ok (.goto (-133), 3) := dk_167 255 123 (dk_at dksX0_findValues_7 5 rfl rfl)
theorem dX0_findValues_174 : decode cX0_findValues 174 = .ok (.iload_n 2, 1) := dk_28 (dk_at dksX0_findValues_7 8 rfl rfl)
theorem dX0_findValues_175 : decode cX0_findValues 175 = .ok (.ireturn, 1) := dk_172 (dk_at dksX0_findValues_7 9 rfl rfl)
abbrev cX0_pressWorth : ByteArray := prog_1_method_15_code
def yX0_pressWorth : MethodName := ⟨RX0, "pressWorth", "(LBeforeTheEnd$Player;II)J"⟩
def dkwX0_pressWorth_5 : List UInt8 := [97, 55, 4, 132, 6, 1, 167, 255, 138, 22, 4, 173]
abbrev dktX0_pressWorth_5 : List UInt8 := dkwX0_pressWorth_5 ++ []
def dkwX0_pressWorth_4 : List UInt8 := [180, 0, 216, 21, 6, 46, 29, 160, 0, 8, 21, 7, 167, 0, 10, 42, 180, 0, 65, 4, 46, 116, 133, 105]
abbrev dktX0_pressWorth_4 : List UInt8 := dkwX0_pressWorth_4 ++ dktX0_pressWorth_5
def dkwX0_pressWorth_3 : List UInt8 := [28, 46, 100, 104, 96, 54, 7, 22, 4, 42, 180, 0, 55, 21, 6, 182, 0, 236, 42, 180, 0, 55]
abbrev dktX0_pressWorth_3 : List UInt8 := dkwX0_pressWorth_3 ++ dktX0_pressWorth_4
def dkwX0_pressWorth_2 : List UInt8 := [46, 42, 180, 0, 65, 5, 46, 42, 180, 0, 55, 180, 0, 206, 21, 6, 46, 42, 180, 0, 55, 180, 0, 206]
abbrev dktX0_pressWorth_2 : List UInt8 := dkwX0_pressWorth_2 ++ dktX0_pressWorth_3
def dkwX0_pressWorth_1 : List UInt8 := [182, 0, 229, 153, 0, 94, 42, 180, 0, 55, 21, 6, 28, 182, 0, 240, 153, 0, 81, 42, 180, 0, 65, 3]
abbrev dktX0_pressWorth_1 : List UInt8 := dkwX0_pressWorth_1 ++ dktX0_pressWorth_2
def dkwX0_pressWorth_0 : List UInt8 := [9, 55, 4, 28, 54, 6, 21, 6, 42, 180, 0, 55, 180, 0, 226, 162, 0, 112, 42, 180, 0, 55, 21, 6]
abbrev dktX0_pressWorth_0 : List UInt8 := dkwX0_pressWorth_0 ++ dktX0_pressWorth_1
theorem dksX0_pressWorth_0 : cX0_pressWorth.data.toList.drop 0 = dktX0_pressWorth_0 := by decide +kernel
theorem dksX0_pressWorth_1 : cX0_pressWorth.data.toList.drop 24 = dktX0_pressWorth_1 := dk_seg dksX0_pressWorth_0 24 rfl rfl
theorem dksX0_pressWorth_2 : cX0_pressWorth.data.toList.drop 48 = dktX0_pressWorth_2 := dk_seg dksX0_pressWorth_1 24 rfl rfl
theorem dksX0_pressWorth_3 : cX0_pressWorth.data.toList.drop 72 = dktX0_pressWorth_3 := dk_seg dksX0_pressWorth_2 24 rfl rfl
theorem dksX0_pressWorth_4 : cX0_pressWorth.data.toList.drop 94 = dktX0_pressWorth_4 := dk_seg dksX0_pressWorth_3 22 rfl rfl
theorem dksX0_pressWorth_5 : cX0_pressWorth.data.toList.drop 118 = dktX0_pressWorth_5 := dk_seg dksX0_pressWorth_4 24 rfl rfl
theorem dX0_pressWorth_0 : decode cX0_pressWorth 0 = .ok (.lconst 0, 1) := dk_9 (dk_at dksX0_pressWorth_0 0 rfl rfl)
theorem dX0_pressWorth_1 : decode cX0_pressWorth 1 = .ok (.lstore 4, 2) := dk_55 4 (dk_at dksX0_pressWorth_0 1 rfl rfl)
theorem dX0_pressWorth_3 : decode cX0_pressWorth 3 = .ok (.iload_n 2, 1) := dk_28 (dk_at dksX0_pressWorth_0 3 rfl rfl)
theorem dX0_pressWorth_4 : decode cX0_pressWorth 4 = .ok (.istore 6, 2) := dk_54 6 (dk_at dksX0_pressWorth_0 4 rfl rfl)
theorem dX0_pressWorth_6 : decode cX0_pressWorth 6 = .ok (.iload 6, 2) := dk_21 6 (dk_at dksX0_pressWorth_0 6 rfl rfl)
theorem dX0_pressWorth_8 : decode cX0_pressWorth 8 = .ok (.aload_n 0, 1) := dk_42 (dk_at dksX0_pressWorth_0 8 rfl rfl)
theorem dX0_pressWorth_9 : decode cX0_pressWorth 9 = .ok (.getfield 55, 3) := dk_180 0 55 (dk_at dksX0_pressWorth_0 9 rfl rfl)
theorem dX0_pressWorth_12 : decode cX0_pressWorth 12 = .ok (.getfield 226, 3) := dk_180 0 226 (dk_at dksX0_pressWorth_0 12 rfl rfl)
theorem dX0_pressWorth_15 : decode cX0_pressWorth 15 = .ok (.if_icmp .ge 112, 3) := dk_162 0 112 (dk_at dksX0_pressWorth_0 15 rfl rfl)
theorem dX0_pressWorth_18 : decode cX0_pressWorth 18 = .ok (.aload_n 0, 1) := dk_42 (dk_at dksX0_pressWorth_0 18 rfl rfl)
theorem dX0_pressWorth_19 : decode cX0_pressWorth 19 = .ok (.getfield 55, 3) := dk_180 0 55 (dk_at dksX0_pressWorth_0 19 rfl rfl)
theorem dX0_pressWorth_22 : decode cX0_pressWorth 22 = .ok (.iload 6, 2) := dk_21 6 (dk_at dksX0_pressWorth_0 22 rfl rfl)
theorem dX0_pressWorth_24 : decode cX0_pressWorth 24 = .ok (.invokevirtual 229, 3) := dk_182 0 229 (dk_at dksX0_pressWorth_1 0 rfl rfl)
theorem dX0_pressWorth_27 : decode cX0_pressWorth 27 = .ok (.ifCond .eq 94, 3) := dk_153 0 94 (dk_at dksX0_pressWorth_1 3 rfl rfl)
theorem dX0_pressWorth_30 : decode cX0_pressWorth 30 = .ok (.aload_n 0, 1) := dk_42 (dk_at dksX0_pressWorth_1 6 rfl rfl)
theorem dX0_pressWorth_31 : decode cX0_pressWorth 31 = .ok (.getfield 55, 3) := dk_180 0 55 (dk_at dksX0_pressWorth_1 7 rfl rfl)
theorem dX0_pressWorth_34 : decode cX0_pressWorth 34 = .ok (.iload 6, 2) := dk_21 6 (dk_at dksX0_pressWorth_1 10 rfl rfl)
theorem dX0_pressWorth_36 : decode cX0_pressWorth 36 = .ok (.iload_n 2, 1) := dk_28 (dk_at dksX0_pressWorth_1 12 rfl rfl)
theorem dX0_pressWorth_37 : decode cX0_pressWorth 37 = .ok (.invokevirtual 240, 3) := dk_182 0 240 (dk_at dksX0_pressWorth_1 13 rfl rfl)
theorem dX0_pressWorth_40 : decode cX0_pressWorth 40 = .ok (.ifCond .eq 81, 3) := dk_153 0 81 (dk_at dksX0_pressWorth_1 16 rfl rfl)
theorem dX0_pressWorth_43 : decode cX0_pressWorth 43 = .ok (.aload_n 0, 1) := dk_42 (dk_at dksX0_pressWorth_1 19 rfl rfl)
theorem dX0_pressWorth_44 : decode cX0_pressWorth 44 = .ok (.getfield 65, 3) := dk_180 0 65 (dk_at dksX0_pressWorth_1 20 rfl rfl)
theorem dX0_pressWorth_47 : decode cX0_pressWorth 47 = .ok (.iconst 0, 1) := dk_3 (dk_at dksX0_pressWorth_1 23 rfl rfl)
theorem dX0_pressWorth_48 : decode cX0_pressWorth 48 = .ok (.iaload, 1) := dk_46 (dk_at dksX0_pressWorth_2 0 rfl rfl)
theorem dX0_pressWorth_49 : decode cX0_pressWorth 49 = .ok (.aload_n 0, 1) := dk_42 (dk_at dksX0_pressWorth_2 1 rfl rfl)
theorem dX0_pressWorth_50 : decode cX0_pressWorth 50 = .ok (.getfield 65, 3) := dk_180 0 65 (dk_at dksX0_pressWorth_2 2 rfl rfl)
theorem dX0_pressWorth_53 : decode cX0_pressWorth 53 = .ok (.iconst 2, 1) := dk_5 (dk_at dksX0_pressWorth_2 5 rfl rfl)
theorem dX0_pressWorth_54 : decode cX0_pressWorth 54 = .ok (.iaload, 1) := dk_46 (dk_at dksX0_pressWorth_2 6 rfl rfl)
theorem dX0_pressWorth_55 : decode cX0_pressWorth 55 = .ok (.aload_n 0, 1) := dk_42 (dk_at dksX0_pressWorth_2 7 rfl rfl)
theorem dX0_pressWorth_56 : decode cX0_pressWorth 56 = .ok (.getfield 55, 3) := dk_180 0 55 (dk_at dksX0_pressWorth_2 8 rfl rfl)
theorem dX0_pressWorth_59 : decode cX0_pressWorth 59 = .ok (.getfield 206, 3) := dk_180 0 206 (dk_at dksX0_pressWorth_2 11 rfl rfl)
theorem dX0_pressWorth_62 : decode cX0_pressWorth 62 = .ok (.iload 6, 2) := dk_21 6 (dk_at dksX0_pressWorth_2 14 rfl rfl)
theorem dX0_pressWorth_64 : decode cX0_pressWorth 64 = .ok (.iaload, 1) := dk_46 (dk_at dksX0_pressWorth_2 16 rfl rfl)
theorem dX0_pressWorth_65 : decode cX0_pressWorth 65 = .ok (.aload_n 0, 1) := dk_42 (dk_at dksX0_pressWorth_2 17 rfl rfl)
theorem dX0_pressWorth_66 : decode cX0_pressWorth 66 = .ok (.getfield 55, 3) := dk_180 0 55 (dk_at dksX0_pressWorth_2 18 rfl rfl)
theorem dX0_pressWorth_69 : decode cX0_pressWorth 69 = .ok (.getfield 206, 3) := dk_180 0 206 (dk_at dksX0_pressWorth_2 21 rfl rfl)
theorem dX0_pressWorth_72 : decode cX0_pressWorth 72 = .ok (.iload_n 2, 1) := dk_28 (dk_at dksX0_pressWorth_3 0 rfl rfl)
theorem dX0_pressWorth_73 : decode cX0_pressWorth 73 = .ok (.iaload, 1) := dk_46 (dk_at dksX0_pressWorth_3 1 rfl rfl)
theorem dX0_pressWorth_74 : decode cX0_pressWorth 74 = .ok (.isub, 1) := dk_100 (dk_at dksX0_pressWorth_3 2 rfl rfl)
theorem dX0_pressWorth_75 : decode cX0_pressWorth 75 = .ok (.imul, 1) := dk_104 (dk_at dksX0_pressWorth_3 3 rfl rfl)
theorem dX0_pressWorth_76 : decode cX0_pressWorth 76 = .ok (.iadd, 1) := dk_96 (dk_at dksX0_pressWorth_3 4 rfl rfl)
theorem dX0_pressWorth_77 : decode cX0_pressWorth 77 = .ok (.istore 7, 2) := dk_54 7 (dk_at dksX0_pressWorth_3 5 rfl rfl)
theorem dX0_pressWorth_79 : decode cX0_pressWorth 79 = .ok (.lload 4, 2) := dk_22 4 (dk_at dksX0_pressWorth_3 7 rfl rfl)
theorem dX0_pressWorth_81 : decode cX0_pressWorth 81 = .ok (.aload_n 0, 1) := dk_42 (dk_at dksX0_pressWorth_3 9 rfl rfl)
theorem dX0_pressWorth_82 : decode cX0_pressWorth 82 = .ok (.getfield 55, 3) := dk_180 0 55 (dk_at dksX0_pressWorth_3 10 rfl rfl)
theorem dX0_pressWorth_85 : decode cX0_pressWorth 85 = .ok (.iload 6, 2) := dk_21 6 (dk_at dksX0_pressWorth_3 13 rfl rfl)
theorem dX0_pressWorth_87 : decode cX0_pressWorth 87 = .ok (.invokevirtual 236, 3) := dk_182 0 236 (dk_at dksX0_pressWorth_3 15 rfl rfl)
theorem dX0_pressWorth_90 : decode cX0_pressWorth 90 = .ok (.aload_n 0, 1) := dk_42 (dk_at dksX0_pressWorth_3 18 rfl rfl)
theorem dX0_pressWorth_91 : decode cX0_pressWorth 91 = .ok (.getfield 55, 3) := dk_180 0 55 (dk_at dksX0_pressWorth_3 19 rfl rfl)
theorem dX0_pressWorth_94 : decode cX0_pressWorth 94 = .ok (.getfield 216, 3) := dk_180 0 216 (dk_at dksX0_pressWorth_4 0 rfl rfl)
theorem dX0_pressWorth_97 : decode cX0_pressWorth 97 = .ok (.iload 6, 2) := dk_21 6 (dk_at dksX0_pressWorth_4 3 rfl rfl)
theorem dX0_pressWorth_99 : decode cX0_pressWorth 99 = .ok (.iaload, 1) := dk_46 (dk_at dksX0_pressWorth_4 5 rfl rfl)
theorem dX0_pressWorth_100 : decode cX0_pressWorth 100 = .ok (.iload_n 3, 1) := dk_29 (dk_at dksX0_pressWorth_4 6 rfl rfl)
theorem dX0_pressWorth_101 : decode cX0_pressWorth 101 = .ok (.if_icmp .ne 8, 3) := dk_160 0 8 (dk_at dksX0_pressWorth_4 7 rfl rfl)
theorem dX0_pressWorth_104 : decode cX0_pressWorth 104 = .ok (.iload 7, 2) := dk_21 7 (dk_at dksX0_pressWorth_4 10 rfl rfl)
theorem dX0_pressWorth_106 : decode cX0_pressWorth 106 = .ok (.goto 10, 3) := dk_167 0 10 (dk_at dksX0_pressWorth_4 12 rfl rfl)
theorem dX0_pressWorth_109 : decode cX0_pressWorth 109 = .ok (.aload_n 0, 1) := dk_42 (dk_at dksX0_pressWorth_4 15 rfl rfl)
theorem dX0_pressWorth_110 : decode cX0_pressWorth 110 = .ok (.getfield 65, 3) := dk_180 0 65 (dk_at dksX0_pressWorth_4 16 rfl rfl)
theorem dX0_pressWorth_113 : decode cX0_pressWorth 113 = .ok (.iconst 1, 1) := dk_4 (dk_at dksX0_pressWorth_4 19 rfl rfl)
theorem dX0_pressWorth_114 : decode cX0_pressWorth 114 = .ok (.iaload, 1) := dk_46 (dk_at dksX0_pressWorth_4 20 rfl rfl)
theorem dX0_pressWorth_115 : decode cX0_pressWorth 115 = .ok (.ineg, 1) := dk_116 (dk_at dksX0_pressWorth_4 21 rfl rfl)
theorem dX0_pressWorth_116 : decode cX0_pressWorth 116 = .ok (.i2l, 1) := dk_133 (dk_at dksX0_pressWorth_4 22 rfl rfl)
theorem dX0_pressWorth_117 : decode cX0_pressWorth 117 = .ok (.lmul, 1) := dk_105 (dk_at dksX0_pressWorth_4 23 rfl rfl)
theorem dX0_pressWorth_118 : decode cX0_pressWorth 118 = .ok (.ladd, 1) := dk_97 (dk_at dksX0_pressWorth_5 0 rfl rfl)
theorem dX0_pressWorth_119 : decode cX0_pressWorth 119 = .ok (.lstore 4, 2) := dk_55 4 (dk_at dksX0_pressWorth_5 1 rfl rfl)
theorem dX0_pressWorth_121 : decode cX0_pressWorth 121 = .ok (.iinc 6 1, 3) := dk_132 6 1 (dk_at dksX0_pressWorth_5 3 rfl rfl)
theorem dX0_pressWorth_124 : decode cX0_pressWorth 124 = .ok (.goto (-118), 3) := dk_167 255 138 (dk_at dksX0_pressWorth_5 6 rfl rfl)
theorem dX0_pressWorth_127 : decode cX0_pressWorth 127 = .ok (.lload 4, 2) := dk_22 4 (dk_at dksX0_pressWorth_5 9 rfl rfl)
theorem dX0_pressWorth_129 : decode cX0_pressWorth 129 = .ok (.lreturn, 1) := dk_173 (dk_at dksX0_pressWorth_5 11 rfl rfl)
abbrev cX0_ofGames : ByteArray := prog_1_method_52_code
def yX0_ofGames : MethodName := ⟨RX0, "ofGames", "(IIII)I"⟩
def dkwX0_ofGames_6 : List UInt8 := [42, 28, 29, 182, 1, 178, 172, 42, 28, 29, 21, 4, 182, 1, 181, 172]
abbrev dktX0_ofGames_6 : List UInt8 := dkwX0_ofGames_6 ++ []
def dkwX0_ofGames_5 : List UInt8 := [182, 1, 141, 42, 28, 182, 1, 172, 172, 42, 28, 182, 1, 112, 42, 182, 1, 141, 42, 28, 182, 1, 175, 172]
abbrev dktX0_ofGames_5 : List UInt8 := dkwX0_ofGames_5 ++ dktX0_ofGames_6
def dkwX0_ofGames_4 : List UInt8 := [29, 182, 1, 7, 172, 42, 28, 29, 182, 1, 169, 172, 28, 133, 9, 20, 1, 10, 184, 1, 37, 42]
abbrev dktX0_ofGames_4 : List UInt8 := dkwX0_ofGames_4 ++ dktX0_ofGames_5
def dkwX0_ofGames_3 : List UInt8 := [182, 1, 165, 172, 42, 28, 182, 1, 112, 29, 133, 9, 20, 1, 150, 184, 1, 37, 42, 182, 1, 141, 42, 28]
abbrev dktX0_ofGames_3 : List UInt8 := dkwX0_ofGames_3 ++ dktX0_ofGames_4
def dkwX0_ofGames_2 : List UInt8 := [42, 28, 29, 182, 1, 162, 172, 42, 28, 182, 1, 112, 42, 182, 1, 141, 42, 42, 180, 0, 61, 28, 50]
abbrev dktX0_ofGames_2 : List UInt8 := dkwX0_ofGames_2 ++ dktX0_ofGames_3
def dkwX0_ofGames_1 : List UInt8 := [170, 0, 0, 0, 0, 0, 143, 0, 0, 0, 9, 0, 0, 0, 15, 0, 0, 0, 43, 0, 0, 0, 50, 0, 0, 0, 70, 0, 0, 0, 95, 0, 0, 0, 102, 0, 0, 0, 121, 0, 0, 0, 136]
abbrev dktX0_ofGames_1 : List UInt8 := dkwX0_ofGames_1 ++ dktX0_ofGames_2
def dkwX0_ofGames_0 : List UInt8 := [27]
abbrev dktX0_ofGames_0 : List UInt8 := dkwX0_ofGames_0 ++ dktX0_ofGames_1
theorem dksX0_ofGames_0 : cX0_ofGames.data.toList.drop 0 = dktX0_ofGames_0 := by decide +kernel
theorem dksX0_ofGames_1 : cX0_ofGames.data.toList.drop 1 = dktX0_ofGames_1 := dk_seg dksX0_ofGames_0 1 rfl rfl
theorem dksX0_ofGames_2 : cX0_ofGames.data.toList.drop 44 = dktX0_ofGames_2 := dk_seg dksX0_ofGames_1 43 rfl rfl
theorem dksX0_ofGames_3 : cX0_ofGames.data.toList.drop 67 = dktX0_ofGames_3 := dk_seg dksX0_ofGames_2 23 rfl rfl
theorem dksX0_ofGames_4 : cX0_ofGames.data.toList.drop 91 = dktX0_ofGames_4 := dk_seg dksX0_ofGames_3 24 rfl rfl
theorem dksX0_ofGames_5 : cX0_ofGames.data.toList.drop 113 = dktX0_ofGames_5 := dk_seg dksX0_ofGames_4 22 rfl rfl
theorem dksX0_ofGames_6 : cX0_ofGames.data.toList.drop 137 = dktX0_ofGames_6 := dk_seg dksX0_ofGames_5 24 rfl rfl
theorem dX0_ofGames_0 : decode cX0_ofGames 0 = .ok (.iload_n 1, 1) := dk_27 (dk_at dksX0_ofGames_0 0 rfl rfl)
theorem dX0_ofGames_1 : decode cX0_ofGames 1 = .ok (.tableswitch 143 9 15 #[43, 50, 70, 95, 102, 121, 136], 43) := by decide +kernel
theorem dX0_ofGames_44 : decode cX0_ofGames 44 = .ok (.aload_n 0, 1) := dk_42 (dk_at dksX0_ofGames_2 0 rfl rfl)
theorem dX0_ofGames_45 : decode cX0_ofGames 45 = .ok (.iload_n 2, 1) := dk_28 (dk_at dksX0_ofGames_2 1 rfl rfl)
theorem dX0_ofGames_46 : decode cX0_ofGames 46 = .ok (.iload_n 3, 1) := dk_29 (dk_at dksX0_ofGames_2 2 rfl rfl)
theorem dX0_ofGames_47 : decode cX0_ofGames 47 = .ok (.invokevirtual 418, 3) := dk_182 1 162 (dk_at dksX0_ofGames_2 3 rfl rfl)
theorem dX0_ofGames_50 : decode cX0_ofGames 50 = .ok (.ireturn, 1) := dk_172 (dk_at dksX0_ofGames_2 6 rfl rfl)
theorem dX0_ofGames_51 : decode cX0_ofGames 51 = .ok (.aload_n 0, 1) := dk_42 (dk_at dksX0_ofGames_2 7 rfl rfl)
theorem dX0_ofGames_52 : decode cX0_ofGames 52 = .ok (.iload_n 2, 1) := dk_28 (dk_at dksX0_ofGames_2 8 rfl rfl)
theorem dX0_ofGames_53 : decode cX0_ofGames 53 = .ok (.invokevirtual 368, 3) := dk_182 1 112 (dk_at dksX0_ofGames_2 9 rfl rfl)
theorem dX0_ofGames_56 : decode cX0_ofGames 56 = .ok (.aload_n 0, 1) := dk_42 (dk_at dksX0_ofGames_2 12 rfl rfl)
theorem dX0_ofGames_57 : decode cX0_ofGames 57 = .ok (.invokevirtual 397, 3) := dk_182 1 141 (dk_at dksX0_ofGames_2 13 rfl rfl)
theorem dX0_ofGames_60 : decode cX0_ofGames 60 = .ok (.aload_n 0, 1) := dk_42 (dk_at dksX0_ofGames_2 16 rfl rfl)
theorem dX0_ofGames_61 : decode cX0_ofGames 61 = .ok (.aload_n 0, 1) := dk_42 (dk_at dksX0_ofGames_2 17 rfl rfl)
theorem dX0_ofGames_62 : decode cX0_ofGames 62 = .ok (.getfield 61, 3) := dk_180 0 61 (dk_at dksX0_ofGames_2 18 rfl rfl)
theorem dX0_ofGames_65 : decode cX0_ofGames 65 = .ok (.iload_n 2, 1) := dk_28 (dk_at dksX0_ofGames_2 21 rfl rfl)
theorem dX0_ofGames_66 : decode cX0_ofGames 66 = .ok (.aaload, 1) := dk_50 (dk_at dksX0_ofGames_2 22 rfl rfl)
theorem dX0_ofGames_67 : decode cX0_ofGames 67 = .ok (.invokevirtual 421, 3) := dk_182 1 165 (dk_at dksX0_ofGames_3 0 rfl rfl)
theorem dX0_ofGames_70 : decode cX0_ofGames 70 = .ok (.ireturn, 1) := dk_172 (dk_at dksX0_ofGames_3 3 rfl rfl)
theorem dX0_ofGames_71 : decode cX0_ofGames 71 = .ok (.aload_n 0, 1) := dk_42 (dk_at dksX0_ofGames_3 4 rfl rfl)
theorem dX0_ofGames_72 : decode cX0_ofGames 72 = .ok (.iload_n 2, 1) := dk_28 (dk_at dksX0_ofGames_3 5 rfl rfl)
theorem dX0_ofGames_73 : decode cX0_ofGames 73 = .ok (.invokevirtual 368, 3) := dk_182 1 112 (dk_at dksX0_ofGames_3 6 rfl rfl)
theorem dX0_ofGames_76 : decode cX0_ofGames 76 = .ok (.iload_n 3, 1) := dk_29 (dk_at dksX0_ofGames_3 9 rfl rfl)
theorem dX0_ofGames_77 : decode cX0_ofGames 77 = .ok (.i2l, 1) := dk_133 (dk_at dksX0_ofGames_3 10 rfl rfl)
theorem dX0_ofGames_78 : decode cX0_ofGames 78 = .ok (.lconst 0, 1) := dk_9 (dk_at dksX0_ofGames_3 11 rfl rfl)
theorem dX0_ofGames_79 : decode cX0_ofGames 79 = .ok (.ldc2_w 406, 3) := dk_20 1 150 (dk_at dksX0_ofGames_3 12 rfl rfl)
theorem dX0_ofGames_82 : decode cX0_ofGames 82 = .ok (.invokestatic 293, 3) := dk_184 1 37 (dk_at dksX0_ofGames_3 15 rfl rfl)
theorem dX0_ofGames_85 : decode cX0_ofGames 85 = .ok (.aload_n 0, 1) := dk_42 (dk_at dksX0_ofGames_3 18 rfl rfl)
theorem dX0_ofGames_86 : decode cX0_ofGames 86 = .ok (.invokevirtual 397, 3) := dk_182 1 141 (dk_at dksX0_ofGames_3 19 rfl rfl)
theorem dX0_ofGames_89 : decode cX0_ofGames 89 = .ok (.aload_n 0, 1) := dk_42 (dk_at dksX0_ofGames_3 22 rfl rfl)
theorem dX0_ofGames_90 : decode cX0_ofGames 90 = .ok (.iload_n 2, 1) := dk_28 (dk_at dksX0_ofGames_3 23 rfl rfl)
theorem dX0_ofGames_91 : decode cX0_ofGames 91 = .ok (.iload_n 3, 1) := dk_29 (dk_at dksX0_ofGames_4 0 rfl rfl)
theorem dX0_ofGames_92 : decode cX0_ofGames 92 = .ok (.invokevirtual 263, 3) := dk_182 1 7 (dk_at dksX0_ofGames_4 1 rfl rfl)
theorem dX0_ofGames_95 : decode cX0_ofGames 95 = .ok (.ireturn, 1) := dk_172 (dk_at dksX0_ofGames_4 4 rfl rfl)
theorem dX0_ofGames_96 : decode cX0_ofGames 96 = .ok (.aload_n 0, 1) := dk_42 (dk_at dksX0_ofGames_4 5 rfl rfl)
theorem dX0_ofGames_97 : decode cX0_ofGames 97 = .ok (.iload_n 2, 1) := dk_28 (dk_at dksX0_ofGames_4 6 rfl rfl)
theorem dX0_ofGames_98 : decode cX0_ofGames 98 = .ok (.iload_n 3, 1) := dk_29 (dk_at dksX0_ofGames_4 7 rfl rfl)
theorem dX0_ofGames_99 : decode cX0_ofGames 99 = .ok (.invokevirtual 425, 3) := dk_182 1 169 (dk_at dksX0_ofGames_4 8 rfl rfl)
theorem dX0_ofGames_102 : decode cX0_ofGames 102 = .ok (.ireturn, 1) := dk_172 (dk_at dksX0_ofGames_4 11 rfl rfl)
theorem dX0_ofGames_103 : decode cX0_ofGames 103 = .ok (.iload_n 2, 1) := dk_28 (dk_at dksX0_ofGames_4 12 rfl rfl)
theorem dX0_ofGames_104 : decode cX0_ofGames 104 = .ok (.i2l, 1) := dk_133 (dk_at dksX0_ofGames_4 13 rfl rfl)
theorem dX0_ofGames_105 : decode cX0_ofGames 105 = .ok (.lconst 0, 1) := dk_9 (dk_at dksX0_ofGames_4 14 rfl rfl)
theorem dX0_ofGames_106 : decode cX0_ofGames 106 = .ok (.ldc2_w 266, 3) := dk_20 1 10 (dk_at dksX0_ofGames_4 15 rfl rfl)
theorem dX0_ofGames_109 : decode cX0_ofGames 109 = .ok (.invokestatic 293, 3) := dk_184 1 37 (dk_at dksX0_ofGames_4 18 rfl rfl)
theorem dX0_ofGames_112 : decode cX0_ofGames 112 = .ok (.aload_n 0, 1) := dk_42 (dk_at dksX0_ofGames_4 21 rfl rfl)
theorem dX0_ofGames_113 : decode cX0_ofGames 113 = .ok (.invokevirtual 397, 3) := dk_182 1 141 (dk_at dksX0_ofGames_5 0 rfl rfl)
theorem dX0_ofGames_116 : decode cX0_ofGames 116 = .ok (.aload_n 0, 1) := dk_42 (dk_at dksX0_ofGames_5 3 rfl rfl)
theorem dX0_ofGames_117 : decode cX0_ofGames 117 = .ok (.iload_n 2, 1) := dk_28 (dk_at dksX0_ofGames_5 4 rfl rfl)
theorem dX0_ofGames_118 : decode cX0_ofGames 118 = .ok (.invokevirtual 428, 3) := dk_182 1 172 (dk_at dksX0_ofGames_5 5 rfl rfl)
theorem dX0_ofGames_121 : decode cX0_ofGames 121 = .ok (.ireturn, 1) := dk_172 (dk_at dksX0_ofGames_5 8 rfl rfl)
theorem dX0_ofGames_122 : decode cX0_ofGames 122 = .ok (.aload_n 0, 1) := dk_42 (dk_at dksX0_ofGames_5 9 rfl rfl)
theorem dX0_ofGames_123 : decode cX0_ofGames 123 = .ok (.iload_n 2, 1) := dk_28 (dk_at dksX0_ofGames_5 10 rfl rfl)
theorem dX0_ofGames_124 : decode cX0_ofGames 124 = .ok (.invokevirtual 368, 3) := dk_182 1 112 (dk_at dksX0_ofGames_5 11 rfl rfl)
theorem dX0_ofGames_127 : decode cX0_ofGames 127 = .ok (.aload_n 0, 1) := dk_42 (dk_at dksX0_ofGames_5 14 rfl rfl)
theorem dX0_ofGames_128 : decode cX0_ofGames 128 = .ok (.invokevirtual 397, 3) := dk_182 1 141 (dk_at dksX0_ofGames_5 15 rfl rfl)
theorem dX0_ofGames_131 : decode cX0_ofGames 131 = .ok (.aload_n 0, 1) := dk_42 (dk_at dksX0_ofGames_5 18 rfl rfl)
theorem dX0_ofGames_132 : decode cX0_ofGames 132 = .ok (.iload_n 2, 1) := dk_28 (dk_at dksX0_ofGames_5 19 rfl rfl)
theorem dX0_ofGames_133 : decode cX0_ofGames 133 = .ok (.invokevirtual 431, 3) := dk_182 1 175 (dk_at dksX0_ofGames_5 20 rfl rfl)
theorem dX0_ofGames_136 : decode cX0_ofGames 136 = .ok (.ireturn, 1) := dk_172 (dk_at dksX0_ofGames_5 23 rfl rfl)
theorem dX0_ofGames_137 : decode cX0_ofGames 137 = .ok (.aload_n 0, 1) := dk_42 (dk_at dksX0_ofGames_6 0 rfl rfl)
theorem dX0_ofGames_138 : decode cX0_ofGames 138 = .ok (.iload_n 2, 1) := dk_28 (dk_at dksX0_ofGames_6 1 rfl rfl)
theorem dX0_ofGames_139 : decode cX0_ofGames 139 = .ok (.iload_n 3, 1) := dk_29 (dk_at dksX0_ofGames_6 2 rfl rfl)
theorem dX0_ofGames_140 : decode cX0_ofGames 140 = .ok (.invokevirtual 434, 3) := dk_182 1 178 (dk_at dksX0_ofGames_6 3 rfl rfl)
theorem dX0_ofGames_143 : decode cX0_ofGames 143 = .ok (.ireturn, 1) := dk_172 (dk_at dksX0_ofGames_6 6 rfl rfl)
theorem dX0_ofGames_144 : decode cX0_ofGames 144 = .ok (.aload_n 0, 1) := dk_42 (dk_at dksX0_ofGames_6 7 rfl rfl)
theorem dX0_ofGames_145 : decode cX0_ofGames 145 = .ok (.iload_n 2, 1) := dk_28 (dk_at dksX0_ofGames_6 8 rfl rfl)
theorem dX0_ofGames_146 : decode cX0_ofGames 146 = .ok (.iload_n 3, 1) := dk_29 (dk_at dksX0_ofGames_6 9 rfl rfl)
theorem dX0_ofGames_147 : decode cX0_ofGames 147 = .ok (.iload 4, 2) := dk_21 4 (dk_at dksX0_ofGames_6 10 rfl rfl)
theorem dX0_ofGames_149 : decode cX0_ofGames 149 = .ok (.invokevirtual 437, 3) := dk_182 1 181 (dk_at dksX0_ofGames_6 12 rfl rfl)
theorem dX0_ofGames_152 : decode cX0_ofGames 152 = .ok (.ireturn, 1) := dk_172 (dk_at dksX0_ofGames_6 15 rfl rfl)
abbrev cX0_runTold : ByteArray := prog_1_method_48_code
def yX0_runTold : MethodName := ⟨RX0, "runTold", "(II)I"⟩
def dkwX0_runTold_3 : List UInt8 := [167, 0, 19, 28, 4, 160, 0, 10, 42, 180, 0, 200, 167, 0, 7, 42, 180, 0, 187, 172]
abbrev dktX0_runTold_3 : List UInt8 := dkwX0_runTold_3 ++ []
def dkwX0_runTold_2 : List UInt8 := [16, 254, 184, 0, 9, 42, 182, 1, 141, 42, 27, 182, 0, 233, 28, 154, 0, 10, 42, 180, 0, 197]
abbrev dktX0_runTold_2 : List UInt8 := dkwX0_runTold_2 ++ dktX0_runTold_3
def dkwX0_runTold_1 : List UInt8 := [182, 0, 229, 153, 0, 7, 4, 167, 0, 4, 3, 2, 184, 0, 9, 28, 133, 9, 20, 1, 150, 184, 0, 13]
abbrev dktX0_runTold_1 : List UInt8 := dkwX0_runTold_1 ++ dktX0_runTold_2
def dkwX0_runTold_0 : List UInt8 := [27, 133, 10, 42, 180, 0, 55, 180, 0, 226, 4, 100, 133, 184, 0, 13, 153, 0, 18, 42, 180, 0, 55, 27]
abbrev dktX0_runTold_0 : List UInt8 := dkwX0_runTold_0 ++ dktX0_runTold_1
theorem dksX0_runTold_0 : cX0_runTold.data.toList.drop 0 = dktX0_runTold_0 := by decide +kernel
theorem dksX0_runTold_1 : cX0_runTold.data.toList.drop 24 = dktX0_runTold_1 := dk_seg dksX0_runTold_0 24 rfl rfl
theorem dksX0_runTold_2 : cX0_runTold.data.toList.drop 48 = dktX0_runTold_2 := dk_seg dksX0_runTold_1 24 rfl rfl
theorem dksX0_runTold_3 : cX0_runTold.data.toList.drop 70 = dktX0_runTold_3 := dk_seg dksX0_runTold_2 22 rfl rfl
theorem dX0_runTold_0 : decode cX0_runTold 0 = .ok (.iload_n 1, 1) := dk_27 (dk_at dksX0_runTold_0 0 rfl rfl)
theorem dX0_runTold_1 : decode cX0_runTold 1 = .ok (.i2l, 1) := dk_133 (dk_at dksX0_runTold_0 1 rfl rfl)
theorem dX0_runTold_2 : decode cX0_runTold 2 = .ok (.lconst 1, 1) := dk_10 (dk_at dksX0_runTold_0 2 rfl rfl)
theorem dX0_runTold_3 : decode cX0_runTold 3 = .ok (.aload_n 0, 1) := dk_42 (dk_at dksX0_runTold_0 3 rfl rfl)
theorem dX0_runTold_4 : decode cX0_runTold 4 = .ok (.getfield 55, 3) := dk_180 0 55 (dk_at dksX0_runTold_0 4 rfl rfl)
theorem dX0_runTold_7 : decode cX0_runTold 7 = .ok (.getfield 226, 3) := dk_180 0 226 (dk_at dksX0_runTold_0 7 rfl rfl)
theorem dX0_runTold_10 : decode cX0_runTold 10 = .ok (.iconst 1, 1) := dk_4 (dk_at dksX0_runTold_0 10 rfl rfl)
theorem dX0_runTold_11 : decode cX0_runTold 11 = .ok (.isub, 1) := dk_100 (dk_at dksX0_runTold_0 11 rfl rfl)
theorem dX0_runTold_12 : decode cX0_runTold 12 = .ok (.i2l, 1) := dk_133 (dk_at dksX0_runTold_0 12 rfl rfl)
theorem dX0_runTold_13 : decode cX0_runTold 13 = .ok (.invokestatic 13, 3) := dk_184 0 13 (dk_at dksX0_runTold_0 13 rfl rfl)
theorem dX0_runTold_16 : decode cX0_runTold 16 = .ok (.ifCond .eq 18, 3) := dk_153 0 18 (dk_at dksX0_runTold_0 16 rfl rfl)
theorem dX0_runTold_19 : decode cX0_runTold 19 = .ok (.aload_n 0, 1) := dk_42 (dk_at dksX0_runTold_0 19 rfl rfl)
theorem dX0_runTold_20 : decode cX0_runTold 20 = .ok (.getfield 55, 3) := dk_180 0 55 (dk_at dksX0_runTold_0 20 rfl rfl)
theorem dX0_runTold_23 : decode cX0_runTold 23 = .ok (.iload_n 1, 1) := dk_27 (dk_at dksX0_runTold_0 23 rfl rfl)
theorem dX0_runTold_24 : decode cX0_runTold 24 = .ok (.invokevirtual 229, 3) := dk_182 0 229 (dk_at dksX0_runTold_1 0 rfl rfl)
theorem dX0_runTold_27 : decode cX0_runTold 27 = .ok (.ifCond .eq 7, 3) := dk_153 0 7 (dk_at dksX0_runTold_1 3 rfl rfl)
theorem dX0_runTold_30 : decode cX0_runTold 30 = .ok (.iconst 1, 1) := dk_4 (dk_at dksX0_runTold_1 6 rfl rfl)
theorem dX0_runTold_31 : decode cX0_runTold 31 = .ok (.goto 4, 3) := dk_167 0 4 (dk_at dksX0_runTold_1 7 rfl rfl)
theorem dX0_runTold_34 : decode cX0_runTold 34 = .ok (.iconst 0, 1) := dk_3 (dk_at dksX0_runTold_1 10 rfl rfl)
theorem dX0_runTold_35 : decode cX0_runTold 35 = .ok (.iconst (-1), 1) := dk_2 (dk_at dksX0_runTold_1 11 rfl rfl)
theorem dX0_runTold_36 : decode cX0_runTold 36 = .ok (.invokestatic 9, 3) := dk_184 0 9 (dk_at dksX0_runTold_1 12 rfl rfl)
theorem dX0_runTold_39 : decode cX0_runTold 39 = .ok (.iload_n 2, 1) := dk_28 (dk_at dksX0_runTold_1 15 rfl rfl)
theorem dX0_runTold_40 : decode cX0_runTold 40 = .ok (.i2l, 1) := dk_133 (dk_at dksX0_runTold_1 16 rfl rfl)
theorem dX0_runTold_41 : decode cX0_runTold 41 = .ok (.lconst 0, 1) := dk_9 (dk_at dksX0_runTold_1 17 rfl rfl)
theorem dX0_runTold_42 : decode cX0_runTold 42 = .ok (.ldc2_w 406, 3) := dk_20 1 150 (dk_at dksX0_runTold_1 18 rfl rfl)
theorem dX0_runTold_45 : decode cX0_runTold 45 = .ok (.invokestatic 13, 3) := dk_184 0 13 (dk_at dksX0_runTold_1 21 rfl rfl)
theorem dX0_runTold_48 : decode cX0_runTold 48 = .ok (.bipush (-2), 2) := dk_16 254 (dk_at dksX0_runTold_2 0 rfl rfl)
theorem dX0_runTold_50 : decode cX0_runTold 50 = .ok (.invokestatic 9, 3) := dk_184 0 9 (dk_at dksX0_runTold_2 2 rfl rfl)
theorem dX0_runTold_53 : decode cX0_runTold 53 = .ok (.aload_n 0, 1) := dk_42 (dk_at dksX0_runTold_2 5 rfl rfl)
theorem dX0_runTold_54 : decode cX0_runTold 54 = .ok (.invokevirtual 397, 3) := dk_182 1 141 (dk_at dksX0_runTold_2 6 rfl rfl)
theorem dX0_runTold_57 : decode cX0_runTold 57 = .ok (.aload_n 0, 1) := dk_42 (dk_at dksX0_runTold_2 9 rfl rfl)
theorem dX0_runTold_58 : decode cX0_runTold 58 = .ok (.iload_n 1, 1) := dk_27 (dk_at dksX0_runTold_2 10 rfl rfl)
theorem dX0_runTold_59 : decode cX0_runTold 59 = .ok (.invokevirtual 233, 3) := dk_182 0 233 (dk_at dksX0_runTold_2 11 rfl rfl)
theorem dX0_runTold_62 : decode cX0_runTold 62 = .ok (.iload_n 2, 1) := dk_28 (dk_at dksX0_runTold_2 14 rfl rfl)
theorem dX0_runTold_63 : decode cX0_runTold 63 = .ok (.ifCond .ne 10, 3) := dk_154 0 10 (dk_at dksX0_runTold_2 15 rfl rfl)
theorem dX0_runTold_66 : decode cX0_runTold 66 = .ok (.aload_n 0, 1) := dk_42 (dk_at dksX0_runTold_2 18 rfl rfl)
theorem dX0_runTold_67 : decode cX0_runTold 67 = .ok (.getfield 197, 3) := dk_180 0 197 (dk_at dksX0_runTold_2 19 rfl rfl)
theorem dX0_runTold_70 : decode cX0_runTold 70 = .ok (.goto 19, 3) := dk_167 0 19 (dk_at dksX0_runTold_3 0 rfl rfl)
theorem dX0_runTold_73 : decode cX0_runTold 73 = .ok (.iload_n 2, 1) := dk_28 (dk_at dksX0_runTold_3 3 rfl rfl)
theorem dX0_runTold_74 : decode cX0_runTold 74 = .ok (.iconst 1, 1) := dk_4 (dk_at dksX0_runTold_3 4 rfl rfl)
theorem dX0_runTold_75 : decode cX0_runTold 75 = .ok (.if_icmp .ne 10, 3) := dk_160 0 10 (dk_at dksX0_runTold_3 5 rfl rfl)
theorem dX0_runTold_78 : decode cX0_runTold 78 = .ok (.aload_n 0, 1) := dk_42 (dk_at dksX0_runTold_3 8 rfl rfl)
theorem dX0_runTold_79 : decode cX0_runTold 79 = .ok (.getfield 200, 3) := dk_180 0 200 (dk_at dksX0_runTold_3 9 rfl rfl)
theorem dX0_runTold_82 : decode cX0_runTold 82 = .ok (.goto 7, 3) := dk_167 0 7 (dk_at dksX0_runTold_3 12 rfl rfl)
theorem dX0_runTold_85 : decode cX0_runTold 85 = .ok (.aload_n 0, 1) := dk_42 (dk_at dksX0_runTold_3 15 rfl rfl)
theorem dX0_runTold_86 : decode cX0_runTold 86 = .ok (.getfield 187, 3) := dk_180 0 187 (dk_at dksX0_runTold_3 16 rfl rfl)
theorem dX0_runTold_89 : decode cX0_runTold 89 = .ok (.ireturn, 1) := dk_172 (dk_at dksX0_runTold_3 19 rfl rfl)
abbrev cX0_runTo : ByteArray := prog_1_method_13_code
def yX0_runTo : MethodName := ⟨RX0, "runTo", "(I)V"⟩
def dkwX0_runTo_12 : List UInt8 := [167, 255, 26, 177]
abbrev dktX0_runTo_12 : List UInt8 := dkwX0_runTo_12 ++ []
def dkwX0_runTo_11 : List UInt8 := [46, 154, 0, 7, 4, 167, 0, 4, 3, 61, 29, 21, 4, 27, 160, 0, 7, 3, 167, 0, 4, 4, 96, 62]
abbrev dktX0_runTo_11 : List UInt8 := dkwX0_runTo_11 ++ dktX0_runTo_12
def dkwX0_runTo_10 : List UInt8 := [79, 42, 180, 0, 91, 21, 5, 4, 84, 42, 89, 180, 0, 187, 4, 96, 181, 0, 187, 42, 180, 0, 65, 6]
abbrev dktX0_runTo_10 : List UInt8 := dkwX0_runTo_10 ++ dktX0_runTo_11
def dkwX0_runTo_9 : List UInt8 := [104, 96, 96, 79, 4, 61, 167, 0, 66, 42, 180, 0, 88, 21, 5, 92, 46, 42, 180, 0, 65, 4, 46, 100]
abbrev dktX0_runTo_9 : List UInt8 := dkwX0_runTo_9 ++ dktX0_runTo_10
def dkwX0_runTo_8 : List UInt8 := [46, 42, 180, 0, 65, 3, 46, 42, 180, 0, 65, 5, 46, 42, 180, 0, 55, 180, 0, 206, 27, 46, 29, 100]
abbrev dktX0_runTo_8 : List UInt8 := dkwX0_runTo_8 ++ dktX0_runTo_9
def dkwX0_runTo_7 : List UInt8 := [180, 0, 55, 180, 0, 216, 27, 46, 160, 0, 49, 42, 21, 5, 181, 0, 197, 42, 180, 0, 88, 21, 5, 92]
abbrev dktX0_runTo_7 : List UInt8 := dkwX0_runTo_7 ++ dktX0_runTo_8
def dkwX0_runTo_6 : List UInt8 := [180, 0, 200, 181, 0, 200, 42, 42, 180, 0, 61, 21, 5, 50, 180, 0, 176, 21, 4, 182, 0, 179, 42]
abbrev dktX0_runTo_6 : List UInt8 := dkwX0_runTo_6 ++ dktX0_runTo_7
def dkwX0_runTo_5 : List UInt8 := [42, 180, 0, 203, 181, 0, 203, 42, 42, 180, 0, 200, 16, 247, 160, 0, 8, 21, 4, 167, 0, 7, 42]
abbrev dktX0_runTo_5 : List UInt8 := dkwX0_runTo_5 ++ dktX0_runTo_6
def dkwX0_runTo_4 : List UInt8 := [160, 0, 9, 132, 3, 1, 167, 0, 184, 42, 42, 180, 0, 200, 16, 247, 160, 0, 8, 21, 5, 167, 0, 7]
abbrev dktX0_runTo_4 : List UInt8 := dkwX0_runTo_4 ++ dktX0_runTo_5
def dkwX0_runTo_3 : List UInt8 := [42, 180, 0, 55, 27, 29, 182, 0, 209, 54, 4, 42, 21, 4, 182, 0, 212, 54, 5, 21, 5, 16, 247]
abbrev dktX0_runTo_3 : List UInt8 := dkwX0_runTo_3 ++ dktX0_runTo_4
def dkwX0_runTo_2 : List UInt8 := [167, 255, 234, 3, 61, 4, 62, 29, 42, 180, 0, 55, 180, 0, 206, 27, 46, 163, 0, 223, 28, 154, 0, 219]
abbrev dktX0_runTo_2 : List UInt8 := dkwX0_runTo_2 ++ dktX0_runTo_3
def dkwX0_runTo_1 : List UInt8 := [61, 28, 7, 162, 0, 23, 42, 180, 0, 88, 28, 3, 79, 42, 180, 0, 91, 28, 3, 84, 132, 2, 1]
abbrev dktX0_runTo_1 : List UInt8 := dkwX0_runTo_1 ++ dktX0_runTo_2
def dkwX0_runTo_0 : List UInt8 := [42, 16, 247, 181, 0, 197, 42, 16, 247, 181, 0, 200, 42, 16, 247, 181, 0, 203, 42, 3, 181, 0, 187, 3]
abbrev dktX0_runTo_0 : List UInt8 := dkwX0_runTo_0 ++ dktX0_runTo_1
theorem dksX0_runTo_0 : cX0_runTo.data.toList.drop 0 = dktX0_runTo_0 := by decide +kernel
theorem dksX0_runTo_1 : cX0_runTo.data.toList.drop 24 = dktX0_runTo_1 := dk_seg dksX0_runTo_0 24 rfl rfl
theorem dksX0_runTo_2 : cX0_runTo.data.toList.drop 47 = dktX0_runTo_2 := dk_seg dksX0_runTo_1 23 rfl rfl
theorem dksX0_runTo_3 : cX0_runTo.data.toList.drop 71 = dktX0_runTo_3 := dk_seg dksX0_runTo_2 24 rfl rfl
theorem dksX0_runTo_4 : cX0_runTo.data.toList.drop 94 = dktX0_runTo_4 := dk_seg dksX0_runTo_3 23 rfl rfl
theorem dksX0_runTo_5 : cX0_runTo.data.toList.drop 118 = dktX0_runTo_5 := dk_seg dksX0_runTo_4 24 rfl rfl
theorem dksX0_runTo_6 : cX0_runTo.data.toList.drop 141 = dktX0_runTo_6 := dk_seg dksX0_runTo_5 23 rfl rfl
theorem dksX0_runTo_7 : cX0_runTo.data.toList.drop 164 = dktX0_runTo_7 := dk_seg dksX0_runTo_6 23 rfl rfl
theorem dksX0_runTo_8 : cX0_runTo.data.toList.drop 188 = dktX0_runTo_8 := dk_seg dksX0_runTo_7 24 rfl rfl
theorem dksX0_runTo_9 : cX0_runTo.data.toList.drop 212 = dktX0_runTo_9 := dk_seg dksX0_runTo_8 24 rfl rfl
theorem dksX0_runTo_10 : cX0_runTo.data.toList.drop 236 = dktX0_runTo_10 := dk_seg dksX0_runTo_9 24 rfl rfl
theorem dksX0_runTo_11 : cX0_runTo.data.toList.drop 260 = dktX0_runTo_11 := dk_seg dksX0_runTo_10 24 rfl rfl
theorem dksX0_runTo_12 : cX0_runTo.data.toList.drop 284 = dktX0_runTo_12 := dk_seg dksX0_runTo_11 24 rfl rfl
theorem dX0_runTo_0 : decode cX0_runTo 0 = .ok (.aload_n 0, 1) := dk_42 (dk_at dksX0_runTo_0 0 rfl rfl)
theorem dX0_runTo_1 : decode cX0_runTo 1 = .ok (.bipush (-9), 2) := dk_16 247 (dk_at dksX0_runTo_0 1 rfl rfl)
theorem dX0_runTo_3 : decode cX0_runTo 3 = .ok (.putfield 197, 3) := dk_181 0 197 (dk_at dksX0_runTo_0 3 rfl rfl)
theorem dX0_runTo_6 : decode cX0_runTo 6 = .ok (.aload_n 0, 1) := dk_42 (dk_at dksX0_runTo_0 6 rfl rfl)
theorem dX0_runTo_7 : decode cX0_runTo 7 = .ok (.bipush (-9), 2) := dk_16 247 (dk_at dksX0_runTo_0 7 rfl rfl)
theorem dX0_runTo_9 : decode cX0_runTo 9 = .ok (.putfield 200, 3) := dk_181 0 200 (dk_at dksX0_runTo_0 9 rfl rfl)
theorem dX0_runTo_12 : decode cX0_runTo 12 = .ok (.aload_n 0, 1) := dk_42 (dk_at dksX0_runTo_0 12 rfl rfl)
theorem dX0_runTo_13 : decode cX0_runTo 13 = .ok (.bipush (-9), 2) := dk_16 247 (dk_at dksX0_runTo_0 13 rfl rfl)
theorem dX0_runTo_15 : decode cX0_runTo 15 = .ok (.putfield 203, 3) := dk_181 0 203 (dk_at dksX0_runTo_0 15 rfl rfl)
theorem dX0_runTo_18 : decode cX0_runTo 18 = .ok (.aload_n 0, 1) := dk_42 (dk_at dksX0_runTo_0 18 rfl rfl)
theorem dX0_runTo_19 : decode cX0_runTo 19 = .ok (.iconst 0, 1) := dk_3 (dk_at dksX0_runTo_0 19 rfl rfl)
theorem dX0_runTo_20 : decode cX0_runTo 20 = .ok (.putfield 187, 3) := dk_181 0 187 (dk_at dksX0_runTo_0 20 rfl rfl)
theorem dX0_runTo_23 : decode cX0_runTo 23 = .ok (.iconst 0, 1) := dk_3 (dk_at dksX0_runTo_0 23 rfl rfl)
theorem dX0_runTo_24 : decode cX0_runTo 24 = .ok (.istore_n 2, 1) := dk_61 (dk_at dksX0_runTo_1 0 rfl rfl)
theorem dX0_runTo_25 : decode cX0_runTo 25 = .ok (.iload_n 2, 1) := dk_28 (dk_at dksX0_runTo_1 1 rfl rfl)
theorem dX0_runTo_26 : decode cX0_runTo 26 = .ok (.iconst 4, 1) := dk_7 (dk_at dksX0_runTo_1 2 rfl rfl)
theorem dX0_runTo_27 : decode cX0_runTo 27 = .ok (.if_icmp .ge 23, 3) := dk_162 0 23 (dk_at dksX0_runTo_1 3 rfl rfl)
theorem dX0_runTo_30 : decode cX0_runTo 30 = .ok (.aload_n 0, 1) := dk_42 (dk_at dksX0_runTo_1 6 rfl rfl)
theorem dX0_runTo_31 : decode cX0_runTo 31 = .ok (.getfield 88, 3) := dk_180 0 88 (dk_at dksX0_runTo_1 7 rfl rfl)
theorem dX0_runTo_34 : decode cX0_runTo 34 = .ok (.iload_n 2, 1) := dk_28 (dk_at dksX0_runTo_1 10 rfl rfl)
theorem dX0_runTo_35 : decode cX0_runTo 35 = .ok (.iconst 0, 1) := dk_3 (dk_at dksX0_runTo_1 11 rfl rfl)
theorem dX0_runTo_36 : decode cX0_runTo 36 = .ok (.iastore, 1) := dk_79 (dk_at dksX0_runTo_1 12 rfl rfl)
theorem dX0_runTo_37 : decode cX0_runTo 37 = .ok (.aload_n 0, 1) := dk_42 (dk_at dksX0_runTo_1 13 rfl rfl)
theorem dX0_runTo_38 : decode cX0_runTo 38 = .ok (.getfield 91, 3) := dk_180 0 91 (dk_at dksX0_runTo_1 14 rfl rfl)
theorem dX0_runTo_41 : decode cX0_runTo 41 = .ok (.iload_n 2, 1) := dk_28 (dk_at dksX0_runTo_1 17 rfl rfl)
theorem dX0_runTo_42 : decode cX0_runTo 42 = .ok (.iconst 0, 1) := dk_3 (dk_at dksX0_runTo_1 18 rfl rfl)
theorem dX0_runTo_43 : decode cX0_runTo 43 = .ok (.bastore, 1) := dk_84 (dk_at dksX0_runTo_1 19 rfl rfl)
theorem dX0_runTo_44 : decode cX0_runTo 44 = .ok (.iinc 2 1, 3) := dk_132 2 1 (dk_at dksX0_runTo_1 20 rfl rfl)
theorem dX0_runTo_47 : decode cX0_runTo 47 = .ok (.goto (-22), 3) := dk_167 255 234 (dk_at dksX0_runTo_2 0 rfl rfl)
theorem dX0_runTo_50 : decode cX0_runTo 50 = .ok (.iconst 0, 1) := dk_3 (dk_at dksX0_runTo_2 3 rfl rfl)
theorem dX0_runTo_51 : decode cX0_runTo 51 = .ok (.istore_n 2, 1) := dk_61 (dk_at dksX0_runTo_2 4 rfl rfl)
theorem dX0_runTo_52 : decode cX0_runTo 52 = .ok (.iconst 1, 1) := dk_4 (dk_at dksX0_runTo_2 5 rfl rfl)
theorem dX0_runTo_53 : decode cX0_runTo 53 = .ok (.istore_n 3, 1) := dk_62 (dk_at dksX0_runTo_2 6 rfl rfl)
theorem dX0_runTo_54 : decode cX0_runTo 54 = .ok (.iload_n 3, 1) := dk_29 (dk_at dksX0_runTo_2 7 rfl rfl)
theorem dX0_runTo_55 : decode cX0_runTo 55 = .ok (.aload_n 0, 1) := dk_42 (dk_at dksX0_runTo_2 8 rfl rfl)
theorem dX0_runTo_56 : decode cX0_runTo 56 = .ok (.getfield 55, 3) := dk_180 0 55 (dk_at dksX0_runTo_2 9 rfl rfl)
theorem dX0_runTo_59 : decode cX0_runTo 59 = .ok (.getfield 206, 3) := dk_180 0 206 (dk_at dksX0_runTo_2 12 rfl rfl)
theorem dX0_runTo_62 : decode cX0_runTo 62 = .ok (.iload_n 1, 1) := dk_27 (dk_at dksX0_runTo_2 15 rfl rfl)
theorem dX0_runTo_63 : decode cX0_runTo 63 = .ok (.iaload, 1) := dk_46 (dk_at dksX0_runTo_2 16 rfl rfl)
theorem dX0_runTo_64 : decode cX0_runTo 64 = .ok (.if_icmp .gt 223, 3) := dk_163 0 223 (dk_at dksX0_runTo_2 17 rfl rfl)
theorem dX0_runTo_67 : decode cX0_runTo 67 = .ok (.iload_n 2, 1) := dk_28 (dk_at dksX0_runTo_2 20 rfl rfl)
theorem dX0_runTo_68 : decode cX0_runTo 68 = .ok (.ifCond .ne 219, 3) := dk_154 0 219 (dk_at dksX0_runTo_2 21 rfl rfl)
theorem dX0_runTo_71 : decode cX0_runTo 71 = .ok (.aload_n 0, 1) := dk_42 (dk_at dksX0_runTo_3 0 rfl rfl)
theorem dX0_runTo_72 : decode cX0_runTo 72 = .ok (.getfield 55, 3) := dk_180 0 55 (dk_at dksX0_runTo_3 1 rfl rfl)
theorem dX0_runTo_75 : decode cX0_runTo 75 = .ok (.iload_n 1, 1) := dk_27 (dk_at dksX0_runTo_3 4 rfl rfl)
theorem dX0_runTo_76 : decode cX0_runTo 76 = .ok (.iload_n 3, 1) := dk_29 (dk_at dksX0_runTo_3 5 rfl rfl)
theorem dX0_runTo_77 : decode cX0_runTo 77 = .ok (.invokevirtual 209, 3) := dk_182 0 209 (dk_at dksX0_runTo_3 6 rfl rfl)
theorem dX0_runTo_80 : decode cX0_runTo 80 = .ok (.istore 4, 2) := dk_54 4 (dk_at dksX0_runTo_3 9 rfl rfl)
theorem dX0_runTo_82 : decode cX0_runTo 82 = .ok (.aload_n 0, 1) := dk_42 (dk_at dksX0_runTo_3 11 rfl rfl)
theorem dX0_runTo_83 : decode cX0_runTo 83 = .ok (.iload 4, 2) := dk_21 4 (dk_at dksX0_runTo_3 12 rfl rfl)
theorem dX0_runTo_85 : decode cX0_runTo 85 = .ok (.invokevirtual 212, 3) := dk_182 0 212 (dk_at dksX0_runTo_3 14 rfl rfl)
theorem dX0_runTo_88 : decode cX0_runTo 88 = .ok (.istore 5, 2) := dk_54 5 (dk_at dksX0_runTo_3 17 rfl rfl)
theorem dX0_runTo_90 : decode cX0_runTo 90 = .ok (.iload 5, 2) := dk_21 5 (dk_at dksX0_runTo_3 19 rfl rfl)
theorem dX0_runTo_92 : decode cX0_runTo 92 = .ok (.bipush (-9), 2) := dk_16 247 (dk_at dksX0_runTo_3 21 rfl rfl)
theorem dX0_runTo_94 : decode cX0_runTo 94 = .ok (.if_icmp .ne 9, 3) := dk_160 0 9 (dk_at dksX0_runTo_4 0 rfl rfl)
theorem dX0_runTo_97 : decode cX0_runTo 97 = .ok (.iinc 3 1, 3) := dk_132 3 1 (dk_at dksX0_runTo_4 3 rfl rfl)
theorem dX0_runTo_100 : decode cX0_runTo 100 = .ok (.goto 184, 3) := dk_167 0 184 (dk_at dksX0_runTo_4 6 rfl rfl)
theorem dX0_runTo_103 : decode cX0_runTo 103 = .ok (.aload_n 0, 1) := dk_42 (dk_at dksX0_runTo_4 9 rfl rfl)
theorem dX0_runTo_104 : decode cX0_runTo 104 = .ok (.aload_n 0, 1) := dk_42 (dk_at dksX0_runTo_4 10 rfl rfl)
theorem dX0_runTo_105 : decode cX0_runTo 105 = .ok (.getfield 200, 3) := dk_180 0 200 (dk_at dksX0_runTo_4 11 rfl rfl)
theorem dX0_runTo_108 : decode cX0_runTo 108 = .ok (.bipush (-9), 2) := dk_16 247 (dk_at dksX0_runTo_4 14 rfl rfl)
theorem dX0_runTo_110 : decode cX0_runTo 110 = .ok (.if_icmp .ne 8, 3) := dk_160 0 8 (dk_at dksX0_runTo_4 16 rfl rfl)
theorem dX0_runTo_113 : decode cX0_runTo 113 = .ok (.iload 5, 2) := dk_21 5 (dk_at dksX0_runTo_4 19 rfl rfl)
theorem dX0_runTo_115 : decode cX0_runTo 115 = .ok (.goto 7, 3) := dk_167 0 7 (dk_at dksX0_runTo_4 21 rfl rfl)
theorem dX0_runTo_118 : decode cX0_runTo 118 = .ok (.aload_n 0, 1) := dk_42 (dk_at dksX0_runTo_5 0 rfl rfl)
theorem dX0_runTo_119 : decode cX0_runTo 119 = .ok (.getfield 203, 3) := dk_180 0 203 (dk_at dksX0_runTo_5 1 rfl rfl)
theorem dX0_runTo_122 : decode cX0_runTo 122 = .ok (.putfield 203, 3) := dk_181 0 203 (dk_at dksX0_runTo_5 4 rfl rfl)
theorem dX0_runTo_125 : decode cX0_runTo 125 = .ok (.aload_n 0, 1) := dk_42 (dk_at dksX0_runTo_5 7 rfl rfl)
theorem dX0_runTo_126 : decode cX0_runTo 126 = .ok (.aload_n 0, 1) := dk_42 (dk_at dksX0_runTo_5 8 rfl rfl)
theorem dX0_runTo_127 : decode cX0_runTo 127 = .ok (.getfield 200, 3) := dk_180 0 200 (dk_at dksX0_runTo_5 9 rfl rfl)
theorem dX0_runTo_130 : decode cX0_runTo 130 = .ok (.bipush (-9), 2) := dk_16 247 (dk_at dksX0_runTo_5 12 rfl rfl)
theorem dX0_runTo_132 : decode cX0_runTo 132 = .ok (.if_icmp .ne 8, 3) := dk_160 0 8 (dk_at dksX0_runTo_5 14 rfl rfl)
theorem dX0_runTo_135 : decode cX0_runTo 135 = .ok (.iload 4, 2) := dk_21 4 (dk_at dksX0_runTo_5 17 rfl rfl)
theorem dX0_runTo_137 : decode cX0_runTo 137 = .ok (.goto 7, 3) := dk_167 0 7 (dk_at dksX0_runTo_5 19 rfl rfl)
theorem dX0_runTo_140 : decode cX0_runTo 140 = .ok (.aload_n 0, 1) := dk_42 (dk_at dksX0_runTo_5 22 rfl rfl)
theorem dX0_runTo_141 : decode cX0_runTo 141 = .ok (.getfield 200, 3) := dk_180 0 200 (dk_at dksX0_runTo_6 0 rfl rfl)
theorem dX0_runTo_144 : decode cX0_runTo 144 = .ok (.putfield 200, 3) := dk_181 0 200 (dk_at dksX0_runTo_6 3 rfl rfl)
theorem dX0_runTo_147 : decode cX0_runTo 147 = .ok (.aload_n 0, 1) := dk_42 (dk_at dksX0_runTo_6 6 rfl rfl)
theorem dX0_runTo_148 : decode cX0_runTo 148 = .ok (.aload_n 0, 1) := dk_42 (dk_at dksX0_runTo_6 7 rfl rfl)
theorem dX0_runTo_149 : decode cX0_runTo 149 = .ok (.getfield 61, 3) := dk_180 0 61 (dk_at dksX0_runTo_6 8 rfl rfl)
theorem dX0_runTo_152 : decode cX0_runTo 152 = .ok (.iload 5, 2) := dk_21 5 (dk_at dksX0_runTo_6 11 rfl rfl)
theorem dX0_runTo_154 : decode cX0_runTo 154 = .ok (.aaload, 1) := dk_50 (dk_at dksX0_runTo_6 13 rfl rfl)
theorem dX0_runTo_155 : decode cX0_runTo 155 = .ok (.getfield 176, 3) := dk_180 0 176 (dk_at dksX0_runTo_6 14 rfl rfl)
theorem dX0_runTo_158 : decode cX0_runTo 158 = .ok (.iload 4, 2) := dk_21 4 (dk_at dksX0_runTo_6 17 rfl rfl)
theorem dX0_runTo_160 : decode cX0_runTo 160 = .ok (.invokevirtual 179, 3) := dk_182 0 179 (dk_at dksX0_runTo_6 19 rfl rfl)
theorem dX0_runTo_163 : decode cX0_runTo 163 = .ok (.aload_n 0, 1) := dk_42 (dk_at dksX0_runTo_6 22 rfl rfl)
theorem dX0_runTo_164 : decode cX0_runTo 164 = .ok (.getfield 55, 3) := dk_180 0 55 (dk_at dksX0_runTo_7 0 rfl rfl)
theorem dX0_runTo_167 : decode cX0_runTo 167 = .ok (.getfield 216, 3) := dk_180 0 216 (dk_at dksX0_runTo_7 3 rfl rfl)
theorem dX0_runTo_170 : decode cX0_runTo 170 = .ok (.iload_n 1, 1) := dk_27 (dk_at dksX0_runTo_7 6 rfl rfl)
theorem dX0_runTo_171 : decode cX0_runTo 171 = .ok (.iaload, 1) := dk_46 (dk_at dksX0_runTo_7 7 rfl rfl)
theorem dX0_runTo_172 : decode cX0_runTo 172 = .ok (.if_icmp .ne 49, 3) := dk_160 0 49 (dk_at dksX0_runTo_7 8 rfl rfl)
theorem dX0_runTo_175 : decode cX0_runTo 175 = .ok (.aload_n 0, 1) := dk_42 (dk_at dksX0_runTo_7 11 rfl rfl)
theorem dX0_runTo_176 : decode cX0_runTo 176 = .ok (.iload 5, 2) := dk_21 5 (dk_at dksX0_runTo_7 12 rfl rfl)
theorem dX0_runTo_178 : decode cX0_runTo 178 = .ok (.putfield 197, 3) := dk_181 0 197 (dk_at dksX0_runTo_7 14 rfl rfl)
theorem dX0_runTo_181 : decode cX0_runTo 181 = .ok (.aload_n 0, 1) := dk_42 (dk_at dksX0_runTo_7 17 rfl rfl)
theorem dX0_runTo_182 : decode cX0_runTo 182 = .ok (.getfield 88, 3) := dk_180 0 88 (dk_at dksX0_runTo_7 18 rfl rfl)
theorem dX0_runTo_185 : decode cX0_runTo 185 = .ok (.iload 5, 2) := dk_21 5 (dk_at dksX0_runTo_7 21 rfl rfl)
theorem dX0_runTo_187 : decode cX0_runTo 187 = .ok (.dup2, 1) := dk_92 (dk_at dksX0_runTo_7 23 rfl rfl)
theorem dX0_runTo_188 : decode cX0_runTo 188 = .ok (.iaload, 1) := dk_46 (dk_at dksX0_runTo_8 0 rfl rfl)
theorem dX0_runTo_189 : decode cX0_runTo 189 = .ok (.aload_n 0, 1) := dk_42 (dk_at dksX0_runTo_8 1 rfl rfl)
theorem dX0_runTo_190 : decode cX0_runTo 190 = .ok (.getfield 65, 3) := dk_180 0 65 (dk_at dksX0_runTo_8 2 rfl rfl)
theorem dX0_runTo_193 : decode cX0_runTo 193 = .ok (.iconst 0, 1) := dk_3 (dk_at dksX0_runTo_8 5 rfl rfl)
theorem dX0_runTo_194 : decode cX0_runTo 194 = .ok (.iaload, 1) := dk_46 (dk_at dksX0_runTo_8 6 rfl rfl)
theorem dX0_runTo_195 : decode cX0_runTo 195 = .ok (.aload_n 0, 1) := dk_42 (dk_at dksX0_runTo_8 7 rfl rfl)
theorem dX0_runTo_196 : decode cX0_runTo 196 = .ok (.getfield 65, 3) := dk_180 0 65 (dk_at dksX0_runTo_8 8 rfl rfl)
theorem dX0_runTo_199 : decode cX0_runTo 199 = .ok (.iconst 2, 1) := dk_5 (dk_at dksX0_runTo_8 11 rfl rfl)
theorem dX0_runTo_200 : decode cX0_runTo 200 = .ok (.iaload, 1) := dk_46 (dk_at dksX0_runTo_8 12 rfl rfl)
theorem dX0_runTo_201 : decode cX0_runTo 201 = .ok (.aload_n 0, 1) := dk_42 (dk_at dksX0_runTo_8 13 rfl rfl)
theorem dX0_runTo_202 : decode cX0_runTo 202 = .ok (.getfield 55, 3) := dk_180 0 55 (dk_at dksX0_runTo_8 14 rfl rfl)
theorem dX0_runTo_205 : decode cX0_runTo 205 = .ok (.getfield 206, 3) := dk_180 0 206 (dk_at dksX0_runTo_8 17 rfl rfl)
theorem dX0_runTo_208 : decode cX0_runTo 208 = .ok (.iload_n 1, 1) := dk_27 (dk_at dksX0_runTo_8 20 rfl rfl)
theorem dX0_runTo_209 : decode cX0_runTo 209 = .ok (.iaload, 1) := dk_46 (dk_at dksX0_runTo_8 21 rfl rfl)
theorem dX0_runTo_210 : decode cX0_runTo 210 = .ok (.iload_n 3, 1) := dk_29 (dk_at dksX0_runTo_8 22 rfl rfl)
theorem dX0_runTo_211 : decode cX0_runTo 211 = .ok (.isub, 1) := dk_100 (dk_at dksX0_runTo_8 23 rfl rfl)
theorem dX0_runTo_212 : decode cX0_runTo 212 = .ok (.imul, 1) := dk_104 (dk_at dksX0_runTo_9 0 rfl rfl)
theorem dX0_runTo_213 : decode cX0_runTo 213 = .ok (.iadd, 1) := dk_96 (dk_at dksX0_runTo_9 1 rfl rfl)
theorem dX0_runTo_214 : decode cX0_runTo 214 = .ok (.iadd, 1) := dk_96 (dk_at dksX0_runTo_9 2 rfl rfl)
theorem dX0_runTo_215 : decode cX0_runTo 215 = .ok (.iastore, 1) := dk_79 (dk_at dksX0_runTo_9 3 rfl rfl)
theorem dX0_runTo_216 : decode cX0_runTo 216 = .ok (.iconst 1, 1) := dk_4 (dk_at dksX0_runTo_9 4 rfl rfl)
theorem dX0_runTo_217 : decode cX0_runTo 217 = .ok (.istore_n 2, 1) := dk_61 (dk_at dksX0_runTo_9 5 rfl rfl)
theorem dX0_runTo_218 : decode cX0_runTo 218 = .ok (.goto 66, 3) := dk_167 0 66 (dk_at dksX0_runTo_9 6 rfl rfl)
theorem dX0_runTo_221 : decode cX0_runTo 221 = .ok (.aload_n 0, 1) := dk_42 (dk_at dksX0_runTo_9 9 rfl rfl)
theorem dX0_runTo_222 : decode cX0_runTo 222 = .ok (.getfield 88, 3) := dk_180 0 88 (dk_at dksX0_runTo_9 10 rfl rfl)
theorem dX0_runTo_225 : decode cX0_runTo 225 = .ok (.iload 5, 2) := dk_21 5 (dk_at dksX0_runTo_9 13 rfl rfl)
theorem dX0_runTo_227 : decode cX0_runTo 227 = .ok (.dup2, 1) := dk_92 (dk_at dksX0_runTo_9 15 rfl rfl)
theorem dX0_runTo_228 : decode cX0_runTo 228 = .ok (.iaload, 1) := dk_46 (dk_at dksX0_runTo_9 16 rfl rfl)
theorem dX0_runTo_229 : decode cX0_runTo 229 = .ok (.aload_n 0, 1) := dk_42 (dk_at dksX0_runTo_9 17 rfl rfl)
theorem dX0_runTo_230 : decode cX0_runTo 230 = .ok (.getfield 65, 3) := dk_180 0 65 (dk_at dksX0_runTo_9 18 rfl rfl)
theorem dX0_runTo_233 : decode cX0_runTo 233 = .ok (.iconst 1, 1) := dk_4 (dk_at dksX0_runTo_9 21 rfl rfl)
theorem dX0_runTo_234 : decode cX0_runTo 234 = .ok (.iaload, 1) := dk_46 (dk_at dksX0_runTo_9 22 rfl rfl)
theorem dX0_runTo_235 : decode cX0_runTo 235 = .ok (.isub, 1) := dk_100 (dk_at dksX0_runTo_9 23 rfl rfl)
theorem dX0_runTo_236 : decode cX0_runTo 236 = .ok (.iastore, 1) := dk_79 (dk_at dksX0_runTo_10 0 rfl rfl)
theorem dX0_runTo_237 : decode cX0_runTo 237 = .ok (.aload_n 0, 1) := dk_42 (dk_at dksX0_runTo_10 1 rfl rfl)
theorem dX0_runTo_238 : decode cX0_runTo 238 = .ok (.getfield 91, 3) := dk_180 0 91 (dk_at dksX0_runTo_10 2 rfl rfl)
theorem dX0_runTo_241 : decode cX0_runTo 241 = .ok (.iload 5, 2) := dk_21 5 (dk_at dksX0_runTo_10 5 rfl rfl)
theorem dX0_runTo_243 : decode cX0_runTo 243 = .ok (.iconst 1, 1) := dk_4 (dk_at dksX0_runTo_10 7 rfl rfl)
theorem dX0_runTo_244 : decode cX0_runTo 244 = .ok (.bastore, 1) := dk_84 (dk_at dksX0_runTo_10 8 rfl rfl)
theorem dX0_runTo_245 : decode cX0_runTo 245 = .ok (.aload_n 0, 1) := dk_42 (dk_at dksX0_runTo_10 9 rfl rfl)
theorem dX0_runTo_246 : decode cX0_runTo 246 = .ok (.dup, 1) := dk_89 (dk_at dksX0_runTo_10 10 rfl rfl)
theorem dX0_runTo_247 : decode cX0_runTo 247 = .ok (.getfield 187, 3) := dk_180 0 187 (dk_at dksX0_runTo_10 11 rfl rfl)
theorem dX0_runTo_250 : decode cX0_runTo 250 = .ok (.iconst 1, 1) := dk_4 (dk_at dksX0_runTo_10 14 rfl rfl)
theorem dX0_runTo_251 : decode cX0_runTo 251 = .ok (.iadd, 1) := dk_96 (dk_at dksX0_runTo_10 15 rfl rfl)
theorem dX0_runTo_252 : decode cX0_runTo 252 = .ok (.putfield 187, 3) := dk_181 0 187 (dk_at dksX0_runTo_10 16 rfl rfl)
theorem dX0_runTo_255 : decode cX0_runTo 255 = .ok (.aload_n 0, 1) := dk_42 (dk_at dksX0_runTo_10 19 rfl rfl)
theorem dX0_runTo_256 : decode cX0_runTo 256 = .ok (.getfield 65, 3) := dk_180 0 65 (dk_at dksX0_runTo_10 20 rfl rfl)
theorem dX0_runTo_259 : decode cX0_runTo 259 = .ok (.iconst 3, 1) := dk_6 (dk_at dksX0_runTo_10 23 rfl rfl)
theorem dX0_runTo_260 : decode cX0_runTo 260 = .ok (.iaload, 1) := dk_46 (dk_at dksX0_runTo_11 0 rfl rfl)
theorem dX0_runTo_261 : decode cX0_runTo 261 = .ok (.ifCond .ne 7, 3) := dk_154 0 7 (dk_at dksX0_runTo_11 1 rfl rfl)
theorem dX0_runTo_264 : decode cX0_runTo 264 = .ok (.iconst 1, 1) := dk_4 (dk_at dksX0_runTo_11 4 rfl rfl)
theorem dX0_runTo_265 : decode cX0_runTo 265 = .ok (.goto 4, 3) := dk_167 0 4 (dk_at dksX0_runTo_11 5 rfl rfl)
theorem dX0_runTo_268 : decode cX0_runTo 268 = .ok (.iconst 0, 1) := dk_3 (dk_at dksX0_runTo_11 8 rfl rfl)
theorem dX0_runTo_269 : decode cX0_runTo 269 = .ok (.istore_n 2, 1) := dk_61 (dk_at dksX0_runTo_11 9 rfl rfl)
theorem dX0_runTo_270 : decode cX0_runTo 270 = .ok (.iload_n 3, 1) := dk_29 (dk_at dksX0_runTo_11 10 rfl rfl)
theorem dX0_runTo_271 : decode cX0_runTo 271 = .ok (.iload 4, 2) := dk_21 4 (dk_at dksX0_runTo_11 11 rfl rfl)
theorem dX0_runTo_273 : decode cX0_runTo 273 = .ok (.iload_n 1, 1) := dk_27 (dk_at dksX0_runTo_11 13 rfl rfl)
theorem dX0_runTo_274 : decode cX0_runTo 274 = .ok (.if_icmp .ne 7, 3) := dk_160 0 7 (dk_at dksX0_runTo_11 14 rfl rfl)
theorem dX0_runTo_277 : decode cX0_runTo 277 = .ok (.iconst 0, 1) := dk_3 (dk_at dksX0_runTo_11 17 rfl rfl)
theorem dX0_runTo_278 : decode cX0_runTo 278 = .ok (.goto 4, 3) := dk_167 0 4 (dk_at dksX0_runTo_11 18 rfl rfl)
theorem dX0_runTo_281 : decode cX0_runTo 281 = .ok (.iconst 1, 1) := dk_4 (dk_at dksX0_runTo_11 21 rfl rfl)
theorem dX0_runTo_282 : decode cX0_runTo 282 = .ok (.iadd, 1) := dk_96 (dk_at dksX0_runTo_11 22 rfl rfl)
theorem dX0_runTo_283 : decode cX0_runTo 283 = .ok (.istore_n 3, 1) := dk_62 (dk_at dksX0_runTo_11 23 rfl rfl)
theorem dX0_runTo_284 : decode cX0_runTo 284 = .ok (.goto (-230), 3) := dk_167 255 26 (dk_at dksX0_runTo_12 0 rfl rfl)
theorem dX0_runTo_287 : decode cX0_runTo 287 = .ok (.return_, 1) := dk_177 (dk_at dksX0_runTo_12 3 rfl rfl)
abbrev cX0_quickest : ByteArray := prog_1_method_12_code
def yX0_quickest : MethodName := ⟨RX0, "quickest", "(I)I"⟩
def dkwX0_quickest_4 : List UInt8 := [167, 255, 165, 28, 172]
abbrev dktX0_quickest_4 : List UInt8 := dkwX0_quickest_4 ++ []
def dkwX0_quickest_3 : List UInt8 := [180, 0, 194, 42, 180, 0, 61, 28, 50, 180, 0, 194, 162, 0, 7, 29, 167, 0, 4, 28, 61, 132, 3, 1]
abbrev dktX0_quickest_3 : List UInt8 := dkwX0_quickest_3 ++ dktX0_quickest_4
def dkwX0_quickest_2 : List UInt8 := [4, 167, 0, 4, 3, 54, 4, 21, 4, 153, 0, 34, 28, 16, 247, 159, 0, 24, 42, 180, 0, 61, 29, 50]
abbrev dktX0_quickest_2 : List UInt8 := dkwX0_quickest_2 ++ dktX0_quickest_3
def dkwX0_quickest_1 : List UInt8 := [180, 0, 61, 29, 50, 27, 42, 180, 0, 187, 158, 0, 7, 4, 167, 0, 4, 3, 182, 0, 190, 153, 0, 7]
abbrev dktX0_quickest_1 : List UInt8 := dkwX0_quickest_1 ++ dktX0_quickest_2
def dkwX0_quickest_0 : List UInt8 := [16, 247, 61, 3, 62, 29, 42, 180, 0, 136, 162, 0, 89, 42, 180, 0, 91, 29, 51, 154, 0, 33, 42, 42]
abbrev dktX0_quickest_0 : List UInt8 := dkwX0_quickest_0 ++ dktX0_quickest_1
theorem dksX0_quickest_0 : cX0_quickest.data.toList.drop 0 = dktX0_quickest_0 := by decide +kernel
theorem dksX0_quickest_1 : cX0_quickest.data.toList.drop 24 = dktX0_quickest_1 := dk_seg dksX0_quickest_0 24 rfl rfl
theorem dksX0_quickest_2 : cX0_quickest.data.toList.drop 48 = dktX0_quickest_2 := dk_seg dksX0_quickest_1 24 rfl rfl
theorem dksX0_quickest_3 : cX0_quickest.data.toList.drop 72 = dktX0_quickest_3 := dk_seg dksX0_quickest_2 24 rfl rfl
theorem dksX0_quickest_4 : cX0_quickest.data.toList.drop 96 = dktX0_quickest_4 := dk_seg dksX0_quickest_3 24 rfl rfl
theorem dX0_quickest_0 : decode cX0_quickest 0 = .ok (.bipush (-9), 2) := dk_16 247 (dk_at dksX0_quickest_0 0 rfl rfl)
theorem dX0_quickest_2 : decode cX0_quickest 2 = .ok (.istore_n 2, 1) := dk_61 (dk_at dksX0_quickest_0 2 rfl rfl)
theorem dX0_quickest_3 : decode cX0_quickest 3 = .ok (.iconst 0, 1) := dk_3 (dk_at dksX0_quickest_0 3 rfl rfl)
theorem dX0_quickest_4 : decode cX0_quickest 4 = .ok (.istore_n 3, 1) := dk_62 (dk_at dksX0_quickest_0 4 rfl rfl)
theorem dX0_quickest_5 : decode cX0_quickest 5 = .ok (.iload_n 3, 1) := dk_29 (dk_at dksX0_quickest_0 5 rfl rfl)
theorem dX0_quickest_6 : decode cX0_quickest 6 = .ok (.aload_n 0, 1) := dk_42 (dk_at dksX0_quickest_0 6 rfl rfl)
theorem dX0_quickest_7 : decode cX0_quickest 7 = .ok (.getfield 136, 3) := dk_180 0 136 (dk_at dksX0_quickest_0 7 rfl rfl)
theorem dX0_quickest_10 : decode cX0_quickest 10 = .ok (.if_icmp .ge 89, 3) := dk_162 0 89 (dk_at dksX0_quickest_0 10 rfl rfl)
theorem dX0_quickest_13 : decode cX0_quickest 13 = .ok (.aload_n 0, 1) := dk_42 (dk_at dksX0_quickest_0 13 rfl rfl)
theorem dX0_quickest_14 : decode cX0_quickest 14 = .ok (.getfield 91, 3) := dk_180 0 91 (dk_at dksX0_quickest_0 14 rfl rfl)
theorem dX0_quickest_17 : decode cX0_quickest 17 = .ok (.iload_n 3, 1) := dk_29 (dk_at dksX0_quickest_0 17 rfl rfl)
theorem dX0_quickest_18 : decode cX0_quickest 18 = .ok (.baload, 1) := dk_51 (dk_at dksX0_quickest_0 18 rfl rfl)
theorem dX0_quickest_19 : decode cX0_quickest 19 = .ok (.ifCond .ne 33, 3) := dk_154 0 33 (dk_at dksX0_quickest_0 19 rfl rfl)
theorem dX0_quickest_22 : decode cX0_quickest 22 = .ok (.aload_n 0, 1) := dk_42 (dk_at dksX0_quickest_0 22 rfl rfl)
theorem dX0_quickest_23 : decode cX0_quickest 23 = .ok (.aload_n 0, 1) := dk_42 (dk_at dksX0_quickest_0 23 rfl rfl)
theorem dX0_quickest_24 : decode cX0_quickest 24 = .ok (.getfield 61, 3) := dk_180 0 61 (dk_at dksX0_quickest_1 0 rfl rfl)
theorem dX0_quickest_27 : decode cX0_quickest 27 = .ok (.iload_n 3, 1) := dk_29 (dk_at dksX0_quickest_1 3 rfl rfl)
theorem dX0_quickest_28 : decode cX0_quickest 28 = .ok (.aaload, 1) := dk_50 (dk_at dksX0_quickest_1 4 rfl rfl)
theorem dX0_quickest_29 : decode cX0_quickest 29 = .ok (.iload_n 1, 1) := dk_27 (dk_at dksX0_quickest_1 5 rfl rfl)
theorem dX0_quickest_30 : decode cX0_quickest 30 = .ok (.aload_n 0, 1) := dk_42 (dk_at dksX0_quickest_1 6 rfl rfl)
theorem dX0_quickest_31 : decode cX0_quickest 31 = .ok (.getfield 187, 3) := dk_180 0 187 (dk_at dksX0_quickest_1 7 rfl rfl)
theorem dX0_quickest_34 : decode cX0_quickest 34 = .ok (.ifCond .le 7, 3) := dk_158 0 7 (dk_at dksX0_quickest_1 10 rfl rfl)
theorem dX0_quickest_37 : decode cX0_quickest 37 = .ok (.iconst 1, 1) := dk_4 (dk_at dksX0_quickest_1 13 rfl rfl)
theorem dX0_quickest_38 : decode cX0_quickest 38 = .ok (.goto 4, 3) := dk_167 0 4 (dk_at dksX0_quickest_1 14 rfl rfl)
theorem dX0_quickest_41 : decode cX0_quickest 41 = .ok (.iconst 0, 1) := dk_3 (dk_at dksX0_quickest_1 17 rfl rfl)
theorem dX0_quickest_42 : decode cX0_quickest 42 = .ok (.invokevirtual 190, 3) := dk_182 0 190 (dk_at dksX0_quickest_1 18 rfl rfl)
theorem dX0_quickest_45 : decode cX0_quickest 45 = .ok (.ifCond .eq 7, 3) := dk_153 0 7 (dk_at dksX0_quickest_1 21 rfl rfl)
theorem dX0_quickest_48 : decode cX0_quickest 48 = .ok (.iconst 1, 1) := dk_4 (dk_at dksX0_quickest_2 0 rfl rfl)
theorem dX0_quickest_49 : decode cX0_quickest 49 = .ok (.goto 4, 3) := dk_167 0 4 (dk_at dksX0_quickest_2 1 rfl rfl)
theorem dX0_quickest_52 : decode cX0_quickest 52 = .ok (.iconst 0, 1) := dk_3 (dk_at dksX0_quickest_2 4 rfl rfl)
theorem dX0_quickest_53 : decode cX0_quickest 53 = .ok (.istore 4, 2) := dk_54 4 (dk_at dksX0_quickest_2 5 rfl rfl)
theorem dX0_quickest_55 : decode cX0_quickest 55 = .ok (.iload 4, 2) := dk_21 4 (dk_at dksX0_quickest_2 7 rfl rfl)
theorem dX0_quickest_57 : decode cX0_quickest 57 = .ok (.ifCond .eq 34, 3) := dk_153 0 34 (dk_at dksX0_quickest_2 9 rfl rfl)
theorem dX0_quickest_60 : decode cX0_quickest 60 = .ok (.iload_n 2, 1) := dk_28 (dk_at dksX0_quickest_2 12 rfl rfl)
theorem dX0_quickest_61 : decode cX0_quickest 61 = .ok (.bipush (-9), 2) := dk_16 247 (dk_at dksX0_quickest_2 13 rfl rfl)
theorem dX0_quickest_63 : decode cX0_quickest 63 = .ok (.if_icmp .eq 24, 3) := dk_159 0 24 (dk_at dksX0_quickest_2 15 rfl rfl)
theorem dX0_quickest_66 : decode cX0_quickest 66 = .ok (.aload_n 0, 1) := dk_42 (dk_at dksX0_quickest_2 18 rfl rfl)
theorem dX0_quickest_67 : decode cX0_quickest 67 = .ok (.getfield 61, 3) := dk_180 0 61 (dk_at dksX0_quickest_2 19 rfl rfl)
theorem dX0_quickest_70 : decode cX0_quickest 70 = .ok (.iload_n 3, 1) := dk_29 (dk_at dksX0_quickest_2 22 rfl rfl)
theorem dX0_quickest_71 : decode cX0_quickest 71 = .ok (.aaload, 1) := dk_50 (dk_at dksX0_quickest_2 23 rfl rfl)
theorem dX0_quickest_72 : decode cX0_quickest 72 = .ok (.getfield 194, 3) := dk_180 0 194 (dk_at dksX0_quickest_3 0 rfl rfl)
theorem dX0_quickest_75 : decode cX0_quickest 75 = .ok (.aload_n 0, 1) := dk_42 (dk_at dksX0_quickest_3 3 rfl rfl)
theorem dX0_quickest_76 : decode cX0_quickest 76 = .ok (.getfield 61, 3) := dk_180 0 61 (dk_at dksX0_quickest_3 4 rfl rfl)
theorem dX0_quickest_79 : decode cX0_quickest 79 = .ok (.iload_n 2, 1) := dk_28 (dk_at dksX0_quickest_3 7 rfl rfl)
theorem dX0_quickest_80 : decode cX0_quickest 80 = .ok (.aaload, 1) := dk_50 (dk_at dksX0_quickest_3 8 rfl rfl)
theorem dX0_quickest_81 : decode cX0_quickest 81 = .ok (.getfield 194, 3) := dk_180 0 194 (dk_at dksX0_quickest_3 9 rfl rfl)
theorem dX0_quickest_84 : decode cX0_quickest 84 = .ok (.if_icmp .ge 7, 3) := dk_162 0 7 (dk_at dksX0_quickest_3 12 rfl rfl)
theorem dX0_quickest_87 : decode cX0_quickest 87 = .ok (.iload_n 3, 1) := dk_29 (dk_at dksX0_quickest_3 15 rfl rfl)
theorem dX0_quickest_88 : decode cX0_quickest 88 = .ok (.goto 4, 3) := dk_167 0 4 (dk_at dksX0_quickest_3 16 rfl rfl)
theorem dX0_quickest_91 : decode cX0_quickest 91 = .ok (.iload_n 2, 1) := dk_28 (dk_at dksX0_quickest_3 19 rfl rfl)
theorem dX0_quickest_92 : decode cX0_quickest 92 = .ok (.istore_n 2, 1) := dk_61 (dk_at dksX0_quickest_3 20 rfl rfl)
theorem dX0_quickest_93 : decode cX0_quickest 93 = .ok (.iinc 3 1, 3) := dk_132 3 1 (dk_at dksX0_quickest_3 21 rfl rfl)
theorem dX0_quickest_96 : decode cX0_quickest 96 = .ok (.goto (-91), 3) := dk_167 255 165 (dk_at dksX0_quickest_4 0 rfl rfl)
theorem dX0_quickest_99 : decode cX0_quickest 99 = .ok (.iload_n 2, 1) := dk_28 (dk_at dksX0_quickest_4 3 rfl rfl)
theorem dX0_quickest_100 : decode cX0_quickest 100 = .ok (.ireturn, 1) := dk_172 (dk_at dksX0_quickest_4 4 rfl rfl)
abbrev cX0_replyOf : ByteArray := prog_1_method_18_code
def yX0_replyOf : MethodName := ⟨RX0, "replyOf", "(II)I"⟩
def dkwX0_replyOf_10 : List UInt8 := [132, 9, 1, 167, 255, 79, 132, 8, 1, 167, 255, 58, 42, 180, 0, 61, 27, 45, 83, 21, 5, 172]
abbrev dktX0_replyOf_10 : List UInt8 := dkwX0_replyOf_10 ++ []
def dkwX0_replyOf_9 : List UInt8 := [157, 0, 16, 22, 12, 22, 6, 148, 154, 0, 16, 21, 15, 153, 0, 11, 21, 10, 54, 5, 22, 12, 55, 6]
abbrev dktX0_replyOf_9 : List UInt8 := dkwX0_replyOf_9 ++ dktX0_replyOf_10
def dkwX0_replyOf_8 : List UInt8 := [21, 5, 162, 0, 7, 4, 167, 0, 4, 3, 54, 15, 21, 14, 154, 0, 24, 22, 12, 22, 6, 148]
abbrev dktX0_replyOf_8 : List UInt8 := dkwX0_replyOf_8 ++ dktX0_replyOf_9
def dkwX0_replyOf_7 : List UInt8 := [21, 5, 184, 0, 254, 161, 0, 23, 21, 10, 184, 0, 254, 21, 5, 184, 0, 254, 160, 0, 14, 21, 10]
abbrev dktX0_replyOf_7 : List UInt8 := dkwX0_replyOf_7 ++ dktX0_replyOf_8
def dkwX0_replyOf_6 : List UInt8 := [180, 0, 99, 27, 47, 55, 12, 21, 8, 154, 0, 7, 4, 167, 0, 4, 3, 54, 14, 21, 10, 184, 0, 254]
abbrev dktX0_replyOf_6 : List UInt8 := dkwX0_replyOf_6 ++ dktX0_replyOf_7
def dkwX0_replyOf_5 : List UInt8 := [4, 167, 0, 4, 3, 54, 11, 21, 11, 153, 0, 108, 25, 4, 21, 10, 181, 1, 1, 42, 182, 1, 4, 42]
abbrev dktX0_replyOf_5 : List UInt8 := dkwX0_replyOf_5 ++ dktX0_replyOf_6
def dkwX0_replyOf_4 : List UInt8 := [128, 54, 10, 21, 10, 184, 0, 254, 28, 163, 0, 19, 21, 9, 21, 8, 160, 0, 8, 21, 8, 154, 0, 7]
abbrev dktX0_replyOf_4 : List UInt8 := dkwX0_replyOf_4 ++ dktX0_replyOf_5
def dkwX0_replyOf_3 : List UInt8 := [154, 0, 7, 3, 167, 0, 7, 4, 21, 8, 120, 21, 9, 154, 0, 7, 3, 167, 0, 7, 4, 21, 9, 120]
abbrev dktX0_replyOf_3 : List UInt8 := dkwX0_replyOf_3 ++ dktX0_replyOf_4
def dkwX0_replyOf_2 : List UInt8 := [42, 180, 0, 55, 180, 0, 226, 162, 0, 192, 3, 54, 9, 21, 9, 21, 8, 163, 0, 176, 21, 8]
abbrev dktX0_replyOf_2 : List UInt8 := dkwX0_replyOf_2 ++ dktX0_replyOf_3
def dkwX0_replyOf_1 : List UInt8 := [183, 0, 43, 58, 4, 42, 180, 0, 61, 27, 25, 4, 83, 3, 54, 5, 9, 55, 6, 3, 54, 8, 21, 8]
abbrev dktX0_replyOf_1 : List UInt8 := dkwX0_replyOf_1 ++ dktX0_replyOf_2
def dkwX0_replyOf_0 : List UInt8 := [42, 180, 0, 61, 27, 50, 78, 187, 0, 41, 89, 45, 180, 0, 194, 45, 180, 0, 251, 45, 180, 0, 176]
abbrev dktX0_replyOf_0 : List UInt8 := dkwX0_replyOf_0 ++ dktX0_replyOf_1
theorem dksX0_replyOf_0 : cX0_replyOf.data.toList.drop 0 = dktX0_replyOf_0 := by decide +kernel
theorem dksX0_replyOf_1 : cX0_replyOf.data.toList.drop 23 = dktX0_replyOf_1 := dk_seg dksX0_replyOf_0 23 rfl rfl
theorem dksX0_replyOf_2 : cX0_replyOf.data.toList.drop 47 = dktX0_replyOf_2 := dk_seg dksX0_replyOf_1 24 rfl rfl
theorem dksX0_replyOf_3 : cX0_replyOf.data.toList.drop 69 = dktX0_replyOf_3 := dk_seg dksX0_replyOf_2 22 rfl rfl
theorem dksX0_replyOf_4 : cX0_replyOf.data.toList.drop 93 = dktX0_replyOf_4 := dk_seg dksX0_replyOf_3 24 rfl rfl
theorem dksX0_replyOf_5 : cX0_replyOf.data.toList.drop 117 = dktX0_replyOf_5 := dk_seg dksX0_replyOf_4 24 rfl rfl
theorem dksX0_replyOf_6 : cX0_replyOf.data.toList.drop 141 = dktX0_replyOf_6 := dk_seg dksX0_replyOf_5 24 rfl rfl
theorem dksX0_replyOf_7 : cX0_replyOf.data.toList.drop 165 = dktX0_replyOf_7 := dk_seg dksX0_replyOf_6 24 rfl rfl
theorem dksX0_replyOf_8 : cX0_replyOf.data.toList.drop 188 = dktX0_replyOf_8 := dk_seg dksX0_replyOf_7 23 rfl rfl
theorem dksX0_replyOf_9 : cX0_replyOf.data.toList.drop 210 = dktX0_replyOf_9 := dk_seg dksX0_replyOf_8 22 rfl rfl
theorem dksX0_replyOf_10 : cX0_replyOf.data.toList.drop 234 = dktX0_replyOf_10 := dk_seg dksX0_replyOf_9 24 rfl rfl
theorem dX0_replyOf_0 : decode cX0_replyOf 0 = .ok (.aload_n 0, 1) := dk_42 (dk_at dksX0_replyOf_0 0 rfl rfl)
theorem dX0_replyOf_1 : decode cX0_replyOf 1 = .ok (.getfield 61, 3) := dk_180 0 61 (dk_at dksX0_replyOf_0 1 rfl rfl)
theorem dX0_replyOf_4 : decode cX0_replyOf 4 = .ok (.iload_n 1, 1) := dk_27 (dk_at dksX0_replyOf_0 4 rfl rfl)
theorem dX0_replyOf_5 : decode cX0_replyOf 5 = .ok (.aaload, 1) := dk_50 (dk_at dksX0_replyOf_0 5 rfl rfl)
theorem dX0_replyOf_6 : decode cX0_replyOf 6 = .ok (.astore_n 3, 1) := dk_78 (dk_at dksX0_replyOf_0 6 rfl rfl)
theorem dX0_replyOf_7 : decode cX0_replyOf 7 = .ok (.new 41, 3) := dk_187 0 41 (dk_at dksX0_replyOf_0 7 rfl rfl)
theorem dX0_replyOf_10 : decode cX0_replyOf 10 = .ok (.dup, 1) := dk_89 (dk_at dksX0_replyOf_0 10 rfl rfl)
theorem dX0_replyOf_11 : decode cX0_replyOf 11 = .ok (.aload_n 3, 1) := dk_45 (dk_at dksX0_replyOf_0 11 rfl rfl)
theorem dX0_replyOf_12 : decode cX0_replyOf 12 = .ok (.getfield 194, 3) := dk_180 0 194 (dk_at dksX0_replyOf_0 12 rfl rfl)
theorem dX0_replyOf_15 : decode cX0_replyOf 15 = .ok (.aload_n 3, 1) := dk_45 (dk_at dksX0_replyOf_0 15 rfl rfl)
theorem dX0_replyOf_16 : decode cX0_replyOf 16 = .ok (.getfield 251, 3) := dk_180 0 251 (dk_at dksX0_replyOf_0 16 rfl rfl)
theorem dX0_replyOf_19 : decode cX0_replyOf 19 = .ok (.aload_n 3, 1) := dk_45 (dk_at dksX0_replyOf_0 19 rfl rfl)
theorem dX0_replyOf_20 : decode cX0_replyOf 20 = .ok (.getfield 176, 3) := dk_180 0 176 (dk_at dksX0_replyOf_0 20 rfl rfl)
theorem dX0_replyOf_23 : decode cX0_replyOf 23 = .ok (.invokespecial 43, 3) := dk_183 0 43 (dk_at dksX0_replyOf_1 0 rfl rfl)
theorem dX0_replyOf_26 : decode cX0_replyOf 26 = .ok (.astore 4, 2) := dk_58 4 (dk_at dksX0_replyOf_1 3 rfl rfl)
theorem dX0_replyOf_28 : decode cX0_replyOf 28 = .ok (.aload_n 0, 1) := dk_42 (dk_at dksX0_replyOf_1 5 rfl rfl)
theorem dX0_replyOf_29 : decode cX0_replyOf 29 = .ok (.getfield 61, 3) := dk_180 0 61 (dk_at dksX0_replyOf_1 6 rfl rfl)
theorem dX0_replyOf_32 : decode cX0_replyOf 32 = .ok (.iload_n 1, 1) := dk_27 (dk_at dksX0_replyOf_1 9 rfl rfl)
theorem dX0_replyOf_33 : decode cX0_replyOf 33 = .ok (.aload 4, 2) := dk_25 4 (dk_at dksX0_replyOf_1 10 rfl rfl)
theorem dX0_replyOf_35 : decode cX0_replyOf 35 = .ok (.aastore, 1) := dk_83 (dk_at dksX0_replyOf_1 12 rfl rfl)
theorem dX0_replyOf_36 : decode cX0_replyOf 36 = .ok (.iconst 0, 1) := dk_3 (dk_at dksX0_replyOf_1 13 rfl rfl)
theorem dX0_replyOf_37 : decode cX0_replyOf 37 = .ok (.istore 5, 2) := dk_54 5 (dk_at dksX0_replyOf_1 14 rfl rfl)
theorem dX0_replyOf_39 : decode cX0_replyOf 39 = .ok (.lconst 0, 1) := dk_9 (dk_at dksX0_replyOf_1 16 rfl rfl)
theorem dX0_replyOf_40 : decode cX0_replyOf 40 = .ok (.lstore 6, 2) := dk_55 6 (dk_at dksX0_replyOf_1 17 rfl rfl)
theorem dX0_replyOf_42 : decode cX0_replyOf 42 = .ok (.iconst 0, 1) := dk_3 (dk_at dksX0_replyOf_1 19 rfl rfl)
theorem dX0_replyOf_43 : decode cX0_replyOf 43 = .ok (.istore 8, 2) := dk_54 8 (dk_at dksX0_replyOf_1 20 rfl rfl)
theorem dX0_replyOf_45 : decode cX0_replyOf 45 = .ok (.iload 8, 2) := dk_21 8 (dk_at dksX0_replyOf_1 22 rfl rfl)
theorem dX0_replyOf_47 : decode cX0_replyOf 47 = .ok (.aload_n 0, 1) := dk_42 (dk_at dksX0_replyOf_2 0 rfl rfl)
theorem dX0_replyOf_48 : decode cX0_replyOf 48 = .ok (.getfield 55, 3) := dk_180 0 55 (dk_at dksX0_replyOf_2 1 rfl rfl)
theorem dX0_replyOf_51 : decode cX0_replyOf 51 = .ok (.getfield 226, 3) := dk_180 0 226 (dk_at dksX0_replyOf_2 4 rfl rfl)
theorem dX0_replyOf_54 : decode cX0_replyOf 54 = .ok (.if_icmp .ge 192, 3) := dk_162 0 192 (dk_at dksX0_replyOf_2 7 rfl rfl)
theorem dX0_replyOf_57 : decode cX0_replyOf 57 = .ok (.iconst 0, 1) := dk_3 (dk_at dksX0_replyOf_2 10 rfl rfl)
theorem dX0_replyOf_58 : decode cX0_replyOf 58 = .ok (.istore 9, 2) := dk_54 9 (dk_at dksX0_replyOf_2 11 rfl rfl)
theorem dX0_replyOf_60 : decode cX0_replyOf 60 = .ok (.iload 9, 2) := dk_21 9 (dk_at dksX0_replyOf_2 13 rfl rfl)
theorem dX0_replyOf_62 : decode cX0_replyOf 62 = .ok (.iload 8, 2) := dk_21 8 (dk_at dksX0_replyOf_2 15 rfl rfl)
theorem dX0_replyOf_64 : decode cX0_replyOf 64 = .ok (.if_icmp .gt 176, 3) := dk_163 0 176 (dk_at dksX0_replyOf_2 17 rfl rfl)
theorem dX0_replyOf_67 : decode cX0_replyOf 67 = .ok (.iload 8, 2) := dk_21 8 (dk_at dksX0_replyOf_2 20 rfl rfl)
theorem dX0_replyOf_69 : decode cX0_replyOf 69 = .ok (.ifCond .ne 7, 3) := dk_154 0 7 (dk_at dksX0_replyOf_3 0 rfl rfl)
theorem dX0_replyOf_72 : decode cX0_replyOf 72 = .ok (.iconst 0, 1) := dk_3 (dk_at dksX0_replyOf_3 3 rfl rfl)
theorem dX0_replyOf_73 : decode cX0_replyOf 73 = .ok (.goto 7, 3) := dk_167 0 7 (dk_at dksX0_replyOf_3 4 rfl rfl)
theorem dX0_replyOf_76 : decode cX0_replyOf 76 = .ok (.iconst 1, 1) := dk_4 (dk_at dksX0_replyOf_3 7 rfl rfl)
theorem dX0_replyOf_77 : decode cX0_replyOf 77 = .ok (.iload 8, 2) := dk_21 8 (dk_at dksX0_replyOf_3 8 rfl rfl)
theorem dX0_replyOf_79 : decode cX0_replyOf 79 = .ok (.ishl, 1) := dk_120 (dk_at dksX0_replyOf_3 10 rfl rfl)
theorem dX0_replyOf_80 : decode cX0_replyOf 80 = .ok (.iload 9, 2) := dk_21 9 (dk_at dksX0_replyOf_3 11 rfl rfl)
theorem dX0_replyOf_82 : decode cX0_replyOf 82 = .ok (.ifCond .ne 7, 3) := dk_154 0 7 (dk_at dksX0_replyOf_3 13 rfl rfl)
theorem dX0_replyOf_85 : decode cX0_replyOf 85 = .ok (.iconst 0, 1) := dk_3 (dk_at dksX0_replyOf_3 16 rfl rfl)
theorem dX0_replyOf_86 : decode cX0_replyOf 86 = .ok (.goto 7, 3) := dk_167 0 7 (dk_at dksX0_replyOf_3 17 rfl rfl)
theorem dX0_replyOf_89 : decode cX0_replyOf 89 = .ok (.iconst 1, 1) := dk_4 (dk_at dksX0_replyOf_3 20 rfl rfl)
theorem dX0_replyOf_90 : decode cX0_replyOf 90 = .ok (.iload 9, 2) := dk_21 9 (dk_at dksX0_replyOf_3 21 rfl rfl)
theorem dX0_replyOf_92 : decode cX0_replyOf 92 = .ok (.ishl, 1) := dk_120 (dk_at dksX0_replyOf_3 23 rfl rfl)
theorem dX0_replyOf_93 : decode cX0_replyOf 93 = .ok (.ior, 1) := dk_128 (dk_at dksX0_replyOf_4 0 rfl rfl)
theorem dX0_replyOf_94 : decode cX0_replyOf 94 = .ok (.istore 10, 2) := dk_54 10 (dk_at dksX0_replyOf_4 1 rfl rfl)
theorem dX0_replyOf_96 : decode cX0_replyOf 96 = .ok (.iload 10, 2) := dk_21 10 (dk_at dksX0_replyOf_4 3 rfl rfl)
theorem dX0_replyOf_98 : decode cX0_replyOf 98 = .ok (.invokestatic 254, 3) := dk_184 0 254 (dk_at dksX0_replyOf_4 5 rfl rfl)
theorem dX0_replyOf_101 : decode cX0_replyOf 101 = .ok (.iload_n 2, 1) := dk_28 (dk_at dksX0_replyOf_4 8 rfl rfl)
theorem dX0_replyOf_102 : decode cX0_replyOf 102 = .ok (.if_icmp .gt 19, 3) := dk_163 0 19 (dk_at dksX0_replyOf_4 9 rfl rfl)
theorem dX0_replyOf_105 : decode cX0_replyOf 105 = .ok (.iload 9, 2) := dk_21 9 (dk_at dksX0_replyOf_4 12 rfl rfl)
theorem dX0_replyOf_107 : decode cX0_replyOf 107 = .ok (.iload 8, 2) := dk_21 8 (dk_at dksX0_replyOf_4 14 rfl rfl)
theorem dX0_replyOf_109 : decode cX0_replyOf 109 = .ok (.if_icmp .ne 8, 3) := dk_160 0 8 (dk_at dksX0_replyOf_4 16 rfl rfl)
theorem dX0_replyOf_112 : decode cX0_replyOf 112 = .ok (.iload 8, 2) := dk_21 8 (dk_at dksX0_replyOf_4 19 rfl rfl)
theorem dX0_replyOf_114 : decode cX0_replyOf 114 = .ok (.ifCond .ne 7, 3) := dk_154 0 7 (dk_at dksX0_replyOf_4 21 rfl rfl)
theorem dX0_replyOf_117 : decode cX0_replyOf 117 = .ok (.iconst 1, 1) := dk_4 (dk_at dksX0_replyOf_5 0 rfl rfl)
theorem dX0_replyOf_118 : decode cX0_replyOf 118 = .ok (.goto 4, 3) := dk_167 0 4 (dk_at dksX0_replyOf_5 1 rfl rfl)
theorem dX0_replyOf_121 : decode cX0_replyOf 121 = .ok (.iconst 0, 1) := dk_3 (dk_at dksX0_replyOf_5 4 rfl rfl)
theorem dX0_replyOf_122 : decode cX0_replyOf 122 = .ok (.istore 11, 2) := dk_54 11 (dk_at dksX0_replyOf_5 5 rfl rfl)
theorem dX0_replyOf_124 : decode cX0_replyOf 124 = .ok (.iload 11, 2) := dk_21 11 (dk_at dksX0_replyOf_5 7 rfl rfl)
theorem dX0_replyOf_126 : decode cX0_replyOf 126 = .ok (.ifCond .eq 108, 3) := dk_153 0 108 (dk_at dksX0_replyOf_5 9 rfl rfl)
theorem dX0_replyOf_129 : decode cX0_replyOf 129 = .ok (.aload 4, 2) := dk_25 4 (dk_at dksX0_replyOf_5 12 rfl rfl)
theorem dX0_replyOf_131 : decode cX0_replyOf 131 = .ok (.iload 10, 2) := dk_21 10 (dk_at dksX0_replyOf_5 14 rfl rfl)
theorem dX0_replyOf_133 : decode cX0_replyOf 133 = .ok (.putfield 257, 3) := dk_181 1 1 (dk_at dksX0_replyOf_5 16 rfl rfl)
theorem dX0_replyOf_136 : decode cX0_replyOf 136 = .ok (.aload_n 0, 1) := dk_42 (dk_at dksX0_replyOf_5 19 rfl rfl)
theorem dX0_replyOf_137 : decode cX0_replyOf 137 = .ok (.invokevirtual 260, 3) := dk_182 1 4 (dk_at dksX0_replyOf_5 20 rfl rfl)
theorem dX0_replyOf_140 : decode cX0_replyOf 140 = .ok (.aload_n 0, 1) := dk_42 (dk_at dksX0_replyOf_5 23 rfl rfl)
theorem dX0_replyOf_141 : decode cX0_replyOf 141 = .ok (.getfield 99, 3) := dk_180 0 99 (dk_at dksX0_replyOf_6 0 rfl rfl)
theorem dX0_replyOf_144 : decode cX0_replyOf 144 = .ok (.iload_n 1, 1) := dk_27 (dk_at dksX0_replyOf_6 3 rfl rfl)
theorem dX0_replyOf_145 : decode cX0_replyOf 145 = .ok (.laload, 1) := dk_47 (dk_at dksX0_replyOf_6 4 rfl rfl)
theorem dX0_replyOf_146 : decode cX0_replyOf 146 = .ok (.lstore 12, 2) := dk_55 12 (dk_at dksX0_replyOf_6 5 rfl rfl)
theorem dX0_replyOf_148 : decode cX0_replyOf 148 = .ok (.iload 8, 2) := dk_21 8 (dk_at dksX0_replyOf_6 7 rfl rfl)
theorem dX0_replyOf_150 : decode cX0_replyOf 150 = .ok (.ifCond .ne 7, 3) := dk_154 0 7 (dk_at dksX0_replyOf_6 9 rfl rfl)
theorem dX0_replyOf_153 : decode cX0_replyOf 153 = .ok (.iconst 1, 1) := dk_4 (dk_at dksX0_replyOf_6 12 rfl rfl)
theorem dX0_replyOf_154 : decode cX0_replyOf 154 = .ok (.goto 4, 3) := dk_167 0 4 (dk_at dksX0_replyOf_6 13 rfl rfl)
theorem dX0_replyOf_157 : decode cX0_replyOf 157 = .ok (.iconst 0, 1) := dk_3 (dk_at dksX0_replyOf_6 16 rfl rfl)
theorem dX0_replyOf_158 : decode cX0_replyOf 158 = .ok (.istore 14, 2) := dk_54 14 (dk_at dksX0_replyOf_6 17 rfl rfl)
theorem dX0_replyOf_160 : decode cX0_replyOf 160 = .ok (.iload 10, 2) := dk_21 10 (dk_at dksX0_replyOf_6 19 rfl rfl)
theorem dX0_replyOf_162 : decode cX0_replyOf 162 = .ok (.invokestatic 254, 3) := dk_184 0 254 (dk_at dksX0_replyOf_6 21 rfl rfl)
theorem dX0_replyOf_165 : decode cX0_replyOf 165 = .ok (.iload 5, 2) := dk_21 5 (dk_at dksX0_replyOf_7 0 rfl rfl)
theorem dX0_replyOf_167 : decode cX0_replyOf 167 = .ok (.invokestatic 254, 3) := dk_184 0 254 (dk_at dksX0_replyOf_7 2 rfl rfl)
theorem dX0_replyOf_170 : decode cX0_replyOf 170 = .ok (.if_icmp .lt 23, 3) := dk_161 0 23 (dk_at dksX0_replyOf_7 5 rfl rfl)
theorem dX0_replyOf_173 : decode cX0_replyOf 173 = .ok (.iload 10, 2) := dk_21 10 (dk_at dksX0_replyOf_7 8 rfl rfl)
theorem dX0_replyOf_175 : decode cX0_replyOf 175 = .ok (.invokestatic 254, 3) := dk_184 0 254 (dk_at dksX0_replyOf_7 10 rfl rfl)
theorem dX0_replyOf_178 : decode cX0_replyOf 178 = .ok (.iload 5, 2) := dk_21 5 (dk_at dksX0_replyOf_7 13 rfl rfl)
theorem dX0_replyOf_180 : decode cX0_replyOf 180 = .ok (.invokestatic 254, 3) := dk_184 0 254 (dk_at dksX0_replyOf_7 15 rfl rfl)
theorem dX0_replyOf_183 : decode cX0_replyOf 183 = .ok (.if_icmp .ne 14, 3) := dk_160 0 14 (dk_at dksX0_replyOf_7 18 rfl rfl)
theorem dX0_replyOf_186 : decode cX0_replyOf 186 = .ok (.iload 10, 2) := dk_21 10 (dk_at dksX0_replyOf_7 21 rfl rfl)
theorem dX0_replyOf_188 : decode cX0_replyOf 188 = .ok (.iload 5, 2) := dk_21 5 (dk_at dksX0_replyOf_8 0 rfl rfl)
theorem dX0_replyOf_190 : decode cX0_replyOf 190 = .ok (.if_icmp .ge 7, 3) := dk_162 0 7 (dk_at dksX0_replyOf_8 2 rfl rfl)
theorem dX0_replyOf_193 : decode cX0_replyOf 193 = .ok (.iconst 1, 1) := dk_4 (dk_at dksX0_replyOf_8 5 rfl rfl)
theorem dX0_replyOf_194 : decode cX0_replyOf 194 = .ok (.goto 4, 3) := dk_167 0 4 (dk_at dksX0_replyOf_8 6 rfl rfl)
theorem dX0_replyOf_197 : decode cX0_replyOf 197 = .ok (.iconst 0, 1) := dk_3 (dk_at dksX0_replyOf_8 9 rfl rfl)
theorem dX0_replyOf_198 : decode cX0_replyOf 198 = .ok (.istore 15, 2) := dk_54 15 (dk_at dksX0_replyOf_8 10 rfl rfl)
theorem dX0_replyOf_200 : decode cX0_replyOf 200 = .ok (.iload 14, 2) := dk_21 14 (dk_at dksX0_replyOf_8 12 rfl rfl)
theorem dX0_replyOf_202 : decode cX0_replyOf 202 = .ok (.ifCond .ne 24, 3) := dk_154 0 24 (dk_at dksX0_replyOf_8 14 rfl rfl)
theorem dX0_replyOf_205 : decode cX0_replyOf 205 = .ok (.lload 12, 2) := dk_22 12 (dk_at dksX0_replyOf_8 17 rfl rfl)
theorem dX0_replyOf_207 : decode cX0_replyOf 207 = .ok (.lload 6, 2) := dk_22 6 (dk_at dksX0_replyOf_8 19 rfl rfl)
theorem dX0_replyOf_209 : decode cX0_replyOf 209 = .ok (.lcmp, 1) := dk_148 (dk_at dksX0_replyOf_8 21 rfl rfl)
theorem dX0_replyOf_210 : decode cX0_replyOf 210 = .ok (.ifCond .gt 16, 3) := dk_157 0 16 (dk_at dksX0_replyOf_9 0 rfl rfl)
theorem dX0_replyOf_213 : decode cX0_replyOf 213 = .ok (.lload 12, 2) := dk_22 12 (dk_at dksX0_replyOf_9 3 rfl rfl)
theorem dX0_replyOf_215 : decode cX0_replyOf 215 = .ok (.lload 6, 2) := dk_22 6 (dk_at dksX0_replyOf_9 5 rfl rfl)
theorem dX0_replyOf_217 : decode cX0_replyOf 217 = .ok (.lcmp, 1) := dk_148 (dk_at dksX0_replyOf_9 7 rfl rfl)
theorem dX0_replyOf_218 : decode cX0_replyOf 218 = .ok (.ifCond .ne 16, 3) := dk_154 0 16 (dk_at dksX0_replyOf_9 8 rfl rfl)
theorem dX0_replyOf_221 : decode cX0_replyOf 221 = .ok (.iload 15, 2) := dk_21 15 (dk_at dksX0_replyOf_9 11 rfl rfl)
theorem dX0_replyOf_223 : decode cX0_replyOf 223 = .ok (.ifCond .eq 11, 3) := dk_153 0 11 (dk_at dksX0_replyOf_9 13 rfl rfl)
theorem dX0_replyOf_226 : decode cX0_replyOf 226 = .ok (.iload 10, 2) := dk_21 10 (dk_at dksX0_replyOf_9 16 rfl rfl)
theorem dX0_replyOf_228 : decode cX0_replyOf 228 = .ok (.istore 5, 2) := dk_54 5 (dk_at dksX0_replyOf_9 18 rfl rfl)
theorem dX0_replyOf_230 : decode cX0_replyOf 230 = .ok (.lload 12, 2) := dk_22 12 (dk_at dksX0_replyOf_9 20 rfl rfl)
theorem dX0_replyOf_232 : decode cX0_replyOf 232 = .ok (.lstore 6, 2) := dk_55 6 (dk_at dksX0_replyOf_9 22 rfl rfl)
theorem dX0_replyOf_234 : decode cX0_replyOf 234 = .ok (.iinc 9 1, 3) := dk_132 9 1 (dk_at dksX0_replyOf_10 0 rfl rfl)
theorem dX0_replyOf_237 : decode cX0_replyOf 237 = .ok (.goto (-177), 3) := dk_167 255 79 (dk_at dksX0_replyOf_10 3 rfl rfl)
theorem dX0_replyOf_240 : decode cX0_replyOf 240 = .ok (.iinc 8 1, 3) := dk_132 8 1 (dk_at dksX0_replyOf_10 6 rfl rfl)
theorem dX0_replyOf_243 : decode cX0_replyOf 243 = .ok (.goto (-198), 3) := dk_167 255 58 (dk_at dksX0_replyOf_10 9 rfl rfl)
theorem dX0_replyOf_246 : decode cX0_replyOf 246 = .ok (.aload_n 0, 1) := dk_42 (dk_at dksX0_replyOf_10 12 rfl rfl)
theorem dX0_replyOf_247 : decode cX0_replyOf 247 = .ok (.getfield 61, 3) := dk_180 0 61 (dk_at dksX0_replyOf_10 13 rfl rfl)
theorem dX0_replyOf_250 : decode cX0_replyOf 250 = .ok (.iload_n 1, 1) := dk_27 (dk_at dksX0_replyOf_10 16 rfl rfl)
theorem dX0_replyOf_251 : decode cX0_replyOf 251 = .ok (.aload_n 3, 1) := dk_45 (dk_at dksX0_replyOf_10 17 rfl rfl)
theorem dX0_replyOf_252 : decode cX0_replyOf 252 = .ok (.aastore, 1) := dk_83 (dk_at dksX0_replyOf_10 18 rfl rfl)
theorem dX0_replyOf_253 : decode cX0_replyOf 253 = .ok (.iload 5, 2) := dk_21 5 (dk_at dksX0_replyOf_10 19 rfl rfl)
theorem dX0_replyOf_255 : decode cX0_replyOf 255 = .ok (.ireturn, 1) := dk_172 (dk_at dksX0_replyOf_10 21 rfl rfl)
abbrev cX0_ones : ByteArray := prog_1_method_17_code
def yX0_ones : MethodName := ⟨RX0, "ones", "(I)I"⟩
def dkwX0_ones_0 : List UInt8 := [3, 60, 26, 61, 28, 153, 0, 15, 132, 1, 1, 28, 28, 4, 100, 126, 61, 167, 255, 243, 27, 172]
abbrev dktX0_ones_0 : List UInt8 := dkwX0_ones_0 ++ []
theorem dksX0_ones_0 : cX0_ones.data.toList.drop 0 = dktX0_ones_0 := by decide +kernel
theorem dX0_ones_0 : decode cX0_ones 0 = .ok (.iconst 0, 1) := dk_3 (dk_at dksX0_ones_0 0 rfl rfl)
theorem dX0_ones_1 : decode cX0_ones 1 = .ok (.istore_n 1, 1) := dk_60 (dk_at dksX0_ones_0 1 rfl rfl)
theorem dX0_ones_2 : decode cX0_ones 2 = .ok (.iload_n 0, 1) := dk_26 (dk_at dksX0_ones_0 2 rfl rfl)
theorem dX0_ones_3 : decode cX0_ones 3 = .ok (.istore_n 2, 1) := dk_61 (dk_at dksX0_ones_0 3 rfl rfl)
theorem dX0_ones_4 : decode cX0_ones 4 = .ok (.iload_n 2, 1) := dk_28 (dk_at dksX0_ones_0 4 rfl rfl)
theorem dX0_ones_5 : decode cX0_ones 5 = .ok (.ifCond .eq 15, 3) := dk_153 0 15 (dk_at dksX0_ones_0 5 rfl rfl)
theorem dX0_ones_8 : decode cX0_ones 8 = .ok (.iinc 1 1, 3) := dk_132 1 1 (dk_at dksX0_ones_0 8 rfl rfl)
theorem dX0_ones_11 : decode cX0_ones 11 = .ok (.iload_n 2, 1) := dk_28 (dk_at dksX0_ones_0 11 rfl rfl)
theorem dX0_ones_12 : decode cX0_ones 12 = .ok (.iload_n 2, 1) := dk_28 (dk_at dksX0_ones_0 12 rfl rfl)
theorem dX0_ones_13 : decode cX0_ones 13 = .ok (.iconst 1, 1) := dk_4 (dk_at dksX0_ones_0 13 rfl rfl)
theorem dX0_ones_14 : decode cX0_ones 14 = .ok (.isub, 1) := dk_100 (dk_at dksX0_ones_0 14 rfl rfl)
theorem dX0_ones_15 : decode cX0_ones 15 = .ok (.iand, 1) := dk_126 (dk_at dksX0_ones_0 15 rfl rfl)
theorem dX0_ones_16 : decode cX0_ones 16 = .ok (.istore_n 2, 1) := dk_61 (dk_at dksX0_ones_0 16 rfl rfl)
theorem dX0_ones_17 : decode cX0_ones 17 = .ok (.goto (-13), 3) := dk_167 255 243 (dk_at dksX0_ones_0 17 rfl rfl)
theorem dX0_ones_20 : decode cX0_ones 20 = .ok (.iload_n 1, 1) := dk_27 (dk_at dksX0_ones_0 20 rfl rfl)
theorem dX0_ones_21 : decode cX0_ones 21 = .ok (.ireturn, 1) := dk_172 (dk_at dksX0_ones_0 21 rfl rfl)
abbrev cX0_runAll : ByteArray := prog_1_method_14_code
def yX0_runAll : MethodName := ⟨RX0, "runAll", "()V"⟩
def dkwX0_runAll_8 : List UInt8 := [167, 255, 200, 132, 1, 1, 167, 255, 101, 177]
abbrev dktX0_runAll_8 : List UInt8 := dkwX0_runAll_8 ++ []
def dkwX0_runAll_7 : List UInt8 := [42, 180, 0, 99, 21, 4, 92, 47, 32, 42, 180, 0, 88, 21, 4, 46, 133, 105, 97, 80, 132, 4, 1]
abbrev dktX0_runAll_7 : List UInt8 := dkwX0_runAll_7 ++ dktX0_runAll_8
def dkwX0_runAll_6 : List UInt8 := [42, 180, 0, 95, 21, 4, 92, 47, 42, 180, 0, 197, 21, 4, 160, 0, 7, 32, 167, 0, 4, 9, 97, 80]
abbrev dktX0_runAll_6 : List UInt8 := dkwX0_runAll_6 ++ dktX0_runAll_7
def dkwX0_runAll_5 : List UInt8 := [160, 0, 7, 32, 167, 0, 4, 9, 97, 181, 0, 223, 3, 54, 4, 21, 4, 42, 180, 0, 136, 162, 0, 53]
abbrev dktX0_runAll_5 : List UInt8 := dkwX0_runAll_5 ++ dktX0_runAll_6
def dkwX0_runAll_4 : List UInt8 := [181, 0, 219, 42, 89, 180, 0, 223, 42, 180, 0, 200, 16, 247, 159, 0, 11, 42, 180, 0, 200, 27]
abbrev dktX0_runAll_4 : List UInt8 := dkwX0_runAll_4 ++ dktX0_runAll_5
def dkwX0_runAll_3 : List UInt8 := [182, 0, 236, 65, 42, 89, 180, 0, 219, 42, 180, 0, 197, 16, 247, 160, 0, 7, 32, 167, 0, 4, 9, 97]
abbrev dktX0_runAll_3 : List UInt8 := dkwX0_runAll_3 ++ dktX0_runAll_4
def dkwX0_runAll_2 : List UInt8 := [162, 0, 150, 42, 180, 0, 55, 27, 182, 0, 229, 153, 0, 133, 42, 27, 182, 0, 233, 42, 180, 0, 55, 27]
abbrev dktX0_runAll_2 : List UInt8 := dkwX0_runAll_2 ++ dktX0_runAll_3
def dkwX0_runAll_1 : List UInt8 := [42, 180, 0, 99, 27, 9, 80, 132, 1, 1, 167, 255, 234, 4, 60, 27, 42, 180, 0, 55, 180, 0, 226]
abbrev dktX0_runAll_1 : List UInt8 := dkwX0_runAll_1 ++ dktX0_runAll_2
def dkwX0_runAll_0 : List UInt8 := [42, 9, 181, 0, 219, 42, 9, 181, 0, 223, 3, 60, 27, 7, 162, 0, 23, 42, 180, 0, 95, 27, 9, 80]
abbrev dktX0_runAll_0 : List UInt8 := dkwX0_runAll_0 ++ dktX0_runAll_1
theorem dksX0_runAll_0 : cX0_runAll.data.toList.drop 0 = dktX0_runAll_0 := by decide +kernel
theorem dksX0_runAll_1 : cX0_runAll.data.toList.drop 24 = dktX0_runAll_1 := dk_seg dksX0_runAll_0 24 rfl rfl
theorem dksX0_runAll_2 : cX0_runAll.data.toList.drop 47 = dktX0_runAll_2 := dk_seg dksX0_runAll_1 23 rfl rfl
theorem dksX0_runAll_3 : cX0_runAll.data.toList.drop 71 = dktX0_runAll_3 := dk_seg dksX0_runAll_2 24 rfl rfl
theorem dksX0_runAll_4 : cX0_runAll.data.toList.drop 95 = dktX0_runAll_4 := dk_seg dksX0_runAll_3 24 rfl rfl
theorem dksX0_runAll_5 : cX0_runAll.data.toList.drop 117 = dktX0_runAll_5 := dk_seg dksX0_runAll_4 22 rfl rfl
theorem dksX0_runAll_6 : cX0_runAll.data.toList.drop 141 = dktX0_runAll_6 := dk_seg dksX0_runAll_5 24 rfl rfl
theorem dksX0_runAll_7 : cX0_runAll.data.toList.drop 165 = dktX0_runAll_7 := dk_seg dksX0_runAll_6 24 rfl rfl
theorem dksX0_runAll_8 : cX0_runAll.data.toList.drop 188 = dktX0_runAll_8 := dk_seg dksX0_runAll_7 23 rfl rfl
theorem dX0_runAll_0 : decode cX0_runAll 0 = .ok (.aload_n 0, 1) := dk_42 (dk_at dksX0_runAll_0 0 rfl rfl)
theorem dX0_runAll_1 : decode cX0_runAll 1 = .ok (.lconst 0, 1) := dk_9 (dk_at dksX0_runAll_0 1 rfl rfl)
theorem dX0_runAll_2 : decode cX0_runAll 2 = .ok (.putfield 219, 3) := dk_181 0 219 (dk_at dksX0_runAll_0 2 rfl rfl)
theorem dX0_runAll_5 : decode cX0_runAll 5 = .ok (.aload_n 0, 1) := dk_42 (dk_at dksX0_runAll_0 5 rfl rfl)
theorem dX0_runAll_6 : decode cX0_runAll 6 = .ok (.lconst 0, 1) := dk_9 (dk_at dksX0_runAll_0 6 rfl rfl)
theorem dX0_runAll_7 : decode cX0_runAll 7 = .ok (.putfield 223, 3) := dk_181 0 223 (dk_at dksX0_runAll_0 7 rfl rfl)
theorem dX0_runAll_10 : decode cX0_runAll 10 = .ok (.iconst 0, 1) := dk_3 (dk_at dksX0_runAll_0 10 rfl rfl)
theorem dX0_runAll_11 : decode cX0_runAll 11 = .ok (.istore_n 1, 1) := dk_60 (dk_at dksX0_runAll_0 11 rfl rfl)
theorem dX0_runAll_12 : decode cX0_runAll 12 = .ok (.iload_n 1, 1) := dk_27 (dk_at dksX0_runAll_0 12 rfl rfl)
theorem dX0_runAll_13 : decode cX0_runAll 13 = .ok (.iconst 4, 1) := dk_7 (dk_at dksX0_runAll_0 13 rfl rfl)
theorem dX0_runAll_14 : decode cX0_runAll 14 = .ok (.if_icmp .ge 23, 3) := dk_162 0 23 (dk_at dksX0_runAll_0 14 rfl rfl)
theorem dX0_runAll_17 : decode cX0_runAll 17 = .ok (.aload_n 0, 1) := dk_42 (dk_at dksX0_runAll_0 17 rfl rfl)
theorem dX0_runAll_18 : decode cX0_runAll 18 = .ok (.getfield 95, 3) := dk_180 0 95 (dk_at dksX0_runAll_0 18 rfl rfl)
theorem dX0_runAll_21 : decode cX0_runAll 21 = .ok (.iload_n 1, 1) := dk_27 (dk_at dksX0_runAll_0 21 rfl rfl)
theorem dX0_runAll_22 : decode cX0_runAll 22 = .ok (.lconst 0, 1) := dk_9 (dk_at dksX0_runAll_0 22 rfl rfl)
theorem dX0_runAll_23 : decode cX0_runAll 23 = .ok (.lastore, 1) := dk_80 (dk_at dksX0_runAll_0 23 rfl rfl)
theorem dX0_runAll_24 : decode cX0_runAll 24 = .ok (.aload_n 0, 1) := dk_42 (dk_at dksX0_runAll_1 0 rfl rfl)
theorem dX0_runAll_25 : decode cX0_runAll 25 = .ok (.getfield 99, 3) := dk_180 0 99 (dk_at dksX0_runAll_1 1 rfl rfl)
theorem dX0_runAll_28 : decode cX0_runAll 28 = .ok (.iload_n 1, 1) := dk_27 (dk_at dksX0_runAll_1 4 rfl rfl)
theorem dX0_runAll_29 : decode cX0_runAll 29 = .ok (.lconst 0, 1) := dk_9 (dk_at dksX0_runAll_1 5 rfl rfl)
theorem dX0_runAll_30 : decode cX0_runAll 30 = .ok (.lastore, 1) := dk_80 (dk_at dksX0_runAll_1 6 rfl rfl)
theorem dX0_runAll_31 : decode cX0_runAll 31 = .ok (.iinc 1 1, 3) := dk_132 1 1 (dk_at dksX0_runAll_1 7 rfl rfl)
theorem dX0_runAll_34 : decode cX0_runAll 34 = .ok (.goto (-22), 3) := dk_167 255 234 (dk_at dksX0_runAll_1 10 rfl rfl)
theorem dX0_runAll_37 : decode cX0_runAll 37 = .ok (.iconst 1, 1) := dk_4 (dk_at dksX0_runAll_1 13 rfl rfl)
theorem dX0_runAll_38 : decode cX0_runAll 38 = .ok (.istore_n 1, 1) := dk_60 (dk_at dksX0_runAll_1 14 rfl rfl)
theorem dX0_runAll_39 : decode cX0_runAll 39 = .ok (.iload_n 1, 1) := dk_27 (dk_at dksX0_runAll_1 15 rfl rfl)
theorem dX0_runAll_40 : decode cX0_runAll 40 = .ok (.aload_n 0, 1) := dk_42 (dk_at dksX0_runAll_1 16 rfl rfl)
theorem dX0_runAll_41 : decode cX0_runAll 41 = .ok (.getfield 55, 3) := dk_180 0 55 (dk_at dksX0_runAll_1 17 rfl rfl)
theorem dX0_runAll_44 : decode cX0_runAll 44 = .ok (.getfield 226, 3) := dk_180 0 226 (dk_at dksX0_runAll_1 20 rfl rfl)
theorem dX0_runAll_47 : decode cX0_runAll 47 = .ok (.if_icmp .ge 150, 3) := dk_162 0 150 (dk_at dksX0_runAll_2 0 rfl rfl)
theorem dX0_runAll_50 : decode cX0_runAll 50 = .ok (.aload_n 0, 1) := dk_42 (dk_at dksX0_runAll_2 3 rfl rfl)
theorem dX0_runAll_51 : decode cX0_runAll 51 = .ok (.getfield 55, 3) := dk_180 0 55 (dk_at dksX0_runAll_2 4 rfl rfl)
theorem dX0_runAll_54 : decode cX0_runAll 54 = .ok (.iload_n 1, 1) := dk_27 (dk_at dksX0_runAll_2 7 rfl rfl)
theorem dX0_runAll_55 : decode cX0_runAll 55 = .ok (.invokevirtual 229, 3) := dk_182 0 229 (dk_at dksX0_runAll_2 8 rfl rfl)
theorem dX0_runAll_58 : decode cX0_runAll 58 = .ok (.ifCond .eq 133, 3) := dk_153 0 133 (dk_at dksX0_runAll_2 11 rfl rfl)
theorem dX0_runAll_61 : decode cX0_runAll 61 = .ok (.aload_n 0, 1) := dk_42 (dk_at dksX0_runAll_2 14 rfl rfl)
theorem dX0_runAll_62 : decode cX0_runAll 62 = .ok (.iload_n 1, 1) := dk_27 (dk_at dksX0_runAll_2 15 rfl rfl)
theorem dX0_runAll_63 : decode cX0_runAll 63 = .ok (.invokevirtual 233, 3) := dk_182 0 233 (dk_at dksX0_runAll_2 16 rfl rfl)
theorem dX0_runAll_66 : decode cX0_runAll 66 = .ok (.aload_n 0, 1) := dk_42 (dk_at dksX0_runAll_2 19 rfl rfl)
theorem dX0_runAll_67 : decode cX0_runAll 67 = .ok (.getfield 55, 3) := dk_180 0 55 (dk_at dksX0_runAll_2 20 rfl rfl)
theorem dX0_runAll_70 : decode cX0_runAll 70 = .ok (.iload_n 1, 1) := dk_27 (dk_at dksX0_runAll_2 23 rfl rfl)
theorem dX0_runAll_71 : decode cX0_runAll 71 = .ok (.invokevirtual 236, 3) := dk_182 0 236 (dk_at dksX0_runAll_3 0 rfl rfl)
theorem dX0_runAll_74 : decode cX0_runAll 74 = .ok (.lstore_n 2, 1) := dk_65 (dk_at dksX0_runAll_3 3 rfl rfl)
theorem dX0_runAll_75 : decode cX0_runAll 75 = .ok (.aload_n 0, 1) := dk_42 (dk_at dksX0_runAll_3 4 rfl rfl)
theorem dX0_runAll_76 : decode cX0_runAll 76 = .ok (.dup, 1) := dk_89 (dk_at dksX0_runAll_3 5 rfl rfl)
theorem dX0_runAll_77 : decode cX0_runAll 77 = .ok (.getfield 219, 3) := dk_180 0 219 (dk_at dksX0_runAll_3 6 rfl rfl)
theorem dX0_runAll_80 : decode cX0_runAll 80 = .ok (.aload_n 0, 1) := dk_42 (dk_at dksX0_runAll_3 9 rfl rfl)
theorem dX0_runAll_81 : decode cX0_runAll 81 = .ok (.getfield 197, 3) := dk_180 0 197 (dk_at dksX0_runAll_3 10 rfl rfl)
theorem dX0_runAll_84 : decode cX0_runAll 84 = .ok (.bipush (-9), 2) := dk_16 247 (dk_at dksX0_runAll_3 13 rfl rfl)
theorem dX0_runAll_86 : decode cX0_runAll 86 = .ok (.if_icmp .ne 7, 3) := dk_160 0 7 (dk_at dksX0_runAll_3 15 rfl rfl)
theorem dX0_runAll_89 : decode cX0_runAll 89 = .ok (.lload_n 2, 1) := dk_32 (dk_at dksX0_runAll_3 18 rfl rfl)
theorem dX0_runAll_90 : decode cX0_runAll 90 = .ok (.goto 4, 3) := dk_167 0 4 (dk_at dksX0_runAll_3 19 rfl rfl)
theorem dX0_runAll_93 : decode cX0_runAll 93 = .ok (.lconst 0, 1) := dk_9 (dk_at dksX0_runAll_3 22 rfl rfl)
theorem dX0_runAll_94 : decode cX0_runAll 94 = .ok (.ladd, 1) := dk_97 (dk_at dksX0_runAll_3 23 rfl rfl)
theorem dX0_runAll_95 : decode cX0_runAll 95 = .ok (.putfield 219, 3) := dk_181 0 219 (dk_at dksX0_runAll_4 0 rfl rfl)
theorem dX0_runAll_98 : decode cX0_runAll 98 = .ok (.aload_n 0, 1) := dk_42 (dk_at dksX0_runAll_4 3 rfl rfl)
theorem dX0_runAll_99 : decode cX0_runAll 99 = .ok (.dup, 1) := dk_89 (dk_at dksX0_runAll_4 4 rfl rfl)
theorem dX0_runAll_100 : decode cX0_runAll 100 = .ok (.getfield 223, 3) := dk_180 0 223 (dk_at dksX0_runAll_4 5 rfl rfl)
theorem dX0_runAll_103 : decode cX0_runAll 103 = .ok (.aload_n 0, 1) := dk_42 (dk_at dksX0_runAll_4 8 rfl rfl)
theorem dX0_runAll_104 : decode cX0_runAll 104 = .ok (.getfield 200, 3) := dk_180 0 200 (dk_at dksX0_runAll_4 9 rfl rfl)
theorem dX0_runAll_107 : decode cX0_runAll 107 = .ok (.bipush (-9), 2) := dk_16 247 (dk_at dksX0_runAll_4 12 rfl rfl)
theorem dX0_runAll_109 : decode cX0_runAll 109 = .ok (.if_icmp .eq 11, 3) := dk_159 0 11 (dk_at dksX0_runAll_4 14 rfl rfl)
theorem dX0_runAll_112 : decode cX0_runAll 112 = .ok (.aload_n 0, 1) := dk_42 (dk_at dksX0_runAll_4 17 rfl rfl)
theorem dX0_runAll_113 : decode cX0_runAll 113 = .ok (.getfield 200, 3) := dk_180 0 200 (dk_at dksX0_runAll_4 18 rfl rfl)
theorem dX0_runAll_116 : decode cX0_runAll 116 = .ok (.iload_n 1, 1) := dk_27 (dk_at dksX0_runAll_4 21 rfl rfl)
theorem dX0_runAll_117 : decode cX0_runAll 117 = .ok (.if_icmp .ne 7, 3) := dk_160 0 7 (dk_at dksX0_runAll_5 0 rfl rfl)
theorem dX0_runAll_120 : decode cX0_runAll 120 = .ok (.lload_n 2, 1) := dk_32 (dk_at dksX0_runAll_5 3 rfl rfl)
theorem dX0_runAll_121 : decode cX0_runAll 121 = .ok (.goto 4, 3) := dk_167 0 4 (dk_at dksX0_runAll_5 4 rfl rfl)
theorem dX0_runAll_124 : decode cX0_runAll 124 = .ok (.lconst 0, 1) := dk_9 (dk_at dksX0_runAll_5 7 rfl rfl)
theorem dX0_runAll_125 : decode cX0_runAll 125 = .ok (.ladd, 1) := dk_97 (dk_at dksX0_runAll_5 8 rfl rfl)
theorem dX0_runAll_126 : decode cX0_runAll 126 = .ok (.putfield 223, 3) := dk_181 0 223 (dk_at dksX0_runAll_5 9 rfl rfl)
theorem dX0_runAll_129 : decode cX0_runAll 129 = .ok (.iconst 0, 1) := dk_3 (dk_at dksX0_runAll_5 12 rfl rfl)
theorem dX0_runAll_130 : decode cX0_runAll 130 = .ok (.istore 4, 2) := dk_54 4 (dk_at dksX0_runAll_5 13 rfl rfl)
theorem dX0_runAll_132 : decode cX0_runAll 132 = .ok (.iload 4, 2) := dk_21 4 (dk_at dksX0_runAll_5 15 rfl rfl)
theorem dX0_runAll_134 : decode cX0_runAll 134 = .ok (.aload_n 0, 1) := dk_42 (dk_at dksX0_runAll_5 17 rfl rfl)
theorem dX0_runAll_135 : decode cX0_runAll 135 = .ok (.getfield 136, 3) := dk_180 0 136 (dk_at dksX0_runAll_5 18 rfl rfl)
theorem dX0_runAll_138 : decode cX0_runAll 138 = .ok (.if_icmp .ge 53, 3) := dk_162 0 53 (dk_at dksX0_runAll_5 21 rfl rfl)
theorem dX0_runAll_141 : decode cX0_runAll 141 = .ok (.aload_n 0, 1) := dk_42 (dk_at dksX0_runAll_6 0 rfl rfl)
theorem dX0_runAll_142 : decode cX0_runAll 142 = .ok (.getfield 95, 3) := dk_180 0 95 (dk_at dksX0_runAll_6 1 rfl rfl)
theorem dX0_runAll_145 : decode cX0_runAll 145 = .ok (.iload 4, 2) := dk_21 4 (dk_at dksX0_runAll_6 4 rfl rfl)
theorem dX0_runAll_147 : decode cX0_runAll 147 = .ok (.dup2, 1) := dk_92 (dk_at dksX0_runAll_6 6 rfl rfl)
theorem dX0_runAll_148 : decode cX0_runAll 148 = .ok (.laload, 1) := dk_47 (dk_at dksX0_runAll_6 7 rfl rfl)
theorem dX0_runAll_149 : decode cX0_runAll 149 = .ok (.aload_n 0, 1) := dk_42 (dk_at dksX0_runAll_6 8 rfl rfl)
theorem dX0_runAll_150 : decode cX0_runAll 150 = .ok (.getfield 197, 3) := dk_180 0 197 (dk_at dksX0_runAll_6 9 rfl rfl)
theorem dX0_runAll_153 : decode cX0_runAll 153 = .ok (.iload 4, 2) := dk_21 4 (dk_at dksX0_runAll_6 12 rfl rfl)
theorem dX0_runAll_155 : decode cX0_runAll 155 = .ok (.if_icmp .ne 7, 3) := dk_160 0 7 (dk_at dksX0_runAll_6 14 rfl rfl)
theorem dX0_runAll_158 : decode cX0_runAll 158 = .ok (.lload_n 2, 1) := dk_32 (dk_at dksX0_runAll_6 17 rfl rfl)
theorem dX0_runAll_159 : decode cX0_runAll 159 = .ok (.goto 4, 3) := dk_167 0 4 (dk_at dksX0_runAll_6 18 rfl rfl)
theorem dX0_runAll_162 : decode cX0_runAll 162 = .ok (.lconst 0, 1) := dk_9 (dk_at dksX0_runAll_6 21 rfl rfl)
theorem dX0_runAll_163 : decode cX0_runAll 163 = .ok (.ladd, 1) := dk_97 (dk_at dksX0_runAll_6 22 rfl rfl)
theorem dX0_runAll_164 : decode cX0_runAll 164 = .ok (.lastore, 1) := dk_80 (dk_at dksX0_runAll_6 23 rfl rfl)
theorem dX0_runAll_165 : decode cX0_runAll 165 = .ok (.aload_n 0, 1) := dk_42 (dk_at dksX0_runAll_7 0 rfl rfl)
theorem dX0_runAll_166 : decode cX0_runAll 166 = .ok (.getfield 99, 3) := dk_180 0 99 (dk_at dksX0_runAll_7 1 rfl rfl)
theorem dX0_runAll_169 : decode cX0_runAll 169 = .ok (.iload 4, 2) := dk_21 4 (dk_at dksX0_runAll_7 4 rfl rfl)
theorem dX0_runAll_171 : decode cX0_runAll 171 = .ok (.dup2, 1) := dk_92 (dk_at dksX0_runAll_7 6 rfl rfl)
theorem dX0_runAll_172 : decode cX0_runAll 172 = .ok (.laload, 1) := dk_47 (dk_at dksX0_runAll_7 7 rfl rfl)
theorem dX0_runAll_173 : decode cX0_runAll 173 = .ok (.lload_n 2, 1) := dk_32 (dk_at dksX0_runAll_7 8 rfl rfl)
theorem dX0_runAll_174 : decode cX0_runAll 174 = .ok (.aload_n 0, 1) := dk_42 (dk_at dksX0_runAll_7 9 rfl rfl)
theorem dX0_runAll_175 : decode cX0_runAll 175 = .ok (.getfield 88, 3) := dk_180 0 88 (dk_at dksX0_runAll_7 10 rfl rfl)
theorem dX0_runAll_178 : decode cX0_runAll 178 = .ok (.iload 4, 2) := dk_21 4 (dk_at dksX0_runAll_7 13 rfl rfl)
theorem dX0_runAll_180 : decode cX0_runAll 180 = .ok (.iaload, 1) := dk_46 (dk_at dksX0_runAll_7 15 rfl rfl)
theorem dX0_runAll_181 : decode cX0_runAll 181 = .ok (.i2l, 1) := dk_133 (dk_at dksX0_runAll_7 16 rfl rfl)
theorem dX0_runAll_182 : decode cX0_runAll 182 = .ok (.lmul, 1) := dk_105 (dk_at dksX0_runAll_7 17 rfl rfl)
theorem dX0_runAll_183 : decode cX0_runAll 183 = .ok (.ladd, 1) := dk_97 (dk_at dksX0_runAll_7 18 rfl rfl)
theorem dX0_runAll_184 : decode cX0_runAll 184 = .ok (.lastore, 1) := dk_80 (dk_at dksX0_runAll_7 19 rfl rfl)
theorem dX0_runAll_185 : decode cX0_runAll 185 = .ok (.iinc 4 1, 3) := dk_132 4 1 (dk_at dksX0_runAll_7 20 rfl rfl)
theorem dX0_runAll_188 : decode cX0_runAll 188 = .ok (.goto (-56), 3) := dk_167 255 200 (dk_at dksX0_runAll_8 0 rfl rfl)
theorem dX0_runAll_191 : decode cX0_runAll 191 = .ok (.iinc 1 1, 3) := dk_132 1 1 (dk_at dksX0_runAll_8 3 rfl rfl)
theorem dX0_runAll_194 : decode cX0_runAll 194 = .ok (.goto (-155), 3) := dk_167 255 101 (dk_at dksX0_runAll_8 6 rfl rfl)
theorem dX0_runAll_197 : decode cX0_runAll 197 = .ok (.return_, 1) := dk_177 (dk_at dksX0_runAll_8 9 rfl rfl)
abbrev cX0_restTold : ByteArray := prog_1_method_49_code
def yX0_restTold : MethodName := ⟨RX0, "restTold", "(II)I"⟩
def dkwX0_restTold_2 : List UInt8 := [160, 0, 7, 4, 167, 0, 4, 3, 16, 254, 184, 0, 9, 42, 182, 1, 141, 42, 27, 28, 182, 1, 152, 172]
abbrev dktX0_restTold_2 : List UInt8 := dkwX0_restTold_2 ++ []
def dkwX0_restTold_1 : List UInt8 := [42, 180, 0, 61, 27, 50, 182, 1, 115, 7, 160, 0, 20, 42, 180, 0, 61, 28, 50, 182, 1, 115, 7]
abbrev dktX0_restTold_1 : List UInt8 := dkwX0_restTold_1 ++ dktX0_restTold_2
def dkwX0_restTold_0 : List UInt8 := [42, 27, 182, 1, 112, 42, 28, 182, 1, 112, 27, 28, 159, 0, 7, 4, 167, 0, 4, 3, 2, 184, 0, 9]
abbrev dktX0_restTold_0 : List UInt8 := dkwX0_restTold_0 ++ dktX0_restTold_1
theorem dksX0_restTold_0 : cX0_restTold.data.toList.drop 0 = dktX0_restTold_0 := by decide +kernel
theorem dksX0_restTold_1 : cX0_restTold.data.toList.drop 24 = dktX0_restTold_1 := dk_seg dksX0_restTold_0 24 rfl rfl
theorem dksX0_restTold_2 : cX0_restTold.data.toList.drop 47 = dktX0_restTold_2 := dk_seg dksX0_restTold_1 23 rfl rfl
theorem dX0_restTold_0 : decode cX0_restTold 0 = .ok (.aload_n 0, 1) := dk_42 (dk_at dksX0_restTold_0 0 rfl rfl)
theorem dX0_restTold_1 : decode cX0_restTold 1 = .ok (.iload_n 1, 1) := dk_27 (dk_at dksX0_restTold_0 1 rfl rfl)
theorem dX0_restTold_2 : decode cX0_restTold 2 = .ok (.invokevirtual 368, 3) := dk_182 1 112 (dk_at dksX0_restTold_0 2 rfl rfl)
theorem dX0_restTold_5 : decode cX0_restTold 5 = .ok (.aload_n 0, 1) := dk_42 (dk_at dksX0_restTold_0 5 rfl rfl)
theorem dX0_restTold_6 : decode cX0_restTold 6 = .ok (.iload_n 2, 1) := dk_28 (dk_at dksX0_restTold_0 6 rfl rfl)
theorem dX0_restTold_7 : decode cX0_restTold 7 = .ok (.invokevirtual 368, 3) := dk_182 1 112 (dk_at dksX0_restTold_0 7 rfl rfl)
theorem dX0_restTold_10 : decode cX0_restTold 10 = .ok (.iload_n 1, 1) := dk_27 (dk_at dksX0_restTold_0 10 rfl rfl)
theorem dX0_restTold_11 : decode cX0_restTold 11 = .ok (.iload_n 2, 1) := dk_28 (dk_at dksX0_restTold_0 11 rfl rfl)
theorem dX0_restTold_12 : decode cX0_restTold 12 = .ok (.if_icmp .eq 7, 3) := dk_159 0 7 (dk_at dksX0_restTold_0 12 rfl rfl)
theorem dX0_restTold_15 : decode cX0_restTold 15 = .ok (.iconst 1, 1) := dk_4 (dk_at dksX0_restTold_0 15 rfl rfl)
theorem dX0_restTold_16 : decode cX0_restTold 16 = .ok (.goto 4, 3) := dk_167 0 4 (dk_at dksX0_restTold_0 16 rfl rfl)
theorem dX0_restTold_19 : decode cX0_restTold 19 = .ok (.iconst 0, 1) := dk_3 (dk_at dksX0_restTold_0 19 rfl rfl)
theorem dX0_restTold_20 : decode cX0_restTold 20 = .ok (.iconst (-1), 1) := dk_2 (dk_at dksX0_restTold_0 20 rfl rfl)
theorem dX0_restTold_21 : decode cX0_restTold 21 = .ok (.invokestatic 9, 3) := dk_184 0 9 (dk_at dksX0_restTold_0 21 rfl rfl)
theorem dX0_restTold_24 : decode cX0_restTold 24 = .ok (.aload_n 0, 1) := dk_42 (dk_at dksX0_restTold_1 0 rfl rfl)
theorem dX0_restTold_25 : decode cX0_restTold 25 = .ok (.getfield 61, 3) := dk_180 0 61 (dk_at dksX0_restTold_1 1 rfl rfl)
theorem dX0_restTold_28 : decode cX0_restTold 28 = .ok (.iload_n 1, 1) := dk_27 (dk_at dksX0_restTold_1 4 rfl rfl)
theorem dX0_restTold_29 : decode cX0_restTold 29 = .ok (.aaload, 1) := dk_50 (dk_at dksX0_restTold_1 5 rfl rfl)
theorem dX0_restTold_30 : decode cX0_restTold 30 = .ok (.invokevirtual 371, 3) := dk_182 1 115 (dk_at dksX0_restTold_1 6 rfl rfl)
theorem dX0_restTold_33 : decode cX0_restTold 33 = .ok (.iconst 4, 1) := dk_7 (dk_at dksX0_restTold_1 9 rfl rfl)
theorem dX0_restTold_34 : decode cX0_restTold 34 = .ok (.if_icmp .ne 20, 3) := dk_160 0 20 (dk_at dksX0_restTold_1 10 rfl rfl)
theorem dX0_restTold_37 : decode cX0_restTold 37 = .ok (.aload_n 0, 1) := dk_42 (dk_at dksX0_restTold_1 13 rfl rfl)
theorem dX0_restTold_38 : decode cX0_restTold 38 = .ok (.getfield 61, 3) := dk_180 0 61 (dk_at dksX0_restTold_1 14 rfl rfl)
theorem dX0_restTold_41 : decode cX0_restTold 41 = .ok (.iload_n 2, 1) := dk_28 (dk_at dksX0_restTold_1 17 rfl rfl)
theorem dX0_restTold_42 : decode cX0_restTold 42 = .ok (.aaload, 1) := dk_50 (dk_at dksX0_restTold_1 18 rfl rfl)
theorem dX0_restTold_43 : decode cX0_restTold 43 = .ok (.invokevirtual 371, 3) := dk_182 1 115 (dk_at dksX0_restTold_1 19 rfl rfl)
theorem dX0_restTold_46 : decode cX0_restTold 46 = .ok (.iconst 4, 1) := dk_7 (dk_at dksX0_restTold_1 22 rfl rfl)
theorem dX0_restTold_47 : decode cX0_restTold 47 = .ok (.if_icmp .ne 7, 3) := dk_160 0 7 (dk_at dksX0_restTold_2 0 rfl rfl)
theorem dX0_restTold_50 : decode cX0_restTold 50 = .ok (.iconst 1, 1) := dk_4 (dk_at dksX0_restTold_2 3 rfl rfl)
theorem dX0_restTold_51 : decode cX0_restTold 51 = .ok (.goto 4, 3) := dk_167 0 4 (dk_at dksX0_restTold_2 4 rfl rfl)
theorem dX0_restTold_54 : decode cX0_restTold 54 = .ok (.iconst 0, 1) := dk_3 (dk_at dksX0_restTold_2 7 rfl rfl)
theorem dX0_restTold_55 : decode cX0_restTold 55 = .ok (.bipush (-2), 2) := dk_16 254 (dk_at dksX0_restTold_2 8 rfl rfl)
theorem dX0_restTold_57 : decode cX0_restTold 57 = .ok (.invokestatic 9, 3) := dk_184 0 9 (dk_at dksX0_restTold_2 10 rfl rfl)
theorem dX0_restTold_60 : decode cX0_restTold 60 = .ok (.aload_n 0, 1) := dk_42 (dk_at dksX0_restTold_2 13 rfl rfl)
theorem dX0_restTold_61 : decode cX0_restTold 61 = .ok (.invokevirtual 397, 3) := dk_182 1 141 (dk_at dksX0_restTold_2 14 rfl rfl)
theorem dX0_restTold_64 : decode cX0_restTold 64 = .ok (.aload_n 0, 1) := dk_42 (dk_at dksX0_restTold_2 17 rfl rfl)
theorem dX0_restTold_65 : decode cX0_restTold 65 = .ok (.iload_n 1, 1) := dk_27 (dk_at dksX0_restTold_2 18 rfl rfl)
theorem dX0_restTold_66 : decode cX0_restTold 66 = .ok (.iload_n 2, 1) := dk_28 (dk_at dksX0_restTold_2 19 rfl rfl)
theorem dX0_restTold_67 : decode cX0_restTold 67 = .ok (.invokevirtual 408, 3) := dk_182 1 152 (dk_at dksX0_restTold_2 20 rfl rfl)
theorem dX0_restTold_70 : decode cX0_restTold 70 = .ok (.ireturn, 1) := dk_172 (dk_at dksX0_restTold_2 23 rfl rfl)
abbrev cX0_restOf : ByteArray := prog_1_method_19_code
def yX0_restOf : MethodName := ⟨RX0, "restOf", "(II)I"⟩
def dkwX0_restOf_4 : List UInt8 := [172]
abbrev dktX0_restOf_4 : List UInt8 := dkwX0_restOf_4 ++ []
def dkwX0_restOf_3 : List UInt8 := [160, 0, 16, 21, 7, 25, 4, 180, 1, 1, 160, 0, 6, 21, 5, 172, 132, 5, 1, 167, 255, 190, 16, 247]
abbrev dktX0_restOf_3 : List UInt8 := dkwX0_restOf_3 ++ dktX0_restOf_4
def dkwX0_restOf_2 : List UInt8 := [182, 1, 7, 181, 1, 1, 25, 4, 42, 28, 5, 182, 1, 7, 181, 1, 1, 21, 6, 45, 180, 1, 1]
abbrev dktX0_restOf_2 : List UInt8 := dkwX0_restOf_2 ++ dktX0_restOf_3
def dkwX0_restOf_1 : List UInt8 := [21, 5, 16, 10, 163, 0, 65, 45, 180, 1, 1, 54, 6, 25, 4, 180, 1, 1, 54, 7, 45, 42, 27, 5]
abbrev dktX0_restOf_1 : List UInt8 := dkwX0_restOf_1 ++ dktX0_restOf_2
def dkwX0_restOf_0 : List UInt8 := [42, 180, 0, 61, 27, 50, 192, 0, 41, 78, 42, 180, 0, 61, 28, 50, 192, 0, 41, 58, 4, 4, 54, 5]
abbrev dktX0_restOf_0 : List UInt8 := dkwX0_restOf_0 ++ dktX0_restOf_1
theorem dksX0_restOf_0 : cX0_restOf.data.toList.drop 0 = dktX0_restOf_0 := by decide +kernel
theorem dksX0_restOf_1 : cX0_restOf.data.toList.drop 24 = dktX0_restOf_1 := dk_seg dksX0_restOf_0 24 rfl rfl
theorem dksX0_restOf_2 : cX0_restOf.data.toList.drop 48 = dktX0_restOf_2 := dk_seg dksX0_restOf_1 24 rfl rfl
theorem dksX0_restOf_3 : cX0_restOf.data.toList.drop 71 = dktX0_restOf_3 := dk_seg dksX0_restOf_2 23 rfl rfl
theorem dksX0_restOf_4 : cX0_restOf.data.toList.drop 95 = dktX0_restOf_4 := dk_seg dksX0_restOf_3 24 rfl rfl
theorem dX0_restOf_0 : decode cX0_restOf 0 = .ok (.aload_n 0, 1) := dk_42 (dk_at dksX0_restOf_0 0 rfl rfl)
theorem dX0_restOf_1 : decode cX0_restOf 1 = .ok (.getfield 61, 3) := dk_180 0 61 (dk_at dksX0_restOf_0 1 rfl rfl)
theorem dX0_restOf_4 : decode cX0_restOf 4 = .ok (.iload_n 1, 1) := dk_27 (dk_at dksX0_restOf_0 4 rfl rfl)
theorem dX0_restOf_5 : decode cX0_restOf 5 = .ok (.aaload, 1) := dk_50 (dk_at dksX0_restOf_0 5 rfl rfl)
theorem dX0_restOf_6 : decode cX0_restOf 6 = .ok (.checkcast 41, 3) := dk_192 0 41 (dk_at dksX0_restOf_0 6 rfl rfl)
theorem dX0_restOf_9 : decode cX0_restOf 9 = .ok (.astore_n 3, 1) := dk_78 (dk_at dksX0_restOf_0 9 rfl rfl)
theorem dX0_restOf_10 : decode cX0_restOf 10 = .ok (.aload_n 0, 1) := dk_42 (dk_at dksX0_restOf_0 10 rfl rfl)
theorem dX0_restOf_11 : decode cX0_restOf 11 = .ok (.getfield 61, 3) := dk_180 0 61 (dk_at dksX0_restOf_0 11 rfl rfl)
theorem dX0_restOf_14 : decode cX0_restOf 14 = .ok (.iload_n 2, 1) := dk_28 (dk_at dksX0_restOf_0 14 rfl rfl)
theorem dX0_restOf_15 : decode cX0_restOf 15 = .ok (.aaload, 1) := dk_50 (dk_at dksX0_restOf_0 15 rfl rfl)
theorem dX0_restOf_16 : decode cX0_restOf 16 = .ok (.checkcast 41, 3) := dk_192 0 41 (dk_at dksX0_restOf_0 16 rfl rfl)
theorem dX0_restOf_19 : decode cX0_restOf 19 = .ok (.astore 4, 2) := dk_58 4 (dk_at dksX0_restOf_0 19 rfl rfl)
theorem dX0_restOf_21 : decode cX0_restOf 21 = .ok (.iconst 1, 1) := dk_4 (dk_at dksX0_restOf_0 21 rfl rfl)
theorem dX0_restOf_22 : decode cX0_restOf 22 = .ok (.istore 5, 2) := dk_54 5 (dk_at dksX0_restOf_0 22 rfl rfl)
theorem dX0_restOf_24 : decode cX0_restOf 24 = .ok (.iload 5, 2) := dk_21 5 (dk_at dksX0_restOf_1 0 rfl rfl)
theorem dX0_restOf_26 : decode cX0_restOf 26 = .ok (.bipush 10, 2) := dk_16 10 (dk_at dksX0_restOf_1 2 rfl rfl)
theorem dX0_restOf_28 : decode cX0_restOf 28 = .ok (.if_icmp .gt 65, 3) := dk_163 0 65 (dk_at dksX0_restOf_1 4 rfl rfl)
theorem dX0_restOf_31 : decode cX0_restOf 31 = .ok (.aload_n 3, 1) := dk_45 (dk_at dksX0_restOf_1 7 rfl rfl)
theorem dX0_restOf_32 : decode cX0_restOf 32 = .ok (.getfield 257, 3) := dk_180 1 1 (dk_at dksX0_restOf_1 8 rfl rfl)
theorem dX0_restOf_35 : decode cX0_restOf 35 = .ok (.istore 6, 2) := dk_54 6 (dk_at dksX0_restOf_1 11 rfl rfl)
theorem dX0_restOf_37 : decode cX0_restOf 37 = .ok (.aload 4, 2) := dk_25 4 (dk_at dksX0_restOf_1 13 rfl rfl)
theorem dX0_restOf_39 : decode cX0_restOf 39 = .ok (.getfield 257, 3) := dk_180 1 1 (dk_at dksX0_restOf_1 15 rfl rfl)
theorem dX0_restOf_42 : decode cX0_restOf 42 = .ok (.istore 7, 2) := dk_54 7 (dk_at dksX0_restOf_1 18 rfl rfl)
theorem dX0_restOf_44 : decode cX0_restOf 44 = .ok (.aload_n 3, 1) := dk_45 (dk_at dksX0_restOf_1 20 rfl rfl)
theorem dX0_restOf_45 : decode cX0_restOf 45 = .ok (.aload_n 0, 1) := dk_42 (dk_at dksX0_restOf_1 21 rfl rfl)
theorem dX0_restOf_46 : decode cX0_restOf 46 = .ok (.iload_n 1, 1) := dk_27 (dk_at dksX0_restOf_1 22 rfl rfl)
theorem dX0_restOf_47 : decode cX0_restOf 47 = .ok (.iconst 2, 1) := dk_5 (dk_at dksX0_restOf_1 23 rfl rfl)
theorem dX0_restOf_48 : decode cX0_restOf 48 = .ok (.invokevirtual 263, 3) := dk_182 1 7 (dk_at dksX0_restOf_2 0 rfl rfl)
theorem dX0_restOf_51 : decode cX0_restOf 51 = .ok (.putfield 257, 3) := dk_181 1 1 (dk_at dksX0_restOf_2 3 rfl rfl)
theorem dX0_restOf_54 : decode cX0_restOf 54 = .ok (.aload 4, 2) := dk_25 4 (dk_at dksX0_restOf_2 6 rfl rfl)
theorem dX0_restOf_56 : decode cX0_restOf 56 = .ok (.aload_n 0, 1) := dk_42 (dk_at dksX0_restOf_2 8 rfl rfl)
theorem dX0_restOf_57 : decode cX0_restOf 57 = .ok (.iload_n 2, 1) := dk_28 (dk_at dksX0_restOf_2 9 rfl rfl)
theorem dX0_restOf_58 : decode cX0_restOf 58 = .ok (.iconst 2, 1) := dk_5 (dk_at dksX0_restOf_2 10 rfl rfl)
theorem dX0_restOf_59 : decode cX0_restOf 59 = .ok (.invokevirtual 263, 3) := dk_182 1 7 (dk_at dksX0_restOf_2 11 rfl rfl)
theorem dX0_restOf_62 : decode cX0_restOf 62 = .ok (.putfield 257, 3) := dk_181 1 1 (dk_at dksX0_restOf_2 14 rfl rfl)
theorem dX0_restOf_65 : decode cX0_restOf 65 = .ok (.iload 6, 2) := dk_21 6 (dk_at dksX0_restOf_2 17 rfl rfl)
theorem dX0_restOf_67 : decode cX0_restOf 67 = .ok (.aload_n 3, 1) := dk_45 (dk_at dksX0_restOf_2 19 rfl rfl)
theorem dX0_restOf_68 : decode cX0_restOf 68 = .ok (.getfield 257, 3) := dk_180 1 1 (dk_at dksX0_restOf_2 20 rfl rfl)
theorem dX0_restOf_71 : decode cX0_restOf 71 = .ok (.if_icmp .ne 16, 3) := dk_160 0 16 (dk_at dksX0_restOf_3 0 rfl rfl)
theorem dX0_restOf_74 : decode cX0_restOf 74 = .ok (.iload 7, 2) := dk_21 7 (dk_at dksX0_restOf_3 3 rfl rfl)
theorem dX0_restOf_76 : decode cX0_restOf 76 = .ok (.aload 4, 2) := dk_25 4 (dk_at dksX0_restOf_3 5 rfl rfl)
theorem dX0_restOf_78 : decode cX0_restOf 78 = .ok (.getfield 257, 3) := dk_180 1 1 (dk_at dksX0_restOf_3 7 rfl rfl)
theorem dX0_restOf_81 : decode cX0_restOf 81 = .ok (.if_icmp .ne 6, 3) := dk_160 0 6 (dk_at dksX0_restOf_3 10 rfl rfl)
theorem dX0_restOf_84 : decode cX0_restOf 84 = .ok (.iload 5, 2) := dk_21 5 (dk_at dksX0_restOf_3 13 rfl rfl)
theorem dX0_restOf_86 : decode cX0_restOf 86 = .ok (.ireturn, 1) := dk_172 (dk_at dksX0_restOf_3 15 rfl rfl)
theorem dX0_restOf_87 : decode cX0_restOf 87 = .ok (.iinc 5 1, 3) := dk_132 5 1 (dk_at dksX0_restOf_3 16 rfl rfl)
theorem dX0_restOf_90 : decode cX0_restOf 90 = .ok (.goto (-66), 3) := dk_167 255 190 (dk_at dksX0_restOf_3 19 rfl rfl)
theorem dX0_restOf_93 : decode cX0_restOf 93 = .ok (.bipush (-9), 2) := dk_16 247 (dk_at dksX0_restOf_3 22 rfl rfl)
theorem dX0_restOf_95 : decode cX0_restOf 95 = .ok (.ireturn, 1) := dk_172 (dk_at dksX0_restOf_4 0 rfl rfl)
abbrev cX0_wrongFor : ByteArray := prog_1_method_20_code
def yX0_wrongFor : MethodName := ⟨RX0, "wrongFor", "(I)I"⟩
def dkwX0_wrongFor_4 : List UInt8 := [42, 89, 180, 0, 169, 4, 96, 181, 0, 169, 29, 172]
abbrev dktX0_wrongFor_4 : List UInt8 := dkwX0_wrongFor_4 ++ []
def dkwX0_wrongFor_3 : List UInt8 := [155, 0, 8, 21, 4, 167, 0, 5, 16, 247, 62, 132, 4, 1, 167, 255, 187, 42, 180, 0, 65, 4, 28, 79]
abbrev dktX0_wrongFor_3 : List UInt8 := dkwX0_wrongFor_3 ++ dktX0_wrongFor_4
def dkwX0_wrongFor_2 : List UInt8 := [182, 1, 4, 20, 1, 10, 42, 180, 0, 223, 105, 27, 133, 42, 180, 0, 55, 3, 182, 0, 236, 105, 148]
abbrev dktX0_wrongFor_2 : List UInt8 := dkwX0_wrongFor_2 ++ dktX0_wrongFor_3
def dkwX0_wrongFor_1 : List UInt8 := [160, 0, 62, 42, 180, 0, 65, 4, 21, 4, 79, 42, 89, 180, 0, 169, 4, 96, 181, 0, 169, 42]
abbrev dktX0_wrongFor_1 : List UInt8 := dkwX0_wrongFor_1 ++ dktX0_wrongFor_2
def dkwX0_wrongFor_0 : List UInt8 := [42, 180, 0, 65, 4, 46, 61, 16, 247, 62, 3, 54, 4, 21, 4, 16, 20, 163, 0, 68, 29, 16, 247]
abbrev dktX0_wrongFor_0 : List UInt8 := dkwX0_wrongFor_0 ++ dktX0_wrongFor_1
theorem dksX0_wrongFor_0 : cX0_wrongFor.data.toList.drop 0 = dktX0_wrongFor_0 := by decide +kernel
theorem dksX0_wrongFor_1 : cX0_wrongFor.data.toList.drop 23 = dktX0_wrongFor_1 := dk_seg dksX0_wrongFor_0 23 rfl rfl
theorem dksX0_wrongFor_2 : cX0_wrongFor.data.toList.drop 45 = dktX0_wrongFor_2 := dk_seg dksX0_wrongFor_1 22 rfl rfl
theorem dksX0_wrongFor_3 : cX0_wrongFor.data.toList.drop 68 = dktX0_wrongFor_3 := dk_seg dksX0_wrongFor_2 23 rfl rfl
theorem dksX0_wrongFor_4 : cX0_wrongFor.data.toList.drop 92 = dktX0_wrongFor_4 := dk_seg dksX0_wrongFor_3 24 rfl rfl
theorem dX0_wrongFor_0 : decode cX0_wrongFor 0 = .ok (.aload_n 0, 1) := dk_42 (dk_at dksX0_wrongFor_0 0 rfl rfl)
theorem dX0_wrongFor_1 : decode cX0_wrongFor 1 = .ok (.getfield 65, 3) := dk_180 0 65 (dk_at dksX0_wrongFor_0 1 rfl rfl)
theorem dX0_wrongFor_4 : decode cX0_wrongFor 4 = .ok (.iconst 1, 1) := dk_4 (dk_at dksX0_wrongFor_0 4 rfl rfl)
theorem dX0_wrongFor_5 : decode cX0_wrongFor 5 = .ok (.iaload, 1) := dk_46 (dk_at dksX0_wrongFor_0 5 rfl rfl)
theorem dX0_wrongFor_6 : decode cX0_wrongFor 6 = .ok (.istore_n 2, 1) := dk_61 (dk_at dksX0_wrongFor_0 6 rfl rfl)
theorem dX0_wrongFor_7 : decode cX0_wrongFor 7 = .ok (.bipush (-9), 2) := dk_16 247 (dk_at dksX0_wrongFor_0 7 rfl rfl)
theorem dX0_wrongFor_9 : decode cX0_wrongFor 9 = .ok (.istore_n 3, 1) := dk_62 (dk_at dksX0_wrongFor_0 9 rfl rfl)
theorem dX0_wrongFor_10 : decode cX0_wrongFor 10 = .ok (.iconst 0, 1) := dk_3 (dk_at dksX0_wrongFor_0 10 rfl rfl)
theorem dX0_wrongFor_11 : decode cX0_wrongFor 11 = .ok (.istore 4, 2) := dk_54 4 (dk_at dksX0_wrongFor_0 11 rfl rfl)
theorem dX0_wrongFor_13 : decode cX0_wrongFor 13 = .ok (.iload 4, 2) := dk_21 4 (dk_at dksX0_wrongFor_0 13 rfl rfl)
theorem dX0_wrongFor_15 : decode cX0_wrongFor 15 = .ok (.bipush 20, 2) := dk_16 20 (dk_at dksX0_wrongFor_0 15 rfl rfl)
theorem dX0_wrongFor_17 : decode cX0_wrongFor 17 = .ok (.if_icmp .gt 68, 3) := dk_163 0 68 (dk_at dksX0_wrongFor_0 17 rfl rfl)
theorem dX0_wrongFor_20 : decode cX0_wrongFor 20 = .ok (.iload_n 3, 1) := dk_29 (dk_at dksX0_wrongFor_0 20 rfl rfl)
theorem dX0_wrongFor_21 : decode cX0_wrongFor 21 = .ok (.bipush (-9), 2) := dk_16 247 (dk_at dksX0_wrongFor_0 21 rfl rfl)
theorem dX0_wrongFor_23 : decode cX0_wrongFor 23 = .ok (.if_icmp .ne 62, 3) := dk_160 0 62 (dk_at dksX0_wrongFor_1 0 rfl rfl)
theorem dX0_wrongFor_26 : decode cX0_wrongFor 26 = .ok (.aload_n 0, 1) := dk_42 (dk_at dksX0_wrongFor_1 3 rfl rfl)
theorem dX0_wrongFor_27 : decode cX0_wrongFor 27 = .ok (.getfield 65, 3) := dk_180 0 65 (dk_at dksX0_wrongFor_1 4 rfl rfl)
theorem dX0_wrongFor_30 : decode cX0_wrongFor 30 = .ok (.iconst 1, 1) := dk_4 (dk_at dksX0_wrongFor_1 7 rfl rfl)
theorem dX0_wrongFor_31 : decode cX0_wrongFor 31 = .ok (.iload 4, 2) := dk_21 4 (dk_at dksX0_wrongFor_1 8 rfl rfl)
theorem dX0_wrongFor_33 : decode cX0_wrongFor 33 = .ok (.iastore, 1) := dk_79 (dk_at dksX0_wrongFor_1 10 rfl rfl)
theorem dX0_wrongFor_34 : decode cX0_wrongFor 34 = .ok (.aload_n 0, 1) := dk_42 (dk_at dksX0_wrongFor_1 11 rfl rfl)
theorem dX0_wrongFor_35 : decode cX0_wrongFor 35 = .ok (.dup, 1) := dk_89 (dk_at dksX0_wrongFor_1 12 rfl rfl)
theorem dX0_wrongFor_36 : decode cX0_wrongFor 36 = .ok (.getfield 169, 3) := dk_180 0 169 (dk_at dksX0_wrongFor_1 13 rfl rfl)
theorem dX0_wrongFor_39 : decode cX0_wrongFor 39 = .ok (.iconst 1, 1) := dk_4 (dk_at dksX0_wrongFor_1 16 rfl rfl)
theorem dX0_wrongFor_40 : decode cX0_wrongFor 40 = .ok (.iadd, 1) := dk_96 (dk_at dksX0_wrongFor_1 17 rfl rfl)
theorem dX0_wrongFor_41 : decode cX0_wrongFor 41 = .ok (.putfield 169, 3) := dk_181 0 169 (dk_at dksX0_wrongFor_1 18 rfl rfl)
theorem dX0_wrongFor_44 : decode cX0_wrongFor 44 = .ok (.aload_n 0, 1) := dk_42 (dk_at dksX0_wrongFor_1 21 rfl rfl)
theorem dX0_wrongFor_45 : decode cX0_wrongFor 45 = .ok (.invokevirtual 260, 3) := dk_182 1 4 (dk_at dksX0_wrongFor_2 0 rfl rfl)
theorem dX0_wrongFor_48 : decode cX0_wrongFor 48 = .ok (.ldc2_w 266, 3) := dk_20 1 10 (dk_at dksX0_wrongFor_2 3 rfl rfl)
theorem dX0_wrongFor_51 : decode cX0_wrongFor 51 = .ok (.aload_n 0, 1) := dk_42 (dk_at dksX0_wrongFor_2 6 rfl rfl)
theorem dX0_wrongFor_52 : decode cX0_wrongFor 52 = .ok (.getfield 223, 3) := dk_180 0 223 (dk_at dksX0_wrongFor_2 7 rfl rfl)
theorem dX0_wrongFor_55 : decode cX0_wrongFor 55 = .ok (.lmul, 1) := dk_105 (dk_at dksX0_wrongFor_2 10 rfl rfl)
theorem dX0_wrongFor_56 : decode cX0_wrongFor 56 = .ok (.iload_n 1, 1) := dk_27 (dk_at dksX0_wrongFor_2 11 rfl rfl)
theorem dX0_wrongFor_57 : decode cX0_wrongFor 57 = .ok (.i2l, 1) := dk_133 (dk_at dksX0_wrongFor_2 12 rfl rfl)
theorem dX0_wrongFor_58 : decode cX0_wrongFor 58 = .ok (.aload_n 0, 1) := dk_42 (dk_at dksX0_wrongFor_2 13 rfl rfl)
theorem dX0_wrongFor_59 : decode cX0_wrongFor 59 = .ok (.getfield 55, 3) := dk_180 0 55 (dk_at dksX0_wrongFor_2 14 rfl rfl)
theorem dX0_wrongFor_62 : decode cX0_wrongFor 62 = .ok (.iconst 0, 1) := dk_3 (dk_at dksX0_wrongFor_2 17 rfl rfl)
theorem dX0_wrongFor_63 : decode cX0_wrongFor 63 = .ok (.invokevirtual 236, 3) := dk_182 0 236 (dk_at dksX0_wrongFor_2 18 rfl rfl)
theorem dX0_wrongFor_66 : decode cX0_wrongFor 66 = .ok (.lmul, 1) := dk_105 (dk_at dksX0_wrongFor_2 21 rfl rfl)
theorem dX0_wrongFor_67 : decode cX0_wrongFor 67 = .ok (.lcmp, 1) := dk_148 (dk_at dksX0_wrongFor_2 22 rfl rfl)
theorem dX0_wrongFor_68 : decode cX0_wrongFor 68 = .ok (.ifCond .lt 8, 3) := dk_155 0 8 (dk_at dksX0_wrongFor_3 0 rfl rfl)
theorem dX0_wrongFor_71 : decode cX0_wrongFor 71 = .ok (.iload 4, 2) := dk_21 4 (dk_at dksX0_wrongFor_3 3 rfl rfl)
theorem dX0_wrongFor_73 : decode cX0_wrongFor 73 = .ok (.goto 5, 3) := dk_167 0 5 (dk_at dksX0_wrongFor_3 5 rfl rfl)
theorem dX0_wrongFor_76 : decode cX0_wrongFor 76 = .ok (.bipush (-9), 2) := dk_16 247 (dk_at dksX0_wrongFor_3 8 rfl rfl)
theorem dX0_wrongFor_78 : decode cX0_wrongFor 78 = .ok (.istore_n 3, 1) := dk_62 (dk_at dksX0_wrongFor_3 10 rfl rfl)
theorem dX0_wrongFor_79 : decode cX0_wrongFor 79 = .ok (.iinc 4 1, 3) := dk_132 4 1 (dk_at dksX0_wrongFor_3 11 rfl rfl)
theorem dX0_wrongFor_82 : decode cX0_wrongFor 82 = .ok (.goto (-69), 3) := dk_167 255 187 (dk_at dksX0_wrongFor_3 14 rfl rfl)
theorem dX0_wrongFor_85 : decode cX0_wrongFor 85 = .ok (.aload_n 0, 1) := dk_42 (dk_at dksX0_wrongFor_3 17 rfl rfl)
theorem dX0_wrongFor_86 : decode cX0_wrongFor 86 = .ok (.getfield 65, 3) := dk_180 0 65 (dk_at dksX0_wrongFor_3 18 rfl rfl)
theorem dX0_wrongFor_89 : decode cX0_wrongFor 89 = .ok (.iconst 1, 1) := dk_4 (dk_at dksX0_wrongFor_3 21 rfl rfl)
theorem dX0_wrongFor_90 : decode cX0_wrongFor 90 = .ok (.iload_n 2, 1) := dk_28 (dk_at dksX0_wrongFor_3 22 rfl rfl)
theorem dX0_wrongFor_91 : decode cX0_wrongFor 91 = .ok (.iastore, 1) := dk_79 (dk_at dksX0_wrongFor_3 23 rfl rfl)
theorem dX0_wrongFor_92 : decode cX0_wrongFor 92 = .ok (.aload_n 0, 1) := dk_42 (dk_at dksX0_wrongFor_4 0 rfl rfl)
theorem dX0_wrongFor_93 : decode cX0_wrongFor 93 = .ok (.dup, 1) := dk_89 (dk_at dksX0_wrongFor_4 1 rfl rfl)
theorem dX0_wrongFor_94 : decode cX0_wrongFor 94 = .ok (.getfield 169, 3) := dk_180 0 169 (dk_at dksX0_wrongFor_4 2 rfl rfl)
theorem dX0_wrongFor_97 : decode cX0_wrongFor 97 = .ok (.iconst 1, 1) := dk_4 (dk_at dksX0_wrongFor_4 5 rfl rfl)
theorem dX0_wrongFor_98 : decode cX0_wrongFor 98 = .ok (.iadd, 1) := dk_96 (dk_at dksX0_wrongFor_4 6 rfl rfl)
theorem dX0_wrongFor_99 : decode cX0_wrongFor 99 = .ok (.putfield 169, 3) := dk_181 0 169 (dk_at dksX0_wrongFor_4 7 rfl rfl)
theorem dX0_wrongFor_102 : decode cX0_wrongFor 102 = .ok (.iload_n 3, 1) := dk_29 (dk_at dksX0_wrongFor_4 10 rfl rfl)
theorem dX0_wrongFor_103 : decode cX0_wrongFor 103 = .ok (.ireturn, 1) := dk_172 (dk_at dksX0_wrongFor_4 11 rfl rfl)
abbrev cX0_earlyFor : ByteArray := prog_1_method_21_code
def yX0_earlyFor : MethodName := ⟨RX0, "earlyFor", "(I)I"⟩
def dkwX0_earlyFor_4 : List UInt8 := [172]
abbrev dktX0_earlyFor_4 : List UInt8 := dkwX0_earlyFor_4 ++ []
def dkwX0_earlyFor_3 : List UInt8 := [132, 6, 1, 167, 255, 202, 42, 180, 0, 65, 5, 28, 79, 42, 89, 180, 0, 169, 4, 96, 181, 0, 169, 29]
abbrev dktX0_earlyFor_3 : List UInt8 := dkwX0_earlyFor_3 ++ dktX0_earlyFor_4
def dkwX0_earlyFor_2 : List UInt8 := [180, 0, 95, 27, 47, 22, 4, 148, 158, 0, 14, 21, 6, 62, 42, 180, 0, 95, 27, 47, 55, 4]
abbrev dktX0_earlyFor_2 : List UInt8 := dkwX0_earlyFor_2 ++ dktX0_earlyFor_3
def dkwX0_earlyFor_1 : List UInt8 := [180, 0, 65, 5, 21, 6, 79, 42, 89, 180, 0, 169, 4, 96, 181, 0, 169, 42, 182, 1, 4, 42]
abbrev dktX0_earlyFor_1 : List UInt8 := dkwX0_earlyFor_1 ++ dktX0_earlyFor_2
def dkwX0_earlyFor_0 : List UInt8 := [42, 180, 0, 65, 5, 46, 61, 3, 62, 20, 1, 12, 55, 4, 3, 54, 6, 21, 6, 8, 163, 0, 54, 42]
abbrev dktX0_earlyFor_0 : List UInt8 := dkwX0_earlyFor_0 ++ dktX0_earlyFor_1
theorem dksX0_earlyFor_0 : cX0_earlyFor.data.toList.drop 0 = dktX0_earlyFor_0 := by decide +kernel
theorem dksX0_earlyFor_1 : cX0_earlyFor.data.toList.drop 24 = dktX0_earlyFor_1 := dk_seg dksX0_earlyFor_0 24 rfl rfl
theorem dksX0_earlyFor_2 : cX0_earlyFor.data.toList.drop 46 = dktX0_earlyFor_2 := dk_seg dksX0_earlyFor_1 22 rfl rfl
theorem dksX0_earlyFor_3 : cX0_earlyFor.data.toList.drop 68 = dktX0_earlyFor_3 := dk_seg dksX0_earlyFor_2 22 rfl rfl
theorem dksX0_earlyFor_4 : cX0_earlyFor.data.toList.drop 92 = dktX0_earlyFor_4 := dk_seg dksX0_earlyFor_3 24 rfl rfl
theorem dX0_earlyFor_0 : decode cX0_earlyFor 0 = .ok (.aload_n 0, 1) := dk_42 (dk_at dksX0_earlyFor_0 0 rfl rfl)
theorem dX0_earlyFor_1 : decode cX0_earlyFor 1 = .ok (.getfield 65, 3) := dk_180 0 65 (dk_at dksX0_earlyFor_0 1 rfl rfl)
theorem dX0_earlyFor_4 : decode cX0_earlyFor 4 = .ok (.iconst 2, 1) := dk_5 (dk_at dksX0_earlyFor_0 4 rfl rfl)
theorem dX0_earlyFor_5 : decode cX0_earlyFor 5 = .ok (.iaload, 1) := dk_46 (dk_at dksX0_earlyFor_0 5 rfl rfl)
theorem dX0_earlyFor_6 : decode cX0_earlyFor 6 = .ok (.istore_n 2, 1) := dk_61 (dk_at dksX0_earlyFor_0 6 rfl rfl)
theorem dX0_earlyFor_7 : decode cX0_earlyFor 7 = .ok (.iconst 0, 1) := dk_3 (dk_at dksX0_earlyFor_0 7 rfl rfl)
theorem dX0_earlyFor_8 : decode cX0_earlyFor 8 = .ok (.istore_n 3, 1) := dk_62 (dk_at dksX0_earlyFor_0 8 rfl rfl)
theorem dX0_earlyFor_9 : decode cX0_earlyFor 9 = .ok (.ldc2_w 268, 3) := dk_20 1 12 (dk_at dksX0_earlyFor_0 9 rfl rfl)
theorem dX0_earlyFor_12 : decode cX0_earlyFor 12 = .ok (.lstore 4, 2) := dk_55 4 (dk_at dksX0_earlyFor_0 12 rfl rfl)
theorem dX0_earlyFor_14 : decode cX0_earlyFor 14 = .ok (.iconst 0, 1) := dk_3 (dk_at dksX0_earlyFor_0 14 rfl rfl)
theorem dX0_earlyFor_15 : decode cX0_earlyFor 15 = .ok (.istore 6, 2) := dk_54 6 (dk_at dksX0_earlyFor_0 15 rfl rfl)
theorem dX0_earlyFor_17 : decode cX0_earlyFor 17 = .ok (.iload 6, 2) := dk_21 6 (dk_at dksX0_earlyFor_0 17 rfl rfl)
theorem dX0_earlyFor_19 : decode cX0_earlyFor 19 = .ok (.iconst 5, 1) := dk_8 (dk_at dksX0_earlyFor_0 19 rfl rfl)
theorem dX0_earlyFor_20 : decode cX0_earlyFor 20 = .ok (.if_icmp .gt 54, 3) := dk_163 0 54 (dk_at dksX0_earlyFor_0 20 rfl rfl)
theorem dX0_earlyFor_23 : decode cX0_earlyFor 23 = .ok (.aload_n 0, 1) := dk_42 (dk_at dksX0_earlyFor_0 23 rfl rfl)
theorem dX0_earlyFor_24 : decode cX0_earlyFor 24 = .ok (.getfield 65, 3) := dk_180 0 65 (dk_at dksX0_earlyFor_1 0 rfl rfl)
theorem dX0_earlyFor_27 : decode cX0_earlyFor 27 = .ok (.iconst 2, 1) := dk_5 (dk_at dksX0_earlyFor_1 3 rfl rfl)
theorem dX0_earlyFor_28 : decode cX0_earlyFor 28 = .ok (.iload 6, 2) := dk_21 6 (dk_at dksX0_earlyFor_1 4 rfl rfl)
theorem dX0_earlyFor_30 : decode cX0_earlyFor 30 = .ok (.iastore, 1) := dk_79 (dk_at dksX0_earlyFor_1 6 rfl rfl)
theorem dX0_earlyFor_31 : decode cX0_earlyFor 31 = .ok (.aload_n 0, 1) := dk_42 (dk_at dksX0_earlyFor_1 7 rfl rfl)
theorem dX0_earlyFor_32 : decode cX0_earlyFor 32 = .ok (.dup, 1) := dk_89 (dk_at dksX0_earlyFor_1 8 rfl rfl)
theorem dX0_earlyFor_33 : decode cX0_earlyFor 33 = .ok (.getfield 169, 3) := dk_180 0 169 (dk_at dksX0_earlyFor_1 9 rfl rfl)
theorem dX0_earlyFor_36 : decode cX0_earlyFor 36 = .ok (.iconst 1, 1) := dk_4 (dk_at dksX0_earlyFor_1 12 rfl rfl)
theorem dX0_earlyFor_37 : decode cX0_earlyFor 37 = .ok (.iadd, 1) := dk_96 (dk_at dksX0_earlyFor_1 13 rfl rfl)
theorem dX0_earlyFor_38 : decode cX0_earlyFor 38 = .ok (.putfield 169, 3) := dk_181 0 169 (dk_at dksX0_earlyFor_1 14 rfl rfl)
theorem dX0_earlyFor_41 : decode cX0_earlyFor 41 = .ok (.aload_n 0, 1) := dk_42 (dk_at dksX0_earlyFor_1 17 rfl rfl)
theorem dX0_earlyFor_42 : decode cX0_earlyFor 42 = .ok (.invokevirtual 260, 3) := dk_182 1 4 (dk_at dksX0_earlyFor_1 18 rfl rfl)
theorem dX0_earlyFor_45 : decode cX0_earlyFor 45 = .ok (.aload_n 0, 1) := dk_42 (dk_at dksX0_earlyFor_1 21 rfl rfl)
theorem dX0_earlyFor_46 : decode cX0_earlyFor 46 = .ok (.getfield 95, 3) := dk_180 0 95 (dk_at dksX0_earlyFor_2 0 rfl rfl)
theorem dX0_earlyFor_49 : decode cX0_earlyFor 49 = .ok (.iload_n 1, 1) := dk_27 (dk_at dksX0_earlyFor_2 3 rfl rfl)
theorem dX0_earlyFor_50 : decode cX0_earlyFor 50 = .ok (.laload, 1) := dk_47 (dk_at dksX0_earlyFor_2 4 rfl rfl)
theorem dX0_earlyFor_51 : decode cX0_earlyFor 51 = .ok (.lload 4, 2) := dk_22 4 (dk_at dksX0_earlyFor_2 5 rfl rfl)
theorem dX0_earlyFor_53 : decode cX0_earlyFor 53 = .ok (.lcmp, 1) := dk_148 (dk_at dksX0_earlyFor_2 7 rfl rfl)
theorem dX0_earlyFor_54 : decode cX0_earlyFor 54 = .ok (.ifCond .le 14, 3) := dk_158 0 14 (dk_at dksX0_earlyFor_2 8 rfl rfl)
theorem dX0_earlyFor_57 : decode cX0_earlyFor 57 = .ok (.iload 6, 2) := dk_21 6 (dk_at dksX0_earlyFor_2 11 rfl rfl)
theorem dX0_earlyFor_59 : decode cX0_earlyFor 59 = .ok (.istore_n 3, 1) := dk_62 (dk_at dksX0_earlyFor_2 13 rfl rfl)
theorem dX0_earlyFor_60 : decode cX0_earlyFor 60 = .ok (.aload_n 0, 1) := dk_42 (dk_at dksX0_earlyFor_2 14 rfl rfl)
theorem dX0_earlyFor_61 : decode cX0_earlyFor 61 = .ok (.getfield 95, 3) := dk_180 0 95 (dk_at dksX0_earlyFor_2 15 rfl rfl)
theorem dX0_earlyFor_64 : decode cX0_earlyFor 64 = .ok (.iload_n 1, 1) := dk_27 (dk_at dksX0_earlyFor_2 18 rfl rfl)
theorem dX0_earlyFor_65 : decode cX0_earlyFor 65 = .ok (.laload, 1) := dk_47 (dk_at dksX0_earlyFor_2 19 rfl rfl)
theorem dX0_earlyFor_66 : decode cX0_earlyFor 66 = .ok (.lstore 4, 2) := dk_55 4 (dk_at dksX0_earlyFor_2 20 rfl rfl)
theorem dX0_earlyFor_68 : decode cX0_earlyFor 68 = .ok (.iinc 6 1, 3) := dk_132 6 1 (dk_at dksX0_earlyFor_3 0 rfl rfl)
theorem dX0_earlyFor_71 : decode cX0_earlyFor 71 = .ok (.goto (-54), 3) := dk_167 255 202 (dk_at dksX0_earlyFor_3 3 rfl rfl)
theorem dX0_earlyFor_74 : decode cX0_earlyFor 74 = .ok (.aload_n 0, 1) := dk_42 (dk_at dksX0_earlyFor_3 6 rfl rfl)
theorem dX0_earlyFor_75 : decode cX0_earlyFor 75 = .ok (.getfield 65, 3) := dk_180 0 65 (dk_at dksX0_earlyFor_3 7 rfl rfl)
theorem dX0_earlyFor_78 : decode cX0_earlyFor 78 = .ok (.iconst 2, 1) := dk_5 (dk_at dksX0_earlyFor_3 10 rfl rfl)
theorem dX0_earlyFor_79 : decode cX0_earlyFor 79 = .ok (.iload_n 2, 1) := dk_28 (dk_at dksX0_earlyFor_3 11 rfl rfl)
theorem dX0_earlyFor_80 : decode cX0_earlyFor 80 = .ok (.iastore, 1) := dk_79 (dk_at dksX0_earlyFor_3 12 rfl rfl)
theorem dX0_earlyFor_81 : decode cX0_earlyFor 81 = .ok (.aload_n 0, 1) := dk_42 (dk_at dksX0_earlyFor_3 13 rfl rfl)
theorem dX0_earlyFor_82 : decode cX0_earlyFor 82 = .ok (.dup, 1) := dk_89 (dk_at dksX0_earlyFor_3 14 rfl rfl)
theorem dX0_earlyFor_83 : decode cX0_earlyFor 83 = .ok (.getfield 169, 3) := dk_180 0 169 (dk_at dksX0_earlyFor_3 15 rfl rfl)
theorem dX0_earlyFor_86 : decode cX0_earlyFor 86 = .ok (.iconst 1, 1) := dk_4 (dk_at dksX0_earlyFor_3 18 rfl rfl)
theorem dX0_earlyFor_87 : decode cX0_earlyFor 87 = .ok (.iadd, 1) := dk_96 (dk_at dksX0_earlyFor_3 19 rfl rfl)
theorem dX0_earlyFor_88 : decode cX0_earlyFor 88 = .ok (.putfield 169, 3) := dk_181 0 169 (dk_at dksX0_earlyFor_3 20 rfl rfl)
theorem dX0_earlyFor_91 : decode cX0_earlyFor 91 = .ok (.iload_n 3, 1) := dk_29 (dk_at dksX0_earlyFor_3 23 rfl rfl)
theorem dX0_earlyFor_92 : decode cX0_earlyFor 92 = .ok (.ireturn, 1) := dk_172 (dk_at dksX0_earlyFor_4 0 rfl rfl)
abbrev cX0_silentTold : ByteArray := prog_1_method_50_code
def yX0_silentTold : MethodName := ⟨RX0, "silentTold", "(II)I"⟩
def dkwX0_silentTold_2 : List UInt8 := [182, 1, 155, 172]
abbrev dktX0_silentTold_2 : List UInt8 := dkwX0_silentTold_2 ++ []
def dkwX0_silentTold_1 : List UInt8 := [184, 0, 13, 16, 254, 184, 0, 9, 42, 182, 1, 141, 42, 42, 180, 0, 61, 27, 50, 192, 0, 32, 28]
abbrev dktX0_silentTold_1 : List UInt8 := dkwX0_silentTold_1 ++ dktX0_silentTold_2
def dkwX0_silentTold_0 : List UInt8 := [42, 27, 182, 1, 112, 42, 28, 182, 1, 104, 42, 180, 0, 61, 27, 50, 182, 1, 115, 133, 10, 20, 1, 150]
abbrev dktX0_silentTold_0 : List UInt8 := dkwX0_silentTold_0 ++ dktX0_silentTold_1
theorem dksX0_silentTold_0 : cX0_silentTold.data.toList.drop 0 = dktX0_silentTold_0 := by decide +kernel
theorem dksX0_silentTold_1 : cX0_silentTold.data.toList.drop 24 = dktX0_silentTold_1 := dk_seg dksX0_silentTold_0 24 rfl rfl
theorem dksX0_silentTold_2 : cX0_silentTold.data.toList.drop 47 = dktX0_silentTold_2 := dk_seg dksX0_silentTold_1 23 rfl rfl
theorem dX0_silentTold_0 : decode cX0_silentTold 0 = .ok (.aload_n 0, 1) := dk_42 (dk_at dksX0_silentTold_0 0 rfl rfl)
theorem dX0_silentTold_1 : decode cX0_silentTold 1 = .ok (.iload_n 1, 1) := dk_27 (dk_at dksX0_silentTold_0 1 rfl rfl)
theorem dX0_silentTold_2 : decode cX0_silentTold 2 = .ok (.invokevirtual 368, 3) := dk_182 1 112 (dk_at dksX0_silentTold_0 2 rfl rfl)
theorem dX0_silentTold_5 : decode cX0_silentTold 5 = .ok (.aload_n 0, 1) := dk_42 (dk_at dksX0_silentTold_0 5 rfl rfl)
theorem dX0_silentTold_6 : decode cX0_silentTold 6 = .ok (.iload_n 2, 1) := dk_28 (dk_at dksX0_silentTold_0 6 rfl rfl)
theorem dX0_silentTold_7 : decode cX0_silentTold 7 = .ok (.invokevirtual 360, 3) := dk_182 1 104 (dk_at dksX0_silentTold_0 7 rfl rfl)
theorem dX0_silentTold_10 : decode cX0_silentTold 10 = .ok (.aload_n 0, 1) := dk_42 (dk_at dksX0_silentTold_0 10 rfl rfl)
theorem dX0_silentTold_11 : decode cX0_silentTold 11 = .ok (.getfield 61, 3) := dk_180 0 61 (dk_at dksX0_silentTold_0 11 rfl rfl)
theorem dX0_silentTold_14 : decode cX0_silentTold 14 = .ok (.iload_n 1, 1) := dk_27 (dk_at dksX0_silentTold_0 14 rfl rfl)
theorem dX0_silentTold_15 : decode cX0_silentTold 15 = .ok (.aaload, 1) := dk_50 (dk_at dksX0_silentTold_0 15 rfl rfl)
theorem dX0_silentTold_16 : decode cX0_silentTold 16 = .ok (.invokevirtual 371, 3) := dk_182 1 115 (dk_at dksX0_silentTold_0 16 rfl rfl)
theorem dX0_silentTold_19 : decode cX0_silentTold 19 = .ok (.i2l, 1) := dk_133 (dk_at dksX0_silentTold_0 19 rfl rfl)
theorem dX0_silentTold_20 : decode cX0_silentTold 20 = .ok (.lconst 1, 1) := dk_10 (dk_at dksX0_silentTold_0 20 rfl rfl)
theorem dX0_silentTold_21 : decode cX0_silentTold 21 = .ok (.ldc2_w 406, 3) := dk_20 1 150 (dk_at dksX0_silentTold_0 21 rfl rfl)
theorem dX0_silentTold_24 : decode cX0_silentTold 24 = .ok (.invokestatic 13, 3) := dk_184 0 13 (dk_at dksX0_silentTold_1 0 rfl rfl)
theorem dX0_silentTold_27 : decode cX0_silentTold 27 = .ok (.bipush (-2), 2) := dk_16 254 (dk_at dksX0_silentTold_1 3 rfl rfl)
theorem dX0_silentTold_29 : decode cX0_silentTold 29 = .ok (.invokestatic 9, 3) := dk_184 0 9 (dk_at dksX0_silentTold_1 5 rfl rfl)
theorem dX0_silentTold_32 : decode cX0_silentTold 32 = .ok (.aload_n 0, 1) := dk_42 (dk_at dksX0_silentTold_1 8 rfl rfl)
theorem dX0_silentTold_33 : decode cX0_silentTold 33 = .ok (.invokevirtual 397, 3) := dk_182 1 141 (dk_at dksX0_silentTold_1 9 rfl rfl)
theorem dX0_silentTold_36 : decode cX0_silentTold 36 = .ok (.aload_n 0, 1) := dk_42 (dk_at dksX0_silentTold_1 12 rfl rfl)
theorem dX0_silentTold_37 : decode cX0_silentTold 37 = .ok (.aload_n 0, 1) := dk_42 (dk_at dksX0_silentTold_1 13 rfl rfl)
theorem dX0_silentTold_38 : decode cX0_silentTold 38 = .ok (.getfield 61, 3) := dk_180 0 61 (dk_at dksX0_silentTold_1 14 rfl rfl)
theorem dX0_silentTold_41 : decode cX0_silentTold 41 = .ok (.iload_n 1, 1) := dk_27 (dk_at dksX0_silentTold_1 17 rfl rfl)
theorem dX0_silentTold_42 : decode cX0_silentTold 42 = .ok (.aaload, 1) := dk_50 (dk_at dksX0_silentTold_1 18 rfl rfl)
theorem dX0_silentTold_43 : decode cX0_silentTold 43 = .ok (.checkcast 32, 3) := dk_192 0 32 (dk_at dksX0_silentTold_1 19 rfl rfl)
theorem dX0_silentTold_46 : decode cX0_silentTold 46 = .ok (.iload_n 2, 1) := dk_28 (dk_at dksX0_silentTold_1 22 rfl rfl)
theorem dX0_silentTold_47 : decode cX0_silentTold 47 = .ok (.invokevirtual 411, 3) := dk_182 1 155 (dk_at dksX0_silentTold_2 0 rfl rfl)
theorem dX0_silentTold_50 : decode cX0_silentTold 50 = .ok (.ireturn, 1) := dk_172 (dk_at dksX0_silentTold_2 3 rfl rfl)
abbrev cX0_silentOf : ByteArray := prog_1_method_22_code
def yX0_silentOf : MethodName := ⟨RX0, "silentOf", "(LBeforeTheEnd$Sure;I)I"⟩
def dkwX0_silentOf_4 : List UInt8 := [132, 5, 1, 167, 255, 175, 132, 4, 1, 167, 255, 159, 29, 172]
abbrev dktX0_silentOf_4 : List UInt8 := dkwX0_silentOf_4 ++ []
def dkwX0_silentOf_3 : List UInt8 := [42, 21, 6, 21, 4, 3, 182, 1, 14, 153, 0, 10, 4, 21, 4, 120, 167, 0, 4, 3, 128, 62]
abbrev dktX0_silentOf_3 : List UInt8 := dkwX0_silentOf_3 ++ dktX0_silentOf_4
def dkwX0_silentOf_2 : List UInt8 := [21, 4, 182, 0, 172, 9, 148, 158, 0, 7, 4, 167, 0, 4, 3, 54, 7, 29, 21, 7, 153, 0, 23, 43]
abbrev dktX0_silentOf_2 : List UInt8 := dkwX0_silentOf_2 ++ dktX0_silentOf_3
def dkwX0_silentOf_1 : List UInt8 := [28, 46, 163, 0, 73, 42, 180, 0, 55, 28, 21, 5, 182, 0, 209, 54, 6, 42, 180, 0, 55, 21, 6]
abbrev dktX0_silentOf_1 : List UInt8 := dkwX0_silentOf_1 ++ dktX0_silentOf_2
def dkwX0_silentOf_0 : List UInt8 := [3, 62, 4, 54, 4, 21, 4, 16, 9, 163, 0, 96, 4, 54, 5, 21, 5, 42, 180, 0, 55, 180, 0, 206]
abbrev dktX0_silentOf_0 : List UInt8 := dkwX0_silentOf_0 ++ dktX0_silentOf_1
theorem dksX0_silentOf_0 : cX0_silentOf.data.toList.drop 0 = dktX0_silentOf_0 := by decide +kernel
theorem dksX0_silentOf_1 : cX0_silentOf.data.toList.drop 24 = dktX0_silentOf_1 := dk_seg dksX0_silentOf_0 24 rfl rfl
theorem dksX0_silentOf_2 : cX0_silentOf.data.toList.drop 47 = dktX0_silentOf_2 := dk_seg dksX0_silentOf_1 23 rfl rfl
theorem dksX0_silentOf_3 : cX0_silentOf.data.toList.drop 71 = dktX0_silentOf_3 := dk_seg dksX0_silentOf_2 24 rfl rfl
theorem dksX0_silentOf_4 : cX0_silentOf.data.toList.drop 93 = dktX0_silentOf_4 := dk_seg dksX0_silentOf_3 22 rfl rfl
theorem dX0_silentOf_0 : decode cX0_silentOf 0 = .ok (.iconst 0, 1) := dk_3 (dk_at dksX0_silentOf_0 0 rfl rfl)
theorem dX0_silentOf_1 : decode cX0_silentOf 1 = .ok (.istore_n 3, 1) := dk_62 (dk_at dksX0_silentOf_0 1 rfl rfl)
theorem dX0_silentOf_2 : decode cX0_silentOf 2 = .ok (.iconst 1, 1) := dk_4 (dk_at dksX0_silentOf_0 2 rfl rfl)
theorem dX0_silentOf_3 : decode cX0_silentOf 3 = .ok (.istore 4, 2) := dk_54 4 (dk_at dksX0_silentOf_0 3 rfl rfl)
theorem dX0_silentOf_5 : decode cX0_silentOf 5 = .ok (.iload 4, 2) := dk_21 4 (dk_at dksX0_silentOf_0 5 rfl rfl)
theorem dX0_silentOf_7 : decode cX0_silentOf 7 = .ok (.bipush 9, 2) := dk_16 9 (dk_at dksX0_silentOf_0 7 rfl rfl)
theorem dX0_silentOf_9 : decode cX0_silentOf 9 = .ok (.if_icmp .gt 96, 3) := dk_163 0 96 (dk_at dksX0_silentOf_0 9 rfl rfl)
theorem dX0_silentOf_12 : decode cX0_silentOf 12 = .ok (.iconst 1, 1) := dk_4 (dk_at dksX0_silentOf_0 12 rfl rfl)
theorem dX0_silentOf_13 : decode cX0_silentOf 13 = .ok (.istore 5, 2) := dk_54 5 (dk_at dksX0_silentOf_0 13 rfl rfl)
theorem dX0_silentOf_15 : decode cX0_silentOf 15 = .ok (.iload 5, 2) := dk_21 5 (dk_at dksX0_silentOf_0 15 rfl rfl)
theorem dX0_silentOf_17 : decode cX0_silentOf 17 = .ok (.aload_n 0, 1) := dk_42 (dk_at dksX0_silentOf_0 17 rfl rfl)
theorem dX0_silentOf_18 : decode cX0_silentOf 18 = .ok (.getfield 55, 3) := dk_180 0 55 (dk_at dksX0_silentOf_0 18 rfl rfl)
theorem dX0_silentOf_21 : decode cX0_silentOf 21 = .ok (.getfield 206, 3) := dk_180 0 206 (dk_at dksX0_silentOf_0 21 rfl rfl)
theorem dX0_silentOf_24 : decode cX0_silentOf 24 = .ok (.iload_n 2, 1) := dk_28 (dk_at dksX0_silentOf_1 0 rfl rfl)
theorem dX0_silentOf_25 : decode cX0_silentOf 25 = .ok (.iaload, 1) := dk_46 (dk_at dksX0_silentOf_1 1 rfl rfl)
theorem dX0_silentOf_26 : decode cX0_silentOf 26 = .ok (.if_icmp .gt 73, 3) := dk_163 0 73 (dk_at dksX0_silentOf_1 2 rfl rfl)
theorem dX0_silentOf_29 : decode cX0_silentOf 29 = .ok (.aload_n 0, 1) := dk_42 (dk_at dksX0_silentOf_1 5 rfl rfl)
theorem dX0_silentOf_30 : decode cX0_silentOf 30 = .ok (.getfield 55, 3) := dk_180 0 55 (dk_at dksX0_silentOf_1 6 rfl rfl)
theorem dX0_silentOf_33 : decode cX0_silentOf 33 = .ok (.iload_n 2, 1) := dk_28 (dk_at dksX0_silentOf_1 9 rfl rfl)
theorem dX0_silentOf_34 : decode cX0_silentOf 34 = .ok (.iload 5, 2) := dk_21 5 (dk_at dksX0_silentOf_1 10 rfl rfl)
theorem dX0_silentOf_36 : decode cX0_silentOf 36 = .ok (.invokevirtual 209, 3) := dk_182 0 209 (dk_at dksX0_silentOf_1 12 rfl rfl)
theorem dX0_silentOf_39 : decode cX0_silentOf 39 = .ok (.istore 6, 2) := dk_54 6 (dk_at dksX0_silentOf_1 15 rfl rfl)
theorem dX0_silentOf_41 : decode cX0_silentOf 41 = .ok (.aload_n 0, 1) := dk_42 (dk_at dksX0_silentOf_1 17 rfl rfl)
theorem dX0_silentOf_42 : decode cX0_silentOf 42 = .ok (.getfield 55, 3) := dk_180 0 55 (dk_at dksX0_silentOf_1 18 rfl rfl)
theorem dX0_silentOf_45 : decode cX0_silentOf 45 = .ok (.iload 6, 2) := dk_21 6 (dk_at dksX0_silentOf_1 21 rfl rfl)
theorem dX0_silentOf_47 : decode cX0_silentOf 47 = .ok (.iload 4, 2) := dk_21 4 (dk_at dksX0_silentOf_2 0 rfl rfl)
theorem dX0_silentOf_49 : decode cX0_silentOf 49 = .ok (.invokevirtual 172, 3) := dk_182 0 172 (dk_at dksX0_silentOf_2 2 rfl rfl)
theorem dX0_silentOf_52 : decode cX0_silentOf 52 = .ok (.lconst 0, 1) := dk_9 (dk_at dksX0_silentOf_2 5 rfl rfl)
theorem dX0_silentOf_53 : decode cX0_silentOf 53 = .ok (.lcmp, 1) := dk_148 (dk_at dksX0_silentOf_2 6 rfl rfl)
theorem dX0_silentOf_54 : decode cX0_silentOf 54 = .ok (.ifCond .le 7, 3) := dk_158 0 7 (dk_at dksX0_silentOf_2 7 rfl rfl)
theorem dX0_silentOf_57 : decode cX0_silentOf 57 = .ok (.iconst 1, 1) := dk_4 (dk_at dksX0_silentOf_2 10 rfl rfl)
theorem dX0_silentOf_58 : decode cX0_silentOf 58 = .ok (.goto 4, 3) := dk_167 0 4 (dk_at dksX0_silentOf_2 11 rfl rfl)
theorem dX0_silentOf_61 : decode cX0_silentOf 61 = .ok (.iconst 0, 1) := dk_3 (dk_at dksX0_silentOf_2 14 rfl rfl)
theorem dX0_silentOf_62 : decode cX0_silentOf 62 = .ok (.istore 7, 2) := dk_54 7 (dk_at dksX0_silentOf_2 15 rfl rfl)
theorem dX0_silentOf_64 : decode cX0_silentOf 64 = .ok (.iload_n 3, 1) := dk_29 (dk_at dksX0_silentOf_2 17 rfl rfl)
theorem dX0_silentOf_65 : decode cX0_silentOf 65 = .ok (.iload 7, 2) := dk_21 7 (dk_at dksX0_silentOf_2 18 rfl rfl)
theorem dX0_silentOf_67 : decode cX0_silentOf 67 = .ok (.ifCond .eq 23, 3) := dk_153 0 23 (dk_at dksX0_silentOf_2 20 rfl rfl)
theorem dX0_silentOf_70 : decode cX0_silentOf 70 = .ok (.aload_n 1, 1) := dk_43 (dk_at dksX0_silentOf_2 23 rfl rfl)
theorem dX0_silentOf_71 : decode cX0_silentOf 71 = .ok (.aload_n 0, 1) := dk_42 (dk_at dksX0_silentOf_3 0 rfl rfl)
theorem dX0_silentOf_72 : decode cX0_silentOf 72 = .ok (.iload 6, 2) := dk_21 6 (dk_at dksX0_silentOf_3 1 rfl rfl)
theorem dX0_silentOf_74 : decode cX0_silentOf 74 = .ok (.iload 4, 2) := dk_21 4 (dk_at dksX0_silentOf_3 3 rfl rfl)
theorem dX0_silentOf_76 : decode cX0_silentOf 76 = .ok (.iconst 0, 1) := dk_3 (dk_at dksX0_silentOf_3 5 rfl rfl)
theorem dX0_silentOf_77 : decode cX0_silentOf 77 = .ok (.invokevirtual 270, 3) := dk_182 1 14 (dk_at dksX0_silentOf_3 6 rfl rfl)
theorem dX0_silentOf_80 : decode cX0_silentOf 80 = .ok (.ifCond .eq 10, 3) := dk_153 0 10 (dk_at dksX0_silentOf_3 9 rfl rfl)
theorem dX0_silentOf_83 : decode cX0_silentOf 83 = .ok (.iconst 1, 1) := dk_4 (dk_at dksX0_silentOf_3 12 rfl rfl)
theorem dX0_silentOf_84 : decode cX0_silentOf 84 = .ok (.iload 4, 2) := dk_21 4 (dk_at dksX0_silentOf_3 13 rfl rfl)
theorem dX0_silentOf_86 : decode cX0_silentOf 86 = .ok (.ishl, 1) := dk_120 (dk_at dksX0_silentOf_3 15 rfl rfl)
theorem dX0_silentOf_87 : decode cX0_silentOf 87 = .ok (.goto 4, 3) := dk_167 0 4 (dk_at dksX0_silentOf_3 16 rfl rfl)
theorem dX0_silentOf_90 : decode cX0_silentOf 90 = .ok (.iconst 0, 1) := dk_3 (dk_at dksX0_silentOf_3 19 rfl rfl)
theorem dX0_silentOf_91 : decode cX0_silentOf 91 = .ok (.ior, 1) := dk_128 (dk_at dksX0_silentOf_3 20 rfl rfl)
theorem dX0_silentOf_92 : decode cX0_silentOf 92 = .ok (.istore_n 3, 1) := dk_62 (dk_at dksX0_silentOf_3 21 rfl rfl)
theorem dX0_silentOf_93 : decode cX0_silentOf 93 = .ok (.iinc 5 1, 3) := dk_132 5 1 (dk_at dksX0_silentOf_4 0 rfl rfl)
theorem dX0_silentOf_96 : decode cX0_silentOf 96 = .ok (.goto (-81), 3) := dk_167 255 175 (dk_at dksX0_silentOf_4 3 rfl rfl)
theorem dX0_silentOf_99 : decode cX0_silentOf 99 = .ok (.iinc 4 1, 3) := dk_132 4 1 (dk_at dksX0_silentOf_4 6 rfl rfl)
theorem dX0_silentOf_102 : decode cX0_silentOf 102 = .ok (.goto (-97), 3) := dk_167 255 159 (dk_at dksX0_silentOf_4 9 rfl rfl)
theorem dX0_silentOf_105 : decode cX0_silentOf 105 = .ok (.iload_n 3, 1) := dk_29 (dk_at dksX0_silentOf_4 12 rfl rfl)
theorem dX0_silentOf_106 : decode cX0_silentOf 106 = .ok (.ireturn, 1) := dk_172 (dk_at dksX0_silentOf_4 13 rfl rfl)
abbrev cX0_partnersTold : ByteArray := prog_1_method_51_code
def yX0_partnersTold : MethodName := ⟨RX0, "partnersTold", "(III)I"⟩
def dkwX0_partnersTold_1 : List UInt8 := [3, 2, 184, 0, 9, 42, 182, 1, 141, 42, 27, 28, 29, 182, 1, 159, 172]
abbrev dktX0_partnersTold_1 : List UInt8 := dkwX0_partnersTold_1 ++ []
def dkwX0_partnersTold_0 : List UInt8 := [42, 27, 182, 1, 112, 42, 28, 182, 1, 112, 42, 29, 182, 1, 104, 27, 28, 159, 0, 7, 4, 167, 0, 4]
abbrev dktX0_partnersTold_0 : List UInt8 := dkwX0_partnersTold_0 ++ dktX0_partnersTold_1
theorem dksX0_partnersTold_0 : cX0_partnersTold.data.toList.drop 0 = dktX0_partnersTold_0 := by decide +kernel
theorem dksX0_partnersTold_1 : cX0_partnersTold.data.toList.drop 24 = dktX0_partnersTold_1 := dk_seg dksX0_partnersTold_0 24 rfl rfl
theorem dX0_partnersTold_0 : decode cX0_partnersTold 0 = .ok (.aload_n 0, 1) := dk_42 (dk_at dksX0_partnersTold_0 0 rfl rfl)
theorem dX0_partnersTold_1 : decode cX0_partnersTold 1 = .ok (.iload_n 1, 1) := dk_27 (dk_at dksX0_partnersTold_0 1 rfl rfl)
theorem dX0_partnersTold_2 : decode cX0_partnersTold 2 = .ok (.invokevirtual 368, 3) := dk_182 1 112 (dk_at dksX0_partnersTold_0 2 rfl rfl)
theorem dX0_partnersTold_5 : decode cX0_partnersTold 5 = .ok (.aload_n 0, 1) := dk_42 (dk_at dksX0_partnersTold_0 5 rfl rfl)
theorem dX0_partnersTold_6 : decode cX0_partnersTold 6 = .ok (.iload_n 2, 1) := dk_28 (dk_at dksX0_partnersTold_0 6 rfl rfl)
theorem dX0_partnersTold_7 : decode cX0_partnersTold 7 = .ok (.invokevirtual 368, 3) := dk_182 1 112 (dk_at dksX0_partnersTold_0 7 rfl rfl)
theorem dX0_partnersTold_10 : decode cX0_partnersTold 10 = .ok (.aload_n 0, 1) := dk_42 (dk_at dksX0_partnersTold_0 10 rfl rfl)
theorem dX0_partnersTold_11 : decode cX0_partnersTold 11 = .ok (.iload_n 3, 1) := dk_29 (dk_at dksX0_partnersTold_0 11 rfl rfl)
theorem dX0_partnersTold_12 : decode cX0_partnersTold 12 = .ok (.invokevirtual 360, 3) := dk_182 1 104 (dk_at dksX0_partnersTold_0 12 rfl rfl)
theorem dX0_partnersTold_15 : decode cX0_partnersTold 15 = .ok (.iload_n 1, 1) := dk_27 (dk_at dksX0_partnersTold_0 15 rfl rfl)
theorem dX0_partnersTold_16 : decode cX0_partnersTold 16 = .ok (.iload_n 2, 1) := dk_28 (dk_at dksX0_partnersTold_0 16 rfl rfl)
theorem dX0_partnersTold_17 : decode cX0_partnersTold 17 = .ok (.if_icmp .eq 7, 3) := dk_159 0 7 (dk_at dksX0_partnersTold_0 17 rfl rfl)
theorem dX0_partnersTold_20 : decode cX0_partnersTold 20 = .ok (.iconst 1, 1) := dk_4 (dk_at dksX0_partnersTold_0 20 rfl rfl)
theorem dX0_partnersTold_21 : decode cX0_partnersTold 21 = .ok (.goto 4, 3) := dk_167 0 4 (dk_at dksX0_partnersTold_0 21 rfl rfl)
theorem dX0_partnersTold_24 : decode cX0_partnersTold 24 = .ok (.iconst 0, 1) := dk_3 (dk_at dksX0_partnersTold_1 0 rfl rfl)
theorem dX0_partnersTold_25 : decode cX0_partnersTold 25 = .ok (.iconst (-1), 1) := dk_2 (dk_at dksX0_partnersTold_1 1 rfl rfl)
theorem dX0_partnersTold_26 : decode cX0_partnersTold 26 = .ok (.invokestatic 9, 3) := dk_184 0 9 (dk_at dksX0_partnersTold_1 2 rfl rfl)
theorem dX0_partnersTold_29 : decode cX0_partnersTold 29 = .ok (.aload_n 0, 1) := dk_42 (dk_at dksX0_partnersTold_1 5 rfl rfl)
theorem dX0_partnersTold_30 : decode cX0_partnersTold 30 = .ok (.invokevirtual 397, 3) := dk_182 1 141 (dk_at dksX0_partnersTold_1 6 rfl rfl)
theorem dX0_partnersTold_33 : decode cX0_partnersTold 33 = .ok (.aload_n 0, 1) := dk_42 (dk_at dksX0_partnersTold_1 9 rfl rfl)
theorem dX0_partnersTold_34 : decode cX0_partnersTold 34 = .ok (.iload_n 1, 1) := dk_27 (dk_at dksX0_partnersTold_1 10 rfl rfl)
theorem dX0_partnersTold_35 : decode cX0_partnersTold 35 = .ok (.iload_n 2, 1) := dk_28 (dk_at dksX0_partnersTold_1 11 rfl rfl)
theorem dX0_partnersTold_36 : decode cX0_partnersTold 36 = .ok (.iload_n 3, 1) := dk_29 (dk_at dksX0_partnersTold_1 12 rfl rfl)
theorem dX0_partnersTold_37 : decode cX0_partnersTold 37 = .ok (.invokevirtual 415, 3) := dk_182 1 159 (dk_at dksX0_partnersTold_1 13 rfl rfl)
theorem dX0_partnersTold_40 : decode cX0_partnersTold 40 = .ok (.ireturn, 1) := dk_172 (dk_at dksX0_partnersTold_1 16 rfl rfl)
abbrev cX0_partnerFor : ByteArray := prog_1_method_23_code
def yX0_partnerFor : MethodName := ⟨RX0, "partnerFor", "(III)I"⟩
def dkwX0_partnerFor_4 : List UInt8 := [28, 167, 0, 4, 27, 172]
abbrev dktX0_partnerFor_4 : List UInt8 := dkwX0_partnerFor_4 ++ []
def dkwX0_partnerFor_3 : List UInt8 := [9, 167, 0, 13, 42, 180, 0, 55, 29, 21, 5, 182, 0, 172, 55, 8, 22, 8, 22, 6, 148, 158, 0, 7]
abbrev dktX0_partnerFor_3 : List UInt8 := dkwX0_partnerFor_3 ++ dktX0_partnerFor_4
def dkwX0_partnerFor_2 : List UInt8 := [154, 0, 7, 9, 167, 0, 13, 42, 180, 0, 55, 29, 21, 4, 182, 0, 172, 55, 6, 21, 5, 154, 0, 7]
abbrev dktX0_partnerFor_2 : List UInt8 := dkwX0_partnerFor_2 ++ dktX0_partnerFor_3
def dkwX0_partnerFor_1 : List UInt8 := [180, 0, 176, 29, 182, 0, 179, 54, 5, 21, 4, 154, 0, 11, 21, 5, 154, 0, 6, 16, 247, 172, 21, 4]
abbrev dktX0_partnerFor_1 : List UInt8 := dkwX0_partnerFor_1 ++ dktX0_partnerFor_2
def dkwX0_partnerFor_0 : List UInt8 := [42, 42, 180, 0, 61, 27, 50, 180, 0, 176, 29, 182, 0, 179, 54, 4, 42, 42, 180, 0, 61, 28, 50]
abbrev dktX0_partnerFor_0 : List UInt8 := dkwX0_partnerFor_0 ++ dktX0_partnerFor_1
theorem dksX0_partnerFor_0 : cX0_partnerFor.data.toList.drop 0 = dktX0_partnerFor_0 := by decide +kernel
theorem dksX0_partnerFor_1 : cX0_partnerFor.data.toList.drop 23 = dktX0_partnerFor_1 := dk_seg dksX0_partnerFor_0 23 rfl rfl
theorem dksX0_partnerFor_2 : cX0_partnerFor.data.toList.drop 47 = dktX0_partnerFor_2 := dk_seg dksX0_partnerFor_1 24 rfl rfl
theorem dksX0_partnerFor_3 : cX0_partnerFor.data.toList.drop 71 = dktX0_partnerFor_3 := dk_seg dksX0_partnerFor_2 24 rfl rfl
theorem dksX0_partnerFor_4 : cX0_partnerFor.data.toList.drop 95 = dktX0_partnerFor_4 := dk_seg dksX0_partnerFor_3 24 rfl rfl
theorem dX0_partnerFor_0 : decode cX0_partnerFor 0 = .ok (.aload_n 0, 1) := dk_42 (dk_at dksX0_partnerFor_0 0 rfl rfl)
theorem dX0_partnerFor_1 : decode cX0_partnerFor 1 = .ok (.aload_n 0, 1) := dk_42 (dk_at dksX0_partnerFor_0 1 rfl rfl)
theorem dX0_partnerFor_2 : decode cX0_partnerFor 2 = .ok (.getfield 61, 3) := dk_180 0 61 (dk_at dksX0_partnerFor_0 2 rfl rfl)
theorem dX0_partnerFor_5 : decode cX0_partnerFor 5 = .ok (.iload_n 1, 1) := dk_27 (dk_at dksX0_partnerFor_0 5 rfl rfl)
theorem dX0_partnerFor_6 : decode cX0_partnerFor 6 = .ok (.aaload, 1) := dk_50 (dk_at dksX0_partnerFor_0 6 rfl rfl)
theorem dX0_partnerFor_7 : decode cX0_partnerFor 7 = .ok (.getfield 176, 3) := dk_180 0 176 (dk_at dksX0_partnerFor_0 7 rfl rfl)
theorem dX0_partnerFor_10 : decode cX0_partnerFor 10 = .ok (.iload_n 3, 1) := dk_29 (dk_at dksX0_partnerFor_0 10 rfl rfl)
theorem dX0_partnerFor_11 : decode cX0_partnerFor 11 = .ok (.invokevirtual 179, 3) := dk_182 0 179 (dk_at dksX0_partnerFor_0 11 rfl rfl)
theorem dX0_partnerFor_14 : decode cX0_partnerFor 14 = .ok (.istore 4, 2) := dk_54 4 (dk_at dksX0_partnerFor_0 14 rfl rfl)
theorem dX0_partnerFor_16 : decode cX0_partnerFor 16 = .ok (.aload_n 0, 1) := dk_42 (dk_at dksX0_partnerFor_0 16 rfl rfl)
theorem dX0_partnerFor_17 : decode cX0_partnerFor 17 = .ok (.aload_n 0, 1) := dk_42 (dk_at dksX0_partnerFor_0 17 rfl rfl)
theorem dX0_partnerFor_18 : decode cX0_partnerFor 18 = .ok (.getfield 61, 3) := dk_180 0 61 (dk_at dksX0_partnerFor_0 18 rfl rfl)
theorem dX0_partnerFor_21 : decode cX0_partnerFor 21 = .ok (.iload_n 2, 1) := dk_28 (dk_at dksX0_partnerFor_0 21 rfl rfl)
theorem dX0_partnerFor_22 : decode cX0_partnerFor 22 = .ok (.aaload, 1) := dk_50 (dk_at dksX0_partnerFor_0 22 rfl rfl)
theorem dX0_partnerFor_23 : decode cX0_partnerFor 23 = .ok (.getfield 176, 3) := dk_180 0 176 (dk_at dksX0_partnerFor_1 0 rfl rfl)
theorem dX0_partnerFor_26 : decode cX0_partnerFor 26 = .ok (.iload_n 3, 1) := dk_29 (dk_at dksX0_partnerFor_1 3 rfl rfl)
theorem dX0_partnerFor_27 : decode cX0_partnerFor 27 = .ok (.invokevirtual 179, 3) := dk_182 0 179 (dk_at dksX0_partnerFor_1 4 rfl rfl)
theorem dX0_partnerFor_30 : decode cX0_partnerFor 30 = .ok (.istore 5, 2) := dk_54 5 (dk_at dksX0_partnerFor_1 7 rfl rfl)
theorem dX0_partnerFor_32 : decode cX0_partnerFor 32 = .ok (.iload 4, 2) := dk_21 4 (dk_at dksX0_partnerFor_1 9 rfl rfl)
theorem dX0_partnerFor_34 : decode cX0_partnerFor 34 = .ok (.ifCond .ne 11, 3) := dk_154 0 11 (dk_at dksX0_partnerFor_1 11 rfl rfl)
theorem dX0_partnerFor_37 : decode cX0_partnerFor 37 = .ok (.iload 5, 2) := dk_21 5 (dk_at dksX0_partnerFor_1 14 rfl rfl)
theorem dX0_partnerFor_39 : decode cX0_partnerFor 39 = .ok (.ifCond .ne 6, 3) := dk_154 0 6 (dk_at dksX0_partnerFor_1 16 rfl rfl)
theorem dX0_partnerFor_42 : decode cX0_partnerFor 42 = .ok (.bipush (-9), 2) := dk_16 247 (dk_at dksX0_partnerFor_1 19 rfl rfl)
theorem dX0_partnerFor_44 : decode cX0_partnerFor 44 = .ok (.ireturn, 1) := dk_172 (dk_at dksX0_partnerFor_1 21 rfl rfl)
theorem dX0_partnerFor_45 : decode cX0_partnerFor 45 = .ok (.iload 4, 2) := dk_21 4 (dk_at dksX0_partnerFor_1 22 rfl rfl)
theorem dX0_partnerFor_47 : decode cX0_partnerFor 47 = .ok (.ifCond .ne 7, 3) := dk_154 0 7 (dk_at dksX0_partnerFor_2 0 rfl rfl)
theorem dX0_partnerFor_50 : decode cX0_partnerFor 50 = .ok (.lconst 0, 1) := dk_9 (dk_at dksX0_partnerFor_2 3 rfl rfl)
theorem dX0_partnerFor_51 : decode cX0_partnerFor 51 = .ok (.goto 13, 3) := dk_167 0 13 (dk_at dksX0_partnerFor_2 4 rfl rfl)
theorem dX0_partnerFor_54 : decode cX0_partnerFor 54 = .ok (.aload_n 0, 1) := dk_42 (dk_at dksX0_partnerFor_2 7 rfl rfl)
theorem dX0_partnerFor_55 : decode cX0_partnerFor 55 = .ok (.getfield 55, 3) := dk_180 0 55 (dk_at dksX0_partnerFor_2 8 rfl rfl)
theorem dX0_partnerFor_58 : decode cX0_partnerFor 58 = .ok (.iload_n 3, 1) := dk_29 (dk_at dksX0_partnerFor_2 11 rfl rfl)
theorem dX0_partnerFor_59 : decode cX0_partnerFor 59 = .ok (.iload 4, 2) := dk_21 4 (dk_at dksX0_partnerFor_2 12 rfl rfl)
theorem dX0_partnerFor_61 : decode cX0_partnerFor 61 = .ok (.invokevirtual 172, 3) := dk_182 0 172 (dk_at dksX0_partnerFor_2 14 rfl rfl)
theorem dX0_partnerFor_64 : decode cX0_partnerFor 64 = .ok (.lstore 6, 2) := dk_55 6 (dk_at dksX0_partnerFor_2 17 rfl rfl)
theorem dX0_partnerFor_66 : decode cX0_partnerFor 66 = .ok (.iload 5, 2) := dk_21 5 (dk_at dksX0_partnerFor_2 19 rfl rfl)
theorem dX0_partnerFor_68 : decode cX0_partnerFor 68 = .ok (.ifCond .ne 7, 3) := dk_154 0 7 (dk_at dksX0_partnerFor_2 21 rfl rfl)
theorem dX0_partnerFor_71 : decode cX0_partnerFor 71 = .ok (.lconst 0, 1) := dk_9 (dk_at dksX0_partnerFor_3 0 rfl rfl)
theorem dX0_partnerFor_72 : decode cX0_partnerFor 72 = .ok (.goto 13, 3) := dk_167 0 13 (dk_at dksX0_partnerFor_3 1 rfl rfl)
theorem dX0_partnerFor_75 : decode cX0_partnerFor 75 = .ok (.aload_n 0, 1) := dk_42 (dk_at dksX0_partnerFor_3 4 rfl rfl)
theorem dX0_partnerFor_76 : decode cX0_partnerFor 76 = .ok (.getfield 55, 3) := dk_180 0 55 (dk_at dksX0_partnerFor_3 5 rfl rfl)
theorem dX0_partnerFor_79 : decode cX0_partnerFor 79 = .ok (.iload_n 3, 1) := dk_29 (dk_at dksX0_partnerFor_3 8 rfl rfl)
theorem dX0_partnerFor_80 : decode cX0_partnerFor 80 = .ok (.iload 5, 2) := dk_21 5 (dk_at dksX0_partnerFor_3 9 rfl rfl)
theorem dX0_partnerFor_82 : decode cX0_partnerFor 82 = .ok (.invokevirtual 172, 3) := dk_182 0 172 (dk_at dksX0_partnerFor_3 11 rfl rfl)
theorem dX0_partnerFor_85 : decode cX0_partnerFor 85 = .ok (.lstore 8, 2) := dk_55 8 (dk_at dksX0_partnerFor_3 14 rfl rfl)
theorem dX0_partnerFor_87 : decode cX0_partnerFor 87 = .ok (.lload 8, 2) := dk_22 8 (dk_at dksX0_partnerFor_3 16 rfl rfl)
theorem dX0_partnerFor_89 : decode cX0_partnerFor 89 = .ok (.lload 6, 2) := dk_22 6 (dk_at dksX0_partnerFor_3 18 rfl rfl)
theorem dX0_partnerFor_91 : decode cX0_partnerFor 91 = .ok (.lcmp, 1) := dk_148 (dk_at dksX0_partnerFor_3 20 rfl rfl)
theorem dX0_partnerFor_92 : decode cX0_partnerFor 92 = .ok (.ifCond .le 7, 3) := dk_158 0 7 (dk_at dksX0_partnerFor_3 21 rfl rfl)
theorem dX0_partnerFor_95 : decode cX0_partnerFor 95 = .ok (.iload_n 2, 1) := dk_28 (dk_at dksX0_partnerFor_4 0 rfl rfl)
theorem dX0_partnerFor_96 : decode cX0_partnerFor 96 = .ok (.goto 4, 3) := dk_167 0 4 (dk_at dksX0_partnerFor_4 1 rfl rfl)
theorem dX0_partnerFor_99 : decode cX0_partnerFor 99 = .ok (.iload_n 1, 1) := dk_27 (dk_at dksX0_partnerFor_4 4 rfl rfl)
theorem dX0_partnerFor_100 : decode cX0_partnerFor 100 = .ok (.ireturn, 1) := dk_172 (dk_at dksX0_partnerFor_4 5 rfl rfl)
abbrev cX0_ofRest : ByteArray := prog_1_method_55_code
def yX0_ofRest : MethodName := ⟨RX0, "ofRest", "(IIII)I"⟩
def dkwX0_ofRest_6 : List UInt8 := [182, 1, 141, 42, 28, 182, 1, 206, 172, 42, 182, 1, 209, 172, 42, 182, 1, 212, 172]
abbrev dktX0_ofRest_6 : List UInt8 := dkwX0_ofRest_6 ++ []
def dkwX0_ofRest_5 : List UInt8 := [180, 1, 61, 28, 145, 84, 42, 89, 180, 1, 61, 4, 96, 181, 1, 61, 42, 180, 1, 61, 172, 42]
abbrev dktX0_ofRest_5 : List UInt8 := dkwX0_ofRest_5 ++ dktX0_ofRest_6
def dkwX0_ofRest_4 : List UInt8 := [180, 1, 61, 16, 20, 162, 0, 7, 4, 167, 0, 4, 3, 16, 250, 184, 0, 9, 42, 180, 0, 78, 42]
abbrev dktX0_ofRest_4 : List UInt8 := dkwX0_ofRest_4 ++ dktX0_ofRest_5
def dkwX0_ofRest_3 : List UInt8 := [182, 1, 197, 172, 42, 28, 29, 21, 4, 182, 1, 201, 172, 28, 133, 9, 20, 1, 204, 184, 1, 37, 42]
abbrev dktX0_ofRest_3 : List UInt8 := dkwX0_ofRest_3 ++ dktX0_ofRest_4
def dkwX0_ofRest_2 : List UInt8 := [42, 28, 182, 1, 191, 172, 42, 28, 29, 182, 1, 194, 172, 42, 28, 4, 182, 1, 197, 172, 42, 28, 3]
abbrev dktX0_ofRest_2 : List UInt8 := dkwX0_ofRest_2 ++ dktX0_ofRest_3
def dkwX0_ofRest_1 : List UInt8 := [170, 0, 0, 0, 0, 0, 152, 0, 0, 0, 17, 0, 0, 0, 24, 0, 0, 0, 47, 0, 0, 0, 53, 0, 0, 0, 60, 0, 0, 0, 67, 0, 0, 0, 74, 0, 0, 0, 83, 0, 0, 0, 137, 0, 0, 0, 147]
abbrev dktX0_ofRest_1 : List UInt8 := dkwX0_ofRest_1 ++ dktX0_ofRest_2
def dkwX0_ofRest_0 : List UInt8 := [27]
abbrev dktX0_ofRest_0 : List UInt8 := dkwX0_ofRest_0 ++ dktX0_ofRest_1
theorem dksX0_ofRest_0 : cX0_ofRest.data.toList.drop 0 = dktX0_ofRest_0 := by decide +kernel
theorem dksX0_ofRest_1 : cX0_ofRest.data.toList.drop 1 = dktX0_ofRest_1 := dk_seg dksX0_ofRest_0 1 rfl rfl
theorem dksX0_ofRest_2 : cX0_ofRest.data.toList.drop 48 = dktX0_ofRest_2 := dk_seg dksX0_ofRest_1 47 rfl rfl
theorem dksX0_ofRest_3 : cX0_ofRest.data.toList.drop 71 = dktX0_ofRest_3 := dk_seg dksX0_ofRest_2 23 rfl rfl
theorem dksX0_ofRest_4 : cX0_ofRest.data.toList.drop 94 = dktX0_ofRest_4 := dk_seg dksX0_ofRest_3 23 rfl rfl
theorem dksX0_ofRest_5 : cX0_ofRest.data.toList.drop 117 = dktX0_ofRest_5 := dk_seg dksX0_ofRest_4 23 rfl rfl
theorem dksX0_ofRest_6 : cX0_ofRest.data.toList.drop 139 = dktX0_ofRest_6 := dk_seg dksX0_ofRest_5 22 rfl rfl
theorem dX0_ofRest_0 : decode cX0_ofRest 0 = .ok (.iload_n 1, 1) := dk_27 (dk_at dksX0_ofRest_0 0 rfl rfl)
theorem dX0_ofRest_1 : decode cX0_ofRest 1 = .ok (.tableswitch 152 17 24 #[47, 53, 60, 67, 74, 83, 137, 147], 47) := by decide +kernel
theorem dX0_ofRest_48 : decode cX0_ofRest 48 = .ok (.aload_n 0, 1) := dk_42 (dk_at dksX0_ofRest_2 0 rfl rfl)
theorem dX0_ofRest_49 : decode cX0_ofRest 49 = .ok (.iload_n 2, 1) := dk_28 (dk_at dksX0_ofRest_2 1 rfl rfl)
theorem dX0_ofRest_50 : decode cX0_ofRest 50 = .ok (.invokevirtual 447, 3) := dk_182 1 191 (dk_at dksX0_ofRest_2 2 rfl rfl)
theorem dX0_ofRest_53 : decode cX0_ofRest 53 = .ok (.ireturn, 1) := dk_172 (dk_at dksX0_ofRest_2 5 rfl rfl)
theorem dX0_ofRest_54 : decode cX0_ofRest 54 = .ok (.aload_n 0, 1) := dk_42 (dk_at dksX0_ofRest_2 6 rfl rfl)
theorem dX0_ofRest_55 : decode cX0_ofRest 55 = .ok (.iload_n 2, 1) := dk_28 (dk_at dksX0_ofRest_2 7 rfl rfl)
theorem dX0_ofRest_56 : decode cX0_ofRest 56 = .ok (.iload_n 3, 1) := dk_29 (dk_at dksX0_ofRest_2 8 rfl rfl)
theorem dX0_ofRest_57 : decode cX0_ofRest 57 = .ok (.invokevirtual 450, 3) := dk_182 1 194 (dk_at dksX0_ofRest_2 9 rfl rfl)
theorem dX0_ofRest_60 : decode cX0_ofRest 60 = .ok (.ireturn, 1) := dk_172 (dk_at dksX0_ofRest_2 12 rfl rfl)
theorem dX0_ofRest_61 : decode cX0_ofRest 61 = .ok (.aload_n 0, 1) := dk_42 (dk_at dksX0_ofRest_2 13 rfl rfl)
theorem dX0_ofRest_62 : decode cX0_ofRest 62 = .ok (.iload_n 2, 1) := dk_28 (dk_at dksX0_ofRest_2 14 rfl rfl)
theorem dX0_ofRest_63 : decode cX0_ofRest 63 = .ok (.iconst 1, 1) := dk_4 (dk_at dksX0_ofRest_2 15 rfl rfl)
theorem dX0_ofRest_64 : decode cX0_ofRest 64 = .ok (.invokevirtual 453, 3) := dk_182 1 197 (dk_at dksX0_ofRest_2 16 rfl rfl)
theorem dX0_ofRest_67 : decode cX0_ofRest 67 = .ok (.ireturn, 1) := dk_172 (dk_at dksX0_ofRest_2 19 rfl rfl)
theorem dX0_ofRest_68 : decode cX0_ofRest 68 = .ok (.aload_n 0, 1) := dk_42 (dk_at dksX0_ofRest_2 20 rfl rfl)
theorem dX0_ofRest_69 : decode cX0_ofRest 69 = .ok (.iload_n 2, 1) := dk_28 (dk_at dksX0_ofRest_2 21 rfl rfl)
theorem dX0_ofRest_70 : decode cX0_ofRest 70 = .ok (.iconst 0, 1) := dk_3 (dk_at dksX0_ofRest_2 22 rfl rfl)
theorem dX0_ofRest_71 : decode cX0_ofRest 71 = .ok (.invokevirtual 453, 3) := dk_182 1 197 (dk_at dksX0_ofRest_3 0 rfl rfl)
theorem dX0_ofRest_74 : decode cX0_ofRest 74 = .ok (.ireturn, 1) := dk_172 (dk_at dksX0_ofRest_3 3 rfl rfl)
theorem dX0_ofRest_75 : decode cX0_ofRest 75 = .ok (.aload_n 0, 1) := dk_42 (dk_at dksX0_ofRest_3 4 rfl rfl)
theorem dX0_ofRest_76 : decode cX0_ofRest 76 = .ok (.iload_n 2, 1) := dk_28 (dk_at dksX0_ofRest_3 5 rfl rfl)
theorem dX0_ofRest_77 : decode cX0_ofRest 77 = .ok (.iload_n 3, 1) := dk_29 (dk_at dksX0_ofRest_3 6 rfl rfl)
theorem dX0_ofRest_78 : decode cX0_ofRest 78 = .ok (.iload 4, 2) := dk_21 4 (dk_at dksX0_ofRest_3 7 rfl rfl)
theorem dX0_ofRest_80 : decode cX0_ofRest 80 = .ok (.invokevirtual 457, 3) := dk_182 1 201 (dk_at dksX0_ofRest_3 9 rfl rfl)
theorem dX0_ofRest_83 : decode cX0_ofRest 83 = .ok (.ireturn, 1) := dk_172 (dk_at dksX0_ofRest_3 12 rfl rfl)
theorem dX0_ofRest_84 : decode cX0_ofRest 84 = .ok (.iload_n 2, 1) := dk_28 (dk_at dksX0_ofRest_3 13 rfl rfl)
theorem dX0_ofRest_85 : decode cX0_ofRest 85 = .ok (.i2l, 1) := dk_133 (dk_at dksX0_ofRest_3 14 rfl rfl)
theorem dX0_ofRest_86 : decode cX0_ofRest 86 = .ok (.lconst 0, 1) := dk_9 (dk_at dksX0_ofRest_3 15 rfl rfl)
theorem dX0_ofRest_87 : decode cX0_ofRest 87 = .ok (.ldc2_w 460, 3) := dk_20 1 204 (dk_at dksX0_ofRest_3 16 rfl rfl)
theorem dX0_ofRest_90 : decode cX0_ofRest 90 = .ok (.invokestatic 293, 3) := dk_184 1 37 (dk_at dksX0_ofRest_3 19 rfl rfl)
theorem dX0_ofRest_93 : decode cX0_ofRest 93 = .ok (.aload_n 0, 1) := dk_42 (dk_at dksX0_ofRest_3 22 rfl rfl)
theorem dX0_ofRest_94 : decode cX0_ofRest 94 = .ok (.getfield 317, 3) := dk_180 1 61 (dk_at dksX0_ofRest_4 0 rfl rfl)
theorem dX0_ofRest_97 : decode cX0_ofRest 97 = .ok (.bipush 20, 2) := dk_16 20 (dk_at dksX0_ofRest_4 3 rfl rfl)
theorem dX0_ofRest_99 : decode cX0_ofRest 99 = .ok (.if_icmp .ge 7, 3) := dk_162 0 7 (dk_at dksX0_ofRest_4 5 rfl rfl)
theorem dX0_ofRest_102 : decode cX0_ofRest 102 = .ok (.iconst 1, 1) := dk_4 (dk_at dksX0_ofRest_4 8 rfl rfl)
theorem dX0_ofRest_103 : decode cX0_ofRest 103 = .ok (.goto 4, 3) := dk_167 0 4 (dk_at dksX0_ofRest_4 9 rfl rfl)
theorem dX0_ofRest_106 : decode cX0_ofRest 106 = .ok (.iconst 0, 1) := dk_3 (dk_at dksX0_ofRest_4 12 rfl rfl)
theorem dX0_ofRest_107 : decode cX0_ofRest 107 = .ok (.bipush (-6), 2) := dk_16 250 (dk_at dksX0_ofRest_4 13 rfl rfl)
theorem dX0_ofRest_109 : decode cX0_ofRest 109 = .ok (.invokestatic 9, 3) := dk_184 0 9 (dk_at dksX0_ofRest_4 15 rfl rfl)
theorem dX0_ofRest_112 : decode cX0_ofRest 112 = .ok (.aload_n 0, 1) := dk_42 (dk_at dksX0_ofRest_4 18 rfl rfl)
theorem dX0_ofRest_113 : decode cX0_ofRest 113 = .ok (.getfield 78, 3) := dk_180 0 78 (dk_at dksX0_ofRest_4 19 rfl rfl)
theorem dX0_ofRest_116 : decode cX0_ofRest 116 = .ok (.aload_n 0, 1) := dk_42 (dk_at dksX0_ofRest_4 22 rfl rfl)
theorem dX0_ofRest_117 : decode cX0_ofRest 117 = .ok (.getfield 317, 3) := dk_180 1 61 (dk_at dksX0_ofRest_5 0 rfl rfl)
theorem dX0_ofRest_120 : decode cX0_ofRest 120 = .ok (.iload_n 2, 1) := dk_28 (dk_at dksX0_ofRest_5 3 rfl rfl)
theorem dX0_ofRest_121 : decode cX0_ofRest 121 = .ok (.i2b, 1) := dk_145 (dk_at dksX0_ofRest_5 4 rfl rfl)
theorem dX0_ofRest_122 : decode cX0_ofRest 122 = .ok (.bastore, 1) := dk_84 (dk_at dksX0_ofRest_5 5 rfl rfl)
theorem dX0_ofRest_123 : decode cX0_ofRest 123 = .ok (.aload_n 0, 1) := dk_42 (dk_at dksX0_ofRest_5 6 rfl rfl)
theorem dX0_ofRest_124 : decode cX0_ofRest 124 = .ok (.dup, 1) := dk_89 (dk_at dksX0_ofRest_5 7 rfl rfl)
theorem dX0_ofRest_125 : decode cX0_ofRest 125 = .ok (.getfield 317, 3) := dk_180 1 61 (dk_at dksX0_ofRest_5 8 rfl rfl)
theorem dX0_ofRest_128 : decode cX0_ofRest 128 = .ok (.iconst 1, 1) := dk_4 (dk_at dksX0_ofRest_5 11 rfl rfl)
theorem dX0_ofRest_129 : decode cX0_ofRest 129 = .ok (.iadd, 1) := dk_96 (dk_at dksX0_ofRest_5 12 rfl rfl)
theorem dX0_ofRest_130 : decode cX0_ofRest 130 = .ok (.putfield 317, 3) := dk_181 1 61 (dk_at dksX0_ofRest_5 13 rfl rfl)
theorem dX0_ofRest_133 : decode cX0_ofRest 133 = .ok (.aload_n 0, 1) := dk_42 (dk_at dksX0_ofRest_5 16 rfl rfl)
theorem dX0_ofRest_134 : decode cX0_ofRest 134 = .ok (.getfield 317, 3) := dk_180 1 61 (dk_at dksX0_ofRest_5 17 rfl rfl)
theorem dX0_ofRest_137 : decode cX0_ofRest 137 = .ok (.ireturn, 1) := dk_172 (dk_at dksX0_ofRest_5 20 rfl rfl)
theorem dX0_ofRest_138 : decode cX0_ofRest 138 = .ok (.aload_n 0, 1) := dk_42 (dk_at dksX0_ofRest_5 21 rfl rfl)
theorem dX0_ofRest_139 : decode cX0_ofRest 139 = .ok (.invokevirtual 397, 3) := dk_182 1 141 (dk_at dksX0_ofRest_6 0 rfl rfl)
theorem dX0_ofRest_142 : decode cX0_ofRest 142 = .ok (.aload_n 0, 1) := dk_42 (dk_at dksX0_ofRest_6 3 rfl rfl)
theorem dX0_ofRest_143 : decode cX0_ofRest 143 = .ok (.iload_n 2, 1) := dk_28 (dk_at dksX0_ofRest_6 4 rfl rfl)
theorem dX0_ofRest_144 : decode cX0_ofRest 144 = .ok (.invokevirtual 462, 3) := dk_182 1 206 (dk_at dksX0_ofRest_6 5 rfl rfl)
theorem dX0_ofRest_147 : decode cX0_ofRest 147 = .ok (.ireturn, 1) := dk_172 (dk_at dksX0_ofRest_6 8 rfl rfl)
theorem dX0_ofRest_148 : decode cX0_ofRest 148 = .ok (.aload_n 0, 1) := dk_42 (dk_at dksX0_ofRest_6 9 rfl rfl)
theorem dX0_ofRest_149 : decode cX0_ofRest 149 = .ok (.invokevirtual 465, 3) := dk_182 1 209 (dk_at dksX0_ofRest_6 10 rfl rfl)
theorem dX0_ofRest_152 : decode cX0_ofRest 152 = .ok (.ireturn, 1) := dk_172 (dk_at dksX0_ofRest_6 13 rfl rfl)
theorem dX0_ofRest_153 : decode cX0_ofRest 153 = .ok (.aload_n 0, 1) := dk_42 (dk_at dksX0_ofRest_6 14 rfl rfl)
theorem dX0_ofRest_154 : decode cX0_ofRest 154 = .ok (.invokevirtual 468, 3) := dk_182 1 212 (dk_at dksX0_ofRest_6 15 rfl rfl)
theorem dX0_ofRest_157 : decode cX0_ofRest 157 = .ok (.ireturn, 1) := dk_172 (dk_at dksX0_ofRest_6 18 rfl rfl)
abbrev cX0_factIt : ByteArray := prog_1_method_54_code
def yX0_factIt : MethodName := ⟨RX0, "factIt", "(I)I"⟩
def dkwX0_factIt_3 : List UInt8 := [100, 172]
abbrev dktX0_factIt_3 : List UInt8 := dkwX0_factIt_3 ++ []
def dkwX0_factIt_2 : List UInt8 := [180, 0, 69, 42, 180, 1, 15, 27, 79, 42, 89, 180, 1, 15, 4, 96, 181, 1, 15, 42, 180, 1, 15, 4]
abbrev dktX0_factIt_2 : List UInt8 := dkwX0_factIt_2 ++ dktX0_factIt_3
def dkwX0_factIt_1 : List UInt8 := [184, 0, 9, 42, 180, 1, 15, 8, 162, 0, 7, 4, 167, 0, 4, 3, 16, 250, 184, 0, 9, 42]
abbrev dktX0_factIt_1 : List UInt8 := dkwX0_factIt_1 ++ dktX0_factIt_2
def dkwX0_factIt_0 : List UInt8 := [27, 133, 9, 20, 1, 189, 184, 0, 13, 153, 0, 13, 27, 5, 112, 154, 0, 7, 4, 167, 0, 4, 3, 2]
abbrev dktX0_factIt_0 : List UInt8 := dkwX0_factIt_0 ++ dktX0_factIt_1
theorem dksX0_factIt_0 : cX0_factIt.data.toList.drop 0 = dktX0_factIt_0 := by decide +kernel
theorem dksX0_factIt_1 : cX0_factIt.data.toList.drop 24 = dktX0_factIt_1 := dk_seg dksX0_factIt_0 24 rfl rfl
theorem dksX0_factIt_2 : cX0_factIt.data.toList.drop 46 = dktX0_factIt_2 := dk_seg dksX0_factIt_1 22 rfl rfl
theorem dksX0_factIt_3 : cX0_factIt.data.toList.drop 70 = dktX0_factIt_3 := dk_seg dksX0_factIt_2 24 rfl rfl
theorem dX0_factIt_0 : decode cX0_factIt 0 = .ok (.iload_n 1, 1) := dk_27 (dk_at dksX0_factIt_0 0 rfl rfl)
theorem dX0_factIt_1 : decode cX0_factIt 1 = .ok (.i2l, 1) := dk_133 (dk_at dksX0_factIt_0 1 rfl rfl)
theorem dX0_factIt_2 : decode cX0_factIt 2 = .ok (.lconst 0, 1) := dk_9 (dk_at dksX0_factIt_0 2 rfl rfl)
theorem dX0_factIt_3 : decode cX0_factIt 3 = .ok (.ldc2_w 445, 3) := dk_20 1 189 (dk_at dksX0_factIt_0 3 rfl rfl)
theorem dX0_factIt_6 : decode cX0_factIt 6 = .ok (.invokestatic 13, 3) := dk_184 0 13 (dk_at dksX0_factIt_0 6 rfl rfl)
theorem dX0_factIt_9 : decode cX0_factIt 9 = .ok (.ifCond .eq 13, 3) := dk_153 0 13 (dk_at dksX0_factIt_0 9 rfl rfl)
theorem dX0_factIt_12 : decode cX0_factIt 12 = .ok (.iload_n 1, 1) := dk_27 (dk_at dksX0_factIt_0 12 rfl rfl)
theorem dX0_factIt_13 : decode cX0_factIt 13 = .ok (.iconst 2, 1) := dk_5 (dk_at dksX0_factIt_0 13 rfl rfl)
theorem dX0_factIt_14 : decode cX0_factIt 14 = .ok (.irem, 1) := dk_112 (dk_at dksX0_factIt_0 14 rfl rfl)
theorem dX0_factIt_15 : decode cX0_factIt 15 = .ok (.ifCond .ne 7, 3) := dk_154 0 7 (dk_at dksX0_factIt_0 15 rfl rfl)
theorem dX0_factIt_18 : decode cX0_factIt 18 = .ok (.iconst 1, 1) := dk_4 (dk_at dksX0_factIt_0 18 rfl rfl)
theorem dX0_factIt_19 : decode cX0_factIt 19 = .ok (.goto 4, 3) := dk_167 0 4 (dk_at dksX0_factIt_0 19 rfl rfl)
theorem dX0_factIt_22 : decode cX0_factIt 22 = .ok (.iconst 0, 1) := dk_3 (dk_at dksX0_factIt_0 22 rfl rfl)
theorem dX0_factIt_23 : decode cX0_factIt 23 = .ok (.iconst (-1), 1) := dk_2 (dk_at dksX0_factIt_0 23 rfl rfl)
theorem dX0_factIt_24 : decode cX0_factIt 24 = .ok (.invokestatic 9, 3) := dk_184 0 9 (dk_at dksX0_factIt_1 0 rfl rfl)
theorem dX0_factIt_27 : decode cX0_factIt 27 = .ok (.aload_n 0, 1) := dk_42 (dk_at dksX0_factIt_1 3 rfl rfl)
theorem dX0_factIt_28 : decode cX0_factIt 28 = .ok (.getfield 271, 3) := dk_180 1 15 (dk_at dksX0_factIt_1 4 rfl rfl)
theorem dX0_factIt_31 : decode cX0_factIt 31 = .ok (.iconst 5, 1) := dk_8 (dk_at dksX0_factIt_1 7 rfl rfl)
theorem dX0_factIt_32 : decode cX0_factIt 32 = .ok (.if_icmp .ge 7, 3) := dk_162 0 7 (dk_at dksX0_factIt_1 8 rfl rfl)
theorem dX0_factIt_35 : decode cX0_factIt 35 = .ok (.iconst 1, 1) := dk_4 (dk_at dksX0_factIt_1 11 rfl rfl)
theorem dX0_factIt_36 : decode cX0_factIt 36 = .ok (.goto 4, 3) := dk_167 0 4 (dk_at dksX0_factIt_1 12 rfl rfl)
theorem dX0_factIt_39 : decode cX0_factIt 39 = .ok (.iconst 0, 1) := dk_3 (dk_at dksX0_factIt_1 15 rfl rfl)
theorem dX0_factIt_40 : decode cX0_factIt 40 = .ok (.bipush (-6), 2) := dk_16 250 (dk_at dksX0_factIt_1 16 rfl rfl)
theorem dX0_factIt_42 : decode cX0_factIt 42 = .ok (.invokestatic 9, 3) := dk_184 0 9 (dk_at dksX0_factIt_1 18 rfl rfl)
theorem dX0_factIt_45 : decode cX0_factIt 45 = .ok (.aload_n 0, 1) := dk_42 (dk_at dksX0_factIt_1 21 rfl rfl)
theorem dX0_factIt_46 : decode cX0_factIt 46 = .ok (.getfield 69, 3) := dk_180 0 69 (dk_at dksX0_factIt_2 0 rfl rfl)
theorem dX0_factIt_49 : decode cX0_factIt 49 = .ok (.aload_n 0, 1) := dk_42 (dk_at dksX0_factIt_2 3 rfl rfl)
theorem dX0_factIt_50 : decode cX0_factIt 50 = .ok (.getfield 271, 3) := dk_180 1 15 (dk_at dksX0_factIt_2 4 rfl rfl)
theorem dX0_factIt_53 : decode cX0_factIt 53 = .ok (.iload_n 1, 1) := dk_27 (dk_at dksX0_factIt_2 7 rfl rfl)
theorem dX0_factIt_54 : decode cX0_factIt 54 = .ok (.iastore, 1) := dk_79 (dk_at dksX0_factIt_2 8 rfl rfl)
theorem dX0_factIt_55 : decode cX0_factIt 55 = .ok (.aload_n 0, 1) := dk_42 (dk_at dksX0_factIt_2 9 rfl rfl)
theorem dX0_factIt_56 : decode cX0_factIt 56 = .ok (.dup, 1) := dk_89 (dk_at dksX0_factIt_2 10 rfl rfl)
theorem dX0_factIt_57 : decode cX0_factIt 57 = .ok (.getfield 271, 3) := dk_180 1 15 (dk_at dksX0_factIt_2 11 rfl rfl)
theorem dX0_factIt_60 : decode cX0_factIt 60 = .ok (.iconst 1, 1) := dk_4 (dk_at dksX0_factIt_2 14 rfl rfl)
theorem dX0_factIt_61 : decode cX0_factIt 61 = .ok (.iadd, 1) := dk_96 (dk_at dksX0_factIt_2 15 rfl rfl)
theorem dX0_factIt_62 : decode cX0_factIt 62 = .ok (.putfield 271, 3) := dk_181 1 15 (dk_at dksX0_factIt_2 16 rfl rfl)
theorem dX0_factIt_65 : decode cX0_factIt 65 = .ok (.aload_n 0, 1) := dk_42 (dk_at dksX0_factIt_2 19 rfl rfl)
theorem dX0_factIt_66 : decode cX0_factIt 66 = .ok (.getfield 271, 3) := dk_180 1 15 (dk_at dksX0_factIt_2 20 rfl rfl)
theorem dX0_factIt_69 : decode cX0_factIt 69 = .ok (.iconst 1, 1) := dk_4 (dk_at dksX0_factIt_2 23 rfl rfl)
theorem dX0_factIt_70 : decode cX0_factIt 70 = .ok (.isub, 1) := dk_100 (dk_at dksX0_factIt_3 0 rfl rfl)
theorem dX0_factIt_71 : decode cX0_factIt 71 = .ok (.ireturn, 1) := dk_172 (dk_at dksX0_factIt_3 1 rfl rfl)
abbrev cX0_hadTold : ByteArray := prog_1_method_27_code
def yX0_hadTold : MethodName := ⟨RX0, "hadTold", "(II)I"⟩
def dkwX0_hadTold_5 : List UInt8 := [182, 1, 18, 172]
abbrev dktX0_hadTold_5 : List UInt8 := dkwX0_hadTold_5 ++ []
def dkwX0_hadTold_4 : List UInt8 := [184, 0, 9, 21, 5, 4, 45, 21, 6, 46, 120, 128, 54, 5, 132, 6, 1, 167, 255, 180, 42, 45, 27]
abbrev dktX0_hadTold_4 : List UInt8 := dkwX0_hadTold_4 ++ dktX0_hadTold_5
def dkwX0_hadTold_3 : List UInt8 := [184, 0, 13, 153, 0, 19, 21, 5, 45, 21, 6, 46, 122, 4, 126, 154, 0, 7, 4, 167, 0, 4, 3, 2]
abbrev dktX0_hadTold_3 : List UInt8 := dkwX0_hadTold_3 ++ dktX0_hadTold_4
def dkwX0_hadTold_2 : List UInt8 := [16, 10, 112, 79, 21, 4, 16, 10, 108, 54, 4, 45, 21, 6, 46, 133, 9, 42, 180, 1, 15, 4, 100, 133]
abbrev dktX0_hadTold_2 : List UInt8 := dkwX0_hadTold_2 ++ dktX0_hadTold_3
def dkwX0_hadTold_1 : List UInt8 := [188, 10, 78, 28, 54, 4, 3, 54, 5, 3, 54, 6, 21, 6, 27, 162, 0, 76, 45, 21, 6, 21, 4]
abbrev dktX0_hadTold_1 : List UInt8 := dkwX0_hadTold_1 ++ dktX0_hadTold_2
def dkwX0_hadTold_0 : List UInt8 := [27, 133, 9, 20, 1, 35, 184, 1, 37, 28, 155, 0, 7, 4, 167, 0, 4, 3, 2, 184, 0, 9, 8]
abbrev dktX0_hadTold_0 : List UInt8 := dkwX0_hadTold_0 ++ dktX0_hadTold_1
theorem dksX0_hadTold_0 : cX0_hadTold.data.toList.drop 0 = dktX0_hadTold_0 := by decide +kernel
theorem dksX0_hadTold_1 : cX0_hadTold.data.toList.drop 23 = dktX0_hadTold_1 := dk_seg dksX0_hadTold_0 23 rfl rfl
theorem dksX0_hadTold_2 : cX0_hadTold.data.toList.drop 46 = dktX0_hadTold_2 := dk_seg dksX0_hadTold_1 23 rfl rfl
theorem dksX0_hadTold_3 : cX0_hadTold.data.toList.drop 70 = dktX0_hadTold_3 := dk_seg dksX0_hadTold_2 24 rfl rfl
theorem dksX0_hadTold_4 : cX0_hadTold.data.toList.drop 94 = dktX0_hadTold_4 := dk_seg dksX0_hadTold_3 24 rfl rfl
theorem dksX0_hadTold_5 : cX0_hadTold.data.toList.drop 117 = dktX0_hadTold_5 := dk_seg dksX0_hadTold_4 23 rfl rfl
theorem dX0_hadTold_0 : decode cX0_hadTold 0 = .ok (.iload_n 1, 1) := dk_27 (dk_at dksX0_hadTold_0 0 rfl rfl)
theorem dX0_hadTold_1 : decode cX0_hadTold 1 = .ok (.i2l, 1) := dk_133 (dk_at dksX0_hadTold_0 1 rfl rfl)
theorem dX0_hadTold_2 : decode cX0_hadTold 2 = .ok (.lconst 0, 1) := dk_9 (dk_at dksX0_hadTold_0 2 rfl rfl)
theorem dX0_hadTold_3 : decode cX0_hadTold 3 = .ok (.ldc2_w 291, 3) := dk_20 1 35 (dk_at dksX0_hadTold_0 3 rfl rfl)
theorem dX0_hadTold_6 : decode cX0_hadTold 6 = .ok (.invokestatic 293, 3) := dk_184 1 37 (dk_at dksX0_hadTold_0 6 rfl rfl)
theorem dX0_hadTold_9 : decode cX0_hadTold 9 = .ok (.iload_n 2, 1) := dk_28 (dk_at dksX0_hadTold_0 9 rfl rfl)
theorem dX0_hadTold_10 : decode cX0_hadTold 10 = .ok (.ifCond .lt 7, 3) := dk_155 0 7 (dk_at dksX0_hadTold_0 10 rfl rfl)
theorem dX0_hadTold_13 : decode cX0_hadTold 13 = .ok (.iconst 1, 1) := dk_4 (dk_at dksX0_hadTold_0 13 rfl rfl)
theorem dX0_hadTold_14 : decode cX0_hadTold 14 = .ok (.goto 4, 3) := dk_167 0 4 (dk_at dksX0_hadTold_0 14 rfl rfl)
theorem dX0_hadTold_17 : decode cX0_hadTold 17 = .ok (.iconst 0, 1) := dk_3 (dk_at dksX0_hadTold_0 17 rfl rfl)
theorem dX0_hadTold_18 : decode cX0_hadTold 18 = .ok (.iconst (-1), 1) := dk_2 (dk_at dksX0_hadTold_0 18 rfl rfl)
theorem dX0_hadTold_19 : decode cX0_hadTold 19 = .ok (.invokestatic 9, 3) := dk_184 0 9 (dk_at dksX0_hadTold_0 19 rfl rfl)
theorem dX0_hadTold_22 : decode cX0_hadTold 22 = .ok (.iconst 5, 1) := dk_8 (dk_at dksX0_hadTold_0 22 rfl rfl)
theorem dX0_hadTold_23 : decode cX0_hadTold 23 = .ok (.newarray .int, 2) := dk_188_10 (dk_at dksX0_hadTold_1 0 rfl rfl)
theorem dX0_hadTold_25 : decode cX0_hadTold 25 = .ok (.astore_n 3, 1) := dk_78 (dk_at dksX0_hadTold_1 2 rfl rfl)
theorem dX0_hadTold_26 : decode cX0_hadTold 26 = .ok (.iload_n 2, 1) := dk_28 (dk_at dksX0_hadTold_1 3 rfl rfl)
theorem dX0_hadTold_27 : decode cX0_hadTold 27 = .ok (.istore 4, 2) := dk_54 4 (dk_at dksX0_hadTold_1 4 rfl rfl)
theorem dX0_hadTold_29 : decode cX0_hadTold 29 = .ok (.iconst 0, 1) := dk_3 (dk_at dksX0_hadTold_1 6 rfl rfl)
theorem dX0_hadTold_30 : decode cX0_hadTold 30 = .ok (.istore 5, 2) := dk_54 5 (dk_at dksX0_hadTold_1 7 rfl rfl)
theorem dX0_hadTold_32 : decode cX0_hadTold 32 = .ok (.iconst 0, 1) := dk_3 (dk_at dksX0_hadTold_1 9 rfl rfl)
theorem dX0_hadTold_33 : decode cX0_hadTold 33 = .ok (.istore 6, 2) := dk_54 6 (dk_at dksX0_hadTold_1 10 rfl rfl)
theorem dX0_hadTold_35 : decode cX0_hadTold 35 = .ok (.iload 6, 2) := dk_21 6 (dk_at dksX0_hadTold_1 12 rfl rfl)
theorem dX0_hadTold_37 : decode cX0_hadTold 37 = .ok (.iload_n 1, 1) := dk_27 (dk_at dksX0_hadTold_1 14 rfl rfl)
theorem dX0_hadTold_38 : decode cX0_hadTold 38 = .ok (.if_icmp .ge 76, 3) := dk_162 0 76 (dk_at dksX0_hadTold_1 15 rfl rfl)
theorem dX0_hadTold_41 : decode cX0_hadTold 41 = .ok (.aload_n 3, 1) := dk_45 (dk_at dksX0_hadTold_1 18 rfl rfl)
theorem dX0_hadTold_42 : decode cX0_hadTold 42 = .ok (.iload 6, 2) := dk_21 6 (dk_at dksX0_hadTold_1 19 rfl rfl)
theorem dX0_hadTold_44 : decode cX0_hadTold 44 = .ok (.iload 4, 2) := dk_21 4 (dk_at dksX0_hadTold_1 21 rfl rfl)
theorem dX0_hadTold_46 : decode cX0_hadTold 46 = .ok (.bipush 10, 2) := dk_16 10 (dk_at dksX0_hadTold_2 0 rfl rfl)
theorem dX0_hadTold_48 : decode cX0_hadTold 48 = .ok (.irem, 1) := dk_112 (dk_at dksX0_hadTold_2 2 rfl rfl)
theorem dX0_hadTold_49 : decode cX0_hadTold 49 = .ok (.iastore, 1) := dk_79 (dk_at dksX0_hadTold_2 3 rfl rfl)
theorem dX0_hadTold_50 : decode cX0_hadTold 50 = .ok (.iload 4, 2) := dk_21 4 (dk_at dksX0_hadTold_2 4 rfl rfl)
theorem dX0_hadTold_52 : decode cX0_hadTold 52 = .ok (.bipush 10, 2) := dk_16 10 (dk_at dksX0_hadTold_2 6 rfl rfl)
theorem dX0_hadTold_54 : decode cX0_hadTold 54 = .ok (.idiv, 1) := dk_108 (dk_at dksX0_hadTold_2 8 rfl rfl)
theorem dX0_hadTold_55 : decode cX0_hadTold 55 = .ok (.istore 4, 2) := dk_54 4 (dk_at dksX0_hadTold_2 9 rfl rfl)
theorem dX0_hadTold_57 : decode cX0_hadTold 57 = .ok (.aload_n 3, 1) := dk_45 (dk_at dksX0_hadTold_2 11 rfl rfl)
theorem dX0_hadTold_58 : decode cX0_hadTold 58 = .ok (.iload 6, 2) := dk_21 6 (dk_at dksX0_hadTold_2 12 rfl rfl)
theorem dX0_hadTold_60 : decode cX0_hadTold 60 = .ok (.iaload, 1) := dk_46 (dk_at dksX0_hadTold_2 14 rfl rfl)
theorem dX0_hadTold_61 : decode cX0_hadTold 61 = .ok (.i2l, 1) := dk_133 (dk_at dksX0_hadTold_2 15 rfl rfl)
theorem dX0_hadTold_62 : decode cX0_hadTold 62 = .ok (.lconst 0, 1) := dk_9 (dk_at dksX0_hadTold_2 16 rfl rfl)
theorem dX0_hadTold_63 : decode cX0_hadTold 63 = .ok (.aload_n 0, 1) := dk_42 (dk_at dksX0_hadTold_2 17 rfl rfl)
theorem dX0_hadTold_64 : decode cX0_hadTold 64 = .ok (.getfield 271, 3) := dk_180 1 15 (dk_at dksX0_hadTold_2 18 rfl rfl)
theorem dX0_hadTold_67 : decode cX0_hadTold 67 = .ok (.iconst 1, 1) := dk_4 (dk_at dksX0_hadTold_2 21 rfl rfl)
theorem dX0_hadTold_68 : decode cX0_hadTold 68 = .ok (.isub, 1) := dk_100 (dk_at dksX0_hadTold_2 22 rfl rfl)
theorem dX0_hadTold_69 : decode cX0_hadTold 69 = .ok (.i2l, 1) := dk_133 (dk_at dksX0_hadTold_2 23 rfl rfl)
theorem dX0_hadTold_70 : decode cX0_hadTold 70 = .ok (.invokestatic 13, 3) := dk_184 0 13 (dk_at dksX0_hadTold_3 0 rfl rfl)
theorem dX0_hadTold_73 : decode cX0_hadTold 73 = .ok (.ifCond .eq 19, 3) := dk_153 0 19 (dk_at dksX0_hadTold_3 3 rfl rfl)
theorem dX0_hadTold_76 : decode cX0_hadTold 76 = .ok (.iload 5, 2) := dk_21 5 (dk_at dksX0_hadTold_3 6 rfl rfl)
theorem dX0_hadTold_78 : decode cX0_hadTold 78 = .ok (.aload_n 3, 1) := dk_45 (dk_at dksX0_hadTold_3 8 rfl rfl)
theorem dX0_hadTold_79 : decode cX0_hadTold 79 = .ok (.iload 6, 2) := dk_21 6 (dk_at dksX0_hadTold_3 9 rfl rfl)
theorem dX0_hadTold_81 : decode cX0_hadTold 81 = .ok (.iaload, 1) := dk_46 (dk_at dksX0_hadTold_3 11 rfl rfl)
theorem dX0_hadTold_82 : decode cX0_hadTold 82 = .ok (.ishr, 1) := dk_122 (dk_at dksX0_hadTold_3 12 rfl rfl)
theorem dX0_hadTold_83 : decode cX0_hadTold 83 = .ok (.iconst 1, 1) := dk_4 (dk_at dksX0_hadTold_3 13 rfl rfl)
theorem dX0_hadTold_84 : decode cX0_hadTold 84 = .ok (.iand, 1) := dk_126 (dk_at dksX0_hadTold_3 14 rfl rfl)
theorem dX0_hadTold_85 : decode cX0_hadTold 85 = .ok (.ifCond .ne 7, 3) := dk_154 0 7 (dk_at dksX0_hadTold_3 15 rfl rfl)
theorem dX0_hadTold_88 : decode cX0_hadTold 88 = .ok (.iconst 1, 1) := dk_4 (dk_at dksX0_hadTold_3 18 rfl rfl)
theorem dX0_hadTold_89 : decode cX0_hadTold 89 = .ok (.goto 4, 3) := dk_167 0 4 (dk_at dksX0_hadTold_3 19 rfl rfl)
theorem dX0_hadTold_92 : decode cX0_hadTold 92 = .ok (.iconst 0, 1) := dk_3 (dk_at dksX0_hadTold_3 22 rfl rfl)
theorem dX0_hadTold_93 : decode cX0_hadTold 93 = .ok (.iconst (-1), 1) := dk_2 (dk_at dksX0_hadTold_3 23 rfl rfl)
theorem dX0_hadTold_94 : decode cX0_hadTold 94 = .ok (.invokestatic 9, 3) := dk_184 0 9 (dk_at dksX0_hadTold_4 0 rfl rfl)
theorem dX0_hadTold_97 : decode cX0_hadTold 97 = .ok (.iload 5, 2) := dk_21 5 (dk_at dksX0_hadTold_4 3 rfl rfl)
theorem dX0_hadTold_99 : decode cX0_hadTold 99 = .ok (.iconst 1, 1) := dk_4 (dk_at dksX0_hadTold_4 5 rfl rfl)
theorem dX0_hadTold_100 : decode cX0_hadTold 100 = .ok (.aload_n 3, 1) := dk_45 (dk_at dksX0_hadTold_4 6 rfl rfl)
theorem dX0_hadTold_101 : decode cX0_hadTold 101 = .ok (.iload 6, 2) := dk_21 6 (dk_at dksX0_hadTold_4 7 rfl rfl)
theorem dX0_hadTold_103 : decode cX0_hadTold 103 = .ok (.iaload, 1) := dk_46 (dk_at dksX0_hadTold_4 9 rfl rfl)
theorem dX0_hadTold_104 : decode cX0_hadTold 104 = .ok (.ishl, 1) := dk_120 (dk_at dksX0_hadTold_4 10 rfl rfl)
theorem dX0_hadTold_105 : decode cX0_hadTold 105 = .ok (.ior, 1) := dk_128 (dk_at dksX0_hadTold_4 11 rfl rfl)
theorem dX0_hadTold_106 : decode cX0_hadTold 106 = .ok (.istore 5, 2) := dk_54 5 (dk_at dksX0_hadTold_4 12 rfl rfl)
theorem dX0_hadTold_108 : decode cX0_hadTold 108 = .ok (.iinc 6 1, 3) := dk_132 6 1 (dk_at dksX0_hadTold_4 14 rfl rfl)
theorem dX0_hadTold_111 : decode cX0_hadTold 111 = .ok (.goto (-76), 3) := dk_167 255 180 (dk_at dksX0_hadTold_4 17 rfl rfl)
theorem dX0_hadTold_114 : decode cX0_hadTold 114 = .ok (.aload_n 0, 1) := dk_42 (dk_at dksX0_hadTold_4 20 rfl rfl)
theorem dX0_hadTold_115 : decode cX0_hadTold 115 = .ok (.aload_n 3, 1) := dk_45 (dk_at dksX0_hadTold_4 21 rfl rfl)
theorem dX0_hadTold_116 : decode cX0_hadTold 116 = .ok (.iload_n 1, 1) := dk_27 (dk_at dksX0_hadTold_4 22 rfl rfl)
theorem dX0_hadTold_117 : decode cX0_hadTold 117 = .ok (.invokevirtual 274, 3) := dk_182 1 18 (dk_at dksX0_hadTold_5 0 rfl rfl)
theorem dX0_hadTold_120 : decode cX0_hadTold 120 = .ok (.ireturn, 1) := dk_172 (dk_at dksX0_hadTold_5 3 rfl rfl)
abbrev cX0_hadBy : ByteArray := prog_1_method_24_code
def yX0_hadBy : MethodName := ⟨RX0, "hadBy", "([II)I"⟩
def dkwX0_hadBy_1 : List UInt8 := [62, 29, 184, 0, 254, 4, 160, 0, 8, 21, 4, 4, 96, 172, 132, 4, 1, 167, 255, 222, 16, 6, 172]
abbrev dktX0_hadBy_1 : List UInt8 := dkwX0_hadBy_1 ++ []
def dkwX0_hadBy_0 : List UInt8 := [17, 3, 254, 62, 3, 54, 4, 21, 4, 28, 162, 0, 34, 29, 42, 180, 0, 69, 43, 21, 4, 46, 46, 126]
abbrev dktX0_hadBy_0 : List UInt8 := dkwX0_hadBy_0 ++ dktX0_hadBy_1
theorem dksX0_hadBy_0 : cX0_hadBy.data.toList.drop 0 = dktX0_hadBy_0 := by decide +kernel
theorem dksX0_hadBy_1 : cX0_hadBy.data.toList.drop 24 = dktX0_hadBy_1 := dk_seg dksX0_hadBy_0 24 rfl rfl
theorem dX0_hadBy_0 : decode cX0_hadBy 0 = .ok (.sipush 1022, 3) := dk_17 3 254 (dk_at dksX0_hadBy_0 0 rfl rfl)
theorem dX0_hadBy_3 : decode cX0_hadBy 3 = .ok (.istore_n 3, 1) := dk_62 (dk_at dksX0_hadBy_0 3 rfl rfl)
theorem dX0_hadBy_4 : decode cX0_hadBy 4 = .ok (.iconst 0, 1) := dk_3 (dk_at dksX0_hadBy_0 4 rfl rfl)
theorem dX0_hadBy_5 : decode cX0_hadBy 5 = .ok (.istore 4, 2) := dk_54 4 (dk_at dksX0_hadBy_0 5 rfl rfl)
theorem dX0_hadBy_7 : decode cX0_hadBy 7 = .ok (.iload 4, 2) := dk_21 4 (dk_at dksX0_hadBy_0 7 rfl rfl)
theorem dX0_hadBy_9 : decode cX0_hadBy 9 = .ok (.iload_n 2, 1) := dk_28 (dk_at dksX0_hadBy_0 9 rfl rfl)
theorem dX0_hadBy_10 : decode cX0_hadBy 10 = .ok (.if_icmp .ge 34, 3) := dk_162 0 34 (dk_at dksX0_hadBy_0 10 rfl rfl)
theorem dX0_hadBy_13 : decode cX0_hadBy 13 = .ok (.iload_n 3, 1) := dk_29 (dk_at dksX0_hadBy_0 13 rfl rfl)
theorem dX0_hadBy_14 : decode cX0_hadBy 14 = .ok (.aload_n 0, 1) := dk_42 (dk_at dksX0_hadBy_0 14 rfl rfl)
theorem dX0_hadBy_15 : decode cX0_hadBy 15 = .ok (.getfield 69, 3) := dk_180 0 69 (dk_at dksX0_hadBy_0 15 rfl rfl)
theorem dX0_hadBy_18 : decode cX0_hadBy 18 = .ok (.aload_n 1, 1) := dk_43 (dk_at dksX0_hadBy_0 18 rfl rfl)
theorem dX0_hadBy_19 : decode cX0_hadBy 19 = .ok (.iload 4, 2) := dk_21 4 (dk_at dksX0_hadBy_0 19 rfl rfl)
theorem dX0_hadBy_21 : decode cX0_hadBy 21 = .ok (.iaload, 1) := dk_46 (dk_at dksX0_hadBy_0 21 rfl rfl)
theorem dX0_hadBy_22 : decode cX0_hadBy 22 = .ok (.iaload, 1) := dk_46 (dk_at dksX0_hadBy_0 22 rfl rfl)
theorem dX0_hadBy_23 : decode cX0_hadBy 23 = .ok (.iand, 1) := dk_126 (dk_at dksX0_hadBy_0 23 rfl rfl)
theorem dX0_hadBy_24 : decode cX0_hadBy 24 = .ok (.istore_n 3, 1) := dk_62 (dk_at dksX0_hadBy_1 0 rfl rfl)
theorem dX0_hadBy_25 : decode cX0_hadBy 25 = .ok (.iload_n 3, 1) := dk_29 (dk_at dksX0_hadBy_1 1 rfl rfl)
theorem dX0_hadBy_26 : decode cX0_hadBy 26 = .ok (.invokestatic 254, 3) := dk_184 0 254 (dk_at dksX0_hadBy_1 2 rfl rfl)
theorem dX0_hadBy_29 : decode cX0_hadBy 29 = .ok (.iconst 1, 1) := dk_4 (dk_at dksX0_hadBy_1 5 rfl rfl)
theorem dX0_hadBy_30 : decode cX0_hadBy 30 = .ok (.if_icmp .ne 8, 3) := dk_160 0 8 (dk_at dksX0_hadBy_1 6 rfl rfl)
theorem dX0_hadBy_33 : decode cX0_hadBy 33 = .ok (.iload 4, 2) := dk_21 4 (dk_at dksX0_hadBy_1 9 rfl rfl)
theorem dX0_hadBy_35 : decode cX0_hadBy 35 = .ok (.iconst 1, 1) := dk_4 (dk_at dksX0_hadBy_1 11 rfl rfl)
theorem dX0_hadBy_36 : decode cX0_hadBy 36 = .ok (.iadd, 1) := dk_96 (dk_at dksX0_hadBy_1 12 rfl rfl)
theorem dX0_hadBy_37 : decode cX0_hadBy 37 = .ok (.ireturn, 1) := dk_172 (dk_at dksX0_hadBy_1 13 rfl rfl)
theorem dX0_hadBy_38 : decode cX0_hadBy 38 = .ok (.iinc 4 1, 3) := dk_132 4 1 (dk_at dksX0_hadBy_1 14 rfl rfl)
theorem dX0_hadBy_41 : decode cX0_hadBy 41 = .ok (.goto (-34), 3) := dk_167 255 222 (dk_at dksX0_hadBy_1 17 rfl rfl)
theorem dX0_hadBy_44 : decode cX0_hadBy 44 = .ok (.bipush 6, 2) := dk_16 6 (dk_at dksX0_hadBy_1 20 rfl rfl)
theorem dX0_hadBy_46 : decode cX0_hadBy 46 = .ok (.ireturn, 1) := dk_172 (dk_at dksX0_hadBy_1 22 rfl rfl)
abbrev cX0_orderTold : ByteArray := prog_1_method_26_code
def yX0_orderTold : MethodName := ⟨RX0, "orderTold", "(IZ)I"⟩
def dkwX0_orderTold_2 : List UInt8 := [180, 0, 108, 27, 46, 167, 0, 5, 16, 247, 172]
abbrev dktX0_orderTold_2 : List UInt8 := dkwX0_orderTold_2 ++ []
def dkwX0_orderTold_1 : List UInt8 := [28, 182, 1, 31, 27, 156, 0, 10, 42, 180, 1, 22, 167, 0, 22, 27, 42, 180, 1, 15, 162, 0, 12, 42]
abbrev dktX0_orderTold_1 : List UInt8 := dkwX0_orderTold_1 ++ dktX0_orderTold_2
def dkwX0_orderTold_0 : List UInt8 := [27, 2, 161, 0, 7, 4, 167, 0, 4, 3, 16, 252, 184, 0, 9, 42, 16, 247, 181, 1, 22, 42, 3, 3]
abbrev dktX0_orderTold_0 : List UInt8 := dkwX0_orderTold_0 ++ dktX0_orderTold_1
theorem dksX0_orderTold_0 : cX0_orderTold.data.toList.drop 0 = dktX0_orderTold_0 := by decide +kernel
theorem dksX0_orderTold_1 : cX0_orderTold.data.toList.drop 24 = dktX0_orderTold_1 := dk_seg dksX0_orderTold_0 24 rfl rfl
theorem dksX0_orderTold_2 : cX0_orderTold.data.toList.drop 48 = dktX0_orderTold_2 := dk_seg dksX0_orderTold_1 24 rfl rfl
theorem dX0_orderTold_0 : decode cX0_orderTold 0 = .ok (.iload_n 1, 1) := dk_27 (dk_at dksX0_orderTold_0 0 rfl rfl)
theorem dX0_orderTold_1 : decode cX0_orderTold 1 = .ok (.iconst (-1), 1) := dk_2 (dk_at dksX0_orderTold_0 1 rfl rfl)
theorem dX0_orderTold_2 : decode cX0_orderTold 2 = .ok (.if_icmp .lt 7, 3) := dk_161 0 7 (dk_at dksX0_orderTold_0 2 rfl rfl)
theorem dX0_orderTold_5 : decode cX0_orderTold 5 = .ok (.iconst 1, 1) := dk_4 (dk_at dksX0_orderTold_0 5 rfl rfl)
theorem dX0_orderTold_6 : decode cX0_orderTold 6 = .ok (.goto 4, 3) := dk_167 0 4 (dk_at dksX0_orderTold_0 6 rfl rfl)
theorem dX0_orderTold_9 : decode cX0_orderTold 9 = .ok (.iconst 0, 1) := dk_3 (dk_at dksX0_orderTold_0 9 rfl rfl)
theorem dX0_orderTold_10 : decode cX0_orderTold 10 = .ok (.bipush (-4), 2) := dk_16 252 (dk_at dksX0_orderTold_0 10 rfl rfl)
theorem dX0_orderTold_12 : decode cX0_orderTold 12 = .ok (.invokestatic 9, 3) := dk_184 0 9 (dk_at dksX0_orderTold_0 12 rfl rfl)
theorem dX0_orderTold_15 : decode cX0_orderTold 15 = .ok (.aload_n 0, 1) := dk_42 (dk_at dksX0_orderTold_0 15 rfl rfl)
theorem dX0_orderTold_16 : decode cX0_orderTold 16 = .ok (.bipush (-9), 2) := dk_16 247 (dk_at dksX0_orderTold_0 16 rfl rfl)
theorem dX0_orderTold_18 : decode cX0_orderTold 18 = .ok (.putfield 278, 3) := dk_181 1 22 (dk_at dksX0_orderTold_0 18 rfl rfl)
theorem dX0_orderTold_21 : decode cX0_orderTold 21 = .ok (.aload_n 0, 1) := dk_42 (dk_at dksX0_orderTold_0 21 rfl rfl)
theorem dX0_orderTold_22 : decode cX0_orderTold 22 = .ok (.iconst 0, 1) := dk_3 (dk_at dksX0_orderTold_0 22 rfl rfl)
theorem dX0_orderTold_23 : decode cX0_orderTold 23 = .ok (.iconst 0, 1) := dk_3 (dk_at dksX0_orderTold_0 23 rfl rfl)
theorem dX0_orderTold_24 : decode cX0_orderTold 24 = .ok (.iload_n 2, 1) := dk_28 (dk_at dksX0_orderTold_1 0 rfl rfl)
theorem dX0_orderTold_25 : decode cX0_orderTold 25 = .ok (.invokevirtual 287, 3) := dk_182 1 31 (dk_at dksX0_orderTold_1 1 rfl rfl)
theorem dX0_orderTold_28 : decode cX0_orderTold 28 = .ok (.iload_n 1, 1) := dk_27 (dk_at dksX0_orderTold_1 4 rfl rfl)
theorem dX0_orderTold_29 : decode cX0_orderTold 29 = .ok (.ifCond .ge 10, 3) := dk_156 0 10 (dk_at dksX0_orderTold_1 5 rfl rfl)
theorem dX0_orderTold_32 : decode cX0_orderTold 32 = .ok (.aload_n 0, 1) := dk_42 (dk_at dksX0_orderTold_1 8 rfl rfl)
theorem dX0_orderTold_33 : decode cX0_orderTold 33 = .ok (.getfield 278, 3) := dk_180 1 22 (dk_at dksX0_orderTold_1 9 rfl rfl)
theorem dX0_orderTold_36 : decode cX0_orderTold 36 = .ok (.goto 22, 3) := dk_167 0 22 (dk_at dksX0_orderTold_1 12 rfl rfl)
theorem dX0_orderTold_39 : decode cX0_orderTold 39 = .ok (.iload_n 1, 1) := dk_27 (dk_at dksX0_orderTold_1 15 rfl rfl)
theorem dX0_orderTold_40 : decode cX0_orderTold 40 = .ok (.aload_n 0, 1) := dk_42 (dk_at dksX0_orderTold_1 16 rfl rfl)
theorem dX0_orderTold_41 : decode cX0_orderTold 41 = .ok (.getfield 271, 3) := dk_180 1 15 (dk_at dksX0_orderTold_1 17 rfl rfl)
theorem dX0_orderTold_44 : decode cX0_orderTold 44 = .ok (.if_icmp .ge 12, 3) := dk_162 0 12 (dk_at dksX0_orderTold_1 20 rfl rfl)
theorem dX0_orderTold_47 : decode cX0_orderTold 47 = .ok (.aload_n 0, 1) := dk_42 (dk_at dksX0_orderTold_1 23 rfl rfl)
theorem dX0_orderTold_48 : decode cX0_orderTold 48 = .ok (.getfield 108, 3) := dk_180 0 108 (dk_at dksX0_orderTold_2 0 rfl rfl)
theorem dX0_orderTold_51 : decode cX0_orderTold 51 = .ok (.iload_n 1, 1) := dk_27 (dk_at dksX0_orderTold_2 3 rfl rfl)
theorem dX0_orderTold_52 : decode cX0_orderTold 52 = .ok (.iaload, 1) := dk_46 (dk_at dksX0_orderTold_2 4 rfl rfl)
theorem dX0_orderTold_53 : decode cX0_orderTold 53 = .ok (.goto 5, 3) := dk_167 0 5 (dk_at dksX0_orderTold_2 5 rfl rfl)
theorem dX0_orderTold_56 : decode cX0_orderTold 56 = .ok (.bipush (-9), 2) := dk_16 247 (dk_at dksX0_orderTold_2 8 rfl rfl)
theorem dX0_orderTold_58 : decode cX0_orderTold 58 = .ok (.ireturn, 1) := dk_172 (dk_at dksX0_orderTold_2 10 rfl rfl)
abbrev cX0_seek : ByteArray := prog_1_method_25_code
def yX0_seek : MethodName := ⟨RX0, "seek", "(IIZ)V"⟩
def dkwX0_seek_5 : List UInt8 := [182, 1, 31, 132, 4, 1, 167, 255, 213, 177]
abbrev dktX0_seek_5 : List UInt8 := dkwX0_seek_5 ++ []
def dkwX0_seek_4 : List UInt8 := [154, 0, 25, 42, 180, 0, 105, 27, 21, 4, 79, 42, 27, 4, 96, 28, 4, 21, 4, 120, 128, 29]
abbrev dktX0_seek_4 : List UInt8 := dkwX0_seek_4 ++ dktX0_seek_5
def dkwX0_seek_3 : List UInt8 := [184, 1, 25, 177, 3, 54, 4, 21, 4, 42, 180, 1, 15, 162, 0, 40, 28, 21, 4, 122, 4, 126]
abbrev dktX0_seek_3 : List UInt8 := dkwX0_seek_3 ++ dktX0_seek_4
def dkwX0_seek_2 : List UInt8 := [180, 1, 22, 162, 0, 23, 42, 21, 4, 181, 1, 22, 42, 180, 0, 105, 3, 42, 180, 0, 108, 3, 27]
abbrev dktX0_seek_2 : List UInt8 := dkwX0_seek_2 ++ dktX0_seek_3
def dkwX0_seek_1 : List UInt8 := [16, 247, 159, 0, 28, 29, 153, 0, 15, 21, 4, 42, 180, 1, 22, 164, 0, 35, 167, 0, 12, 21, 4, 42]
abbrev dktX0_seek_1 : List UInt8 := dkwX0_seek_1 ++ dktX0_seek_2
def dkwX0_seek_0 : List UInt8 := [27, 42, 180, 1, 15, 160, 0, 69, 42, 42, 180, 0, 105, 27, 182, 1, 18, 54, 4, 42, 180, 1, 22]
abbrev dktX0_seek_0 : List UInt8 := dkwX0_seek_0 ++ dktX0_seek_1
theorem dksX0_seek_0 : cX0_seek.data.toList.drop 0 = dktX0_seek_0 := by decide +kernel
theorem dksX0_seek_1 : cX0_seek.data.toList.drop 23 = dktX0_seek_1 := dk_seg dksX0_seek_0 23 rfl rfl
theorem dksX0_seek_2 : cX0_seek.data.toList.drop 47 = dktX0_seek_2 := dk_seg dksX0_seek_1 24 rfl rfl
theorem dksX0_seek_3 : cX0_seek.data.toList.drop 70 = dktX0_seek_3 := dk_seg dksX0_seek_2 23 rfl rfl
theorem dksX0_seek_4 : cX0_seek.data.toList.drop 92 = dktX0_seek_4 := dk_seg dksX0_seek_3 22 rfl rfl
theorem dksX0_seek_5 : cX0_seek.data.toList.drop 114 = dktX0_seek_5 := dk_seg dksX0_seek_4 22 rfl rfl
theorem dX0_seek_0 : decode cX0_seek 0 = .ok (.iload_n 1, 1) := dk_27 (dk_at dksX0_seek_0 0 rfl rfl)
theorem dX0_seek_1 : decode cX0_seek 1 = .ok (.aload_n 0, 1) := dk_42 (dk_at dksX0_seek_0 1 rfl rfl)
theorem dX0_seek_2 : decode cX0_seek 2 = .ok (.getfield 271, 3) := dk_180 1 15 (dk_at dksX0_seek_0 2 rfl rfl)
theorem dX0_seek_5 : decode cX0_seek 5 = .ok (.if_icmp .ne 69, 3) := dk_160 0 69 (dk_at dksX0_seek_0 5 rfl rfl)
theorem dX0_seek_8 : decode cX0_seek 8 = .ok (.aload_n 0, 1) := dk_42 (dk_at dksX0_seek_0 8 rfl rfl)
theorem dX0_seek_9 : decode cX0_seek 9 = .ok (.aload_n 0, 1) := dk_42 (dk_at dksX0_seek_0 9 rfl rfl)
theorem dX0_seek_10 : decode cX0_seek 10 = .ok (.getfield 105, 3) := dk_180 0 105 (dk_at dksX0_seek_0 10 rfl rfl)
theorem dX0_seek_13 : decode cX0_seek 13 = .ok (.iload_n 1, 1) := dk_27 (dk_at dksX0_seek_0 13 rfl rfl)
theorem dX0_seek_14 : decode cX0_seek 14 = .ok (.invokevirtual 274, 3) := dk_182 1 18 (dk_at dksX0_seek_0 14 rfl rfl)
theorem dX0_seek_17 : decode cX0_seek 17 = .ok (.istore 4, 2) := dk_54 4 (dk_at dksX0_seek_0 17 rfl rfl)
theorem dX0_seek_19 : decode cX0_seek 19 = .ok (.aload_n 0, 1) := dk_42 (dk_at dksX0_seek_0 19 rfl rfl)
theorem dX0_seek_20 : decode cX0_seek 20 = .ok (.getfield 278, 3) := dk_180 1 22 (dk_at dksX0_seek_0 20 rfl rfl)
theorem dX0_seek_23 : decode cX0_seek 23 = .ok (.bipush (-9), 2) := dk_16 247 (dk_at dksX0_seek_1 0 rfl rfl)
theorem dX0_seek_25 : decode cX0_seek 25 = .ok (.if_icmp .eq 28, 3) := dk_159 0 28 (dk_at dksX0_seek_1 2 rfl rfl)
theorem dX0_seek_28 : decode cX0_seek 28 = .ok (.iload_n 3, 1) := dk_29 (dk_at dksX0_seek_1 5 rfl rfl)
theorem dX0_seek_29 : decode cX0_seek 29 = .ok (.ifCond .eq 15, 3) := dk_153 0 15 (dk_at dksX0_seek_1 6 rfl rfl)
theorem dX0_seek_32 : decode cX0_seek 32 = .ok (.iload 4, 2) := dk_21 4 (dk_at dksX0_seek_1 9 rfl rfl)
theorem dX0_seek_34 : decode cX0_seek 34 = .ok (.aload_n 0, 1) := dk_42 (dk_at dksX0_seek_1 11 rfl rfl)
theorem dX0_seek_35 : decode cX0_seek 35 = .ok (.getfield 278, 3) := dk_180 1 22 (dk_at dksX0_seek_1 12 rfl rfl)
theorem dX0_seek_38 : decode cX0_seek 38 = .ok (.if_icmp .le 35, 3) := dk_164 0 35 (dk_at dksX0_seek_1 15 rfl rfl)
theorem dX0_seek_41 : decode cX0_seek 41 = .ok (.goto 12, 3) := dk_167 0 12 (dk_at dksX0_seek_1 18 rfl rfl)
theorem dX0_seek_44 : decode cX0_seek 44 = .ok (.iload 4, 2) := dk_21 4 (dk_at dksX0_seek_1 21 rfl rfl)
theorem dX0_seek_46 : decode cX0_seek 46 = .ok (.aload_n 0, 1) := dk_42 (dk_at dksX0_seek_1 23 rfl rfl)
theorem dX0_seek_47 : decode cX0_seek 47 = .ok (.getfield 278, 3) := dk_180 1 22 (dk_at dksX0_seek_2 0 rfl rfl)
theorem dX0_seek_50 : decode cX0_seek 50 = .ok (.if_icmp .ge 23, 3) := dk_162 0 23 (dk_at dksX0_seek_2 3 rfl rfl)
theorem dX0_seek_53 : decode cX0_seek 53 = .ok (.aload_n 0, 1) := dk_42 (dk_at dksX0_seek_2 6 rfl rfl)
theorem dX0_seek_54 : decode cX0_seek 54 = .ok (.iload 4, 2) := dk_21 4 (dk_at dksX0_seek_2 7 rfl rfl)
theorem dX0_seek_56 : decode cX0_seek 56 = .ok (.putfield 278, 3) := dk_181 1 22 (dk_at dksX0_seek_2 9 rfl rfl)
theorem dX0_seek_59 : decode cX0_seek 59 = .ok (.aload_n 0, 1) := dk_42 (dk_at dksX0_seek_2 12 rfl rfl)
theorem dX0_seek_60 : decode cX0_seek 60 = .ok (.getfield 105, 3) := dk_180 0 105 (dk_at dksX0_seek_2 13 rfl rfl)
theorem dX0_seek_63 : decode cX0_seek 63 = .ok (.iconst 0, 1) := dk_3 (dk_at dksX0_seek_2 16 rfl rfl)
theorem dX0_seek_64 : decode cX0_seek 64 = .ok (.aload_n 0, 1) := dk_42 (dk_at dksX0_seek_2 17 rfl rfl)
theorem dX0_seek_65 : decode cX0_seek 65 = .ok (.getfield 108, 3) := dk_180 0 108 (dk_at dksX0_seek_2 18 rfl rfl)
theorem dX0_seek_68 : decode cX0_seek 68 = .ok (.iconst 0, 1) := dk_3 (dk_at dksX0_seek_2 21 rfl rfl)
theorem dX0_seek_69 : decode cX0_seek 69 = .ok (.iload_n 1, 1) := dk_27 (dk_at dksX0_seek_2 22 rfl rfl)
theorem dX0_seek_70 : decode cX0_seek 70 = .ok (.invokestatic 281, 3) := dk_184 1 25 (dk_at dksX0_seek_3 0 rfl rfl)
theorem dX0_seek_73 : decode cX0_seek 73 = .ok (.return_, 1) := dk_177 (dk_at dksX0_seek_3 3 rfl rfl)
theorem dX0_seek_74 : decode cX0_seek 74 = .ok (.iconst 0, 1) := dk_3 (dk_at dksX0_seek_3 4 rfl rfl)
theorem dX0_seek_75 : decode cX0_seek 75 = .ok (.istore 4, 2) := dk_54 4 (dk_at dksX0_seek_3 5 rfl rfl)
theorem dX0_seek_77 : decode cX0_seek 77 = .ok (.iload 4, 2) := dk_21 4 (dk_at dksX0_seek_3 7 rfl rfl)
theorem dX0_seek_79 : decode cX0_seek 79 = .ok (.aload_n 0, 1) := dk_42 (dk_at dksX0_seek_3 9 rfl rfl)
theorem dX0_seek_80 : decode cX0_seek 80 = .ok (.getfield 271, 3) := dk_180 1 15 (dk_at dksX0_seek_3 10 rfl rfl)
theorem dX0_seek_83 : decode cX0_seek 83 = .ok (.if_icmp .ge 40, 3) := dk_162 0 40 (dk_at dksX0_seek_3 13 rfl rfl)
theorem dX0_seek_86 : decode cX0_seek 86 = .ok (.iload_n 2, 1) := dk_28 (dk_at dksX0_seek_3 16 rfl rfl)
theorem dX0_seek_87 : decode cX0_seek 87 = .ok (.iload 4, 2) := dk_21 4 (dk_at dksX0_seek_3 17 rfl rfl)
theorem dX0_seek_89 : decode cX0_seek 89 = .ok (.ishr, 1) := dk_122 (dk_at dksX0_seek_3 19 rfl rfl)
theorem dX0_seek_90 : decode cX0_seek 90 = .ok (.iconst 1, 1) := dk_4 (dk_at dksX0_seek_3 20 rfl rfl)
theorem dX0_seek_91 : decode cX0_seek 91 = .ok (.iand, 1) := dk_126 (dk_at dksX0_seek_3 21 rfl rfl)
theorem dX0_seek_92 : decode cX0_seek 92 = .ok (.ifCond .ne 25, 3) := dk_154 0 25 (dk_at dksX0_seek_4 0 rfl rfl)
theorem dX0_seek_95 : decode cX0_seek 95 = .ok (.aload_n 0, 1) := dk_42 (dk_at dksX0_seek_4 3 rfl rfl)
theorem dX0_seek_96 : decode cX0_seek 96 = .ok (.getfield 105, 3) := dk_180 0 105 (dk_at dksX0_seek_4 4 rfl rfl)
theorem dX0_seek_99 : decode cX0_seek 99 = .ok (.iload_n 1, 1) := dk_27 (dk_at dksX0_seek_4 7 rfl rfl)
theorem dX0_seek_100 : decode cX0_seek 100 = .ok (.iload 4, 2) := dk_21 4 (dk_at dksX0_seek_4 8 rfl rfl)
theorem dX0_seek_102 : decode cX0_seek 102 = .ok (.iastore, 1) := dk_79 (dk_at dksX0_seek_4 10 rfl rfl)
theorem dX0_seek_103 : decode cX0_seek 103 = .ok (.aload_n 0, 1) := dk_42 (dk_at dksX0_seek_4 11 rfl rfl)
theorem dX0_seek_104 : decode cX0_seek 104 = .ok (.iload_n 1, 1) := dk_27 (dk_at dksX0_seek_4 12 rfl rfl)
theorem dX0_seek_105 : decode cX0_seek 105 = .ok (.iconst 1, 1) := dk_4 (dk_at dksX0_seek_4 13 rfl rfl)
theorem dX0_seek_106 : decode cX0_seek 106 = .ok (.iadd, 1) := dk_96 (dk_at dksX0_seek_4 14 rfl rfl)
theorem dX0_seek_107 : decode cX0_seek 107 = .ok (.iload_n 2, 1) := dk_28 (dk_at dksX0_seek_4 15 rfl rfl)
theorem dX0_seek_108 : decode cX0_seek 108 = .ok (.iconst 1, 1) := dk_4 (dk_at dksX0_seek_4 16 rfl rfl)
theorem dX0_seek_109 : decode cX0_seek 109 = .ok (.iload 4, 2) := dk_21 4 (dk_at dksX0_seek_4 17 rfl rfl)
theorem dX0_seek_111 : decode cX0_seek 111 = .ok (.ishl, 1) := dk_120 (dk_at dksX0_seek_4 19 rfl rfl)
theorem dX0_seek_112 : decode cX0_seek 112 = .ok (.ior, 1) := dk_128 (dk_at dksX0_seek_4 20 rfl rfl)
theorem dX0_seek_113 : decode cX0_seek 113 = .ok (.iload_n 3, 1) := dk_29 (dk_at dksX0_seek_4 21 rfl rfl)
theorem dX0_seek_114 : decode cX0_seek 114 = .ok (.invokevirtual 287, 3) := dk_182 1 31 (dk_at dksX0_seek_5 0 rfl rfl)
theorem dX0_seek_117 : decode cX0_seek 117 = .ok (.iinc 4 1, 3) := dk_132 4 1 (dk_at dksX0_seek_5 3 rfl rfl)
theorem dX0_seek_120 : decode cX0_seek 120 = .ok (.goto (-43), 3) := dk_167 255 213 (dk_at dksX0_seek_5 6 rfl rfl)
theorem dX0_seek_123 : decode cX0_seek 123 = .ok (.return_, 1) := dk_177 (dk_at dksX0_seek_5 9 rfl rfl)
abbrev cX0_eveningTold : ByteArray := prog_1_method_53_code
def yX0_eveningTold : MethodName := ⟨RX0, "eveningTold", "(III)I"⟩
def dkwX0_eveningTold_1 : List UInt8 := [182, 1, 186, 172]
abbrev dktX0_eveningTold_1 : List UInt8 := dkwX0_eveningTold_1 ++ []
def dkwX0_eveningTold_0 : List UInt8 := [42, 29, 182, 1, 112, 27, 133, 10, 20, 1, 184, 184, 1, 37, 42, 182, 1, 141, 42, 27, 28, 29]
abbrev dktX0_eveningTold_0 : List UInt8 := dkwX0_eveningTold_0 ++ dktX0_eveningTold_1
theorem dksX0_eveningTold_0 : cX0_eveningTold.data.toList.drop 0 = dktX0_eveningTold_0 := by decide +kernel
theorem dksX0_eveningTold_1 : cX0_eveningTold.data.toList.drop 22 = dktX0_eveningTold_1 := dk_seg dksX0_eveningTold_0 22 rfl rfl
theorem dX0_eveningTold_0 : decode cX0_eveningTold 0 = .ok (.aload_n 0, 1) := dk_42 (dk_at dksX0_eveningTold_0 0 rfl rfl)
theorem dX0_eveningTold_1 : decode cX0_eveningTold 1 = .ok (.iload_n 3, 1) := dk_29 (dk_at dksX0_eveningTold_0 1 rfl rfl)
theorem dX0_eveningTold_2 : decode cX0_eveningTold 2 = .ok (.invokevirtual 368, 3) := dk_182 1 112 (dk_at dksX0_eveningTold_0 2 rfl rfl)
theorem dX0_eveningTold_5 : decode cX0_eveningTold 5 = .ok (.iload_n 1, 1) := dk_27 (dk_at dksX0_eveningTold_0 5 rfl rfl)
theorem dX0_eveningTold_6 : decode cX0_eveningTold 6 = .ok (.i2l, 1) := dk_133 (dk_at dksX0_eveningTold_0 6 rfl rfl)
theorem dX0_eveningTold_7 : decode cX0_eveningTold 7 = .ok (.lconst 1, 1) := dk_10 (dk_at dksX0_eveningTold_0 7 rfl rfl)
theorem dX0_eveningTold_8 : decode cX0_eveningTold 8 = .ok (.ldc2_w 440, 3) := dk_20 1 184 (dk_at dksX0_eveningTold_0 8 rfl rfl)
theorem dX0_eveningTold_11 : decode cX0_eveningTold 11 = .ok (.invokestatic 293, 3) := dk_184 1 37 (dk_at dksX0_eveningTold_0 11 rfl rfl)
theorem dX0_eveningTold_14 : decode cX0_eveningTold 14 = .ok (.aload_n 0, 1) := dk_42 (dk_at dksX0_eveningTold_0 14 rfl rfl)
theorem dX0_eveningTold_15 : decode cX0_eveningTold 15 = .ok (.invokevirtual 397, 3) := dk_182 1 141 (dk_at dksX0_eveningTold_0 15 rfl rfl)
theorem dX0_eveningTold_18 : decode cX0_eveningTold 18 = .ok (.aload_n 0, 1) := dk_42 (dk_at dksX0_eveningTold_0 18 rfl rfl)
theorem dX0_eveningTold_19 : decode cX0_eveningTold 19 = .ok (.iload_n 1, 1) := dk_27 (dk_at dksX0_eveningTold_0 19 rfl rfl)
theorem dX0_eveningTold_20 : decode cX0_eveningTold 20 = .ok (.iload_n 2, 1) := dk_28 (dk_at dksX0_eveningTold_0 20 rfl rfl)
theorem dX0_eveningTold_21 : decode cX0_eveningTold 21 = .ok (.iload_n 3, 1) := dk_29 (dk_at dksX0_eveningTold_0 21 rfl rfl)
theorem dX0_eveningTold_22 : decode cX0_eveningTold 22 = .ok (.invokevirtual 442, 3) := dk_182 1 186 (dk_at dksX0_eveningTold_1 0 rfl rfl)
theorem dX0_eveningTold_25 : decode cX0_eveningTold 25 = .ok (.ireturn, 1) := dk_172 (dk_at dksX0_eveningTold_1 3 rfl rfl)
abbrev cX0_eveningOf : ByteArray := prog_1_method_30_code
def yX0_eveningOf : MethodName := ⟨RX0, "eveningOf", "(III)I"⟩
def dkwX0_eveningOf_1 : List UInt8 := [182, 0, 233, 21, 4, 42, 180, 0, 88, 29, 46, 96, 54, 4, 132, 5, 1, 167, 255, 228, 21, 4, 172]
abbrev dktX0_eveningOf_1 : List UInt8 := dkwX0_eveningOf_1 ++ []
def dkwX0_eveningOf_0 : List UInt8 := [42, 28, 181, 1, 41, 3, 54, 4, 3, 54, 5, 21, 5, 27, 162, 0, 28, 42, 42, 182, 1, 57]
abbrev dktX0_eveningOf_0 : List UInt8 := dkwX0_eveningOf_0 ++ dktX0_eveningOf_1
theorem dksX0_eveningOf_0 : cX0_eveningOf.data.toList.drop 0 = dktX0_eveningOf_0 := by decide +kernel
theorem dksX0_eveningOf_1 : cX0_eveningOf.data.toList.drop 22 = dktX0_eveningOf_1 := dk_seg dksX0_eveningOf_0 22 rfl rfl
theorem dX0_eveningOf_0 : decode cX0_eveningOf 0 = .ok (.aload_n 0, 1) := dk_42 (dk_at dksX0_eveningOf_0 0 rfl rfl)
theorem dX0_eveningOf_1 : decode cX0_eveningOf 1 = .ok (.iload_n 2, 1) := dk_28 (dk_at dksX0_eveningOf_0 1 rfl rfl)
theorem dX0_eveningOf_2 : decode cX0_eveningOf 2 = .ok (.putfield 297, 3) := dk_181 1 41 (dk_at dksX0_eveningOf_0 2 rfl rfl)
theorem dX0_eveningOf_5 : decode cX0_eveningOf 5 = .ok (.iconst 0, 1) := dk_3 (dk_at dksX0_eveningOf_0 5 rfl rfl)
theorem dX0_eveningOf_6 : decode cX0_eveningOf 6 = .ok (.istore 4, 2) := dk_54 4 (dk_at dksX0_eveningOf_0 6 rfl rfl)
theorem dX0_eveningOf_8 : decode cX0_eveningOf 8 = .ok (.iconst 0, 1) := dk_3 (dk_at dksX0_eveningOf_0 8 rfl rfl)
theorem dX0_eveningOf_9 : decode cX0_eveningOf 9 = .ok (.istore 5, 2) := dk_54 5 (dk_at dksX0_eveningOf_0 9 rfl rfl)
theorem dX0_eveningOf_11 : decode cX0_eveningOf 11 = .ok (.iload 5, 2) := dk_21 5 (dk_at dksX0_eveningOf_0 11 rfl rfl)
theorem dX0_eveningOf_13 : decode cX0_eveningOf 13 = .ok (.iload_n 1, 1) := dk_27 (dk_at dksX0_eveningOf_0 13 rfl rfl)
theorem dX0_eveningOf_14 : decode cX0_eveningOf 14 = .ok (.if_icmp .ge 28, 3) := dk_162 0 28 (dk_at dksX0_eveningOf_0 14 rfl rfl)
theorem dX0_eveningOf_17 : decode cX0_eveningOf 17 = .ok (.aload_n 0, 1) := dk_42 (dk_at dksX0_eveningOf_0 17 rfl rfl)
theorem dX0_eveningOf_18 : decode cX0_eveningOf 18 = .ok (.aload_n 0, 1) := dk_42 (dk_at dksX0_eveningOf_0 18 rfl rfl)
theorem dX0_eveningOf_19 : decode cX0_eveningOf 19 = .ok (.invokevirtual 313, 3) := dk_182 1 57 (dk_at dksX0_eveningOf_0 19 rfl rfl)
theorem dX0_eveningOf_22 : decode cX0_eveningOf 22 = .ok (.invokevirtual 233, 3) := dk_182 0 233 (dk_at dksX0_eveningOf_1 0 rfl rfl)
theorem dX0_eveningOf_25 : decode cX0_eveningOf 25 = .ok (.iload 4, 2) := dk_21 4 (dk_at dksX0_eveningOf_1 3 rfl rfl)
theorem dX0_eveningOf_27 : decode cX0_eveningOf 27 = .ok (.aload_n 0, 1) := dk_42 (dk_at dksX0_eveningOf_1 5 rfl rfl)
theorem dX0_eveningOf_28 : decode cX0_eveningOf 28 = .ok (.getfield 88, 3) := dk_180 0 88 (dk_at dksX0_eveningOf_1 6 rfl rfl)
theorem dX0_eveningOf_31 : decode cX0_eveningOf 31 = .ok (.iload_n 3, 1) := dk_29 (dk_at dksX0_eveningOf_1 9 rfl rfl)
theorem dX0_eveningOf_32 : decode cX0_eveningOf 32 = .ok (.iaload, 1) := dk_46 (dk_at dksX0_eveningOf_1 10 rfl rfl)
theorem dX0_eveningOf_33 : decode cX0_eveningOf 33 = .ok (.iadd, 1) := dk_96 (dk_at dksX0_eveningOf_1 11 rfl rfl)
theorem dX0_eveningOf_34 : decode cX0_eveningOf 34 = .ok (.istore 4, 2) := dk_54 4 (dk_at dksX0_eveningOf_1 12 rfl rfl)
theorem dX0_eveningOf_36 : decode cX0_eveningOf 36 = .ok (.iinc 5 1, 3) := dk_132 5 1 (dk_at dksX0_eveningOf_1 14 rfl rfl)
theorem dX0_eveningOf_39 : decode cX0_eveningOf 39 = .ok (.goto (-28), 3) := dk_167 255 228 (dk_at dksX0_eveningOf_1 17 rfl rfl)
theorem dX0_eveningOf_42 : decode cX0_eveningOf 42 = .ok (.iload 4, 2) := dk_21 4 (dk_at dksX0_eveningOf_1 20 rfl rfl)
theorem dX0_eveningOf_44 : decode cX0_eveningOf 44 = .ok (.ireturn, 1) := dk_172 (dk_at dksX0_eveningOf_1 22 rfl rfl)
abbrev cX0_drawnEnd : ByteArray := prog_1_method_29_code
def yX0_drawnEnd : MethodName := ⟨RX0, "drawnEnd", "()I"⟩
def dkwX0_drawnEnd_3 : List UInt8 := [167, 255, 187, 27, 172]
abbrev dktX0_drawnEnd_3 : List UInt8 := dkwX0_drawnEnd_3 ++ []
def dkwX0_drawnEnd_2 : List UInt8 := [160, 0, 15, 42, 180, 0, 55, 180, 1, 54, 29, 46, 167, 0, 4, 3, 100, 61, 167, 255, 220, 29, 60]
abbrev dktX0_drawnEnd_2 : List UInt8 := dkwX0_drawnEnd_2 ++ dktX0_drawnEnd_3
def dkwX0_drawnEnd_1 : List UInt8 := [182, 1, 51, 61, 27, 62, 28, 155, 0, 38, 132, 3, 1, 28, 42, 180, 0, 55, 180, 0, 248, 29, 46, 27]
abbrev dktX0_drawnEnd_1 : List UInt8 := dkwX0_drawnEnd_1 ++ dktX0_drawnEnd_2
def dkwX0_drawnEnd_0 : List UInt8 := [3, 60, 42, 180, 0, 55, 27, 182, 0, 229, 154, 0, 64, 42, 42, 180, 0, 55, 27, 3, 182, 1, 47, 136]
abbrev dktX0_drawnEnd_0 : List UInt8 := dkwX0_drawnEnd_0 ++ dktX0_drawnEnd_1
theorem dksX0_drawnEnd_0 : cX0_drawnEnd.data.toList.drop 0 = dktX0_drawnEnd_0 := by decide +kernel
theorem dksX0_drawnEnd_1 : cX0_drawnEnd.data.toList.drop 24 = dktX0_drawnEnd_1 := dk_seg dksX0_drawnEnd_0 24 rfl rfl
theorem dksX0_drawnEnd_2 : cX0_drawnEnd.data.toList.drop 48 = dktX0_drawnEnd_2 := dk_seg dksX0_drawnEnd_1 24 rfl rfl
theorem dksX0_drawnEnd_3 : cX0_drawnEnd.data.toList.drop 71 = dktX0_drawnEnd_3 := dk_seg dksX0_drawnEnd_2 23 rfl rfl
theorem dX0_drawnEnd_0 : decode cX0_drawnEnd 0 = .ok (.iconst 0, 1) := dk_3 (dk_at dksX0_drawnEnd_0 0 rfl rfl)
theorem dX0_drawnEnd_1 : decode cX0_drawnEnd 1 = .ok (.istore_n 1, 1) := dk_60 (dk_at dksX0_drawnEnd_0 1 rfl rfl)
theorem dX0_drawnEnd_2 : decode cX0_drawnEnd 2 = .ok (.aload_n 0, 1) := dk_42 (dk_at dksX0_drawnEnd_0 2 rfl rfl)
theorem dX0_drawnEnd_3 : decode cX0_drawnEnd 3 = .ok (.getfield 55, 3) := dk_180 0 55 (dk_at dksX0_drawnEnd_0 3 rfl rfl)
theorem dX0_drawnEnd_6 : decode cX0_drawnEnd 6 = .ok (.iload_n 1, 1) := dk_27 (dk_at dksX0_drawnEnd_0 6 rfl rfl)
theorem dX0_drawnEnd_7 : decode cX0_drawnEnd 7 = .ok (.invokevirtual 229, 3) := dk_182 0 229 (dk_at dksX0_drawnEnd_0 7 rfl rfl)
theorem dX0_drawnEnd_10 : decode cX0_drawnEnd 10 = .ok (.ifCond .ne 64, 3) := dk_154 0 64 (dk_at dksX0_drawnEnd_0 10 rfl rfl)
theorem dX0_drawnEnd_13 : decode cX0_drawnEnd 13 = .ok (.aload_n 0, 1) := dk_42 (dk_at dksX0_drawnEnd_0 13 rfl rfl)
theorem dX0_drawnEnd_14 : decode cX0_drawnEnd 14 = .ok (.aload_n 0, 1) := dk_42 (dk_at dksX0_drawnEnd_0 14 rfl rfl)
theorem dX0_drawnEnd_15 : decode cX0_drawnEnd 15 = .ok (.getfield 55, 3) := dk_180 0 55 (dk_at dksX0_drawnEnd_0 15 rfl rfl)
theorem dX0_drawnEnd_18 : decode cX0_drawnEnd 18 = .ok (.iload_n 1, 1) := dk_27 (dk_at dksX0_drawnEnd_0 18 rfl rfl)
theorem dX0_drawnEnd_19 : decode cX0_drawnEnd 19 = .ok (.iconst 0, 1) := dk_3 (dk_at dksX0_drawnEnd_0 19 rfl rfl)
theorem dX0_drawnEnd_20 : decode cX0_drawnEnd 20 = .ok (.invokevirtual 303, 3) := dk_182 1 47 (dk_at dksX0_drawnEnd_0 20 rfl rfl)
theorem dX0_drawnEnd_23 : decode cX0_drawnEnd 23 = .ok (.l2i, 1) := dk_136 (dk_at dksX0_drawnEnd_0 23 rfl rfl)
theorem dX0_drawnEnd_24 : decode cX0_drawnEnd 24 = .ok (.invokevirtual 307, 3) := dk_182 1 51 (dk_at dksX0_drawnEnd_1 0 rfl rfl)
theorem dX0_drawnEnd_27 : decode cX0_drawnEnd 27 = .ok (.istore_n 2, 1) := dk_61 (dk_at dksX0_drawnEnd_1 3 rfl rfl)
theorem dX0_drawnEnd_28 : decode cX0_drawnEnd 28 = .ok (.iload_n 1, 1) := dk_27 (dk_at dksX0_drawnEnd_1 4 rfl rfl)
theorem dX0_drawnEnd_29 : decode cX0_drawnEnd 29 = .ok (.istore_n 3, 1) := dk_62 (dk_at dksX0_drawnEnd_1 5 rfl rfl)
theorem dX0_drawnEnd_30 : decode cX0_drawnEnd 30 = .ok (.iload_n 2, 1) := dk_28 (dk_at dksX0_drawnEnd_1 6 rfl rfl)
theorem dX0_drawnEnd_31 : decode cX0_drawnEnd 31 = .ok (.ifCond .lt 38, 3) := dk_155 0 38 (dk_at dksX0_drawnEnd_1 7 rfl rfl)
theorem dX0_drawnEnd_34 : decode cX0_drawnEnd 34 = .ok (.iinc 3 1, 3) := dk_132 3 1 (dk_at dksX0_drawnEnd_1 10 rfl rfl)
theorem dX0_drawnEnd_37 : decode cX0_drawnEnd 37 = .ok (.iload_n 2, 1) := dk_28 (dk_at dksX0_drawnEnd_1 13 rfl rfl)
theorem dX0_drawnEnd_38 : decode cX0_drawnEnd 38 = .ok (.aload_n 0, 1) := dk_42 (dk_at dksX0_drawnEnd_1 14 rfl rfl)
theorem dX0_drawnEnd_39 : decode cX0_drawnEnd 39 = .ok (.getfield 55, 3) := dk_180 0 55 (dk_at dksX0_drawnEnd_1 15 rfl rfl)
theorem dX0_drawnEnd_42 : decode cX0_drawnEnd 42 = .ok (.getfield 248, 3) := dk_180 0 248 (dk_at dksX0_drawnEnd_1 18 rfl rfl)
theorem dX0_drawnEnd_45 : decode cX0_drawnEnd 45 = .ok (.iload_n 3, 1) := dk_29 (dk_at dksX0_drawnEnd_1 21 rfl rfl)
theorem dX0_drawnEnd_46 : decode cX0_drawnEnd 46 = .ok (.iaload, 1) := dk_46 (dk_at dksX0_drawnEnd_1 22 rfl rfl)
theorem dX0_drawnEnd_47 : decode cX0_drawnEnd 47 = .ok (.iload_n 1, 1) := dk_27 (dk_at dksX0_drawnEnd_1 23 rfl rfl)
theorem dX0_drawnEnd_48 : decode cX0_drawnEnd 48 = .ok (.if_icmp .ne 15, 3) := dk_160 0 15 (dk_at dksX0_drawnEnd_2 0 rfl rfl)
theorem dX0_drawnEnd_51 : decode cX0_drawnEnd 51 = .ok (.aload_n 0, 1) := dk_42 (dk_at dksX0_drawnEnd_2 3 rfl rfl)
theorem dX0_drawnEnd_52 : decode cX0_drawnEnd 52 = .ok (.getfield 55, 3) := dk_180 0 55 (dk_at dksX0_drawnEnd_2 4 rfl rfl)
theorem dX0_drawnEnd_55 : decode cX0_drawnEnd 55 = .ok (.getfield 310, 3) := dk_180 1 54 (dk_at dksX0_drawnEnd_2 7 rfl rfl)
theorem dX0_drawnEnd_58 : decode cX0_drawnEnd 58 = .ok (.iload_n 3, 1) := dk_29 (dk_at dksX0_drawnEnd_2 10 rfl rfl)
theorem dX0_drawnEnd_59 : decode cX0_drawnEnd 59 = .ok (.iaload, 1) := dk_46 (dk_at dksX0_drawnEnd_2 11 rfl rfl)
theorem dX0_drawnEnd_60 : decode cX0_drawnEnd 60 = .ok (.goto 4, 3) := dk_167 0 4 (dk_at dksX0_drawnEnd_2 12 rfl rfl)
theorem dX0_drawnEnd_63 : decode cX0_drawnEnd 63 = .ok (.iconst 0, 1) := dk_3 (dk_at dksX0_drawnEnd_2 15 rfl rfl)
theorem dX0_drawnEnd_64 : decode cX0_drawnEnd 64 = .ok (.isub, 1) := dk_100 (dk_at dksX0_drawnEnd_2 16 rfl rfl)
theorem dX0_drawnEnd_65 : decode cX0_drawnEnd 65 = .ok (.istore_n 2, 1) := dk_61 (dk_at dksX0_drawnEnd_2 17 rfl rfl)
theorem dX0_drawnEnd_66 : decode cX0_drawnEnd 66 = .ok (.goto (-36), 3) := dk_167 255 220 (dk_at dksX0_drawnEnd_2 18 rfl rfl)
theorem dX0_drawnEnd_69 : decode cX0_drawnEnd 69 = .ok (.iload_n 3, 1) := dk_29 (dk_at dksX0_drawnEnd_2 21 rfl rfl)
theorem dX0_drawnEnd_70 : decode cX0_drawnEnd 70 = .ok (.istore_n 1, 1) := dk_60 (dk_at dksX0_drawnEnd_2 22 rfl rfl)
theorem dX0_drawnEnd_71 : decode cX0_drawnEnd 71 = .ok (.goto (-69), 3) := dk_167 255 187 (dk_at dksX0_drawnEnd_3 0 rfl rfl)
theorem dX0_drawnEnd_74 : decode cX0_drawnEnd 74 = .ok (.iload_n 1, 1) := dk_27 (dk_at dksX0_drawnEnd_3 3 rfl rfl)
theorem dX0_drawnEnd_75 : decode cX0_drawnEnd 75 = .ok (.ireturn, 1) := dk_172 (dk_at dksX0_drawnEnd_3 4 rfl rfl)
abbrev cX0_draw : ByteArray := prog_1_method_28_code
def yX0_draw : MethodName := ⟨RX0, "draw", "(I)I"⟩
def dkwX0_draw_1 : List UInt8 := [17, 1, 0, 108, 27, 112, 172]
abbrev dktX0_draw_1 : List UInt8 := dkwX0_draw_1 ++ []
def dkwX0_draw_0 : List UInt8 := [42, 42, 180, 1, 41, 19, 1, 44, 104, 19, 1, 45, 96, 181, 1, 41, 42, 180, 1, 41, 19, 1, 46, 126]
abbrev dktX0_draw_0 : List UInt8 := dkwX0_draw_0 ++ dktX0_draw_1
theorem dksX0_draw_0 : cX0_draw.data.toList.drop 0 = dktX0_draw_0 := by decide +kernel
theorem dksX0_draw_1 : cX0_draw.data.toList.drop 24 = dktX0_draw_1 := dk_seg dksX0_draw_0 24 rfl rfl
theorem dX0_draw_0 : decode cX0_draw 0 = .ok (.aload_n 0, 1) := dk_42 (dk_at dksX0_draw_0 0 rfl rfl)
theorem dX0_draw_1 : decode cX0_draw 1 = .ok (.aload_n 0, 1) := dk_42 (dk_at dksX0_draw_0 1 rfl rfl)
theorem dX0_draw_2 : decode cX0_draw 2 = .ok (.getfield 297, 3) := dk_180 1 41 (dk_at dksX0_draw_0 2 rfl rfl)
theorem dX0_draw_5 : decode cX0_draw 5 = .ok (.ldc_w 300, 3) := dk_19 1 44 (dk_at dksX0_draw_0 5 rfl rfl)
theorem dX0_draw_8 : decode cX0_draw 8 = .ok (.imul, 1) := dk_104 (dk_at dksX0_draw_0 8 rfl rfl)
theorem dX0_draw_9 : decode cX0_draw 9 = .ok (.ldc_w 301, 3) := dk_19 1 45 (dk_at dksX0_draw_0 9 rfl rfl)
theorem dX0_draw_12 : decode cX0_draw 12 = .ok (.iadd, 1) := dk_96 (dk_at dksX0_draw_0 12 rfl rfl)
theorem dX0_draw_13 : decode cX0_draw 13 = .ok (.putfield 297, 3) := dk_181 1 41 (dk_at dksX0_draw_0 13 rfl rfl)
theorem dX0_draw_16 : decode cX0_draw 16 = .ok (.aload_n 0, 1) := dk_42 (dk_at dksX0_draw_0 16 rfl rfl)
theorem dX0_draw_17 : decode cX0_draw 17 = .ok (.getfield 297, 3) := dk_180 1 41 (dk_at dksX0_draw_0 17 rfl rfl)
theorem dX0_draw_20 : decode cX0_draw 20 = .ok (.ldc_w 302, 3) := dk_19 1 46 (dk_at dksX0_draw_0 20 rfl rfl)
theorem dX0_draw_23 : decode cX0_draw 23 = .ok (.iand, 1) := dk_126 (dk_at dksX0_draw_0 23 rfl rfl)
theorem dX0_draw_24 : decode cX0_draw 24 = .ok (.sipush 256, 3) := dk_17 1 0 (dk_at dksX0_draw_1 0 rfl rfl)
theorem dX0_draw_27 : decode cX0_draw 27 = .ok (.idiv, 1) := dk_108 (dk_at dksX0_draw_1 3 rfl rfl)
theorem dX0_draw_28 : decode cX0_draw 28 = .ok (.iload_n 1, 1) := dk_27 (dk_at dksX0_draw_1 4 rfl rfl)
theorem dX0_draw_29 : decode cX0_draw 29 = .ok (.irem, 1) := dk_112 (dk_at dksX0_draw_1 5 rfl rfl)
theorem dX0_draw_30 : decode cX0_draw 30 = .ok (.ireturn, 1) := dk_172 (dk_at dksX0_draw_1 6 rfl rfl)
abbrev cX0_judgeRow : ByteArray := prog_1_method_31_code
def yX0_judgeRow : MethodName := ⟨RX0, "judgeRow", "(I)I"⟩
def dkwX0_judgeRow_2 : List UInt8 := [167, 0, 7, 42, 180, 0, 203, 159, 0, 5, 29, 172, 132, 3, 1, 167, 255, 211, 16, 247, 172]
abbrev dktX0_judgeRow_2 : List UInt8 := dkwX0_judgeRow_2 ++ []
def dkwX0_judgeRow_1 : List UInt8 := [182, 1, 57, 182, 0, 233, 42, 180, 0, 78, 29, 51, 42, 180, 0, 203, 16, 247, 160, 0, 8, 16, 9]
abbrev dktX0_judgeRow_1 : List UInt8 := dkwX0_judgeRow_1 ++ dktX0_judgeRow_2
def dkwX0_judgeRow_0 : List UInt8 := [42, 27, 181, 1, 41, 42, 180, 1, 61, 61, 42, 3, 181, 1, 61, 3, 62, 29, 28, 162, 0, 46, 42, 42]
abbrev dktX0_judgeRow_0 : List UInt8 := dkwX0_judgeRow_0 ++ dktX0_judgeRow_1
theorem dksX0_judgeRow_0 : cX0_judgeRow.data.toList.drop 0 = dktX0_judgeRow_0 := by decide +kernel
theorem dksX0_judgeRow_1 : cX0_judgeRow.data.toList.drop 24 = dktX0_judgeRow_1 := dk_seg dksX0_judgeRow_0 24 rfl rfl
theorem dksX0_judgeRow_2 : cX0_judgeRow.data.toList.drop 47 = dktX0_judgeRow_2 := dk_seg dksX0_judgeRow_1 23 rfl rfl
theorem dX0_judgeRow_0 : decode cX0_judgeRow 0 = .ok (.aload_n 0, 1) := dk_42 (dk_at dksX0_judgeRow_0 0 rfl rfl)
theorem dX0_judgeRow_1 : decode cX0_judgeRow 1 = .ok (.iload_n 1, 1) := dk_27 (dk_at dksX0_judgeRow_0 1 rfl rfl)
theorem dX0_judgeRow_2 : decode cX0_judgeRow 2 = .ok (.putfield 297, 3) := dk_181 1 41 (dk_at dksX0_judgeRow_0 2 rfl rfl)
theorem dX0_judgeRow_5 : decode cX0_judgeRow 5 = .ok (.aload_n 0, 1) := dk_42 (dk_at dksX0_judgeRow_0 5 rfl rfl)
theorem dX0_judgeRow_6 : decode cX0_judgeRow 6 = .ok (.getfield 317, 3) := dk_180 1 61 (dk_at dksX0_judgeRow_0 6 rfl rfl)
theorem dX0_judgeRow_9 : decode cX0_judgeRow 9 = .ok (.istore_n 2, 1) := dk_61 (dk_at dksX0_judgeRow_0 9 rfl rfl)
theorem dX0_judgeRow_10 : decode cX0_judgeRow 10 = .ok (.aload_n 0, 1) := dk_42 (dk_at dksX0_judgeRow_0 10 rfl rfl)
theorem dX0_judgeRow_11 : decode cX0_judgeRow 11 = .ok (.iconst 0, 1) := dk_3 (dk_at dksX0_judgeRow_0 11 rfl rfl)
theorem dX0_judgeRow_12 : decode cX0_judgeRow 12 = .ok (.putfield 317, 3) := dk_181 1 61 (dk_at dksX0_judgeRow_0 12 rfl rfl)
theorem dX0_judgeRow_15 : decode cX0_judgeRow 15 = .ok (.iconst 0, 1) := dk_3 (dk_at dksX0_judgeRow_0 15 rfl rfl)
theorem dX0_judgeRow_16 : decode cX0_judgeRow 16 = .ok (.istore_n 3, 1) := dk_62 (dk_at dksX0_judgeRow_0 16 rfl rfl)
theorem dX0_judgeRow_17 : decode cX0_judgeRow 17 = .ok (.iload_n 3, 1) := dk_29 (dk_at dksX0_judgeRow_0 17 rfl rfl)
theorem dX0_judgeRow_18 : decode cX0_judgeRow 18 = .ok (.iload_n 2, 1) := dk_28 (dk_at dksX0_judgeRow_0 18 rfl rfl)
theorem dX0_judgeRow_19 : decode cX0_judgeRow 19 = .ok (.if_icmp .ge 46, 3) := dk_162 0 46 (dk_at dksX0_judgeRow_0 19 rfl rfl)
theorem dX0_judgeRow_22 : decode cX0_judgeRow 22 = .ok (.aload_n 0, 1) := dk_42 (dk_at dksX0_judgeRow_0 22 rfl rfl)
theorem dX0_judgeRow_23 : decode cX0_judgeRow 23 = .ok (.aload_n 0, 1) := dk_42 (dk_at dksX0_judgeRow_0 23 rfl rfl)
theorem dX0_judgeRow_24 : decode cX0_judgeRow 24 = .ok (.invokevirtual 313, 3) := dk_182 1 57 (dk_at dksX0_judgeRow_1 0 rfl rfl)
theorem dX0_judgeRow_27 : decode cX0_judgeRow 27 = .ok (.invokevirtual 233, 3) := dk_182 0 233 (dk_at dksX0_judgeRow_1 3 rfl rfl)
theorem dX0_judgeRow_30 : decode cX0_judgeRow 30 = .ok (.aload_n 0, 1) := dk_42 (dk_at dksX0_judgeRow_1 6 rfl rfl)
theorem dX0_judgeRow_31 : decode cX0_judgeRow 31 = .ok (.getfield 78, 3) := dk_180 0 78 (dk_at dksX0_judgeRow_1 7 rfl rfl)
theorem dX0_judgeRow_34 : decode cX0_judgeRow 34 = .ok (.iload_n 3, 1) := dk_29 (dk_at dksX0_judgeRow_1 10 rfl rfl)
theorem dX0_judgeRow_35 : decode cX0_judgeRow 35 = .ok (.baload, 1) := dk_51 (dk_at dksX0_judgeRow_1 11 rfl rfl)
theorem dX0_judgeRow_36 : decode cX0_judgeRow 36 = .ok (.aload_n 0, 1) := dk_42 (dk_at dksX0_judgeRow_1 12 rfl rfl)
theorem dX0_judgeRow_37 : decode cX0_judgeRow 37 = .ok (.getfield 203, 3) := dk_180 0 203 (dk_at dksX0_judgeRow_1 13 rfl rfl)
theorem dX0_judgeRow_40 : decode cX0_judgeRow 40 = .ok (.bipush (-9), 2) := dk_16 247 (dk_at dksX0_judgeRow_1 16 rfl rfl)
theorem dX0_judgeRow_42 : decode cX0_judgeRow 42 = .ok (.if_icmp .ne 8, 3) := dk_160 0 8 (dk_at dksX0_judgeRow_1 18 rfl rfl)
theorem dX0_judgeRow_45 : decode cX0_judgeRow 45 = .ok (.bipush 9, 2) := dk_16 9 (dk_at dksX0_judgeRow_1 21 rfl rfl)
theorem dX0_judgeRow_47 : decode cX0_judgeRow 47 = .ok (.goto 7, 3) := dk_167 0 7 (dk_at dksX0_judgeRow_2 0 rfl rfl)
theorem dX0_judgeRow_50 : decode cX0_judgeRow 50 = .ok (.aload_n 0, 1) := dk_42 (dk_at dksX0_judgeRow_2 3 rfl rfl)
theorem dX0_judgeRow_51 : decode cX0_judgeRow 51 = .ok (.getfield 203, 3) := dk_180 0 203 (dk_at dksX0_judgeRow_2 4 rfl rfl)
theorem dX0_judgeRow_54 : decode cX0_judgeRow 54 = .ok (.if_icmp .eq 5, 3) := dk_159 0 5 (dk_at dksX0_judgeRow_2 7 rfl rfl)
theorem dX0_judgeRow_57 : decode cX0_judgeRow 57 = .ok (.iload_n 3, 1) := dk_29 (dk_at dksX0_judgeRow_2 10 rfl rfl)
theorem dX0_judgeRow_58 : decode cX0_judgeRow 58 = .ok (.ireturn, 1) := dk_172 (dk_at dksX0_judgeRow_2 11 rfl rfl)
theorem dX0_judgeRow_59 : decode cX0_judgeRow 59 = .ok (.iinc 3 1, 3) := dk_132 3 1 (dk_at dksX0_judgeRow_2 12 rfl rfl)
theorem dX0_judgeRow_62 : decode cX0_judgeRow 62 = .ok (.goto (-45), 3) := dk_167 255 211 (dk_at dksX0_judgeRow_2 15 rfl rfl)
theorem dX0_judgeRow_65 : decode cX0_judgeRow 65 = .ok (.bipush (-9), 2) := dk_16 247 (dk_at dksX0_judgeRow_2 18 rfl rfl)
theorem dX0_judgeRow_67 : decode cX0_judgeRow 67 = .ok (.ireturn, 1) := dk_172 (dk_at dksX0_judgeRow_2 20 rfl rfl)
abbrev cX0_takeImage : ByteArray := prog_1_method_32_code
def yX0_takeImage : MethodName := ⟨RX0, "takeImage", "()I"⟩
def dkwX0_takeImage_4 : List UInt8 := [180, 0, 226, 172]
abbrev dktX0_takeImage_4 : List UInt8 := dkwX0_takeImage_4 ++ []
def dkwX0_takeImage_3 : List UInt8 := [180, 0, 75, 7, 8, 184, 1, 25, 42, 180, 0, 75, 16, 9, 42, 180, 1, 15, 79, 42, 180, 0, 55]
abbrev dktX0_takeImage_3 : List UInt8 := dkwX0_takeImage_3 ++ dktX0_takeImage_4
def dkwX0_takeImage_2 : List UInt8 := [167, 255, 230, 42, 180, 0, 65, 3, 42, 180, 0, 75, 3, 7, 184, 1, 25, 42, 180, 0, 69, 3, 42]
abbrev dktX0_takeImage_2 : List UInt8 := dkwX0_takeImage_2 ++ dktX0_takeImage_3
def dkwX0_takeImage_1 : List UInt8 := [180, 0, 136, 162, 0, 24, 42, 180, 0, 72, 27, 42, 180, 0, 61, 27, 50, 182, 1, 70, 83, 132, 1, 1]
abbrev dktX0_takeImage_1 : List UInt8 := dkwX0_takeImage_1 ++ dktX0_takeImage_2
def dkwX0_takeImage_0 : List UInt8 := [42, 42, 180, 0, 55, 182, 0, 132, 181, 1, 64, 42, 42, 180, 0, 136, 181, 1, 67, 3, 60, 27, 42]
abbrev dktX0_takeImage_0 : List UInt8 := dkwX0_takeImage_0 ++ dktX0_takeImage_1
theorem dksX0_takeImage_0 : cX0_takeImage.data.toList.drop 0 = dktX0_takeImage_0 := by decide +kernel
theorem dksX0_takeImage_1 : cX0_takeImage.data.toList.drop 23 = dktX0_takeImage_1 := dk_seg dksX0_takeImage_0 23 rfl rfl
theorem dksX0_takeImage_2 : cX0_takeImage.data.toList.drop 47 = dktX0_takeImage_2 := dk_seg dksX0_takeImage_1 24 rfl rfl
theorem dksX0_takeImage_3 : cX0_takeImage.data.toList.drop 70 = dktX0_takeImage_3 := dk_seg dksX0_takeImage_2 23 rfl rfl
theorem dksX0_takeImage_4 : cX0_takeImage.data.toList.drop 93 = dktX0_takeImage_4 := dk_seg dksX0_takeImage_3 23 rfl rfl
theorem dX0_takeImage_0 : decode cX0_takeImage 0 = .ok (.aload_n 0, 1) := dk_42 (dk_at dksX0_takeImage_0 0 rfl rfl)
theorem dX0_takeImage_1 : decode cX0_takeImage 1 = .ok (.aload_n 0, 1) := dk_42 (dk_at dksX0_takeImage_0 1 rfl rfl)
theorem dX0_takeImage_2 : decode cX0_takeImage 2 = .ok (.getfield 55, 3) := dk_180 0 55 (dk_at dksX0_takeImage_0 2 rfl rfl)
theorem dX0_takeImage_5 : decode cX0_takeImage 5 = .ok (.invokevirtual 132, 3) := dk_182 0 132 (dk_at dksX0_takeImage_0 5 rfl rfl)
theorem dX0_takeImage_8 : decode cX0_takeImage 8 = .ok (.putfield 320, 3) := dk_181 1 64 (dk_at dksX0_takeImage_0 8 rfl rfl)
theorem dX0_takeImage_11 : decode cX0_takeImage 11 = .ok (.aload_n 0, 1) := dk_42 (dk_at dksX0_takeImage_0 11 rfl rfl)
theorem dX0_takeImage_12 : decode cX0_takeImage 12 = .ok (.aload_n 0, 1) := dk_42 (dk_at dksX0_takeImage_0 12 rfl rfl)
theorem dX0_takeImage_13 : decode cX0_takeImage 13 = .ok (.getfield 136, 3) := dk_180 0 136 (dk_at dksX0_takeImage_0 13 rfl rfl)
theorem dX0_takeImage_16 : decode cX0_takeImage 16 = .ok (.putfield 323, 3) := dk_181 1 67 (dk_at dksX0_takeImage_0 16 rfl rfl)
theorem dX0_takeImage_19 : decode cX0_takeImage 19 = .ok (.iconst 0, 1) := dk_3 (dk_at dksX0_takeImage_0 19 rfl rfl)
theorem dX0_takeImage_20 : decode cX0_takeImage 20 = .ok (.istore_n 1, 1) := dk_60 (dk_at dksX0_takeImage_0 20 rfl rfl)
theorem dX0_takeImage_21 : decode cX0_takeImage 21 = .ok (.iload_n 1, 1) := dk_27 (dk_at dksX0_takeImage_0 21 rfl rfl)
theorem dX0_takeImage_22 : decode cX0_takeImage 22 = .ok (.aload_n 0, 1) := dk_42 (dk_at dksX0_takeImage_0 22 rfl rfl)
theorem dX0_takeImage_23 : decode cX0_takeImage 23 = .ok (.getfield 136, 3) := dk_180 0 136 (dk_at dksX0_takeImage_1 0 rfl rfl)
theorem dX0_takeImage_26 : decode cX0_takeImage 26 = .ok (.if_icmp .ge 24, 3) := dk_162 0 24 (dk_at dksX0_takeImage_1 3 rfl rfl)
theorem dX0_takeImage_29 : decode cX0_takeImage 29 = .ok (.aload_n 0, 1) := dk_42 (dk_at dksX0_takeImage_1 6 rfl rfl)
theorem dX0_takeImage_30 : decode cX0_takeImage 30 = .ok (.getfield 72, 3) := dk_180 0 72 (dk_at dksX0_takeImage_1 7 rfl rfl)
theorem dX0_takeImage_33 : decode cX0_takeImage 33 = .ok (.iload_n 1, 1) := dk_27 (dk_at dksX0_takeImage_1 10 rfl rfl)
theorem dX0_takeImage_34 : decode cX0_takeImage 34 = .ok (.aload_n 0, 1) := dk_42 (dk_at dksX0_takeImage_1 11 rfl rfl)
theorem dX0_takeImage_35 : decode cX0_takeImage 35 = .ok (.getfield 61, 3) := dk_180 0 61 (dk_at dksX0_takeImage_1 12 rfl rfl)
theorem dX0_takeImage_38 : decode cX0_takeImage 38 = .ok (.iload_n 1, 1) := dk_27 (dk_at dksX0_takeImage_1 15 rfl rfl)
theorem dX0_takeImage_39 : decode cX0_takeImage 39 = .ok (.aaload, 1) := dk_50 (dk_at dksX0_takeImage_1 16 rfl rfl)
theorem dX0_takeImage_40 : decode cX0_takeImage 40 = .ok (.invokevirtual 326, 3) := dk_182 1 70 (dk_at dksX0_takeImage_1 17 rfl rfl)
theorem dX0_takeImage_43 : decode cX0_takeImage 43 = .ok (.aastore, 1) := dk_83 (dk_at dksX0_takeImage_1 20 rfl rfl)
theorem dX0_takeImage_44 : decode cX0_takeImage 44 = .ok (.iinc 1 1, 3) := dk_132 1 1 (dk_at dksX0_takeImage_1 21 rfl rfl)
theorem dX0_takeImage_47 : decode cX0_takeImage 47 = .ok (.goto (-26), 3) := dk_167 255 230 (dk_at dksX0_takeImage_2 0 rfl rfl)
theorem dX0_takeImage_50 : decode cX0_takeImage 50 = .ok (.aload_n 0, 1) := dk_42 (dk_at dksX0_takeImage_2 3 rfl rfl)
theorem dX0_takeImage_51 : decode cX0_takeImage 51 = .ok (.getfield 65, 3) := dk_180 0 65 (dk_at dksX0_takeImage_2 4 rfl rfl)
theorem dX0_takeImage_54 : decode cX0_takeImage 54 = .ok (.iconst 0, 1) := dk_3 (dk_at dksX0_takeImage_2 7 rfl rfl)
theorem dX0_takeImage_55 : decode cX0_takeImage 55 = .ok (.aload_n 0, 1) := dk_42 (dk_at dksX0_takeImage_2 8 rfl rfl)
theorem dX0_takeImage_56 : decode cX0_takeImage 56 = .ok (.getfield 75, 3) := dk_180 0 75 (dk_at dksX0_takeImage_2 9 rfl rfl)
theorem dX0_takeImage_59 : decode cX0_takeImage 59 = .ok (.iconst 0, 1) := dk_3 (dk_at dksX0_takeImage_2 12 rfl rfl)
theorem dX0_takeImage_60 : decode cX0_takeImage 60 = .ok (.iconst 4, 1) := dk_7 (dk_at dksX0_takeImage_2 13 rfl rfl)
theorem dX0_takeImage_61 : decode cX0_takeImage 61 = .ok (.invokestatic 281, 3) := dk_184 1 25 (dk_at dksX0_takeImage_2 14 rfl rfl)
theorem dX0_takeImage_64 : decode cX0_takeImage 64 = .ok (.aload_n 0, 1) := dk_42 (dk_at dksX0_takeImage_2 17 rfl rfl)
theorem dX0_takeImage_65 : decode cX0_takeImage 65 = .ok (.getfield 69, 3) := dk_180 0 69 (dk_at dksX0_takeImage_2 18 rfl rfl)
theorem dX0_takeImage_68 : decode cX0_takeImage 68 = .ok (.iconst 0, 1) := dk_3 (dk_at dksX0_takeImage_2 21 rfl rfl)
theorem dX0_takeImage_69 : decode cX0_takeImage 69 = .ok (.aload_n 0, 1) := dk_42 (dk_at dksX0_takeImage_2 22 rfl rfl)
theorem dX0_takeImage_70 : decode cX0_takeImage 70 = .ok (.getfield 75, 3) := dk_180 0 75 (dk_at dksX0_takeImage_3 0 rfl rfl)
theorem dX0_takeImage_73 : decode cX0_takeImage 73 = .ok (.iconst 4, 1) := dk_7 (dk_at dksX0_takeImage_3 3 rfl rfl)
theorem dX0_takeImage_74 : decode cX0_takeImage 74 = .ok (.iconst 5, 1) := dk_8 (dk_at dksX0_takeImage_3 4 rfl rfl)
theorem dX0_takeImage_75 : decode cX0_takeImage 75 = .ok (.invokestatic 281, 3) := dk_184 1 25 (dk_at dksX0_takeImage_3 5 rfl rfl)
theorem dX0_takeImage_78 : decode cX0_takeImage 78 = .ok (.aload_n 0, 1) := dk_42 (dk_at dksX0_takeImage_3 8 rfl rfl)
theorem dX0_takeImage_79 : decode cX0_takeImage 79 = .ok (.getfield 75, 3) := dk_180 0 75 (dk_at dksX0_takeImage_3 9 rfl rfl)
theorem dX0_takeImage_82 : decode cX0_takeImage 82 = .ok (.bipush 9, 2) := dk_16 9 (dk_at dksX0_takeImage_3 12 rfl rfl)
theorem dX0_takeImage_84 : decode cX0_takeImage 84 = .ok (.aload_n 0, 1) := dk_42 (dk_at dksX0_takeImage_3 14 rfl rfl)
theorem dX0_takeImage_85 : decode cX0_takeImage 85 = .ok (.getfield 271, 3) := dk_180 1 15 (dk_at dksX0_takeImage_3 15 rfl rfl)
theorem dX0_takeImage_88 : decode cX0_takeImage 88 = .ok (.iastore, 1) := dk_79 (dk_at dksX0_takeImage_3 18 rfl rfl)
theorem dX0_takeImage_89 : decode cX0_takeImage 89 = .ok (.aload_n 0, 1) := dk_42 (dk_at dksX0_takeImage_3 19 rfl rfl)
theorem dX0_takeImage_90 : decode cX0_takeImage 90 = .ok (.getfield 55, 3) := dk_180 0 55 (dk_at dksX0_takeImage_3 20 rfl rfl)
theorem dX0_takeImage_93 : decode cX0_takeImage 93 = .ok (.getfield 226, 3) := dk_180 0 226 (dk_at dksX0_takeImage_4 0 rfl rfl)
theorem dX0_takeImage_96 : decode cX0_takeImage 96 = .ok (.ireturn, 1) := dk_172 (dk_at dksX0_takeImage_4 3 rfl rfl)
abbrev cX0_goOn : ByteArray := prog_1_method_33_code
def yX0_goOn : MethodName := ⟨RX0, "goOn", "()I"⟩
def dkwX0_goOn_5 : List UInt8 := [42, 180, 0, 55, 180, 0, 226, 172]
abbrev dktX0_goOn_5 : List UInt8 := dkwX0_goOn_5 ++ []
def dkwX0_goOn_4 : List UInt8 := [180, 0, 75, 7, 42, 180, 0, 69, 3, 8, 184, 1, 25, 42, 42, 180, 0, 75, 16, 9, 46, 181, 1, 15]
abbrev dktX0_goOn_4 : List UInt8 := dkwX0_goOn_4 ++ dktX0_goOn_5
def dkwX0_goOn_3 : List UInt8 := [83, 132, 1, 1, 167, 255, 230, 42, 180, 0, 75, 3, 42, 180, 0, 65, 3, 7, 184, 1, 25, 42]
abbrev dktX0_goOn_3 : List UInt8 := dkwX0_goOn_3 ++ dktX0_goOn_4
def dkwX0_goOn_2 : List UInt8 := [3, 60, 27, 42, 180, 0, 136, 162, 0, 24, 42, 180, 0, 61, 27, 42, 180, 0, 72, 27, 50, 182, 1, 70]
abbrev dktX0_goOn_2 : List UInt8 := dkwX0_goOn_2 ++ dktX0_goOn_3
def dkwX0_goOn_1 : List UInt8 := [182, 0, 132, 181, 0, 55, 42, 89, 180, 0, 169, 4, 96, 181, 0, 169, 42, 42, 180, 1, 67, 181, 0, 136]
abbrev dktX0_goOn_1 : List UInt8 := dkwX0_goOn_1 ++ dktX0_goOn_2
def dkwX0_goOn_0 : List UInt8 := [42, 180, 1, 64, 198, 0, 7, 4, 167, 0, 4, 3, 16, 253, 184, 0, 9, 42, 42, 180, 1, 64]
abbrev dktX0_goOn_0 : List UInt8 := dkwX0_goOn_0 ++ dktX0_goOn_1
theorem dksX0_goOn_0 : cX0_goOn.data.toList.drop 0 = dktX0_goOn_0 := by decide +kernel
theorem dksX0_goOn_1 : cX0_goOn.data.toList.drop 22 = dktX0_goOn_1 := dk_seg dksX0_goOn_0 22 rfl rfl
theorem dksX0_goOn_2 : cX0_goOn.data.toList.drop 46 = dktX0_goOn_2 := dk_seg dksX0_goOn_1 24 rfl rfl
theorem dksX0_goOn_3 : cX0_goOn.data.toList.drop 70 = dktX0_goOn_3 := dk_seg dksX0_goOn_2 24 rfl rfl
theorem dksX0_goOn_4 : cX0_goOn.data.toList.drop 92 = dktX0_goOn_4 := dk_seg dksX0_goOn_3 22 rfl rfl
theorem dksX0_goOn_5 : cX0_goOn.data.toList.drop 116 = dktX0_goOn_5 := dk_seg dksX0_goOn_4 24 rfl rfl
theorem dX0_goOn_0 : decode cX0_goOn 0 = .ok (.aload_n 0, 1) := dk_42 (dk_at dksX0_goOn_0 0 rfl rfl)
theorem dX0_goOn_1 : decode cX0_goOn 1 = .ok (.getfield 320, 3) := dk_180 1 64 (dk_at dksX0_goOn_0 1 rfl rfl)
theorem dX0_goOn_4 : decode cX0_goOn 4 = .ok (.ifnull 7, 3) := dk_198 0 7 (dk_at dksX0_goOn_0 4 rfl rfl)
theorem dX0_goOn_7 : decode cX0_goOn 7 = .ok (.iconst 1, 1) := dk_4 (dk_at dksX0_goOn_0 7 rfl rfl)
theorem dX0_goOn_8 : decode cX0_goOn 8 = .ok (.goto 4, 3) := dk_167 0 4 (dk_at dksX0_goOn_0 8 rfl rfl)
theorem dX0_goOn_11 : decode cX0_goOn 11 = .ok (.iconst 0, 1) := dk_3 (dk_at dksX0_goOn_0 11 rfl rfl)
theorem dX0_goOn_12 : decode cX0_goOn 12 = .ok (.bipush (-3), 2) := dk_16 253 (dk_at dksX0_goOn_0 12 rfl rfl)
theorem dX0_goOn_14 : decode cX0_goOn 14 = .ok (.invokestatic 9, 3) := dk_184 0 9 (dk_at dksX0_goOn_0 14 rfl rfl)
theorem dX0_goOn_17 : decode cX0_goOn 17 = .ok (.aload_n 0, 1) := dk_42 (dk_at dksX0_goOn_0 17 rfl rfl)
theorem dX0_goOn_18 : decode cX0_goOn 18 = .ok (.aload_n 0, 1) := dk_42 (dk_at dksX0_goOn_0 18 rfl rfl)
theorem dX0_goOn_19 : decode cX0_goOn 19 = .ok (.getfield 320, 3) := dk_180 1 64 (dk_at dksX0_goOn_0 19 rfl rfl)
theorem dX0_goOn_22 : decode cX0_goOn 22 = .ok (.invokevirtual 132, 3) := dk_182 0 132 (dk_at dksX0_goOn_1 0 rfl rfl)
theorem dX0_goOn_25 : decode cX0_goOn 25 = .ok (.putfield 55, 3) := dk_181 0 55 (dk_at dksX0_goOn_1 3 rfl rfl)
theorem dX0_goOn_28 : decode cX0_goOn 28 = .ok (.aload_n 0, 1) := dk_42 (dk_at dksX0_goOn_1 6 rfl rfl)
theorem dX0_goOn_29 : decode cX0_goOn 29 = .ok (.dup, 1) := dk_89 (dk_at dksX0_goOn_1 7 rfl rfl)
theorem dX0_goOn_30 : decode cX0_goOn 30 = .ok (.getfield 169, 3) := dk_180 0 169 (dk_at dksX0_goOn_1 8 rfl rfl)
theorem dX0_goOn_33 : decode cX0_goOn 33 = .ok (.iconst 1, 1) := dk_4 (dk_at dksX0_goOn_1 11 rfl rfl)
theorem dX0_goOn_34 : decode cX0_goOn 34 = .ok (.iadd, 1) := dk_96 (dk_at dksX0_goOn_1 12 rfl rfl)
theorem dX0_goOn_35 : decode cX0_goOn 35 = .ok (.putfield 169, 3) := dk_181 0 169 (dk_at dksX0_goOn_1 13 rfl rfl)
theorem dX0_goOn_38 : decode cX0_goOn 38 = .ok (.aload_n 0, 1) := dk_42 (dk_at dksX0_goOn_1 16 rfl rfl)
theorem dX0_goOn_39 : decode cX0_goOn 39 = .ok (.aload_n 0, 1) := dk_42 (dk_at dksX0_goOn_1 17 rfl rfl)
theorem dX0_goOn_40 : decode cX0_goOn 40 = .ok (.getfield 323, 3) := dk_180 1 67 (dk_at dksX0_goOn_1 18 rfl rfl)
theorem dX0_goOn_43 : decode cX0_goOn 43 = .ok (.putfield 136, 3) := dk_181 0 136 (dk_at dksX0_goOn_1 21 rfl rfl)
theorem dX0_goOn_46 : decode cX0_goOn 46 = .ok (.iconst 0, 1) := dk_3 (dk_at dksX0_goOn_2 0 rfl rfl)
theorem dX0_goOn_47 : decode cX0_goOn 47 = .ok (.istore_n 1, 1) := dk_60 (dk_at dksX0_goOn_2 1 rfl rfl)
theorem dX0_goOn_48 : decode cX0_goOn 48 = .ok (.iload_n 1, 1) := dk_27 (dk_at dksX0_goOn_2 2 rfl rfl)
theorem dX0_goOn_49 : decode cX0_goOn 49 = .ok (.aload_n 0, 1) := dk_42 (dk_at dksX0_goOn_2 3 rfl rfl)
theorem dX0_goOn_50 : decode cX0_goOn 50 = .ok (.getfield 136, 3) := dk_180 0 136 (dk_at dksX0_goOn_2 4 rfl rfl)
theorem dX0_goOn_53 : decode cX0_goOn 53 = .ok (.if_icmp .ge 24, 3) := dk_162 0 24 (dk_at dksX0_goOn_2 7 rfl rfl)
theorem dX0_goOn_56 : decode cX0_goOn 56 = .ok (.aload_n 0, 1) := dk_42 (dk_at dksX0_goOn_2 10 rfl rfl)
theorem dX0_goOn_57 : decode cX0_goOn 57 = .ok (.getfield 61, 3) := dk_180 0 61 (dk_at dksX0_goOn_2 11 rfl rfl)
theorem dX0_goOn_60 : decode cX0_goOn 60 = .ok (.iload_n 1, 1) := dk_27 (dk_at dksX0_goOn_2 14 rfl rfl)
theorem dX0_goOn_61 : decode cX0_goOn 61 = .ok (.aload_n 0, 1) := dk_42 (dk_at dksX0_goOn_2 15 rfl rfl)
theorem dX0_goOn_62 : decode cX0_goOn 62 = .ok (.getfield 72, 3) := dk_180 0 72 (dk_at dksX0_goOn_2 16 rfl rfl)
theorem dX0_goOn_65 : decode cX0_goOn 65 = .ok (.iload_n 1, 1) := dk_27 (dk_at dksX0_goOn_2 19 rfl rfl)
theorem dX0_goOn_66 : decode cX0_goOn 66 = .ok (.aaload, 1) := dk_50 (dk_at dksX0_goOn_2 20 rfl rfl)
theorem dX0_goOn_67 : decode cX0_goOn 67 = .ok (.invokevirtual 326, 3) := dk_182 1 70 (dk_at dksX0_goOn_2 21 rfl rfl)
theorem dX0_goOn_70 : decode cX0_goOn 70 = .ok (.aastore, 1) := dk_83 (dk_at dksX0_goOn_3 0 rfl rfl)
theorem dX0_goOn_71 : decode cX0_goOn 71 = .ok (.iinc 1 1, 3) := dk_132 1 1 (dk_at dksX0_goOn_3 1 rfl rfl)
theorem dX0_goOn_74 : decode cX0_goOn 74 = .ok (.goto (-26), 3) := dk_167 255 230 (dk_at dksX0_goOn_3 4 rfl rfl)
theorem dX0_goOn_77 : decode cX0_goOn 77 = .ok (.aload_n 0, 1) := dk_42 (dk_at dksX0_goOn_3 7 rfl rfl)
theorem dX0_goOn_78 : decode cX0_goOn 78 = .ok (.getfield 75, 3) := dk_180 0 75 (dk_at dksX0_goOn_3 8 rfl rfl)
theorem dX0_goOn_81 : decode cX0_goOn 81 = .ok (.iconst 0, 1) := dk_3 (dk_at dksX0_goOn_3 11 rfl rfl)
theorem dX0_goOn_82 : decode cX0_goOn 82 = .ok (.aload_n 0, 1) := dk_42 (dk_at dksX0_goOn_3 12 rfl rfl)
theorem dX0_goOn_83 : decode cX0_goOn 83 = .ok (.getfield 65, 3) := dk_180 0 65 (dk_at dksX0_goOn_3 13 rfl rfl)
theorem dX0_goOn_86 : decode cX0_goOn 86 = .ok (.iconst 0, 1) := dk_3 (dk_at dksX0_goOn_3 16 rfl rfl)
theorem dX0_goOn_87 : decode cX0_goOn 87 = .ok (.iconst 4, 1) := dk_7 (dk_at dksX0_goOn_3 17 rfl rfl)
theorem dX0_goOn_88 : decode cX0_goOn 88 = .ok (.invokestatic 281, 3) := dk_184 1 25 (dk_at dksX0_goOn_3 18 rfl rfl)
theorem dX0_goOn_91 : decode cX0_goOn 91 = .ok (.aload_n 0, 1) := dk_42 (dk_at dksX0_goOn_3 21 rfl rfl)
theorem dX0_goOn_92 : decode cX0_goOn 92 = .ok (.getfield 75, 3) := dk_180 0 75 (dk_at dksX0_goOn_4 0 rfl rfl)
theorem dX0_goOn_95 : decode cX0_goOn 95 = .ok (.iconst 4, 1) := dk_7 (dk_at dksX0_goOn_4 3 rfl rfl)
theorem dX0_goOn_96 : decode cX0_goOn 96 = .ok (.aload_n 0, 1) := dk_42 (dk_at dksX0_goOn_4 4 rfl rfl)
theorem dX0_goOn_97 : decode cX0_goOn 97 = .ok (.getfield 69, 3) := dk_180 0 69 (dk_at dksX0_goOn_4 5 rfl rfl)
theorem dX0_goOn_100 : decode cX0_goOn 100 = .ok (.iconst 0, 1) := dk_3 (dk_at dksX0_goOn_4 8 rfl rfl)
theorem dX0_goOn_101 : decode cX0_goOn 101 = .ok (.iconst 5, 1) := dk_8 (dk_at dksX0_goOn_4 9 rfl rfl)
theorem dX0_goOn_102 : decode cX0_goOn 102 = .ok (.invokestatic 281, 3) := dk_184 1 25 (dk_at dksX0_goOn_4 10 rfl rfl)
theorem dX0_goOn_105 : decode cX0_goOn 105 = .ok (.aload_n 0, 1) := dk_42 (dk_at dksX0_goOn_4 13 rfl rfl)
theorem dX0_goOn_106 : decode cX0_goOn 106 = .ok (.aload_n 0, 1) := dk_42 (dk_at dksX0_goOn_4 14 rfl rfl)
theorem dX0_goOn_107 : decode cX0_goOn 107 = .ok (.getfield 75, 3) := dk_180 0 75 (dk_at dksX0_goOn_4 15 rfl rfl)
theorem dX0_goOn_110 : decode cX0_goOn 110 = .ok (.bipush 9, 2) := dk_16 9 (dk_at dksX0_goOn_4 18 rfl rfl)
theorem dX0_goOn_112 : decode cX0_goOn 112 = .ok (.iaload, 1) := dk_46 (dk_at dksX0_goOn_4 20 rfl rfl)
theorem dX0_goOn_113 : decode cX0_goOn 113 = .ok (.putfield 271, 3) := dk_181 1 15 (dk_at dksX0_goOn_4 21 rfl rfl)
theorem dX0_goOn_116 : decode cX0_goOn 116 = .ok (.aload_n 0, 1) := dk_42 (dk_at dksX0_goOn_5 0 rfl rfl)
theorem dX0_goOn_117 : decode cX0_goOn 117 = .ok (.getfield 55, 3) := dk_180 0 55 (dk_at dksX0_goOn_5 1 rfl rfl)
theorem dX0_goOn_120 : decode cX0_goOn 120 = .ok (.getfield 226, 3) := dk_180 0 226 (dk_at dksX0_goOn_5 4 rfl rfl)
theorem dX0_goOn_123 : decode cX0_goOn 123 = .ok (.ireturn, 1) := dk_172 (dk_at dksX0_goOn_5 7 rfl rfl)
abbrev cX0_word : ByteArray := prog_1_method_62_code
def yX0_word : MethodName := ⟨RX0, "word", "(II)I"⟩
def dkwX0_word_0 : List UInt8 := [42, 4, 27, 28, 3, 182, 1, 228, 172]
abbrev dktX0_word_0 : List UInt8 := dkwX0_word_0 ++ []
theorem dksX0_word_0 : cX0_word.data.toList.drop 0 = dktX0_word_0 := by decide +kernel
theorem dX0_word_0 : decode cX0_word 0 = .ok (.aload_n 0, 1) := dk_42 (dk_at dksX0_word_0 0 rfl rfl)
theorem dX0_word_1 : decode cX0_word 1 = .ok (.iconst 1, 1) := dk_4 (dk_at dksX0_word_0 1 rfl rfl)
theorem dX0_word_2 : decode cX0_word 2 = .ok (.iload_n 1, 1) := dk_27 (dk_at dksX0_word_0 2 rfl rfl)
theorem dX0_word_3 : decode cX0_word 3 = .ok (.iload_n 2, 1) := dk_28 (dk_at dksX0_word_0 3 rfl rfl)
theorem dX0_word_4 : decode cX0_word 4 = .ok (.iconst 0, 1) := dk_3 (dk_at dksX0_word_0 4 rfl rfl)
theorem dX0_word_5 : decode cX0_word 5 = .ok (.invokevirtual 484, 3) := dk_182 1 228 (dk_at dksX0_word_0 5 rfl rfl)
theorem dX0_word_8 : decode cX0_word 8 = .ok (.ireturn, 1) := dk_172 (dk_at dksX0_word_0 8 rfl rfl)
abbrev cX0_player : ByteArray := prog_1_method_63_code
def yX0_player : MethodName := ⟨RX0, "player", "(II)I"⟩
def dkwX0_player_0 : List UInt8 := [42, 5, 27, 28, 3, 182, 1, 228, 172]
abbrev dktX0_player_0 : List UInt8 := dkwX0_player_0 ++ []
theorem dksX0_player_0 : cX0_player.data.toList.drop 0 = dktX0_player_0 := by decide +kernel
theorem dX0_player_0 : decode cX0_player 0 = .ok (.aload_n 0, 1) := dk_42 (dk_at dksX0_player_0 0 rfl rfl)
theorem dX0_player_1 : decode cX0_player 1 = .ok (.iconst 2, 1) := dk_5 (dk_at dksX0_player_0 1 rfl rfl)
theorem dX0_player_2 : decode cX0_player 2 = .ok (.iload_n 1, 1) := dk_27 (dk_at dksX0_player_0 2 rfl rfl)
theorem dX0_player_3 : decode cX0_player 3 = .ok (.iload_n 2, 1) := dk_28 (dk_at dksX0_player_0 3 rfl rfl)
theorem dX0_player_4 : decode cX0_player 4 = .ok (.iconst 0, 1) := dk_3 (dk_at dksX0_player_0 4 rfl rfl)
theorem dX0_player_5 : decode cX0_player 5 = .ok (.invokevirtual 484, 3) := dk_182 1 228 (dk_at dksX0_player_0 5 rfl rfl)
theorem dX0_player_8 : decode cX0_player 8 = .ok (.ireturn, 1) := dk_172 (dk_at dksX0_player_0 8 rfl rfl)
abbrev cX0_whole : ByteArray := prog_1_method_64_code
def yX0_whole : MethodName := ⟨RX0, "whole", "()I"⟩
def dkwX0_whole_0 : List UInt8 := [42, 6, 3, 3, 3, 182, 1, 228, 172]
abbrev dktX0_whole_0 : List UInt8 := dkwX0_whole_0 ++ []
theorem dksX0_whole_0 : cX0_whole.data.toList.drop 0 = dktX0_whole_0 := by decide +kernel
theorem dX0_whole_0 : decode cX0_whole 0 = .ok (.aload_n 0, 1) := dk_42 (dk_at dksX0_whole_0 0 rfl rfl)
theorem dX0_whole_1 : decode cX0_whole 1 = .ok (.iconst 3, 1) := dk_6 (dk_at dksX0_whole_0 1 rfl rfl)
theorem dX0_whole_2 : decode cX0_whole 2 = .ok (.iconst 0, 1) := dk_3 (dk_at dksX0_whole_0 2 rfl rfl)
theorem dX0_whole_3 : decode cX0_whole 3 = .ok (.iconst 0, 1) := dk_3 (dk_at dksX0_whole_0 3 rfl rfl)
theorem dX0_whole_4 : decode cX0_whole 4 = .ok (.iconst 0, 1) := dk_3 (dk_at dksX0_whole_0 4 rfl rfl)
theorem dX0_whole_5 : decode cX0_whole 5 = .ok (.invokevirtual 484, 3) := dk_182 1 228 (dk_at dksX0_whole_0 5 rfl rfl)
theorem dX0_whole_8 : decode cX0_whole 8 = .ok (.ireturn, 1) := dk_172 (dk_at dksX0_whole_0 8 rfl rfl)
abbrev cX0_left : ByteArray := prog_1_method_65_code
def yX0_left : MethodName := ⟨RX0, "left", "(I)I"⟩
def dkwX0_left_0 : List UInt8 := [42, 7, 27, 3, 3, 182, 1, 228, 172]
abbrev dktX0_left_0 : List UInt8 := dkwX0_left_0 ++ []
theorem dksX0_left_0 : cX0_left.data.toList.drop 0 = dktX0_left_0 := by decide +kernel
theorem dX0_left_0 : decode cX0_left 0 = .ok (.aload_n 0, 1) := dk_42 (dk_at dksX0_left_0 0 rfl rfl)
theorem dX0_left_1 : decode cX0_left 1 = .ok (.iconst 4, 1) := dk_7 (dk_at dksX0_left_0 1 rfl rfl)
theorem dX0_left_2 : decode cX0_left 2 = .ok (.iload_n 1, 1) := dk_27 (dk_at dksX0_left_0 2 rfl rfl)
theorem dX0_left_3 : decode cX0_left 3 = .ok (.iconst 0, 1) := dk_3 (dk_at dksX0_left_0 3 rfl rfl)
theorem dX0_left_4 : decode cX0_left 4 = .ok (.iconst 0, 1) := dk_3 (dk_at dksX0_left_0 4 rfl rfl)
theorem dX0_left_5 : decode cX0_left 5 = .ok (.invokevirtual 484, 3) := dk_182 1 228 (dk_at dksX0_left_0 5 rfl rfl)
theorem dX0_left_8 : decode cX0_left 8 = .ok (.ireturn, 1) := dk_172 (dk_at dksX0_left_0 8 rfl rfl)
abbrev cX0_chance : ByteArray := prog_1_method_66_code
def yX0_chance : MethodName := ⟨RX0, "chance", "(III)J"⟩
def dkwX0_chance_0 : List UInt8 := [42, 27, 28, 29, 182, 1, 231, 173]
abbrev dktX0_chance_0 : List UInt8 := dkwX0_chance_0 ++ []
theorem dksX0_chance_0 : cX0_chance.data.toList.drop 0 = dktX0_chance_0 := by decide +kernel
theorem dX0_chance_0 : decode cX0_chance 0 = .ok (.aload_n 0, 1) := dk_42 (dk_at dksX0_chance_0 0 rfl rfl)
theorem dX0_chance_1 : decode cX0_chance 1 = .ok (.iload_n 1, 1) := dk_27 (dk_at dksX0_chance_0 1 rfl rfl)
theorem dX0_chance_2 : decode cX0_chance 2 = .ok (.iload_n 2, 1) := dk_28 (dk_at dksX0_chance_0 2 rfl rfl)
theorem dX0_chance_3 : decode cX0_chance 3 = .ok (.iload_n 3, 1) := dk_29 (dk_at dksX0_chance_0 3 rfl rfl)
theorem dX0_chance_4 : decode cX0_chance 4 = .ok (.invokevirtual 487, 3) := dk_182 1 231 (dk_at dksX0_chance_0 4 rfl rfl)
theorem dX0_chance_7 : decode cX0_chance 7 = .ok (.lreturn, 1) := dk_173 (dk_at dksX0_chance_0 7 rfl rfl)
abbrev cX0_chanceTold : ByteArray := prog_1_method_56_code
def yX0_chanceTold : MethodName := ⟨RX0, "chanceTold", "(III)J"⟩
def dkwX0_chanceTold_2 : List UInt8 := [173, 58, 4, 20, 1, 222, 42, 25, 4, 182, 1, 89, 182, 1, 92, 133, 101, 173]
abbrev dktX0_chanceTold_2 : List UInt8 := dkwX0_chanceTold_2 ++ []
def dkwX0_chanceTold_1 : List UInt8 := [182, 1, 141, 42, 180, 0, 55, 27, 28, 182, 0, 172, 42, 180, 0, 55, 27, 182, 0, 236, 29, 184, 1, 218]
abbrev dktX0_chanceTold_1 : List UInt8 := dkwX0_chanceTold_1 ++ dktX0_chanceTold_2
def dkwX0_chanceTold_0 : List UInt8 := [42, 27, 182, 1, 104, 28, 133, 10, 20, 1, 204, 184, 0, 13, 2, 184, 0, 9, 29, 184, 1, 215, 42]
abbrev dktX0_chanceTold_0 : List UInt8 := dkwX0_chanceTold_0 ++ dktX0_chanceTold_1
theorem dksX0_chanceTold_0 : cX0_chanceTold.data.toList.drop 0 = dktX0_chanceTold_0 := by decide +kernel
theorem dksX0_chanceTold_1 : cX0_chanceTold.data.toList.drop 23 = dktX0_chanceTold_1 := dk_seg dksX0_chanceTold_0 23 rfl rfl
theorem dksX0_chanceTold_2 : cX0_chanceTold.data.toList.drop 47 = dktX0_chanceTold_2 := dk_seg dksX0_chanceTold_1 24 rfl rfl
theorem dX0_chanceTold_0 : decode cX0_chanceTold 0 = .ok (.aload_n 0, 1) := dk_42 (dk_at dksX0_chanceTold_0 0 rfl rfl)
theorem dX0_chanceTold_1 : decode cX0_chanceTold 1 = .ok (.iload_n 1, 1) := dk_27 (dk_at dksX0_chanceTold_0 1 rfl rfl)
theorem dX0_chanceTold_2 : decode cX0_chanceTold 2 = .ok (.invokevirtual 360, 3) := dk_182 1 104 (dk_at dksX0_chanceTold_0 2 rfl rfl)
theorem dX0_chanceTold_5 : decode cX0_chanceTold 5 = .ok (.iload_n 2, 1) := dk_28 (dk_at dksX0_chanceTold_0 5 rfl rfl)
theorem dX0_chanceTold_6 : decode cX0_chanceTold 6 = .ok (.i2l, 1) := dk_133 (dk_at dksX0_chanceTold_0 6 rfl rfl)
theorem dX0_chanceTold_7 : decode cX0_chanceTold 7 = .ok (.lconst 1, 1) := dk_10 (dk_at dksX0_chanceTold_0 7 rfl rfl)
theorem dX0_chanceTold_8 : decode cX0_chanceTold 8 = .ok (.ldc2_w 460, 3) := dk_20 1 204 (dk_at dksX0_chanceTold_0 8 rfl rfl)
theorem dX0_chanceTold_11 : decode cX0_chanceTold 11 = .ok (.invokestatic 13, 3) := dk_184 0 13 (dk_at dksX0_chanceTold_0 11 rfl rfl)
theorem dX0_chanceTold_14 : decode cX0_chanceTold 14 = .ok (.iconst (-1), 1) := dk_2 (dk_at dksX0_chanceTold_0 14 rfl rfl)
theorem dX0_chanceTold_15 : decode cX0_chanceTold 15 = .ok (.invokestatic 9, 3) := dk_184 0 9 (dk_at dksX0_chanceTold_0 15 rfl rfl)
theorem dX0_chanceTold_18 : decode cX0_chanceTold 18 = .ok (.iload_n 3, 1) := dk_29 (dk_at dksX0_chanceTold_0 18 rfl rfl)
theorem dX0_chanceTold_19 : decode cX0_chanceTold 19 = .ok (.invokestatic 471, 3) := dk_184 1 215 (dk_at dksX0_chanceTold_0 19 rfl rfl)
theorem dX0_chanceTold_22 : decode cX0_chanceTold 22 = .ok (.aload_n 0, 1) := dk_42 (dk_at dksX0_chanceTold_0 22 rfl rfl)
theorem dX0_chanceTold_23 : decode cX0_chanceTold 23 = .ok (.invokevirtual 397, 3) := dk_182 1 141 (dk_at dksX0_chanceTold_1 0 rfl rfl)
theorem dX0_chanceTold_26 : decode cX0_chanceTold 26 = .ok (.aload_n 0, 1) := dk_42 (dk_at dksX0_chanceTold_1 3 rfl rfl)
theorem dX0_chanceTold_27 : decode cX0_chanceTold 27 = .ok (.getfield 55, 3) := dk_180 0 55 (dk_at dksX0_chanceTold_1 4 rfl rfl)
theorem dX0_chanceTold_30 : decode cX0_chanceTold 30 = .ok (.iload_n 1, 1) := dk_27 (dk_at dksX0_chanceTold_1 7 rfl rfl)
theorem dX0_chanceTold_31 : decode cX0_chanceTold 31 = .ok (.iload_n 2, 1) := dk_28 (dk_at dksX0_chanceTold_1 8 rfl rfl)
theorem dX0_chanceTold_32 : decode cX0_chanceTold 32 = .ok (.invokevirtual 172, 3) := dk_182 0 172 (dk_at dksX0_chanceTold_1 9 rfl rfl)
theorem dX0_chanceTold_35 : decode cX0_chanceTold 35 = .ok (.aload_n 0, 1) := dk_42 (dk_at dksX0_chanceTold_1 12 rfl rfl)
theorem dX0_chanceTold_36 : decode cX0_chanceTold 36 = .ok (.getfield 55, 3) := dk_180 0 55 (dk_at dksX0_chanceTold_1 13 rfl rfl)
theorem dX0_chanceTold_39 : decode cX0_chanceTold 39 = .ok (.iload_n 1, 1) := dk_27 (dk_at dksX0_chanceTold_1 16 rfl rfl)
theorem dX0_chanceTold_40 : decode cX0_chanceTold 40 = .ok (.invokevirtual 236, 3) := dk_182 0 236 (dk_at dksX0_chanceTold_1 17 rfl rfl)
theorem dX0_chanceTold_43 : decode cX0_chanceTold 43 = .ok (.iload_n 3, 1) := dk_29 (dk_at dksX0_chanceTold_1 20 rfl rfl)
theorem dX0_chanceTold_44 : decode cX0_chanceTold 44 = .ok (.invokestatic 474, 3) := dk_184 1 218 (dk_at dksX0_chanceTold_1 21 rfl rfl)
theorem dX0_chanceTold_47 : decode cX0_chanceTold 47 = .ok (.lreturn, 1) := dk_173 (dk_at dksX0_chanceTold_2 0 rfl rfl)
theorem dX0_chanceTold_48 : decode cX0_chanceTold 48 = .ok (.astore 4, 2) := dk_58 4 (dk_at dksX0_chanceTold_2 1 rfl rfl)
theorem dX0_chanceTold_50 : decode cX0_chanceTold 50 = .ok (.ldc2_w 478, 3) := dk_20 1 222 (dk_at dksX0_chanceTold_2 3 rfl rfl)
theorem dX0_chanceTold_53 : decode cX0_chanceTold 53 = .ok (.aload_n 0, 1) := dk_42 (dk_at dksX0_chanceTold_2 6 rfl rfl)
theorem dX0_chanceTold_54 : decode cX0_chanceTold 54 = .ok (.aload 4, 2) := dk_25 4 (dk_at dksX0_chanceTold_2 7 rfl rfl)
theorem dX0_chanceTold_56 : decode cX0_chanceTold 56 = .ok (.invokevirtual 345, 3) := dk_182 1 89 (dk_at dksX0_chanceTold_2 9 rfl rfl)
theorem dX0_chanceTold_59 : decode cX0_chanceTold 59 = .ok (.invokevirtual 348, 3) := dk_182 1 92 (dk_at dksX0_chanceTold_2 12 rfl rfl)
theorem dX0_chanceTold_62 : decode cX0_chanceTold 62 = .ok (.i2l, 1) := dk_133 (dk_at dksX0_chanceTold_2 15 rfl rfl)
theorem dX0_chanceTold_63 : decode cX0_chanceTold 63 = .ok (.lsub, 1) := dk_101 (dk_at dksX0_chanceTold_2 16 rfl rfl)
theorem dX0_chanceTold_64 : decode cX0_chanceTold 64 = .ok (.lreturn, 1) := dk_173 (dk_at dksX0_chanceTold_2 17 rfl rfl)
abbrev cX0_mustBePart : ByteArray := prog_1_method_41_code
def yX0_mustBePart : MethodName := ⟨RX0, "mustBePart", "(I)V"⟩
def dkwX0_mustBePart_0 : List UInt8 := [26, 133, 9, 10, 184, 0, 13, 16, 254, 184, 0, 9, 177]
abbrev dktX0_mustBePart_0 : List UInt8 := dkwX0_mustBePart_0 ++ []
theorem dksX0_mustBePart_0 : cX0_mustBePart.data.toList.drop 0 = dktX0_mustBePart_0 := by decide +kernel
theorem dX0_mustBePart_0 : decode cX0_mustBePart 0 = .ok (.iload_n 0, 1) := dk_26 (dk_at dksX0_mustBePart_0 0 rfl rfl)
theorem dX0_mustBePart_1 : decode cX0_mustBePart 1 = .ok (.i2l, 1) := dk_133 (dk_at dksX0_mustBePart_0 1 rfl rfl)
theorem dX0_mustBePart_2 : decode cX0_mustBePart 2 = .ok (.lconst 0, 1) := dk_9 (dk_at dksX0_mustBePart_0 2 rfl rfl)
theorem dX0_mustBePart_3 : decode cX0_mustBePart 3 = .ok (.lconst 1, 1) := dk_10 (dk_at dksX0_mustBePart_0 3 rfl rfl)
theorem dX0_mustBePart_4 : decode cX0_mustBePart 4 = .ok (.invokestatic 13, 3) := dk_184 0 13 (dk_at dksX0_mustBePart_0 4 rfl rfl)
theorem dX0_mustBePart_7 : decode cX0_mustBePart 7 = .ok (.bipush (-2), 2) := dk_16 254 (dk_at dksX0_mustBePart_0 7 rfl rfl)
theorem dX0_mustBePart_9 : decode cX0_mustBePart 9 = .ok (.invokestatic 9, 3) := dk_184 0 9 (dk_at dksX0_mustBePart_0 9 rfl rfl)
theorem dX0_mustBePart_12 : decode cX0_mustBePart 12 = .ok (.return_, 1) := dk_177 (dk_at dksX0_mustBePart_0 12 rfl rfl)
abbrev cX0_partTold : ByteArray := prog_1_method_6_code
def yX0_partTold : MethodName := ⟨RX0, "partTold", "(JJI)J"⟩
def dkwX0_partTold_1 : List UInt8 := [154, 0, 10, 30, 22, 5, 109, 167, 0, 7, 32, 22, 5, 109, 173]
abbrev dktX0_partTold_1 : List UInt8 := dkwX0_partTold_1 ++ []
def dkwX0_partTold_0 : List UInt8 := [30, 9, 148, 154, 0, 7, 21, 4, 133, 173, 30, 184, 0, 17, 32, 184, 0, 23, 55, 5, 21, 4]
abbrev dktX0_partTold_0 : List UInt8 := dkwX0_partTold_0 ++ dktX0_partTold_1
theorem dksX0_partTold_0 : cX0_partTold.data.toList.drop 0 = dktX0_partTold_0 := by decide +kernel
theorem dksX0_partTold_1 : cX0_partTold.data.toList.drop 22 = dktX0_partTold_1 := dk_seg dksX0_partTold_0 22 rfl rfl
theorem dX0_partTold_0 : decode cX0_partTold 0 = .ok (.lload_n 0, 1) := dk_30 (dk_at dksX0_partTold_0 0 rfl rfl)
theorem dX0_partTold_1 : decode cX0_partTold 1 = .ok (.lconst 0, 1) := dk_9 (dk_at dksX0_partTold_0 1 rfl rfl)
theorem dX0_partTold_2 : decode cX0_partTold 2 = .ok (.lcmp, 1) := dk_148 (dk_at dksX0_partTold_0 2 rfl rfl)
theorem dX0_partTold_3 : decode cX0_partTold 3 = .ok (.ifCond .ne 7, 3) := dk_154 0 7 (dk_at dksX0_partTold_0 3 rfl rfl)
theorem dX0_partTold_6 : decode cX0_partTold 6 = .ok (.iload 4, 2) := dk_21 4 (dk_at dksX0_partTold_0 6 rfl rfl)
theorem dX0_partTold_8 : decode cX0_partTold 8 = .ok (.i2l, 1) := dk_133 (dk_at dksX0_partTold_0 8 rfl rfl)
theorem dX0_partTold_9 : decode cX0_partTold 9 = .ok (.lreturn, 1) := dk_173 (dk_at dksX0_partTold_0 9 rfl rfl)
theorem dX0_partTold_10 : decode cX0_partTold 10 = .ok (.lload_n 0, 1) := dk_30 (dk_at dksX0_partTold_0 10 rfl rfl)
theorem dX0_partTold_11 : decode cX0_partTold 11 = .ok (.invokestatic 17, 3) := dk_184 0 17 (dk_at dksX0_partTold_0 11 rfl rfl)
theorem dX0_partTold_14 : decode cX0_partTold 14 = .ok (.lload_n 2, 1) := dk_32 (dk_at dksX0_partTold_0 14 rfl rfl)
theorem dX0_partTold_15 : decode cX0_partTold 15 = .ok (.invokestatic 23, 3) := dk_184 0 23 (dk_at dksX0_partTold_0 15 rfl rfl)
theorem dX0_partTold_18 : decode cX0_partTold 18 = .ok (.lstore 5, 2) := dk_55 5 (dk_at dksX0_partTold_0 18 rfl rfl)
theorem dX0_partTold_20 : decode cX0_partTold 20 = .ok (.iload 4, 2) := dk_21 4 (dk_at dksX0_partTold_0 20 rfl rfl)
theorem dX0_partTold_22 : decode cX0_partTold 22 = .ok (.ifCond .ne 10, 3) := dk_154 0 10 (dk_at dksX0_partTold_1 0 rfl rfl)
theorem dX0_partTold_25 : decode cX0_partTold 25 = .ok (.lload_n 0, 1) := dk_30 (dk_at dksX0_partTold_1 3 rfl rfl)
theorem dX0_partTold_26 : decode cX0_partTold 26 = .ok (.lload 5, 2) := dk_22 5 (dk_at dksX0_partTold_1 4 rfl rfl)
theorem dX0_partTold_28 : decode cX0_partTold 28 = .ok (.ldiv, 1) := dk_109 (dk_at dksX0_partTold_1 6 rfl rfl)
theorem dX0_partTold_29 : decode cX0_partTold 29 = .ok (.goto 7, 3) := dk_167 0 7 (dk_at dksX0_partTold_1 7 rfl rfl)
theorem dX0_partTold_32 : decode cX0_partTold 32 = .ok (.lload_n 2, 1) := dk_32 (dk_at dksX0_partTold_1 10 rfl rfl)
theorem dX0_partTold_33 : decode cX0_partTold 33 = .ok (.lload 5, 2) := dk_22 5 (dk_at dksX0_partTold_1 11 rfl rfl)
theorem dX0_partTold_35 : decode cX0_partTold 35 = .ok (.ldiv, 1) := dk_109 (dk_at dksX0_partTold_1 13 rfl rfl)
theorem dX0_partTold_36 : decode cX0_partTold 36 = .ok (.lreturn, 1) := dk_173 (dk_at dksX0_partTold_1 14 rfl rfl)
abbrev cX0_guess : ByteArray := prog_1_method_67_code
def yX0_guess : MethodName := ⟨RX0, "guess", "(II)I"⟩
def dkwX0_guess_0 : List UInt8 := [42, 8, 27, 28, 3, 182, 1, 228, 172]
abbrev dktX0_guess_0 : List UInt8 := dkwX0_guess_0 ++ []
theorem dksX0_guess_0 : cX0_guess.data.toList.drop 0 = dktX0_guess_0 := by decide +kernel
theorem dX0_guess_0 : decode cX0_guess 0 = .ok (.aload_n 0, 1) := dk_42 (dk_at dksX0_guess_0 0 rfl rfl)
theorem dX0_guess_1 : decode cX0_guess 1 = .ok (.iconst 5, 1) := dk_8 (dk_at dksX0_guess_0 1 rfl rfl)
theorem dX0_guess_2 : decode cX0_guess 2 = .ok (.iload_n 1, 1) := dk_27 (dk_at dksX0_guess_0 2 rfl rfl)
theorem dX0_guess_3 : decode cX0_guess 3 = .ok (.iload_n 2, 1) := dk_28 (dk_at dksX0_guess_0 3 rfl rfl)
theorem dX0_guess_4 : decode cX0_guess 4 = .ok (.iconst 0, 1) := dk_3 (dk_at dksX0_guess_0 4 rfl rfl)
theorem dX0_guess_5 : decode cX0_guess 5 = .ok (.invokevirtual 484, 3) := dk_182 1 228 (dk_at dksX0_guess_0 5 rfl rfl)
theorem dX0_guess_8 : decode cX0_guess 8 = .ok (.ireturn, 1) := dk_172 (dk_at dksX0_guess_0 8 rfl rfl)
abbrev cX0_points : ByteArray := prog_1_method_68_code
def yX0_points : MethodName := ⟨RX0, "points", "(II)I"⟩
def dkwX0_points_0 : List UInt8 := [42, 16, 6, 27, 28, 3, 182, 1, 228, 172]
abbrev dktX0_points_0 : List UInt8 := dkwX0_points_0 ++ []
theorem dksX0_points_0 : cX0_points.data.toList.drop 0 = dktX0_points_0 := by decide +kernel
theorem dX0_points_0 : decode cX0_points 0 = .ok (.aload_n 0, 1) := dk_42 (dk_at dksX0_points_0 0 rfl rfl)
theorem dX0_points_1 : decode cX0_points 1 = .ok (.bipush 6, 2) := dk_16 6 (dk_at dksX0_points_0 1 rfl rfl)
theorem dX0_points_3 : decode cX0_points 3 = .ok (.iload_n 1, 1) := dk_27 (dk_at dksX0_points_0 3 rfl rfl)
theorem dX0_points_4 : decode cX0_points 4 = .ok (.iload_n 2, 1) := dk_28 (dk_at dksX0_points_0 4 rfl rfl)
theorem dX0_points_5 : decode cX0_points 5 = .ok (.iconst 0, 1) := dk_3 (dk_at dksX0_points_0 5 rfl rfl)
theorem dX0_points_6 : decode cX0_points 6 = .ok (.invokevirtual 484, 3) := dk_182 1 228 (dk_at dksX0_points_0 6 rfl rfl)
theorem dX0_points_9 : decode cX0_points 9 = .ok (.ireturn, 1) := dk_172 (dk_at dksX0_points_0 9 rfl rfl)
abbrev cX0_setOf : ByteArray := prog_1_method_69_code
def yX0_setOf : MethodName := ⟨RX0, "setOf", "(II)I"⟩
def dkwX0_setOf_0 : List UInt8 := [42, 16, 7, 27, 28, 3, 182, 1, 228, 172]
abbrev dktX0_setOf_0 : List UInt8 := dkwX0_setOf_0 ++ []
theorem dksX0_setOf_0 : cX0_setOf.data.toList.drop 0 = dktX0_setOf_0 := by decide +kernel
theorem dX0_setOf_0 : decode cX0_setOf 0 = .ok (.aload_n 0, 1) := dk_42 (dk_at dksX0_setOf_0 0 rfl rfl)
theorem dX0_setOf_1 : decode cX0_setOf 1 = .ok (.bipush 7, 2) := dk_16 7 (dk_at dksX0_setOf_0 1 rfl rfl)
theorem dX0_setOf_3 : decode cX0_setOf 3 = .ok (.iload_n 1, 1) := dk_27 (dk_at dksX0_setOf_0 3 rfl rfl)
theorem dX0_setOf_4 : decode cX0_setOf 4 = .ok (.iload_n 2, 1) := dk_28 (dk_at dksX0_setOf_0 4 rfl rfl)
theorem dX0_setOf_5 : decode cX0_setOf 5 = .ok (.iconst 0, 1) := dk_3 (dk_at dksX0_setOf_0 5 rfl rfl)
theorem dX0_setOf_6 : decode cX0_setOf 6 = .ok (.invokevirtual 484, 3) := dk_182 1 228 (dk_at dksX0_setOf_0 6 rfl rfl)
theorem dX0_setOf_9 : decode cX0_setOf 9 = .ok (.ireturn, 1) := dk_172 (dk_at dksX0_setOf_0 9 rfl rfl)
abbrev cX0_presses : ByteArray := prog_1_method_70_code
def yX0_presses : MethodName := ⟨RX0, "presses", "(II)I"⟩
def dkwX0_presses_0 : List UInt8 := [42, 16, 8, 27, 28, 3, 182, 1, 228, 172]
abbrev dktX0_presses_0 : List UInt8 := dkwX0_presses_0 ++ []
theorem dksX0_presses_0 : cX0_presses.data.toList.drop 0 = dktX0_presses_0 := by decide +kernel
theorem dX0_presses_0 : decode cX0_presses 0 = .ok (.aload_n 0, 1) := dk_42 (dk_at dksX0_presses_0 0 rfl rfl)
theorem dX0_presses_1 : decode cX0_presses 1 = .ok (.bipush 8, 2) := dk_16 8 (dk_at dksX0_presses_0 1 rfl rfl)
theorem dX0_presses_3 : decode cX0_presses 3 = .ok (.iload_n 1, 1) := dk_27 (dk_at dksX0_presses_0 3 rfl rfl)
theorem dX0_presses_4 : decode cX0_presses 4 = .ok (.iload_n 2, 1) := dk_28 (dk_at dksX0_presses_0 4 rfl rfl)
theorem dX0_presses_5 : decode cX0_presses 5 = .ok (.iconst 0, 1) := dk_3 (dk_at dksX0_presses_0 5 rfl rfl)
theorem dX0_presses_6 : decode cX0_presses 6 = .ok (.invokevirtual 484, 3) := dk_182 1 228 (dk_at dksX0_presses_0 6 rfl rfl)
theorem dX0_presses_9 : decode cX0_presses 9 = .ok (.ireturn, 1) := dk_172 (dk_at dksX0_presses_0 9 rfl rfl)
abbrev cX0_run : ByteArray := prog_1_method_71_code
def yX0_run : MethodName := ⟨RX0, "run", "(II)I"⟩
def dkwX0_run_0 : List UInt8 := [42, 16, 9, 27, 28, 3, 182, 1, 228, 172]
abbrev dktX0_run_0 : List UInt8 := dkwX0_run_0 ++ []
theorem dksX0_run_0 : cX0_run.data.toList.drop 0 = dktX0_run_0 := by decide +kernel
theorem dX0_run_0 : decode cX0_run 0 = .ok (.aload_n 0, 1) := dk_42 (dk_at dksX0_run_0 0 rfl rfl)
theorem dX0_run_1 : decode cX0_run 1 = .ok (.bipush 9, 2) := dk_16 9 (dk_at dksX0_run_0 1 rfl rfl)
theorem dX0_run_3 : decode cX0_run 3 = .ok (.iload_n 1, 1) := dk_27 (dk_at dksX0_run_0 3 rfl rfl)
theorem dX0_run_4 : decode cX0_run 4 = .ok (.iload_n 2, 1) := dk_28 (dk_at dksX0_run_0 4 rfl rfl)
theorem dX0_run_5 : decode cX0_run 5 = .ok (.iconst 0, 1) := dk_3 (dk_at dksX0_run_0 5 rfl rfl)
theorem dX0_run_6 : decode cX0_run 6 = .ok (.invokevirtual 484, 3) := dk_182 1 228 (dk_at dksX0_run_0 6 rfl rfl)
theorem dX0_run_9 : decode cX0_run 9 = .ok (.ireturn, 1) := dk_172 (dk_at dksX0_run_0 9 rfl rfl)
abbrev cX0_wins : ByteArray := prog_1_method_72_code
def yX0_wins : MethodName := ⟨RX0, "wins", "(II)J"⟩
def dkwX0_wins_0 : List UInt8 := [42, 3, 27, 28, 182, 1, 235, 173]
abbrev dktX0_wins_0 : List UInt8 := dkwX0_wins_0 ++ []
theorem dksX0_wins_0 : cX0_wins.data.toList.drop 0 = dktX0_wins_0 := by decide +kernel
theorem dX0_wins_0 : decode cX0_wins 0 = .ok (.aload_n 0, 1) := dk_42 (dk_at dksX0_wins_0 0 rfl rfl)
theorem dX0_wins_1 : decode cX0_wins 1 = .ok (.iconst 0, 1) := dk_3 (dk_at dksX0_wins_0 1 rfl rfl)
theorem dX0_wins_2 : decode cX0_wins 2 = .ok (.iload_n 1, 1) := dk_27 (dk_at dksX0_wins_0 2 rfl rfl)
theorem dX0_wins_3 : decode cX0_wins 3 = .ok (.iload_n 2, 1) := dk_28 (dk_at dksX0_wins_0 3 rfl rfl)
theorem dX0_wins_4 : decode cX0_wins 4 = .ok (.invokevirtual 491, 3) := dk_182 1 235 (dk_at dksX0_wins_0 4 rfl rfl)
theorem dX0_wins_7 : decode cX0_wins 7 = .ok (.lreturn, 1) := dk_173 (dk_at dksX0_wins_0 7 rfl rfl)
abbrev cX0_allTold : ByteArray := prog_1_method_57_code
def yX0_allTold : MethodName := ⟨RX0, "allTold", "(III)J"⟩
def dkwX0_allTold_4 : List UInt8 := [182, 1, 92, 133, 101, 173]
abbrev dktX0_allTold_4 : List UInt8 := dkwX0_allTold_4 ++ []
def dkwX0_allTold_3 : List UInt8 := [180, 0, 55, 3, 182, 0, 236, 29, 184, 1, 218, 173, 58, 4, 20, 1, 222, 42, 25, 4, 182, 1, 89]
abbrev dktX0_allTold_3 : List UInt8 := dkwX0_allTold_3 ++ dktX0_allTold_4
def dkwX0_allTold_2 : List UInt8 := [167, 0, 19, 27, 5, 160, 0, 10, 42, 180, 0, 219, 167, 0, 7, 42, 180, 0, 223, 55, 4, 22, 4, 42]
abbrev dktX0_allTold_2 : List UInt8 := dkwX0_allTold_2 ++ dktX0_allTold_3
def dkwX0_allTold_1 : List UInt8 := [154, 0, 12, 42, 180, 0, 95, 28, 47, 167, 0, 33, 27, 4, 160, 0, 12, 42, 180, 0, 99, 28, 47]
abbrev dktX0_allTold_1 : List UInt8 := dkwX0_allTold_1 ++ dktX0_allTold_2
def dkwX0_allTold_0 : List UInt8 := [27, 5, 162, 0, 8, 42, 28, 182, 1, 112, 29, 184, 1, 215, 42, 182, 1, 141, 42, 182, 1, 4, 27]
abbrev dktX0_allTold_0 : List UInt8 := dkwX0_allTold_0 ++ dktX0_allTold_1
theorem dksX0_allTold_0 : cX0_allTold.data.toList.drop 0 = dktX0_allTold_0 := by decide +kernel
theorem dksX0_allTold_1 : cX0_allTold.data.toList.drop 23 = dktX0_allTold_1 := dk_seg dksX0_allTold_0 23 rfl rfl
theorem dksX0_allTold_2 : cX0_allTold.data.toList.drop 46 = dktX0_allTold_2 := dk_seg dksX0_allTold_1 23 rfl rfl
theorem dksX0_allTold_3 : cX0_allTold.data.toList.drop 70 = dktX0_allTold_3 := dk_seg dksX0_allTold_2 24 rfl rfl
theorem dksX0_allTold_4 : cX0_allTold.data.toList.drop 93 = dktX0_allTold_4 := dk_seg dksX0_allTold_3 23 rfl rfl
theorem dX0_allTold_0 : decode cX0_allTold 0 = .ok (.iload_n 1, 1) := dk_27 (dk_at dksX0_allTold_0 0 rfl rfl)
theorem dX0_allTold_1 : decode cX0_allTold 1 = .ok (.iconst 2, 1) := dk_5 (dk_at dksX0_allTold_0 1 rfl rfl)
theorem dX0_allTold_2 : decode cX0_allTold 2 = .ok (.if_icmp .ge 8, 3) := dk_162 0 8 (dk_at dksX0_allTold_0 2 rfl rfl)
theorem dX0_allTold_5 : decode cX0_allTold 5 = .ok (.aload_n 0, 1) := dk_42 (dk_at dksX0_allTold_0 5 rfl rfl)
theorem dX0_allTold_6 : decode cX0_allTold 6 = .ok (.iload_n 2, 1) := dk_28 (dk_at dksX0_allTold_0 6 rfl rfl)
theorem dX0_allTold_7 : decode cX0_allTold 7 = .ok (.invokevirtual 368, 3) := dk_182 1 112 (dk_at dksX0_allTold_0 7 rfl rfl)
theorem dX0_allTold_10 : decode cX0_allTold 10 = .ok (.iload_n 3, 1) := dk_29 (dk_at dksX0_allTold_0 10 rfl rfl)
theorem dX0_allTold_11 : decode cX0_allTold 11 = .ok (.invokestatic 471, 3) := dk_184 1 215 (dk_at dksX0_allTold_0 11 rfl rfl)
theorem dX0_allTold_14 : decode cX0_allTold 14 = .ok (.aload_n 0, 1) := dk_42 (dk_at dksX0_allTold_0 14 rfl rfl)
theorem dX0_allTold_15 : decode cX0_allTold 15 = .ok (.invokevirtual 397, 3) := dk_182 1 141 (dk_at dksX0_allTold_0 15 rfl rfl)
theorem dX0_allTold_18 : decode cX0_allTold 18 = .ok (.aload_n 0, 1) := dk_42 (dk_at dksX0_allTold_0 18 rfl rfl)
theorem dX0_allTold_19 : decode cX0_allTold 19 = .ok (.invokevirtual 260, 3) := dk_182 1 4 (dk_at dksX0_allTold_0 19 rfl rfl)
theorem dX0_allTold_22 : decode cX0_allTold 22 = .ok (.iload_n 1, 1) := dk_27 (dk_at dksX0_allTold_0 22 rfl rfl)
theorem dX0_allTold_23 : decode cX0_allTold 23 = .ok (.ifCond .ne 12, 3) := dk_154 0 12 (dk_at dksX0_allTold_1 0 rfl rfl)
theorem dX0_allTold_26 : decode cX0_allTold 26 = .ok (.aload_n 0, 1) := dk_42 (dk_at dksX0_allTold_1 3 rfl rfl)
theorem dX0_allTold_27 : decode cX0_allTold 27 = .ok (.getfield 95, 3) := dk_180 0 95 (dk_at dksX0_allTold_1 4 rfl rfl)
theorem dX0_allTold_30 : decode cX0_allTold 30 = .ok (.iload_n 2, 1) := dk_28 (dk_at dksX0_allTold_1 7 rfl rfl)
theorem dX0_allTold_31 : decode cX0_allTold 31 = .ok (.laload, 1) := dk_47 (dk_at dksX0_allTold_1 8 rfl rfl)
theorem dX0_allTold_32 : decode cX0_allTold 32 = .ok (.goto 33, 3) := dk_167 0 33 (dk_at dksX0_allTold_1 9 rfl rfl)
theorem dX0_allTold_35 : decode cX0_allTold 35 = .ok (.iload_n 1, 1) := dk_27 (dk_at dksX0_allTold_1 12 rfl rfl)
theorem dX0_allTold_36 : decode cX0_allTold 36 = .ok (.iconst 1, 1) := dk_4 (dk_at dksX0_allTold_1 13 rfl rfl)
theorem dX0_allTold_37 : decode cX0_allTold 37 = .ok (.if_icmp .ne 12, 3) := dk_160 0 12 (dk_at dksX0_allTold_1 14 rfl rfl)
theorem dX0_allTold_40 : decode cX0_allTold 40 = .ok (.aload_n 0, 1) := dk_42 (dk_at dksX0_allTold_1 17 rfl rfl)
theorem dX0_allTold_41 : decode cX0_allTold 41 = .ok (.getfield 99, 3) := dk_180 0 99 (dk_at dksX0_allTold_1 18 rfl rfl)
theorem dX0_allTold_44 : decode cX0_allTold 44 = .ok (.iload_n 2, 1) := dk_28 (dk_at dksX0_allTold_1 21 rfl rfl)
theorem dX0_allTold_45 : decode cX0_allTold 45 = .ok (.laload, 1) := dk_47 (dk_at dksX0_allTold_1 22 rfl rfl)
theorem dX0_allTold_46 : decode cX0_allTold 46 = .ok (.goto 19, 3) := dk_167 0 19 (dk_at dksX0_allTold_2 0 rfl rfl)
theorem dX0_allTold_49 : decode cX0_allTold 49 = .ok (.iload_n 1, 1) := dk_27 (dk_at dksX0_allTold_2 3 rfl rfl)
theorem dX0_allTold_50 : decode cX0_allTold 50 = .ok (.iconst 2, 1) := dk_5 (dk_at dksX0_allTold_2 4 rfl rfl)
theorem dX0_allTold_51 : decode cX0_allTold 51 = .ok (.if_icmp .ne 10, 3) := dk_160 0 10 (dk_at dksX0_allTold_2 5 rfl rfl)
theorem dX0_allTold_54 : decode cX0_allTold 54 = .ok (.aload_n 0, 1) := dk_42 (dk_at dksX0_allTold_2 8 rfl rfl)
theorem dX0_allTold_55 : decode cX0_allTold 55 = .ok (.getfield 219, 3) := dk_180 0 219 (dk_at dksX0_allTold_2 9 rfl rfl)
theorem dX0_allTold_58 : decode cX0_allTold 58 = .ok (.goto 7, 3) := dk_167 0 7 (dk_at dksX0_allTold_2 12 rfl rfl)
theorem dX0_allTold_61 : decode cX0_allTold 61 = .ok (.aload_n 0, 1) := dk_42 (dk_at dksX0_allTold_2 15 rfl rfl)
theorem dX0_allTold_62 : decode cX0_allTold 62 = .ok (.getfield 223, 3) := dk_180 0 223 (dk_at dksX0_allTold_2 16 rfl rfl)
theorem dX0_allTold_65 : decode cX0_allTold 65 = .ok (.lstore 4, 2) := dk_55 4 (dk_at dksX0_allTold_2 19 rfl rfl)
theorem dX0_allTold_67 : decode cX0_allTold 67 = .ok (.lload 4, 2) := dk_22 4 (dk_at dksX0_allTold_2 21 rfl rfl)
theorem dX0_allTold_69 : decode cX0_allTold 69 = .ok (.aload_n 0, 1) := dk_42 (dk_at dksX0_allTold_2 23 rfl rfl)
theorem dX0_allTold_70 : decode cX0_allTold 70 = .ok (.getfield 55, 3) := dk_180 0 55 (dk_at dksX0_allTold_3 0 rfl rfl)
theorem dX0_allTold_73 : decode cX0_allTold 73 = .ok (.iconst 0, 1) := dk_3 (dk_at dksX0_allTold_3 3 rfl rfl)
theorem dX0_allTold_74 : decode cX0_allTold 74 = .ok (.invokevirtual 236, 3) := dk_182 0 236 (dk_at dksX0_allTold_3 4 rfl rfl)
theorem dX0_allTold_77 : decode cX0_allTold 77 = .ok (.iload_n 3, 1) := dk_29 (dk_at dksX0_allTold_3 7 rfl rfl)
theorem dX0_allTold_78 : decode cX0_allTold 78 = .ok (.invokestatic 474, 3) := dk_184 1 218 (dk_at dksX0_allTold_3 8 rfl rfl)
theorem dX0_allTold_81 : decode cX0_allTold 81 = .ok (.lreturn, 1) := dk_173 (dk_at dksX0_allTold_3 11 rfl rfl)
theorem dX0_allTold_82 : decode cX0_allTold 82 = .ok (.astore 4, 2) := dk_58 4 (dk_at dksX0_allTold_3 12 rfl rfl)
theorem dX0_allTold_84 : decode cX0_allTold 84 = .ok (.ldc2_w 478, 3) := dk_20 1 222 (dk_at dksX0_allTold_3 14 rfl rfl)
theorem dX0_allTold_87 : decode cX0_allTold 87 = .ok (.aload_n 0, 1) := dk_42 (dk_at dksX0_allTold_3 17 rfl rfl)
theorem dX0_allTold_88 : decode cX0_allTold 88 = .ok (.aload 4, 2) := dk_25 4 (dk_at dksX0_allTold_3 18 rfl rfl)
theorem dX0_allTold_90 : decode cX0_allTold 90 = .ok (.invokevirtual 345, 3) := dk_182 1 89 (dk_at dksX0_allTold_3 20 rfl rfl)
theorem dX0_allTold_93 : decode cX0_allTold 93 = .ok (.invokevirtual 348, 3) := dk_182 1 92 (dk_at dksX0_allTold_4 0 rfl rfl)
theorem dX0_allTold_96 : decode cX0_allTold 96 = .ok (.i2l, 1) := dk_133 (dk_at dksX0_allTold_4 3 rfl rfl)
theorem dX0_allTold_97 : decode cX0_allTold 97 = .ok (.lsub, 1) := dk_101 (dk_at dksX0_allTold_4 4 rfl rfl)
theorem dX0_allTold_98 : decode cX0_allTold 98 = .ok (.lreturn, 1) := dk_173 (dk_at dksX0_allTold_4 5 rfl rfl)
abbrev cX0_worth : ByteArray := prog_1_method_73_code
def yX0_worth : MethodName := ⟨RX0, "worth", "(II)J"⟩
def dkwX0_worth_0 : List UInt8 := [42, 4, 27, 28, 182, 1, 235, 173]
abbrev dktX0_worth_0 : List UInt8 := dkwX0_worth_0 ++ []
theorem dksX0_worth_0 : cX0_worth.data.toList.drop 0 = dktX0_worth_0 := by decide +kernel
theorem dX0_worth_0 : decode cX0_worth 0 = .ok (.aload_n 0, 1) := dk_42 (dk_at dksX0_worth_0 0 rfl rfl)
theorem dX0_worth_1 : decode cX0_worth 1 = .ok (.iconst 1, 1) := dk_4 (dk_at dksX0_worth_0 1 rfl rfl)
theorem dX0_worth_2 : decode cX0_worth 2 = .ok (.iload_n 1, 1) := dk_27 (dk_at dksX0_worth_0 2 rfl rfl)
theorem dX0_worth_3 : decode cX0_worth 3 = .ok (.iload_n 2, 1) := dk_28 (dk_at dksX0_worth_0 3 rfl rfl)
theorem dX0_worth_4 : decode cX0_worth 4 = .ok (.invokevirtual 491, 3) := dk_182 1 235 (dk_at dksX0_worth_0 4 rfl rfl)
theorem dX0_worth_7 : decode cX0_worth 7 = .ok (.lreturn, 1) := dk_173 (dk_at dksX0_worth_0 7 rfl rfl)
abbrev cX0_nobody : ByteArray := prog_1_method_74_code
def yX0_nobody : MethodName := ⟨RX0, "nobody", "(I)J"⟩
def dkwX0_nobody_0 : List UInt8 := [42, 5, 3, 27, 182, 1, 235, 173]
abbrev dktX0_nobody_0 : List UInt8 := dkwX0_nobody_0 ++ []
theorem dksX0_nobody_0 : cX0_nobody.data.toList.drop 0 = dktX0_nobody_0 := by decide +kernel
theorem dX0_nobody_0 : decode cX0_nobody 0 = .ok (.aload_n 0, 1) := dk_42 (dk_at dksX0_nobody_0 0 rfl rfl)
theorem dX0_nobody_1 : decode cX0_nobody 1 = .ok (.iconst 2, 1) := dk_5 (dk_at dksX0_nobody_0 1 rfl rfl)
theorem dX0_nobody_2 : decode cX0_nobody 2 = .ok (.iconst 0, 1) := dk_3 (dk_at dksX0_nobody_0 2 rfl rfl)
theorem dX0_nobody_3 : decode cX0_nobody 3 = .ok (.iload_n 1, 1) := dk_27 (dk_at dksX0_nobody_0 3 rfl rfl)
theorem dX0_nobody_4 : decode cX0_nobody 4 = .ok (.invokevirtual 491, 3) := dk_182 1 235 (dk_at dksX0_nobody_0 4 rfl rfl)
theorem dX0_nobody_7 : decode cX0_nobody 7 = .ok (.lreturn, 1) := dk_173 (dk_at dksX0_nobody_0 7 rfl rfl)
abbrev cX0_dull : ByteArray := prog_1_method_75_code
def yX0_dull : MethodName := ⟨RX0, "dull", "(I)J"⟩
def dkwX0_dull_0 : List UInt8 := [42, 6, 3, 27, 182, 1, 235, 173]
abbrev dktX0_dull_0 : List UInt8 := dkwX0_dull_0 ++ []
theorem dksX0_dull_0 : cX0_dull.data.toList.drop 0 = dktX0_dull_0 := by decide +kernel
theorem dX0_dull_0 : decode cX0_dull 0 = .ok (.aload_n 0, 1) := dk_42 (dk_at dksX0_dull_0 0 rfl rfl)
theorem dX0_dull_1 : decode cX0_dull 1 = .ok (.iconst 3, 1) := dk_6 (dk_at dksX0_dull_0 1 rfl rfl)
theorem dX0_dull_2 : decode cX0_dull 2 = .ok (.iconst 0, 1) := dk_3 (dk_at dksX0_dull_0 2 rfl rfl)
theorem dX0_dull_3 : decode cX0_dull 3 = .ok (.iload_n 1, 1) := dk_27 (dk_at dksX0_dull_0 3 rfl rfl)
theorem dX0_dull_4 : decode cX0_dull 4 = .ok (.invokevirtual 491, 3) := dk_182 1 235 (dk_at dksX0_dull_0 4 rfl rfl)
theorem dX0_dull_7 : decode cX0_dull 7 = .ok (.lreturn, 1) := dk_173 (dk_at dksX0_dull_0 7 rfl rfl)
abbrev cX0_value : ByteArray := prog_1_method_76_code
def yX0_value : MethodName := ⟨RX0, "value", "(III)J"⟩
def dkwX0_value_0 : List UInt8 := [42, 27, 28, 29, 182, 1, 238, 173]
abbrev dktX0_value_0 : List UInt8 := dkwX0_value_0 ++ []
theorem dksX0_value_0 : cX0_value.data.toList.drop 0 = dktX0_value_0 := by decide +kernel
theorem dX0_value_0 : decode cX0_value 0 = .ok (.aload_n 0, 1) := dk_42 (dk_at dksX0_value_0 0 rfl rfl)
theorem dX0_value_1 : decode cX0_value 1 = .ok (.iload_n 1, 1) := dk_27 (dk_at dksX0_value_0 1 rfl rfl)
theorem dX0_value_2 : decode cX0_value 2 = .ok (.iload_n 2, 1) := dk_28 (dk_at dksX0_value_0 2 rfl rfl)
theorem dX0_value_3 : decode cX0_value 3 = .ok (.iload_n 3, 1) := dk_29 (dk_at dksX0_value_0 3 rfl rfl)
theorem dX0_value_4 : decode cX0_value 4 = .ok (.invokevirtual 494, 3) := dk_182 1 238 (dk_at dksX0_value_0 4 rfl rfl)
theorem dX0_value_7 : decode cX0_value 7 = .ok (.lreturn, 1) := dk_173 (dk_at dksX0_value_0 7 rfl rfl)
abbrev cX0_valueTold : ByteArray := prog_1_method_58_code
def yX0_valueTold : MethodName := ⟨RX0, "valueTold", "(III)J"⟩
def dkwX0_valueTold_2 : List UInt8 := [58, 4, 20, 1, 222, 42, 25, 4, 182, 1, 89, 182, 1, 92, 133, 101, 173]
abbrev dktX0_valueTold_2 : List UInt8 := dkwX0_valueTold_2 ++ []
def dkwX0_valueTold_1 : List UInt8 := [50, 182, 1, 165, 87, 42, 180, 0, 102, 28, 47, 42, 180, 0, 55, 28, 182, 0, 236, 29, 184, 1, 218, 173]
abbrev dktX0_valueTold_1 : List UInt8 := dkwX0_valueTold_1 ++ dktX0_valueTold_2
def dkwX0_valueTold_0 : List UInt8 := [42, 27, 182, 1, 112, 42, 28, 182, 1, 104, 29, 184, 1, 215, 42, 182, 1, 141, 42, 42, 180, 0, 61, 27]
abbrev dktX0_valueTold_0 : List UInt8 := dkwX0_valueTold_0 ++ dktX0_valueTold_1
theorem dksX0_valueTold_0 : cX0_valueTold.data.toList.drop 0 = dktX0_valueTold_0 := by decide +kernel
theorem dksX0_valueTold_1 : cX0_valueTold.data.toList.drop 24 = dktX0_valueTold_1 := dk_seg dksX0_valueTold_0 24 rfl rfl
theorem dksX0_valueTold_2 : cX0_valueTold.data.toList.drop 48 = dktX0_valueTold_2 := dk_seg dksX0_valueTold_1 24 rfl rfl
theorem dX0_valueTold_0 : decode cX0_valueTold 0 = .ok (.aload_n 0, 1) := dk_42 (dk_at dksX0_valueTold_0 0 rfl rfl)
theorem dX0_valueTold_1 : decode cX0_valueTold 1 = .ok (.iload_n 1, 1) := dk_27 (dk_at dksX0_valueTold_0 1 rfl rfl)
theorem dX0_valueTold_2 : decode cX0_valueTold 2 = .ok (.invokevirtual 368, 3) := dk_182 1 112 (dk_at dksX0_valueTold_0 2 rfl rfl)
theorem dX0_valueTold_5 : decode cX0_valueTold 5 = .ok (.aload_n 0, 1) := dk_42 (dk_at dksX0_valueTold_0 5 rfl rfl)
theorem dX0_valueTold_6 : decode cX0_valueTold 6 = .ok (.iload_n 2, 1) := dk_28 (dk_at dksX0_valueTold_0 6 rfl rfl)
theorem dX0_valueTold_7 : decode cX0_valueTold 7 = .ok (.invokevirtual 360, 3) := dk_182 1 104 (dk_at dksX0_valueTold_0 7 rfl rfl)
theorem dX0_valueTold_10 : decode cX0_valueTold 10 = .ok (.iload_n 3, 1) := dk_29 (dk_at dksX0_valueTold_0 10 rfl rfl)
theorem dX0_valueTold_11 : decode cX0_valueTold 11 = .ok (.invokestatic 471, 3) := dk_184 1 215 (dk_at dksX0_valueTold_0 11 rfl rfl)
theorem dX0_valueTold_14 : decode cX0_valueTold 14 = .ok (.aload_n 0, 1) := dk_42 (dk_at dksX0_valueTold_0 14 rfl rfl)
theorem dX0_valueTold_15 : decode cX0_valueTold 15 = .ok (.invokevirtual 397, 3) := dk_182 1 141 (dk_at dksX0_valueTold_0 15 rfl rfl)
theorem dX0_valueTold_18 : decode cX0_valueTold 18 = .ok (.aload_n 0, 1) := dk_42 (dk_at dksX0_valueTold_0 18 rfl rfl)
theorem dX0_valueTold_19 : decode cX0_valueTold 19 = .ok (.aload_n 0, 1) := dk_42 (dk_at dksX0_valueTold_0 19 rfl rfl)
theorem dX0_valueTold_20 : decode cX0_valueTold 20 = .ok (.getfield 61, 3) := dk_180 0 61 (dk_at dksX0_valueTold_0 20 rfl rfl)
theorem dX0_valueTold_23 : decode cX0_valueTold 23 = .ok (.iload_n 1, 1) := dk_27 (dk_at dksX0_valueTold_0 23 rfl rfl)
theorem dX0_valueTold_24 : decode cX0_valueTold 24 = .ok (.aaload, 1) := dk_50 (dk_at dksX0_valueTold_1 0 rfl rfl)
theorem dX0_valueTold_25 : decode cX0_valueTold 25 = .ok (.invokevirtual 421, 3) := dk_182 1 165 (dk_at dksX0_valueTold_1 1 rfl rfl)
theorem dX0_valueTold_28 : decode cX0_valueTold 28 = .ok (.pop, 1) := dk_87 (dk_at dksX0_valueTold_1 4 rfl rfl)
theorem dX0_valueTold_29 : decode cX0_valueTold 29 = .ok (.aload_n 0, 1) := dk_42 (dk_at dksX0_valueTold_1 5 rfl rfl)
theorem dX0_valueTold_30 : decode cX0_valueTold 30 = .ok (.getfield 102, 3) := dk_180 0 102 (dk_at dksX0_valueTold_1 6 rfl rfl)
theorem dX0_valueTold_33 : decode cX0_valueTold 33 = .ok (.iload_n 2, 1) := dk_28 (dk_at dksX0_valueTold_1 9 rfl rfl)
theorem dX0_valueTold_34 : decode cX0_valueTold 34 = .ok (.laload, 1) := dk_47 (dk_at dksX0_valueTold_1 10 rfl rfl)
theorem dX0_valueTold_35 : decode cX0_valueTold 35 = .ok (.aload_n 0, 1) := dk_42 (dk_at dksX0_valueTold_1 11 rfl rfl)
theorem dX0_valueTold_36 : decode cX0_valueTold 36 = .ok (.getfield 55, 3) := dk_180 0 55 (dk_at dksX0_valueTold_1 12 rfl rfl)
theorem dX0_valueTold_39 : decode cX0_valueTold 39 = .ok (.iload_n 2, 1) := dk_28 (dk_at dksX0_valueTold_1 15 rfl rfl)
theorem dX0_valueTold_40 : decode cX0_valueTold 40 = .ok (.invokevirtual 236, 3) := dk_182 0 236 (dk_at dksX0_valueTold_1 16 rfl rfl)
theorem dX0_valueTold_43 : decode cX0_valueTold 43 = .ok (.iload_n 3, 1) := dk_29 (dk_at dksX0_valueTold_1 19 rfl rfl)
theorem dX0_valueTold_44 : decode cX0_valueTold 44 = .ok (.invokestatic 474, 3) := dk_184 1 218 (dk_at dksX0_valueTold_1 20 rfl rfl)
theorem dX0_valueTold_47 : decode cX0_valueTold 47 = .ok (.lreturn, 1) := dk_173 (dk_at dksX0_valueTold_1 23 rfl rfl)
theorem dX0_valueTold_48 : decode cX0_valueTold 48 = .ok (.astore 4, 2) := dk_58 4 (dk_at dksX0_valueTold_2 0 rfl rfl)
theorem dX0_valueTold_50 : decode cX0_valueTold 50 = .ok (.ldc2_w 478, 3) := dk_20 1 222 (dk_at dksX0_valueTold_2 2 rfl rfl)
theorem dX0_valueTold_53 : decode cX0_valueTold 53 = .ok (.aload_n 0, 1) := dk_42 (dk_at dksX0_valueTold_2 5 rfl rfl)
theorem dX0_valueTold_54 : decode cX0_valueTold 54 = .ok (.aload 4, 2) := dk_25 4 (dk_at dksX0_valueTold_2 6 rfl rfl)
theorem dX0_valueTold_56 : decode cX0_valueTold 56 = .ok (.invokevirtual 345, 3) := dk_182 1 89 (dk_at dksX0_valueTold_2 8 rfl rfl)
theorem dX0_valueTold_59 : decode cX0_valueTold 59 = .ok (.invokevirtual 348, 3) := dk_182 1 92 (dk_at dksX0_valueTold_2 11 rfl rfl)
theorem dX0_valueTold_62 : decode cX0_valueTold 62 = .ok (.i2l, 1) := dk_133 (dk_at dksX0_valueTold_2 14 rfl rfl)
theorem dX0_valueTold_63 : decode cX0_valueTold 63 = .ok (.lsub, 1) := dk_101 (dk_at dksX0_valueTold_2 15 rfl rfl)
theorem dX0_valueTold_64 : decode cX0_valueTold 64 = .ok (.lreturn, 1) := dk_173 (dk_at dksX0_valueTold_2 16 rfl rfl)
abbrev cX0_alone : ByteArray := prog_1_method_77_code
def yX0_alone : MethodName := ⟨RX0, "alone", "(I)I"⟩
def dkwX0_alone_0 : List UInt8 := [42, 16, 10, 27, 3, 3, 182, 1, 228, 172]
abbrev dktX0_alone_0 : List UInt8 := dkwX0_alone_0 ++ []
theorem dksX0_alone_0 : cX0_alone.data.toList.drop 0 = dktX0_alone_0 := by decide +kernel
theorem dX0_alone_0 : decode cX0_alone 0 = .ok (.aload_n 0, 1) := dk_42 (dk_at dksX0_alone_0 0 rfl rfl)
theorem dX0_alone_1 : decode cX0_alone 1 = .ok (.bipush 10, 2) := dk_16 10 (dk_at dksX0_alone_0 1 rfl rfl)
theorem dX0_alone_3 : decode cX0_alone 3 = .ok (.iload_n 1, 1) := dk_27 (dk_at dksX0_alone_0 3 rfl rfl)
theorem dX0_alone_4 : decode cX0_alone 4 = .ok (.iconst 0, 1) := dk_3 (dk_at dksX0_alone_0 4 rfl rfl)
theorem dX0_alone_5 : decode cX0_alone 5 = .ok (.iconst 0, 1) := dk_3 (dk_at dksX0_alone_0 5 rfl rfl)
theorem dX0_alone_6 : decode cX0_alone 6 = .ok (.invokevirtual 484, 3) := dk_182 1 228 (dk_at dksX0_alone_0 6 rfl rfl)
theorem dX0_alone_9 : decode cX0_alone 9 = .ok (.ireturn, 1) := dk_172 (dk_at dksX0_alone_0 9 rfl rfl)
abbrev cX0_reply : ByteArray := prog_1_method_78_code
def yX0_reply : MethodName := ⟨RX0, "reply", "(II)I"⟩
def dkwX0_reply_0 : List UInt8 := [42, 16, 11, 27, 28, 3, 182, 1, 228, 172]
abbrev dktX0_reply_0 : List UInt8 := dkwX0_reply_0 ++ []
theorem dksX0_reply_0 : cX0_reply.data.toList.drop 0 = dktX0_reply_0 := by decide +kernel
theorem dX0_reply_0 : decode cX0_reply 0 = .ok (.aload_n 0, 1) := dk_42 (dk_at dksX0_reply_0 0 rfl rfl)
theorem dX0_reply_1 : decode cX0_reply 1 = .ok (.bipush 11, 2) := dk_16 11 (dk_at dksX0_reply_0 1 rfl rfl)
theorem dX0_reply_3 : decode cX0_reply 3 = .ok (.iload_n 1, 1) := dk_27 (dk_at dksX0_reply_0 3 rfl rfl)
theorem dX0_reply_4 : decode cX0_reply 4 = .ok (.iload_n 2, 1) := dk_28 (dk_at dksX0_reply_0 4 rfl rfl)
theorem dX0_reply_5 : decode cX0_reply 5 = .ok (.iconst 0, 1) := dk_3 (dk_at dksX0_reply_0 5 rfl rfl)
theorem dX0_reply_6 : decode cX0_reply 6 = .ok (.invokevirtual 484, 3) := dk_182 1 228 (dk_at dksX0_reply_0 6 rfl rfl)
theorem dX0_reply_9 : decode cX0_reply 9 = .ok (.ireturn, 1) := dk_172 (dk_at dksX0_reply_0 9 rfl rfl)
abbrev cX0_rest : ByteArray := prog_1_method_79_code
def yX0_rest : MethodName := ⟨RX0, "rest", "(II)I"⟩
def dkwX0_rest_0 : List UInt8 := [42, 16, 12, 27, 28, 3, 182, 1, 228, 172]
abbrev dktX0_rest_0 : List UInt8 := dkwX0_rest_0 ++ []
theorem dksX0_rest_0 : cX0_rest.data.toList.drop 0 = dktX0_rest_0 := by decide +kernel
theorem dX0_rest_0 : decode cX0_rest 0 = .ok (.aload_n 0, 1) := dk_42 (dk_at dksX0_rest_0 0 rfl rfl)
theorem dX0_rest_1 : decode cX0_rest 1 = .ok (.bipush 12, 2) := dk_16 12 (dk_at dksX0_rest_0 1 rfl rfl)
theorem dX0_rest_3 : decode cX0_rest 3 = .ok (.iload_n 1, 1) := dk_27 (dk_at dksX0_rest_0 3 rfl rfl)
theorem dX0_rest_4 : decode cX0_rest 4 = .ok (.iload_n 2, 1) := dk_28 (dk_at dksX0_rest_0 4 rfl rfl)
theorem dX0_rest_5 : decode cX0_rest 5 = .ok (.iconst 0, 1) := dk_3 (dk_at dksX0_rest_0 5 rfl rfl)
theorem dX0_rest_6 : decode cX0_rest 6 = .ok (.invokevirtual 484, 3) := dk_182 1 228 (dk_at dksX0_rest_0 6 rfl rfl)
theorem dX0_rest_9 : decode cX0_rest 9 = .ok (.ireturn, 1) := dk_172 (dk_at dksX0_rest_0 9 rfl rfl)
abbrev cX0_law : ByteArray := prog_1_method_80_code
def yX0_law : MethodName := ⟨RX0, "law", "(I)I"⟩
def dkwX0_law_0 : List UInt8 := [42, 16, 13, 27, 3, 3, 182, 1, 228, 172]
abbrev dktX0_law_0 : List UInt8 := dkwX0_law_0 ++ []
theorem dksX0_law_0 : cX0_law.data.toList.drop 0 = dktX0_law_0 := by decide +kernel
theorem dX0_law_0 : decode cX0_law 0 = .ok (.aload_n 0, 1) := dk_42 (dk_at dksX0_law_0 0 rfl rfl)
theorem dX0_law_1 : decode cX0_law 1 = .ok (.bipush 13, 2) := dk_16 13 (dk_at dksX0_law_0 1 rfl rfl)
theorem dX0_law_3 : decode cX0_law 3 = .ok (.iload_n 1, 1) := dk_27 (dk_at dksX0_law_0 3 rfl rfl)
theorem dX0_law_4 : decode cX0_law 4 = .ok (.iconst 0, 1) := dk_3 (dk_at dksX0_law_0 4 rfl rfl)
theorem dX0_law_5 : decode cX0_law 5 = .ok (.iconst 0, 1) := dk_3 (dk_at dksX0_law_0 5 rfl rfl)
theorem dX0_law_6 : decode cX0_law 6 = .ok (.invokevirtual 484, 3) := dk_182 1 228 (dk_at dksX0_law_0 6 rfl rfl)
theorem dX0_law_9 : decode cX0_law 9 = .ok (.ireturn, 1) := dk_172 (dk_at dksX0_law_0 9 rfl rfl)
abbrev cX0_mostEarly : ByteArray := prog_1_method_81_code
def yX0_mostEarly : MethodName := ⟨RX0, "mostEarly", "(I)I"⟩
def dkwX0_mostEarly_0 : List UInt8 := [42, 16, 14, 27, 3, 3, 182, 1, 228, 172]
abbrev dktX0_mostEarly_0 : List UInt8 := dkwX0_mostEarly_0 ++ []
theorem dksX0_mostEarly_0 : cX0_mostEarly.data.toList.drop 0 = dktX0_mostEarly_0 := by decide +kernel
theorem dX0_mostEarly_0 : decode cX0_mostEarly 0 = .ok (.aload_n 0, 1) := dk_42 (dk_at dksX0_mostEarly_0 0 rfl rfl)
theorem dX0_mostEarly_1 : decode cX0_mostEarly 1 = .ok (.bipush 14, 2) := dk_16 14 (dk_at dksX0_mostEarly_0 1 rfl rfl)
theorem dX0_mostEarly_3 : decode cX0_mostEarly 3 = .ok (.iload_n 1, 1) := dk_27 (dk_at dksX0_mostEarly_0 3 rfl rfl)
theorem dX0_mostEarly_4 : decode cX0_mostEarly 4 = .ok (.iconst 0, 1) := dk_3 (dk_at dksX0_mostEarly_0 4 rfl rfl)
theorem dX0_mostEarly_5 : decode cX0_mostEarly 5 = .ok (.iconst 0, 1) := dk_3 (dk_at dksX0_mostEarly_0 5 rfl rfl)
theorem dX0_mostEarly_6 : decode cX0_mostEarly 6 = .ok (.invokevirtual 484, 3) := dk_182 1 228 (dk_at dksX0_mostEarly_0 6 rfl rfl)
theorem dX0_mostEarly_9 : decode cX0_mostEarly 9 = .ok (.ireturn, 1) := dk_172 (dk_at dksX0_mostEarly_0 9 rfl rfl)
abbrev cX0_silent : ByteArray := prog_1_method_82_code
def yX0_silent : MethodName := ⟨RX0, "silent", "(II)I"⟩
def dkwX0_silent_0 : List UInt8 := [42, 16, 15, 27, 28, 3, 182, 1, 228, 172]
abbrev dktX0_silent_0 : List UInt8 := dkwX0_silent_0 ++ []
theorem dksX0_silent_0 : cX0_silent.data.toList.drop 0 = dktX0_silent_0 := by decide +kernel
theorem dX0_silent_0 : decode cX0_silent 0 = .ok (.aload_n 0, 1) := dk_42 (dk_at dksX0_silent_0 0 rfl rfl)
theorem dX0_silent_1 : decode cX0_silent 1 = .ok (.bipush 15, 2) := dk_16 15 (dk_at dksX0_silent_0 1 rfl rfl)
theorem dX0_silent_3 : decode cX0_silent 3 = .ok (.iload_n 1, 1) := dk_27 (dk_at dksX0_silent_0 3 rfl rfl)
theorem dX0_silent_4 : decode cX0_silent 4 = .ok (.iload_n 2, 1) := dk_28 (dk_at dksX0_silent_0 4 rfl rfl)
theorem dX0_silent_5 : decode cX0_silent 5 = .ok (.iconst 0, 1) := dk_3 (dk_at dksX0_silent_0 5 rfl rfl)
theorem dX0_silent_6 : decode cX0_silent 6 = .ok (.invokevirtual 484, 3) := dk_182 1 228 (dk_at dksX0_silent_0 6 rfl rfl)
theorem dX0_silent_9 : decode cX0_silent 9 = .ok (.ireturn, 1) := dk_172 (dk_at dksX0_silent_0 9 rfl rfl)
abbrev cX0_partners : ByteArray := prog_1_method_83_code
def yX0_partners : MethodName := ⟨RX0, "partners", "(III)I"⟩
def dkwX0_partners_0 : List UInt8 := [42, 16, 16, 27, 28, 29, 182, 1, 228, 172]
abbrev dktX0_partners_0 : List UInt8 := dkwX0_partners_0 ++ []
theorem dksX0_partners_0 : cX0_partners.data.toList.drop 0 = dktX0_partners_0 := by decide +kernel
theorem dX0_partners_0 : decode cX0_partners 0 = .ok (.aload_n 0, 1) := dk_42 (dk_at dksX0_partners_0 0 rfl rfl)
theorem dX0_partners_1 : decode cX0_partners 1 = .ok (.bipush 16, 2) := dk_16 16 (dk_at dksX0_partners_0 1 rfl rfl)
theorem dX0_partners_3 : decode cX0_partners 3 = .ok (.iload_n 1, 1) := dk_27 (dk_at dksX0_partners_0 3 rfl rfl)
theorem dX0_partners_4 : decode cX0_partners 4 = .ok (.iload_n 2, 1) := dk_28 (dk_at dksX0_partners_0 4 rfl rfl)
theorem dX0_partners_5 : decode cX0_partners 5 = .ok (.iload_n 3, 1) := dk_29 (dk_at dksX0_partners_0 5 rfl rfl)
theorem dX0_partners_6 : decode cX0_partners 6 = .ok (.invokevirtual 484, 3) := dk_182 1 228 (dk_at dksX0_partners_0 6 rfl rfl)
theorem dX0_partners_9 : decode cX0_partners 9 = .ok (.ireturn, 1) := dk_172 (dk_at dksX0_partners_0 9 rfl rfl)
abbrev cX0_fact : ByteArray := prog_1_method_84_code
def yX0_fact : MethodName := ⟨RX0, "fact", "(I)I"⟩
def dkwX0_fact_0 : List UInt8 := [42, 16, 17, 27, 3, 3, 182, 1, 228, 172]
abbrev dktX0_fact_0 : List UInt8 := dkwX0_fact_0 ++ []
theorem dksX0_fact_0 : cX0_fact.data.toList.drop 0 = dktX0_fact_0 := by decide +kernel
theorem dX0_fact_0 : decode cX0_fact 0 = .ok (.aload_n 0, 1) := dk_42 (dk_at dksX0_fact_0 0 rfl rfl)
theorem dX0_fact_1 : decode cX0_fact 1 = .ok (.bipush 17, 2) := dk_16 17 (dk_at dksX0_fact_0 1 rfl rfl)
theorem dX0_fact_3 : decode cX0_fact 3 = .ok (.iload_n 1, 1) := dk_27 (dk_at dksX0_fact_0 3 rfl rfl)
theorem dX0_fact_4 : decode cX0_fact 4 = .ok (.iconst 0, 1) := dk_3 (dk_at dksX0_fact_0 4 rfl rfl)
theorem dX0_fact_5 : decode cX0_fact 5 = .ok (.iconst 0, 1) := dk_3 (dk_at dksX0_fact_0 5 rfl rfl)
theorem dX0_fact_6 : decode cX0_fact 6 = .ok (.invokevirtual 484, 3) := dk_182 1 228 (dk_at dksX0_fact_0 6 rfl rfl)
theorem dX0_fact_9 : decode cX0_fact 9 = .ok (.ireturn, 1) := dk_172 (dk_at dksX0_fact_0 9 rfl rfl)
abbrev cX0_had : ByteArray := prog_1_method_85_code
def yX0_had : MethodName := ⟨RX0, "had", "(II)I"⟩
def dkwX0_had_0 : List UInt8 := [42, 16, 18, 27, 28, 3, 182, 1, 228, 172]
abbrev dktX0_had_0 : List UInt8 := dkwX0_had_0 ++ []
theorem dksX0_had_0 : cX0_had.data.toList.drop 0 = dktX0_had_0 := by decide +kernel
theorem dX0_had_0 : decode cX0_had 0 = .ok (.aload_n 0, 1) := dk_42 (dk_at dksX0_had_0 0 rfl rfl)
theorem dX0_had_1 : decode cX0_had 1 = .ok (.bipush 18, 2) := dk_16 18 (dk_at dksX0_had_0 1 rfl rfl)
theorem dX0_had_3 : decode cX0_had 3 = .ok (.iload_n 1, 1) := dk_27 (dk_at dksX0_had_0 3 rfl rfl)
theorem dX0_had_4 : decode cX0_had 4 = .ok (.iload_n 2, 1) := dk_28 (dk_at dksX0_had_0 4 rfl rfl)
theorem dX0_had_5 : decode cX0_had 5 = .ok (.iconst 0, 1) := dk_3 (dk_at dksX0_had_0 5 rfl rfl)
theorem dX0_had_6 : decode cX0_had 6 = .ok (.invokevirtual 484, 3) := dk_182 1 228 (dk_at dksX0_had_0 6 rfl rfl)
theorem dX0_had_9 : decode cX0_had 9 = .ok (.ireturn, 1) := dk_172 (dk_at dksX0_had_0 9 rfl rfl)
abbrev cX0_late : ByteArray := prog_1_method_86_code
def yX0_late : MethodName := ⟨RX0, "late", "(I)I"⟩
def dkwX0_late_0 : List UInt8 := [42, 16, 19, 27, 3, 3, 182, 1, 228, 172]
abbrev dktX0_late_0 : List UInt8 := dkwX0_late_0 ++ []
theorem dksX0_late_0 : cX0_late.data.toList.drop 0 = dktX0_late_0 := by decide +kernel
theorem dX0_late_0 : decode cX0_late 0 = .ok (.aload_n 0, 1) := dk_42 (dk_at dksX0_late_0 0 rfl rfl)
theorem dX0_late_1 : decode cX0_late 1 = .ok (.bipush 19, 2) := dk_16 19 (dk_at dksX0_late_0 1 rfl rfl)
theorem dX0_late_3 : decode cX0_late 3 = .ok (.iload_n 1, 1) := dk_27 (dk_at dksX0_late_0 3 rfl rfl)
theorem dX0_late_4 : decode cX0_late 4 = .ok (.iconst 0, 1) := dk_3 (dk_at dksX0_late_0 4 rfl rfl)
theorem dX0_late_5 : decode cX0_late 5 = .ok (.iconst 0, 1) := dk_3 (dk_at dksX0_late_0 5 rfl rfl)
theorem dX0_late_6 : decode cX0_late 6 = .ok (.invokevirtual 484, 3) := dk_182 1 228 (dk_at dksX0_late_0 6 rfl rfl)
theorem dX0_late_9 : decode cX0_late 9 = .ok (.ireturn, 1) := dk_172 (dk_at dksX0_late_0 9 rfl rfl)
abbrev cX0_soon : ByteArray := prog_1_method_87_code
def yX0_soon : MethodName := ⟨RX0, "soon", "(I)I"⟩
def dkwX0_soon_0 : List UInt8 := [42, 16, 20, 27, 3, 3, 182, 1, 228, 172]
abbrev dktX0_soon_0 : List UInt8 := dkwX0_soon_0 ++ []
theorem dksX0_soon_0 : cX0_soon.data.toList.drop 0 = dktX0_soon_0 := by decide +kernel
theorem dX0_soon_0 : decode cX0_soon 0 = .ok (.aload_n 0, 1) := dk_42 (dk_at dksX0_soon_0 0 rfl rfl)
theorem dX0_soon_1 : decode cX0_soon 1 = .ok (.bipush 20, 2) := dk_16 20 (dk_at dksX0_soon_0 1 rfl rfl)
theorem dX0_soon_3 : decode cX0_soon 3 = .ok (.iload_n 1, 1) := dk_27 (dk_at dksX0_soon_0 3 rfl rfl)
theorem dX0_soon_4 : decode cX0_soon 4 = .ok (.iconst 0, 1) := dk_3 (dk_at dksX0_soon_0 4 rfl rfl)
theorem dX0_soon_5 : decode cX0_soon 5 = .ok (.iconst 0, 1) := dk_3 (dk_at dksX0_soon_0 5 rfl rfl)
theorem dX0_soon_6 : decode cX0_soon 6 = .ok (.invokevirtual 484, 3) := dk_182 1 228 (dk_at dksX0_soon_0 6 rfl rfl)
theorem dX0_soon_9 : decode cX0_soon 9 = .ok (.ireturn, 1) := dk_172 (dk_at dksX0_soon_0 9 rfl rfl)
abbrev cX0_evening : ByteArray := prog_1_method_88_code
def yX0_evening : MethodName := ⟨RX0, "evening", "(III)I"⟩
def dkwX0_evening_0 : List UInt8 := [42, 16, 21, 27, 28, 29, 182, 1, 241, 172]
abbrev dktX0_evening_0 : List UInt8 := dkwX0_evening_0 ++ []
theorem dksX0_evening_0 : cX0_evening.data.toList.drop 0 = dktX0_evening_0 := by decide +kernel
theorem dX0_evening_0 : decode cX0_evening 0 = .ok (.aload_n 0, 1) := dk_42 (dk_at dksX0_evening_0 0 rfl rfl)
theorem dX0_evening_1 : decode cX0_evening 1 = .ok (.bipush 21, 2) := dk_16 21 (dk_at dksX0_evening_0 1 rfl rfl)
theorem dX0_evening_3 : decode cX0_evening 3 = .ok (.iload_n 1, 1) := dk_27 (dk_at dksX0_evening_0 3 rfl rfl)
theorem dX0_evening_4 : decode cX0_evening 4 = .ok (.iload_n 2, 1) := dk_28 (dk_at dksX0_evening_0 4 rfl rfl)
theorem dX0_evening_5 : decode cX0_evening 5 = .ok (.iload_n 3, 1) := dk_29 (dk_at dksX0_evening_0 5 rfl rfl)
theorem dX0_evening_6 : decode cX0_evening 6 = .ok (.invokevirtual 497, 3) := dk_182 1 241 (dk_at dksX0_evening_0 6 rfl rfl)
theorem dX0_evening_9 : decode cX0_evening 9 = .ok (.ireturn, 1) := dk_172 (dk_at dksX0_evening_0 9 rfl rfl)
abbrev cX0_actFar : ByteArray := prog_1_method_37_code
def yX0_actFar : MethodName := ⟨RX0, "actFar", "(IIII)I"⟩
def dkwX0_actFar_1 : List UInt8 := [100, 172]
abbrev dktX0_actFar_1 : List UInt8 := dkwX0_actFar_1 ++ []
def dkwX0_actFar_0 : List UInt8 := [42, 27, 28, 29, 21, 4, 182, 1, 84, 172, 58, 5, 19, 1, 95, 42, 25, 5, 182, 1, 89, 182, 1, 92]
abbrev dktX0_actFar_0 : List UInt8 := dkwX0_actFar_0 ++ dktX0_actFar_1
theorem dksX0_actFar_0 : cX0_actFar.data.toList.drop 0 = dktX0_actFar_0 := by decide +kernel
theorem dksX0_actFar_1 : cX0_actFar.data.toList.drop 24 = dktX0_actFar_1 := dk_seg dksX0_actFar_0 24 rfl rfl
theorem dX0_actFar_0 : decode cX0_actFar 0 = .ok (.aload_n 0, 1) := dk_42 (dk_at dksX0_actFar_0 0 rfl rfl)
theorem dX0_actFar_1 : decode cX0_actFar 1 = .ok (.iload_n 1, 1) := dk_27 (dk_at dksX0_actFar_0 1 rfl rfl)
theorem dX0_actFar_2 : decode cX0_actFar 2 = .ok (.iload_n 2, 1) := dk_28 (dk_at dksX0_actFar_0 2 rfl rfl)
theorem dX0_actFar_3 : decode cX0_actFar 3 = .ok (.iload_n 3, 1) := dk_29 (dk_at dksX0_actFar_0 3 rfl rfl)
theorem dX0_actFar_4 : decode cX0_actFar 4 = .ok (.iload 4, 2) := dk_21 4 (dk_at dksX0_actFar_0 4 rfl rfl)
theorem dX0_actFar_6 : decode cX0_actFar 6 = .ok (.invokevirtual 340, 3) := dk_182 1 84 (dk_at dksX0_actFar_0 6 rfl rfl)
theorem dX0_actFar_9 : decode cX0_actFar 9 = .ok (.ireturn, 1) := dk_172 (dk_at dksX0_actFar_0 9 rfl rfl)
theorem dX0_actFar_10 : decode cX0_actFar 10 = .ok (.astore 5, 2) := dk_58 5 (dk_at dksX0_actFar_0 10 rfl rfl)
theorem dX0_actFar_12 : decode cX0_actFar 12 = .ok (.ldc_w 351, 3) := dk_19 1 95 (dk_at dksX0_actFar_0 12 rfl rfl)
theorem dX0_actFar_15 : decode cX0_actFar 15 = .ok (.aload_n 0, 1) := dk_42 (dk_at dksX0_actFar_0 15 rfl rfl)
theorem dX0_actFar_16 : decode cX0_actFar 16 = .ok (.aload 5, 2) := dk_25 5 (dk_at dksX0_actFar_0 16 rfl rfl)
theorem dX0_actFar_18 : decode cX0_actFar 18 = .ok (.invokevirtual 345, 3) := dk_182 1 89 (dk_at dksX0_actFar_0 18 rfl rfl)
theorem dX0_actFar_21 : decode cX0_actFar 21 = .ok (.invokevirtual 348, 3) := dk_182 1 92 (dk_at dksX0_actFar_0 21 rfl rfl)
theorem dX0_actFar_24 : decode cX0_actFar 24 = .ok (.isub, 1) := dk_100 (dk_at dksX0_actFar_1 0 rfl rfl)
theorem dX0_actFar_25 : decode cX0_actFar 25 = .ok (.ireturn, 1) := dk_172 (dk_at dksX0_actFar_1 1 rfl rfl)
abbrev cX0_row : ByteArray := prog_1_method_89_code
def yX0_row : MethodName := ⟨RX0, "row", "(I)I"⟩
def dkwX0_row_0 : List UInt8 := [42, 16, 22, 27, 3, 3, 182, 1, 228, 172]
abbrev dktX0_row_0 : List UInt8 := dkwX0_row_0 ++ []
theorem dksX0_row_0 : cX0_row.data.toList.drop 0 = dktX0_row_0 := by decide +kernel
theorem dX0_row_0 : decode cX0_row 0 = .ok (.aload_n 0, 1) := dk_42 (dk_at dksX0_row_0 0 rfl rfl)
theorem dX0_row_1 : decode cX0_row 1 = .ok (.bipush 22, 2) := dk_16 22 (dk_at dksX0_row_0 1 rfl rfl)
theorem dX0_row_3 : decode cX0_row 3 = .ok (.iload_n 1, 1) := dk_27 (dk_at dksX0_row_0 3 rfl rfl)
theorem dX0_row_4 : decode cX0_row 4 = .ok (.iconst 0, 1) := dk_3 (dk_at dksX0_row_0 4 rfl rfl)
theorem dX0_row_5 : decode cX0_row 5 = .ok (.iconst 0, 1) := dk_3 (dk_at dksX0_row_0 5 rfl rfl)
theorem dX0_row_6 : decode cX0_row 6 = .ok (.invokevirtual 484, 3) := dk_182 1 228 (dk_at dksX0_row_0 6 rfl rfl)
theorem dX0_row_9 : decode cX0_row 9 = .ok (.ireturn, 1) := dk_172 (dk_at dksX0_row_0 9 rfl rfl)
abbrev cX0_judge : ByteArray := prog_1_method_90_code
def yX0_judge : MethodName := ⟨RX0, "judge", "(I)I"⟩
def dkwX0_judge_0 : List UInt8 := [42, 16, 23, 27, 3, 3, 182, 1, 228, 172]
abbrev dktX0_judge_0 : List UInt8 := dkwX0_judge_0 ++ []
theorem dksX0_judge_0 : cX0_judge.data.toList.drop 0 = dktX0_judge_0 := by decide +kernel
theorem dX0_judge_0 : decode cX0_judge 0 = .ok (.aload_n 0, 1) := dk_42 (dk_at dksX0_judge_0 0 rfl rfl)
theorem dX0_judge_1 : decode cX0_judge 1 = .ok (.bipush 23, 2) := dk_16 23 (dk_at dksX0_judge_0 1 rfl rfl)
theorem dX0_judge_3 : decode cX0_judge 3 = .ok (.iload_n 1, 1) := dk_27 (dk_at dksX0_judge_0 3 rfl rfl)
theorem dX0_judge_4 : decode cX0_judge 4 = .ok (.iconst 0, 1) := dk_3 (dk_at dksX0_judge_0 4 rfl rfl)
theorem dX0_judge_5 : decode cX0_judge 5 = .ok (.iconst 0, 1) := dk_3 (dk_at dksX0_judge_0 5 rfl rfl)
theorem dX0_judge_6 : decode cX0_judge 6 = .ok (.invokevirtual 484, 3) := dk_182 1 228 (dk_at dksX0_judge_0 6 rfl rfl)
theorem dX0_judge_9 : decode cX0_judge 9 = .ok (.ireturn, 1) := dk_172 (dk_at dksX0_judge_0 9 rfl rfl)
abbrev cX0_image : ByteArray := prog_1_method_91_code
def yX0_image : MethodName := ⟨RX0, "image", "()I"⟩
def dkwX0_image_0 : List UInt8 := [42, 16, 24, 3, 3, 3, 182, 1, 228, 172]
abbrev dktX0_image_0 : List UInt8 := dkwX0_image_0 ++ []
theorem dksX0_image_0 : cX0_image.data.toList.drop 0 = dktX0_image_0 := by decide +kernel
theorem dX0_image_0 : decode cX0_image 0 = .ok (.aload_n 0, 1) := dk_42 (dk_at dksX0_image_0 0 rfl rfl)
theorem dX0_image_1 : decode cX0_image 1 = .ok (.bipush 24, 2) := dk_16 24 (dk_at dksX0_image_0 1 rfl rfl)
theorem dX0_image_3 : decode cX0_image 3 = .ok (.iconst 0, 1) := dk_3 (dk_at dksX0_image_0 3 rfl rfl)
theorem dX0_image_4 : decode cX0_image 4 = .ok (.iconst 0, 1) := dk_3 (dk_at dksX0_image_0 4 rfl rfl)
theorem dX0_image_5 : decode cX0_image 5 = .ok (.iconst 0, 1) := dk_3 (dk_at dksX0_image_0 5 rfl rfl)
theorem dX0_image_6 : decode cX0_image 6 = .ok (.invokevirtual 484, 3) := dk_182 1 228 (dk_at dksX0_image_0 6 rfl rfl)
theorem dX0_image_9 : decode cX0_image 9 = .ok (.ireturn, 1) := dk_172 (dk_at dksX0_image_0 9 rfl rfl)
abbrev cX0_on : ByteArray := prog_1_method_92_code
def yX0_on : MethodName := ⟨RX0, "on", "()I"⟩
def dkwX0_on_0 : List UInt8 := [42, 16, 25, 3, 3, 3, 182, 1, 228, 172]
abbrev dktX0_on_0 : List UInt8 := dkwX0_on_0 ++ []
theorem dksX0_on_0 : cX0_on.data.toList.drop 0 = dktX0_on_0 := by decide +kernel
theorem dX0_on_0 : decode cX0_on 0 = .ok (.aload_n 0, 1) := dk_42 (dk_at dksX0_on_0 0 rfl rfl)
theorem dX0_on_1 : decode cX0_on 1 = .ok (.bipush 25, 2) := dk_16 25 (dk_at dksX0_on_0 1 rfl rfl)
theorem dX0_on_3 : decode cX0_on 3 = .ok (.iconst 0, 1) := dk_3 (dk_at dksX0_on_0 3 rfl rfl)
theorem dX0_on_4 : decode cX0_on 4 = .ok (.iconst 0, 1) := dk_3 (dk_at dksX0_on_0 4 rfl rfl)
theorem dX0_on_5 : decode cX0_on 5 = .ok (.iconst 0, 1) := dk_3 (dk_at dksX0_on_0 5 rfl rfl)
theorem dX0_on_6 : decode cX0_on 6 = .ok (.invokevirtual 484, 3) := dk_182 1 228 (dk_at dksX0_on_0 6 rfl rfl)
theorem dX0_on_9 : decode cX0_on 9 = .ok (.ireturn, 1) := dk_172 (dk_at dksX0_on_0 9 rfl rfl)
abbrev cX0_count : ByteArray := prog_1_method_93_code
def yX0_count : MethodName := ⟨RX0, "count", "(I)I"⟩
def dkwX0_count_6 : List UInt8 := [167, 0, 5, 16, 247, 172]
abbrev dktX0_count_6 : List UInt8 := dkwX0_count_6 ++ []
def dkwX0_count_5 : List UInt8 := [27, 133, 20, 1, 244, 20, 1, 246, 184, 0, 13, 153, 0, 15, 42, 180, 0, 85, 27, 16, 10, 100, 46]
abbrev dktX0_count_5 : List UInt8 := dkwX0_count_5 ++ dktX0_count_6
def dkwX0_count_4 : List UInt8 := [61, 132, 3, 1, 167, 255, 223, 28, 172, 42, 180, 1, 15, 172, 42, 180, 1, 61, 172, 42, 180, 0, 116, 172]
abbrev dktX0_count_4 : List UInt8 := dkwX0_count_4 ++ dktX0_count_5
def dkwX0_count_3 : List UInt8 := [180, 0, 226, 162, 0, 28, 28, 42, 180, 0, 55, 29, 182, 0, 229, 153, 0, 7, 4, 167, 0, 4, 3, 96]
abbrev dktX0_count_3 : List UInt8 := dkwX0_count_3 ++ dktX0_count_4
def dkwX0_count_2 : List UInt8 := [42, 180, 0, 55, 180, 0, 226, 172, 42, 180, 0, 136, 172, 3, 61, 3, 62, 29, 42, 180, 0, 55]
abbrev dktX0_count_2 : List UInt8 := dkwX0_count_2 ++ dktX0_count_3
def dkwX0_count_1 : List UInt8 := [170, 0, 0, 0, 0, 0, 109, 0, 0, 0, 0, 0, 0, 0, 5, 0, 0, 0, 39, 0, 0, 0, 47, 0, 0, 0, 52, 0, 0, 0, 94, 0, 0, 0, 99, 0, 0, 0, 104]
abbrev dktX0_count_1 : List UInt8 := dkwX0_count_1 ++ dktX0_count_2
def dkwX0_count_0 : List UInt8 := [27]
abbrev dktX0_count_0 : List UInt8 := dkwX0_count_0 ++ dktX0_count_1
theorem dksX0_count_0 : cX0_count.data.toList.drop 0 = dktX0_count_0 := by decide +kernel
theorem dksX0_count_1 : cX0_count.data.toList.drop 1 = dktX0_count_1 := dk_seg dksX0_count_0 1 rfl rfl
theorem dksX0_count_2 : cX0_count.data.toList.drop 40 = dktX0_count_2 := dk_seg dksX0_count_1 39 rfl rfl
theorem dksX0_count_3 : cX0_count.data.toList.drop 62 = dktX0_count_3 := dk_seg dksX0_count_2 22 rfl rfl
theorem dksX0_count_4 : cX0_count.data.toList.drop 86 = dktX0_count_4 := dk_seg dksX0_count_3 24 rfl rfl
theorem dksX0_count_5 : cX0_count.data.toList.drop 110 = dktX0_count_5 := dk_seg dksX0_count_4 24 rfl rfl
theorem dksX0_count_6 : cX0_count.data.toList.drop 133 = dktX0_count_6 := dk_seg dksX0_count_5 23 rfl rfl
theorem dX0_count_0 : decode cX0_count 0 = .ok (.iload_n 1, 1) := dk_27 (dk_at dksX0_count_0 0 rfl rfl)
theorem dX0_count_1 : decode cX0_count 1 = .ok (.tableswitch 109 0 5 #[39, 47, 52, 94, 99, 104], 39) := by decide +kernel
theorem dX0_count_40 : decode cX0_count 40 = .ok (.aload_n 0, 1) := dk_42 (dk_at dksX0_count_2 0 rfl rfl)
theorem dX0_count_41 : decode cX0_count 41 = .ok (.getfield 55, 3) := dk_180 0 55 (dk_at dksX0_count_2 1 rfl rfl)
theorem dX0_count_44 : decode cX0_count 44 = .ok (.getfield 226, 3) := dk_180 0 226 (dk_at dksX0_count_2 4 rfl rfl)
theorem dX0_count_47 : decode cX0_count 47 = .ok (.ireturn, 1) := dk_172 (dk_at dksX0_count_2 7 rfl rfl)
theorem dX0_count_48 : decode cX0_count 48 = .ok (.aload_n 0, 1) := dk_42 (dk_at dksX0_count_2 8 rfl rfl)
theorem dX0_count_49 : decode cX0_count 49 = .ok (.getfield 136, 3) := dk_180 0 136 (dk_at dksX0_count_2 9 rfl rfl)
theorem dX0_count_52 : decode cX0_count 52 = .ok (.ireturn, 1) := dk_172 (dk_at dksX0_count_2 12 rfl rfl)
theorem dX0_count_53 : decode cX0_count 53 = .ok (.iconst 0, 1) := dk_3 (dk_at dksX0_count_2 13 rfl rfl)
theorem dX0_count_54 : decode cX0_count 54 = .ok (.istore_n 2, 1) := dk_61 (dk_at dksX0_count_2 14 rfl rfl)
theorem dX0_count_55 : decode cX0_count 55 = .ok (.iconst 0, 1) := dk_3 (dk_at dksX0_count_2 15 rfl rfl)
theorem dX0_count_56 : decode cX0_count 56 = .ok (.istore_n 3, 1) := dk_62 (dk_at dksX0_count_2 16 rfl rfl)
theorem dX0_count_57 : decode cX0_count 57 = .ok (.iload_n 3, 1) := dk_29 (dk_at dksX0_count_2 17 rfl rfl)
theorem dX0_count_58 : decode cX0_count 58 = .ok (.aload_n 0, 1) := dk_42 (dk_at dksX0_count_2 18 rfl rfl)
theorem dX0_count_59 : decode cX0_count 59 = .ok (.getfield 55, 3) := dk_180 0 55 (dk_at dksX0_count_2 19 rfl rfl)
theorem dX0_count_62 : decode cX0_count 62 = .ok (.getfield 226, 3) := dk_180 0 226 (dk_at dksX0_count_3 0 rfl rfl)
theorem dX0_count_65 : decode cX0_count 65 = .ok (.if_icmp .ge 28, 3) := dk_162 0 28 (dk_at dksX0_count_3 3 rfl rfl)
theorem dX0_count_68 : decode cX0_count 68 = .ok (.iload_n 2, 1) := dk_28 (dk_at dksX0_count_3 6 rfl rfl)
theorem dX0_count_69 : decode cX0_count 69 = .ok (.aload_n 0, 1) := dk_42 (dk_at dksX0_count_3 7 rfl rfl)
theorem dX0_count_70 : decode cX0_count 70 = .ok (.getfield 55, 3) := dk_180 0 55 (dk_at dksX0_count_3 8 rfl rfl)
theorem dX0_count_73 : decode cX0_count 73 = .ok (.iload_n 3, 1) := dk_29 (dk_at dksX0_count_3 11 rfl rfl)
theorem dX0_count_74 : decode cX0_count 74 = .ok (.invokevirtual 229, 3) := dk_182 0 229 (dk_at dksX0_count_3 12 rfl rfl)
theorem dX0_count_77 : decode cX0_count 77 = .ok (.ifCond .eq 7, 3) := dk_153 0 7 (dk_at dksX0_count_3 15 rfl rfl)
theorem dX0_count_80 : decode cX0_count 80 = .ok (.iconst 1, 1) := dk_4 (dk_at dksX0_count_3 18 rfl rfl)
theorem dX0_count_81 : decode cX0_count 81 = .ok (.goto 4, 3) := dk_167 0 4 (dk_at dksX0_count_3 19 rfl rfl)
theorem dX0_count_84 : decode cX0_count 84 = .ok (.iconst 0, 1) := dk_3 (dk_at dksX0_count_3 22 rfl rfl)
theorem dX0_count_85 : decode cX0_count 85 = .ok (.iadd, 1) := dk_96 (dk_at dksX0_count_3 23 rfl rfl)
theorem dX0_count_86 : decode cX0_count 86 = .ok (.istore_n 2, 1) := dk_61 (dk_at dksX0_count_4 0 rfl rfl)
theorem dX0_count_87 : decode cX0_count 87 = .ok (.iinc 3 1, 3) := dk_132 3 1 (dk_at dksX0_count_4 1 rfl rfl)
theorem dX0_count_90 : decode cX0_count 90 = .ok (.goto (-33), 3) := dk_167 255 223 (dk_at dksX0_count_4 4 rfl rfl)
theorem dX0_count_93 : decode cX0_count 93 = .ok (.iload_n 2, 1) := dk_28 (dk_at dksX0_count_4 7 rfl rfl)
theorem dX0_count_94 : decode cX0_count 94 = .ok (.ireturn, 1) := dk_172 (dk_at dksX0_count_4 8 rfl rfl)
theorem dX0_count_95 : decode cX0_count 95 = .ok (.aload_n 0, 1) := dk_42 (dk_at dksX0_count_4 9 rfl rfl)
theorem dX0_count_96 : decode cX0_count 96 = .ok (.getfield 271, 3) := dk_180 1 15 (dk_at dksX0_count_4 10 rfl rfl)
theorem dX0_count_99 : decode cX0_count 99 = .ok (.ireturn, 1) := dk_172 (dk_at dksX0_count_4 13 rfl rfl)
theorem dX0_count_100 : decode cX0_count 100 = .ok (.aload_n 0, 1) := dk_42 (dk_at dksX0_count_4 14 rfl rfl)
theorem dX0_count_101 : decode cX0_count 101 = .ok (.getfield 317, 3) := dk_180 1 61 (dk_at dksX0_count_4 15 rfl rfl)
theorem dX0_count_104 : decode cX0_count 104 = .ok (.ireturn, 1) := dk_172 (dk_at dksX0_count_4 18 rfl rfl)
theorem dX0_count_105 : decode cX0_count 105 = .ok (.aload_n 0, 1) := dk_42 (dk_at dksX0_count_4 19 rfl rfl)
theorem dX0_count_106 : decode cX0_count 106 = .ok (.getfield 116, 3) := dk_180 0 116 (dk_at dksX0_count_4 20 rfl rfl)
theorem dX0_count_109 : decode cX0_count 109 = .ok (.ireturn, 1) := dk_172 (dk_at dksX0_count_4 23 rfl rfl)
theorem dX0_count_110 : decode cX0_count 110 = .ok (.iload_n 1, 1) := dk_27 (dk_at dksX0_count_5 0 rfl rfl)
theorem dX0_count_111 : decode cX0_count 111 = .ok (.i2l, 1) := dk_133 (dk_at dksX0_count_5 1 rfl rfl)
theorem dX0_count_112 : decode cX0_count 112 = .ok (.ldc2_w 500, 3) := dk_20 1 244 (dk_at dksX0_count_5 2 rfl rfl)
theorem dX0_count_115 : decode cX0_count 115 = .ok (.ldc2_w 502, 3) := dk_20 1 246 (dk_at dksX0_count_5 5 rfl rfl)
theorem dX0_count_118 : decode cX0_count 118 = .ok (.invokestatic 13, 3) := dk_184 0 13 (dk_at dksX0_count_5 8 rfl rfl)
theorem dX0_count_121 : decode cX0_count 121 = .ok (.ifCond .eq 15, 3) := dk_153 0 15 (dk_at dksX0_count_5 11 rfl rfl)
theorem dX0_count_124 : decode cX0_count 124 = .ok (.aload_n 0, 1) := dk_42 (dk_at dksX0_count_5 14 rfl rfl)
theorem dX0_count_125 : decode cX0_count 125 = .ok (.getfield 85, 3) := dk_180 0 85 (dk_at dksX0_count_5 15 rfl rfl)
theorem dX0_count_128 : decode cX0_count 128 = .ok (.iload_n 1, 1) := dk_27 (dk_at dksX0_count_5 18 rfl rfl)
theorem dX0_count_129 : decode cX0_count 129 = .ok (.bipush 10, 2) := dk_16 10 (dk_at dksX0_count_5 19 rfl rfl)
theorem dX0_count_131 : decode cX0_count 131 = .ok (.isub, 1) := dk_100 (dk_at dksX0_count_5 21 rfl rfl)
theorem dX0_count_132 : decode cX0_count 132 = .ok (.iaload, 1) := dk_46 (dk_at dksX0_count_5 22 rfl rfl)
theorem dX0_count_133 : decode cX0_count 133 = .ok (.goto 5, 3) := dk_167 0 5 (dk_at dksX0_count_6 0 rfl rfl)
theorem dX0_count_136 : decode cX0_count 136 = .ok (.bipush (-9), 2) := dk_16 247 (dk_at dksX0_count_6 3 rfl rfl)
theorem dX0_count_138 : decode cX0_count 138 = .ok (.ireturn, 1) := dk_172 (dk_at dksX0_count_6 5 rfl rfl)
theorem q104 : (Jvm.Cond.initialized "BeforeTheEnd") ∈ lw_all := lw_g (lw_at lw_m1 1 rfl) rfl
theorem q132 : (Jvm.Cond.instantiable "BeforeTheEnd" (31 : Nat)) ∈ lw_all := lw_g (lw_at lw_m1 29 rfl) rfl
theorem q134 : (Jvm.Cond.instanceMethod ({ cls := "BeforeTheEnd", name := "<init>", desc := "()V" } : Jvm.MethodName)) ∈ lw_all := lw_g (lw_at lw_m1 31 rfl) rfl
theorem q135 : (Jvm.Cond.code ({ cls := "BeforeTheEnd", name := "<init>", desc := "()V" } : Jvm.MethodName) prog_1_method_8_code (1 : Nat) (Option.none : Option Jvm.ClassFile.FieldType)) ∈ lw_all := lw_g (lw_at lw_m1 32 rfl) rfl
theorem q136 : (Jvm.Cond.methodLink "BeforeTheEnd" (47 : Nat) ({ cls := "java/lang/Object", name := "<init>", desc := "()V" } : Jvm.MethodName)) ∈ lw_all := lw_g (lw_at lw_m1 33 rfl) rfl
theorem q139 : (Jvm.Cond.classLink "BeforeTheEnd" (52 : Nat) "BeforeTheEnd$Tree") ∈ lw_all := lw_g (lw_at lw_m1 36 rfl) rfl
theorem q141 : (Jvm.Cond.methodLinkNest "BeforeTheEnd" (54 : Nat) ({ cls := "BeforeTheEnd$Tree", name := "<init>", desc := "()V" } : Jvm.MethodName) "BeforeTheEnd") ∈ lw_tbl := lw_at lw_m1 38 rfl
theorem q147 : (Jvm.Cond.fieldLinkNest "BeforeTheEnd" (226 : Nat) "BeforeTheEnd$Tree" "many" "I" "BeforeTheEnd") ∈ lw_tbl := lw_at lw_m1 44 rfl
theorem q149 : (Jvm.Cond.fieldLinkNest "BeforeTheEnd" (248 : Nat) "BeforeTheEnd$Tree" "parents" "[I" "BeforeTheEnd") ∈ lw_tbl := lw_at lw_m1 46 rfl
theorem q151 : (Jvm.Cond.fieldLinkNest "BeforeTheEnd" (310 : Nat) "BeforeTheEnd$Tree" "weights" "[I" "BeforeTheEnd") ∈ lw_tbl := lw_at lw_m1 48 rfl
theorem q153 : (Jvm.Cond.fieldLinkNest "BeforeTheEnd" (216 : Nat) "BeforeTheEnd$Tree" "answers" "[I" "BeforeTheEnd") ∈ lw_tbl := lw_at lw_m1 50 rfl
theorem q155 : (Jvm.Cond.fieldLinkNest "BeforeTheEnd" (206 : Nat) "BeforeTheEnd$Tree" "lengths" "[I" "BeforeTheEnd") ∈ lw_tbl := lw_at lw_m1 52 rfl
theorem q157 : (Jvm.Cond.fieldLinkNest "BeforeTheEnd" (365 : Nat) "BeforeTheEnd$Tree" "nexts" "[I" "BeforeTheEnd") ∈ lw_tbl := lw_at lw_m1 54 rfl
theorem q182 : (Jvm.Cond.classLink "BeforeTheEnd" (59 : Nat) "BeforeTheEnd$Player") ∈ lw_all := lw_g (lw_at lw_m1 79 rfl) rfl
theorem q185 : (Jvm.Cond.fieldLink "BeforeTheEnd" (169 : Nat) "BeforeTheEnd" "version" "I") ∈ lw_all := lw_g (lw_at lw_m1 82 rfl) rfl
theorem q188 : (Jvm.Cond.fieldLink "BeforeTheEnd" (55 : Nat) "BeforeTheEnd" "tree" "LBeforeTheEnd$Tree;") ∈ lw_all := lw_g (lw_at lw_m1 85 rfl) rfl
theorem q189 : (Jvm.Cond.fieldLink "BeforeTheEnd" (61 : Nat) "BeforeTheEnd" "players" "[LBeforeTheEnd$Player;") ∈ lw_all := lw_g (lw_at lw_m1 86 rfl) rfl
theorem q190 : (Jvm.Cond.fieldLink "BeforeTheEnd" (136 : Nat) "BeforeTheEnd" "playerMany" "I") ∈ lw_all := lw_g (lw_at lw_m1 87 rfl) rfl
theorem q191 : (Jvm.Cond.fieldLink "BeforeTheEnd" (65 : Nat) "BeforeTheEnd" "points" "[I") ∈ lw_all := lw_g (lw_at lw_m1 88 rfl) rfl
theorem q192 : (Jvm.Cond.fieldLink "BeforeTheEnd" (69 : Nat) "BeforeTheEnd" "facts" "[I") ∈ lw_all := lw_g (lw_at lw_m1 89 rfl) rfl
theorem q193 : (Jvm.Cond.fieldLink "BeforeTheEnd" (271 : Nat) "BeforeTheEnd" "factMany" "I") ∈ lw_all := lw_g (lw_at lw_m1 90 rfl) rfl
theorem q194 : (Jvm.Cond.fieldLink "BeforeTheEnd" (320 : Nat) "BeforeTheEnd" "imagedTree" "LBeforeTheEnd$Tree;") ∈ lw_all := lw_g (lw_at lw_m1 91 rfl) rfl
theorem q195 : (Jvm.Cond.fieldLink "BeforeTheEnd" (72 : Nat) "BeforeTheEnd" "imagedPlayers" "[LBeforeTheEnd$Player;") ∈ lw_all := lw_g (lw_at lw_m1 92 rfl) rfl
theorem q196 : (Jvm.Cond.fieldLink "BeforeTheEnd" (323 : Nat) "BeforeTheEnd" "imagedPlayerMany" "I") ∈ lw_all := lw_g (lw_at lw_m1 93 rfl) rfl
theorem q197 : (Jvm.Cond.fieldLink "BeforeTheEnd" (75 : Nat) "BeforeTheEnd" "imaged" "[I") ∈ lw_all := lw_g (lw_at lw_m1 94 rfl) rfl
theorem q198 : (Jvm.Cond.fieldLink "BeforeTheEnd" (78 : Nat) "BeforeTheEnd" "row" "[B") ∈ lw_all := lw_g (lw_at lw_m1 95 rfl) rfl
theorem q199 : (Jvm.Cond.fieldLink "BeforeTheEnd" (317 : Nat) "BeforeTheEnd" "rowMany" "I") ∈ lw_all := lw_g (lw_at lw_m1 96 rfl) rfl
theorem q201 : (Jvm.Cond.fieldLink "BeforeTheEnd" (82 : Nat) "BeforeTheEnd" "tape" "[B") ∈ lw_all := lw_g (lw_at lw_m1 98 rfl) rfl
theorem q203 : (Jvm.Cond.fieldLink "BeforeTheEnd" (116 : Nat) "BeforeTheEnd" "tapeMany" "I") ∈ lw_all := lw_g (lw_at lw_m1 100 rfl) rfl
theorem q204 : (Jvm.Cond.fieldLink "BeforeTheEnd" (85 : Nat) "BeforeTheEnd" "refused" "[I") ∈ lw_all := lw_g (lw_at lw_m1 101 rfl) rfl
theorem q205 : (Jvm.Cond.fieldLink "BeforeTheEnd" (197 : Nat) "BeforeTheEnd" "winner" "I") ∈ lw_all := lw_g (lw_at lw_m1 102 rfl) rfl
theorem q206 : (Jvm.Cond.fieldLink "BeforeTheEnd" (200 : Nat) "BeforeTheEnd" "firstWord" "I") ∈ lw_all := lw_g (lw_at lw_m1 103 rfl) rfl
theorem q207 : (Jvm.Cond.fieldLink "BeforeTheEnd" (203 : Nat) "BeforeTheEnd" "firstPlayer" "I") ∈ lw_all := lw_g (lw_at lw_m1 104 rfl) rfl
theorem q208 : (Jvm.Cond.fieldLink "BeforeTheEnd" (187 : Nat) "BeforeTheEnd" "wrongs" "I") ∈ lw_all := lw_g (lw_at lw_m1 105 rfl) rfl
theorem q209 : (Jvm.Cond.fieldLink "BeforeTheEnd" (88 : Nat) "BeforeTheEnd" "has" "[I") ∈ lw_all := lw_g (lw_at lw_m1 106 rfl) rfl
theorem q210 : (Jvm.Cond.fieldLink "BeforeTheEnd" (91 : Nat) "BeforeTheEnd" "isOut" "[Z") ∈ lw_all := lw_g (lw_at lw_m1 107 rfl) rfl
theorem q211 : (Jvm.Cond.fieldLink "BeforeTheEnd" (95 : Nat) "BeforeTheEnd" "winUnits" "[J") ∈ lw_all := lw_g (lw_at lw_m1 108 rfl) rfl
theorem q212 : (Jvm.Cond.fieldLink "BeforeTheEnd" (99 : Nat) "BeforeTheEnd" "worthUnits" "[J") ∈ lw_all := lw_g (lw_at lw_m1 109 rfl) rfl
theorem q213 : (Jvm.Cond.fieldLink "BeforeTheEnd" (219 : Nat) "BeforeTheEnd" "nobodyUnits" "J") ∈ lw_all := lw_g (lw_at lw_m1 110 rfl) rfl
theorem q214 : (Jvm.Cond.fieldLink "BeforeTheEnd" (223 : Nat) "BeforeTheEnd" "dullUnits" "J") ∈ lw_all := lw_g (lw_at lw_m1 111 rfl) rfl
theorem q215 : (Jvm.Cond.fieldLink "BeforeTheEnd" (102 : Nat) "BeforeTheEnd" "values" "[J") ∈ lw_all := lw_g (lw_at lw_m1 112 rfl) rfl
theorem q216 : (Jvm.Cond.fieldLink "BeforeTheEnd" (105 : Nat) "BeforeTheEnd" "factOrder" "[I") ∈ lw_all := lw_g (lw_at lw_m1 113 rfl) rfl
theorem q217 : (Jvm.Cond.fieldLink "BeforeTheEnd" (108 : Nat) "BeforeTheEnd" "bestOrder" "[I") ∈ lw_all := lw_g (lw_at lw_m1 114 rfl) rfl
theorem q218 : (Jvm.Cond.fieldLink "BeforeTheEnd" (278 : Nat) "BeforeTheEnd" "bestHad" "I") ∈ lw_all := lw_g (lw_at lw_m1 115 rfl) rfl
theorem q219 : (Jvm.Cond.fieldLink "BeforeTheEnd" (297 : Nat) "BeforeTheEnd" "drawnZ" "I") ∈ lw_all := lw_g (lw_at lw_m1 116 rfl) rfl
theorem q220 : (Jvm.Cond.lays "BeforeTheEnd" "BeforeTheEnd" "version" "I") ∈ lw_all := lw_g (lw_at lw_m1 117 rfl) rfl
theorem q221 : (Jvm.Cond.soleField "BeforeTheEnd" "version") ∈ lw_all := lw_g (lw_at lw_m1 118 rfl) rfl
theorem q222 : (Jvm.Cond.lays "BeforeTheEnd" "BeforeTheEnd" "tree" "LBeforeTheEnd$Tree;") ∈ lw_all := lw_g (lw_at lw_m1 119 rfl) rfl
theorem q223 : (Jvm.Cond.soleField "BeforeTheEnd" "tree") ∈ lw_all := lw_g (lw_at lw_m1 120 rfl) rfl
theorem q224 : (Jvm.Cond.laysFinal "BeforeTheEnd" "BeforeTheEnd" "players" "[LBeforeTheEnd$Player;") ∈ lw_all := lw_g (lw_at lw_m1 121 rfl) rfl
theorem q225 : (Jvm.Cond.soleField "BeforeTheEnd" "players") ∈ lw_all := lw_g (lw_at lw_m1 122 rfl) rfl
theorem q226 : (Jvm.Cond.lays "BeforeTheEnd" "BeforeTheEnd" "playerMany" "I") ∈ lw_all := lw_g (lw_at lw_m1 123 rfl) rfl
theorem q227 : (Jvm.Cond.soleField "BeforeTheEnd" "playerMany") ∈ lw_all := lw_g (lw_at lw_m1 124 rfl) rfl
theorem q228 : (Jvm.Cond.laysFinal "BeforeTheEnd" "BeforeTheEnd" "points" "[I") ∈ lw_all := lw_g (lw_at lw_m1 125 rfl) rfl
theorem q229 : (Jvm.Cond.soleField "BeforeTheEnd" "points") ∈ lw_all := lw_g (lw_at lw_m1 126 rfl) rfl
theorem q230 : (Jvm.Cond.laysFinal "BeforeTheEnd" "BeforeTheEnd" "facts" "[I") ∈ lw_all := lw_g (lw_at lw_m1 127 rfl) rfl
theorem q231 : (Jvm.Cond.soleField "BeforeTheEnd" "facts") ∈ lw_all := lw_g (lw_at lw_m1 128 rfl) rfl
theorem q232 : (Jvm.Cond.lays "BeforeTheEnd" "BeforeTheEnd" "factMany" "I") ∈ lw_all := lw_g (lw_at lw_m1 129 rfl) rfl
theorem q233 : (Jvm.Cond.soleField "BeforeTheEnd" "factMany") ∈ lw_all := lw_g (lw_at lw_m1 130 rfl) rfl
theorem q234 : (Jvm.Cond.lays "BeforeTheEnd" "BeforeTheEnd" "imagedTree" "LBeforeTheEnd$Tree;") ∈ lw_all := lw_g (lw_at lw_m1 131 rfl) rfl
theorem q235 : (Jvm.Cond.soleField "BeforeTheEnd" "imagedTree") ∈ lw_all := lw_g (lw_at lw_m1 132 rfl) rfl
theorem q236 : (Jvm.Cond.laysFinal "BeforeTheEnd" "BeforeTheEnd" "imagedPlayers" "[LBeforeTheEnd$Player;") ∈ lw_all := lw_g (lw_at lw_m1 133 rfl) rfl
theorem q237 : (Jvm.Cond.soleField "BeforeTheEnd" "imagedPlayers") ∈ lw_all := lw_g (lw_at lw_m1 134 rfl) rfl
theorem q238 : (Jvm.Cond.lays "BeforeTheEnd" "BeforeTheEnd" "imagedPlayerMany" "I") ∈ lw_all := lw_g (lw_at lw_m1 135 rfl) rfl
theorem q239 : (Jvm.Cond.soleField "BeforeTheEnd" "imagedPlayerMany") ∈ lw_all := lw_g (lw_at lw_m1 136 rfl) rfl
theorem q240 : (Jvm.Cond.laysFinal "BeforeTheEnd" "BeforeTheEnd" "imaged" "[I") ∈ lw_all := lw_g (lw_at lw_m1 137 rfl) rfl
theorem q241 : (Jvm.Cond.soleField "BeforeTheEnd" "imaged") ∈ lw_all := lw_g (lw_at lw_m1 138 rfl) rfl
theorem q242 : (Jvm.Cond.laysFinal "BeforeTheEnd" "BeforeTheEnd" "row" "[B") ∈ lw_all := lw_g (lw_at lw_m1 139 rfl) rfl
theorem q243 : (Jvm.Cond.soleField "BeforeTheEnd" "row") ∈ lw_all := lw_g (lw_at lw_m1 140 rfl) rfl
theorem q244 : (Jvm.Cond.lays "BeforeTheEnd" "BeforeTheEnd" "rowMany" "I") ∈ lw_all := lw_g (lw_at lw_m1 141 rfl) rfl
theorem q245 : (Jvm.Cond.soleField "BeforeTheEnd" "rowMany") ∈ lw_all := lw_g (lw_at lw_m1 142 rfl) rfl
theorem q246 : (Jvm.Cond.laysFinal "BeforeTheEnd" "BeforeTheEnd" "tape" "[B") ∈ lw_all := lw_g (lw_at lw_m1 143 rfl) rfl
theorem q247 : (Jvm.Cond.soleField "BeforeTheEnd" "tape") ∈ lw_all := lw_g (lw_at lw_m1 144 rfl) rfl
theorem q248 : (Jvm.Cond.lays "BeforeTheEnd" "BeforeTheEnd" "tapeMany" "I") ∈ lw_all := lw_g (lw_at lw_m1 145 rfl) rfl
theorem q249 : (Jvm.Cond.soleField "BeforeTheEnd" "tapeMany") ∈ lw_all := lw_g (lw_at lw_m1 146 rfl) rfl
theorem q250 : (Jvm.Cond.laysFinal "BeforeTheEnd" "BeforeTheEnd" "refused" "[I") ∈ lw_all := lw_g (lw_at lw_m1 147 rfl) rfl
theorem q251 : (Jvm.Cond.soleField "BeforeTheEnd" "refused") ∈ lw_all := lw_g (lw_at lw_m1 148 rfl) rfl
theorem q252 : (Jvm.Cond.lays "BeforeTheEnd" "BeforeTheEnd" "winner" "I") ∈ lw_all := lw_g (lw_at lw_m1 149 rfl) rfl
theorem q253 : (Jvm.Cond.soleField "BeforeTheEnd" "winner") ∈ lw_all := lw_g (lw_at lw_m1 150 rfl) rfl
theorem q254 : (Jvm.Cond.lays "BeforeTheEnd" "BeforeTheEnd" "firstWord" "I") ∈ lw_all := lw_g (lw_at lw_m1 151 rfl) rfl
theorem q255 : (Jvm.Cond.soleField "BeforeTheEnd" "firstWord") ∈ lw_all := lw_g (lw_at lw_m1 152 rfl) rfl
theorem q256 : (Jvm.Cond.lays "BeforeTheEnd" "BeforeTheEnd" "firstPlayer" "I") ∈ lw_all := lw_g (lw_at lw_m1 153 rfl) rfl
theorem q257 : (Jvm.Cond.soleField "BeforeTheEnd" "firstPlayer") ∈ lw_all := lw_g (lw_at lw_m1 154 rfl) rfl
theorem q258 : (Jvm.Cond.lays "BeforeTheEnd" "BeforeTheEnd" "wrongs" "I") ∈ lw_all := lw_g (lw_at lw_m1 155 rfl) rfl
theorem q259 : (Jvm.Cond.soleField "BeforeTheEnd" "wrongs") ∈ lw_all := lw_g (lw_at lw_m1 156 rfl) rfl
theorem q260 : (Jvm.Cond.laysFinal "BeforeTheEnd" "BeforeTheEnd" "has" "[I") ∈ lw_all := lw_g (lw_at lw_m1 157 rfl) rfl
theorem q261 : (Jvm.Cond.soleField "BeforeTheEnd" "has") ∈ lw_all := lw_g (lw_at lw_m1 158 rfl) rfl
theorem q262 : (Jvm.Cond.laysFinal "BeforeTheEnd" "BeforeTheEnd" "isOut" "[Z") ∈ lw_all := lw_g (lw_at lw_m1 159 rfl) rfl
theorem q263 : (Jvm.Cond.soleField "BeforeTheEnd" "isOut") ∈ lw_all := lw_g (lw_at lw_m1 160 rfl) rfl
theorem q264 : (Jvm.Cond.laysFinal "BeforeTheEnd" "BeforeTheEnd" "winUnits" "[J") ∈ lw_all := lw_g (lw_at lw_m1 161 rfl) rfl
theorem q265 : (Jvm.Cond.soleField "BeforeTheEnd" "winUnits") ∈ lw_all := lw_g (lw_at lw_m1 162 rfl) rfl
theorem q266 : (Jvm.Cond.laysFinal "BeforeTheEnd" "BeforeTheEnd" "worthUnits" "[J") ∈ lw_all := lw_g (lw_at lw_m1 163 rfl) rfl
theorem q267 : (Jvm.Cond.soleField "BeforeTheEnd" "worthUnits") ∈ lw_all := lw_g (lw_at lw_m1 164 rfl) rfl
theorem q268 : (Jvm.Cond.lays "BeforeTheEnd" "BeforeTheEnd" "nobodyUnits" "J") ∈ lw_all := lw_g (lw_at lw_m1 165 rfl) rfl
theorem q269 : (Jvm.Cond.soleField "BeforeTheEnd" "nobodyUnits") ∈ lw_all := lw_g (lw_at lw_m1 166 rfl) rfl
theorem q270 : (Jvm.Cond.lays "BeforeTheEnd" "BeforeTheEnd" "dullUnits" "J") ∈ lw_all := lw_g (lw_at lw_m1 167 rfl) rfl
theorem q271 : (Jvm.Cond.soleField "BeforeTheEnd" "dullUnits") ∈ lw_all := lw_g (lw_at lw_m1 168 rfl) rfl
theorem q272 : (Jvm.Cond.laysFinal "BeforeTheEnd" "BeforeTheEnd" "values" "[J") ∈ lw_all := lw_g (lw_at lw_m1 169 rfl) rfl
theorem q273 : (Jvm.Cond.soleField "BeforeTheEnd" "values") ∈ lw_all := lw_g (lw_at lw_m1 170 rfl) rfl
theorem q274 : (Jvm.Cond.laysFinal "BeforeTheEnd" "BeforeTheEnd" "factOrder" "[I") ∈ lw_all := lw_g (lw_at lw_m1 171 rfl) rfl
theorem q275 : (Jvm.Cond.soleField "BeforeTheEnd" "factOrder") ∈ lw_all := lw_g (lw_at lw_m1 172 rfl) rfl
theorem q276 : (Jvm.Cond.laysFinal "BeforeTheEnd" "BeforeTheEnd" "bestOrder" "[I") ∈ lw_all := lw_g (lw_at lw_m1 173 rfl) rfl
theorem q277 : (Jvm.Cond.soleField "BeforeTheEnd" "bestOrder") ∈ lw_all := lw_g (lw_at lw_m1 174 rfl) rfl
theorem q278 : (Jvm.Cond.lays "BeforeTheEnd" "BeforeTheEnd" "bestHad" "I") ∈ lw_all := lw_g (lw_at lw_m1 175 rfl) rfl
theorem q279 : (Jvm.Cond.soleField "BeforeTheEnd" "bestHad") ∈ lw_all := lw_g (lw_at lw_m1 176 rfl) rfl
theorem q280 : (Jvm.Cond.lays "BeforeTheEnd" "BeforeTheEnd" "drawnZ" "I") ∈ lw_all := lw_g (lw_at lw_m1 177 rfl) rfl
theorem q281 : (Jvm.Cond.soleField "BeforeTheEnd" "drawnZ") ∈ lw_all := lw_g (lw_at lw_m1 178 rfl) rfl
theorem q282 : (Jvm.Cond.superclass "BeforeTheEnd" "java/lang/Object") ∈ lw_all := lw_g (lw_at lw_m1 179 rfl) rfl
theorem q286 : (Jvm.Cond.instanceMethod ({ cls := "BeforeTheEnd", name := "feed", desc := "(IJ)I" } : Jvm.MethodName)) ∈ lw_all := lw_g (lw_at lw_m1 183 rfl) rfl
theorem q287 : (Jvm.Cond.selects "BeforeTheEnd" ({ cls := "BeforeTheEnd", name := "feed", desc := "(IJ)I" } : Jvm.MethodName) ({ cls := "BeforeTheEnd", name := "feed", desc := "(IJ)I" } : Jvm.MethodName)) ∈ lw_all := lw_g (lw_at lw_m1 184 rfl) rfl
theorem q288 : (Jvm.Cond.codeWith ({ cls := "BeforeTheEnd", name := "feed", desc := "(IJ)I" } : Jvm.MethodName) prog_1_method_60_code (5 : Nat) (Option.some Jvm.ClassFile.FieldType.int) [((0 : Nat), (6 : Nat), (7 : Nat), (343 : Nat))]) ∈ lw_all := lw_g (lw_at lw_m1 185 rfl) rfl
theorem q289 : (Jvm.Cond.classLink "BeforeTheEnd" (343 : Nat) "BeforeTheEnd$Refusal") ∈ lw_all := lw_g (lw_at lw_m1 186 rfl) rfl
theorem q290 : (Jvm.Cond.methodLink "BeforeTheEnd" (480 : Nat) ({ cls := "BeforeTheEnd", name := "feedIt", desc := "(IJ)I" } : Jvm.MethodName)) ∈ lw_all := lw_g (lw_at lw_m1 187 rfl) rfl
theorem q291 : (Jvm.Cond.privateMethod ({ cls := "BeforeTheEnd", name := "feedIt", desc := "(IJ)I" } : Jvm.MethodName)) ∈ lw_tbl := lw_at lw_m1 188 rfl
theorem q292 : (Jvm.Cond.instanceMethod ({ cls := "BeforeTheEnd", name := "feedIt", desc := "(IJ)I" } : Jvm.MethodName)) ∈ lw_all := lw_g (lw_at lw_m1 189 rfl) rfl
theorem q293 : (Jvm.Cond.code ({ cls := "BeforeTheEnd", name := "feedIt", desc := "(IJ)I" } : Jvm.MethodName) prog_1_method_59_code (5 : Nat) (Option.some Jvm.ClassFile.FieldType.int)) ∈ lw_all := lw_g (lw_at lw_m1 190 rfl) rfl
theorem q294 : (Jvm.Cond.methodLink "BeforeTheEnd" (9 : Nat) ({ cls := "BeforeTheEnd", name := "must", desc := "(ZI)V" } : Jvm.MethodName)) ∈ lw_all := lw_g (lw_at lw_m1 191 rfl) rfl
theorem q295 : (Jvm.Cond.static ({ cls := "BeforeTheEnd", name := "must", desc := "(ZI)V" } : Jvm.MethodName)) ∈ lw_all := lw_g (lw_at lw_m1 192 rfl) rfl
theorem q296 : (Jvm.Cond.code ({ cls := "BeforeTheEnd", name := "must", desc := "(ZI)V" } : Jvm.MethodName) prog_1_method_2_code (2 : Nat) (Option.none : Option Jvm.ClassFile.FieldType)) ∈ lw_all := lw_g (lw_at lw_m1 193 rfl) rfl
theorem q297 : (Jvm.Cond.classLink "BeforeTheEnd" (1 : Nat) "BeforeTheEnd$Refused") ∈ lw_all := lw_g (lw_at lw_m1 194 rfl) rfl
theorem q338 : (Jvm.Cond.methodLink "BeforeTheEnd" (3 : Nat) ({ cls := "BeforeTheEnd$Refused", name := "<init>", desc := "(I)V" } : Jvm.MethodName)) ∈ lw_all := lw_g (lw_at lw_m1 235 rfl) rfl
theorem q366 : (Jvm.Cond.methodLink "BeforeTheEnd" (345 : Nat) ({ cls := "BeforeTheEnd$Refusal", name := "number", desc := "()I" } : Jvm.MethodName)) ∈ lw_all := lw_g (lw_at lw_m2 23 rfl) rfl
theorem q375 : (Jvm.Cond.methodLink "BeforeTheEnd" (348 : Nat) ({ cls := "BeforeTheEnd", name := "refuse", desc := "(I)I" } : Jvm.MethodName)) ∈ lw_all := lw_g (lw_at lw_m2 32 rfl) rfl
theorem q376 : (Jvm.Cond.privateMethod ({ cls := "BeforeTheEnd", name := "refuse", desc := "(I)I" } : Jvm.MethodName)) ∈ lw_tbl := lw_at lw_m2 33 rfl
theorem q377 : (Jvm.Cond.instanceMethod ({ cls := "BeforeTheEnd", name := "refuse", desc := "(I)I" } : Jvm.MethodName)) ∈ lw_all := lw_g (lw_at lw_m2 34 rfl) rfl
theorem q378 : (Jvm.Cond.code ({ cls := "BeforeTheEnd", name := "refuse", desc := "(I)I" } : Jvm.MethodName) prog_1_method_34_code (2 : Nat) (Option.some Jvm.ClassFile.FieldType.int)) ∈ lw_all := lw_g (lw_at lw_m2 35 rfl) rfl
theorem q380 : (Jvm.Cond.instanceMethod ({ cls := "BeforeTheEnd", name := "quiz", desc := "()I" } : Jvm.MethodName)) ∈ lw_all := lw_g (lw_at lw_m2 37 rfl) rfl
theorem q381 : (Jvm.Cond.selects "BeforeTheEnd" ({ cls := "BeforeTheEnd", name := "quiz", desc := "()I" } : Jvm.MethodName) ({ cls := "BeforeTheEnd", name := "quiz", desc := "()I" } : Jvm.MethodName)) ∈ lw_all := lw_g (lw_at lw_m2 38 rfl) rfl
theorem q382 : (Jvm.Cond.code ({ cls := "BeforeTheEnd", name := "quiz", desc := "()I" } : Jvm.MethodName) prog_1_method_61_code (1 : Nat) (Option.some Jvm.ClassFile.FieldType.int)) ∈ lw_all := lw_g (lw_at lw_m2 39 rfl) rfl
theorem q383 : (Jvm.Cond.methodLink "BeforeTheEnd" (484 : Nat) ({ cls := "BeforeTheEnd", name := "act", desc := "(IIII)I" } : Jvm.MethodName)) ∈ lw_all := lw_g (lw_at lw_m2 40 rfl) rfl
theorem q384 : (Jvm.Cond.privateMethod ({ cls := "BeforeTheEnd", name := "act", desc := "(IIII)I" } : Jvm.MethodName)) ∈ lw_tbl := lw_at lw_m2 41 rfl
theorem q385 : (Jvm.Cond.instanceMethod ({ cls := "BeforeTheEnd", name := "act", desc := "(IIII)I" } : Jvm.MethodName)) ∈ lw_all := lw_g (lw_at lw_m2 42 rfl) rfl
theorem q386 : (Jvm.Cond.codeWith ({ cls := "BeforeTheEnd", name := "act", desc := "(IIII)I" } : Jvm.MethodName) prog_1_method_36_code (6 : Nat) (Option.some Jvm.ClassFile.FieldType.int) [((0 : Nat), (9 : Nat), (10 : Nat), (343 : Nat))]) ∈ lw_all := lw_g (lw_at lw_m2 43 rfl) rfl
theorem q387 : (Jvm.Cond.methodLink "BeforeTheEnd" (340 : Nat) ({ cls := "BeforeTheEnd", name := "doIt", desc := "(IIII)I" } : Jvm.MethodName)) ∈ lw_all := lw_g (lw_at lw_m2 44 rfl) rfl
theorem q388 : (Jvm.Cond.privateMethod ({ cls := "BeforeTheEnd", name := "doIt", desc := "(IIII)I" } : Jvm.MethodName)) ∈ lw_tbl := lw_at lw_m2 45 rfl
theorem q389 : (Jvm.Cond.instanceMethod ({ cls := "BeforeTheEnd", name := "doIt", desc := "(IIII)I" } : Jvm.MethodName)) ∈ lw_all := lw_g (lw_at lw_m2 46 rfl) rfl
theorem q390 : (Jvm.Cond.code ({ cls := "BeforeTheEnd", name := "doIt", desc := "(IIII)I" } : Jvm.MethodName) prog_1_method_35_code (5 : Nat) (Option.some Jvm.ClassFile.FieldType.int)) ∈ lw_all := lw_g (lw_at lw_m2 47 rfl) rfl
theorem q391 : (Jvm.Cond.methodLink "BeforeTheEnd" (329 : Nat) ({ cls := "BeforeTheEnd", name := "ofQuiz", desc := "(III)I" } : Jvm.MethodName)) ∈ lw_all := lw_g (lw_at lw_m2 48 rfl) rfl
theorem q392 : (Jvm.Cond.privateMethod ({ cls := "BeforeTheEnd", name := "ofQuiz", desc := "(III)I" } : Jvm.MethodName)) ∈ lw_tbl := lw_at lw_m2 49 rfl
theorem q393 : (Jvm.Cond.instanceMethod ({ cls := "BeforeTheEnd", name := "ofQuiz", desc := "(III)I" } : Jvm.MethodName)) ∈ lw_all := lw_g (lw_at lw_m2 50 rfl) rfl
theorem q394 : (Jvm.Cond.code ({ cls := "BeforeTheEnd", name := "ofQuiz", desc := "(III)I" } : Jvm.MethodName) prog_1_method_47_code (4 : Nat) (Option.some Jvm.ClassFile.FieldType.int)) ∈ lw_all := lw_g (lw_at lw_m2 51 rfl) rfl
theorem q395 : (Jvm.Cond.methodLink "BeforeTheEnd" (385 : Nat) ({ cls := "BeforeTheEnd", name := "readQuiz", desc := "()I" } : Jvm.MethodName)) ∈ lw_all := lw_g (lw_at lw_m2 52 rfl) rfl
theorem q396 : (Jvm.Cond.privateMethod ({ cls := "BeforeTheEnd", name := "readQuiz", desc := "()I" } : Jvm.MethodName)) ∈ lw_tbl := lw_at lw_m2 53 rfl
theorem q397 : (Jvm.Cond.instanceMethod ({ cls := "BeforeTheEnd", name := "readQuiz", desc := "()I" } : Jvm.MethodName)) ∈ lw_all := lw_g (lw_at lw_m2 54 rfl) rfl
theorem q398 : (Jvm.Cond.code ({ cls := "BeforeTheEnd", name := "readQuiz", desc := "()I" } : Jvm.MethodName) prog_1_method_9_code (9 : Nat) (Option.some Jvm.ClassFile.FieldType.int)) ∈ lw_all := lw_g (lw_at lw_m2 55 rfl) rfl
theorem q399 : (Jvm.Cond.classLink "BeforeTheEnd" (111 : Nat) "BeforeTheEnd$Reader") ∈ lw_all := lw_g (lw_at lw_m2 56 rfl) rfl
theorem q401 : (Jvm.Cond.methodLinkNest "BeforeTheEnd" (113 : Nat) ({ cls := "BeforeTheEnd$Reader", name := "<init>", desc := "(LBeforeTheEnd;)V" } : Jvm.MethodName) "BeforeTheEnd") ∈ lw_tbl := lw_at lw_m2 58 rfl
theorem q406 : (Jvm.Cond.fieldLinkNest "BeforeTheEnd" (129 : Nat) "BeforeTheEnd$Reader" "size" "I" "BeforeTheEnd") ∈ lw_tbl := lw_at lw_m2 63 rfl
theorem q408 : (Jvm.Cond.fieldLinkNest "BeforeTheEnd" (126 : Nat) "BeforeTheEnd$Reader" "at" "I" "BeforeTheEnd") ∈ lw_tbl := lw_at lw_m2 65 rfl
theorem q417 : (Jvm.Cond.classLink "BeforeTheEnd" (120 : Nat) "BeforeTheEnd$Told") ∈ lw_all := lw_g (lw_at lw_m2 74 rfl) rfl
theorem q419 : (Jvm.Cond.methodLink "BeforeTheEnd" (122 : Nat) ({ cls := "BeforeTheEnd$Reader", name := "statement", desc := "()LBeforeTheEnd$Told;" } : Jvm.MethodName)) ∈ lw_all := lw_g (lw_at lw_m2 76 rfl) rfl
theorem q464 : (Jvm.Cond.static ({ cls := "BeforeTheEnd", name := "in", desc := "(JJJ)Z" } : Jvm.MethodName)) ∈ lw_all := lw_g (lw_at lw_m2 121 rfl) rfl
theorem q465 : (Jvm.Cond.code ({ cls := "BeforeTheEnd", name := "in", desc := "(JJJ)Z" } : Jvm.MethodName) prog_1_method_1_code (6 : Nat) (Option.some Jvm.ClassFile.FieldType.boolean)) ∈ lw_all := lw_g (lw_at lw_m2 122 rfl) rfl
theorem q480 : (Jvm.Cond.fieldLinkNest "BeforeTheEnd" (151 : Nat) "BeforeTheEnd$WordTold" "parent" "I" "BeforeTheEnd") ∈ lw_tbl := lw_at lw_m2 137 rfl
theorem q482 : (Jvm.Cond.fieldLinkNest "BeforeTheEnd" (154 : Nat) "BeforeTheEnd$WordTold" "weight" "I" "BeforeTheEnd") ∈ lw_tbl := lw_at lw_m2 139 rfl
theorem q484 : (Jvm.Cond.fieldLinkNest "BeforeTheEnd" (157 : Nat) "BeforeTheEnd$WordTold" "answer" "I" "BeforeTheEnd") ∈ lw_tbl := lw_at lw_m2 141 rfl
theorem q486 : (Jvm.Cond.fieldLink "BeforeTheEnd" (145 : Nat) "BeforeTheEnd$Told" "place" "I") ∈ lw_all := lw_g (lw_at lw_m2 143 rfl) rfl
theorem q591 : (Jvm.Cond.static ({ cls := "BeforeTheEnd", name := "playerOf", desc := "(IIII)LBeforeTheEnd$Player;" } : Jvm.MethodName)) ∈ lw_all := lw_g (lw_at lw_m3 8 rfl) rfl
theorem q592 : (Jvm.Cond.code ({ cls := "BeforeTheEnd", name := "playerOf", desc := "(IIII)LBeforeTheEnd$Player;" } : Jvm.MethodName) prog_1_method_7_code (4 : Nat) (Option.some (Jvm.ClassFile.FieldType.object "BeforeTheEnd$Player"))) ∈ lw_all := lw_g (lw_at lw_m3 9 rfl) rfl
theorem q593 : (Jvm.Cond.classLink "BeforeTheEnd" (27 : Nat) "BeforeTheEnd$Ends") ∈ lw_all := lw_g (lw_at lw_m3 10 rfl) rfl
theorem q595 : (Jvm.Cond.methodLink "BeforeTheEnd" (29 : Nat) ({ cls := "BeforeTheEnd$Ends", name := "<init>", desc := "(III)V" } : Jvm.MethodName)) ∈ lw_all := lw_g (lw_at lw_m3 12 rfl) rfl
theorem q607 : (Jvm.Cond.fieldLink "BeforeTheEnd" (194 : Nat) "BeforeTheEnd$Player" "hand" "I") ∈ lw_all := lw_g (lw_at lw_m3 24 rfl) rfl
theorem q616 : (Jvm.Cond.fieldLink "BeforeTheEnd" (251 : Nat) "BeforeTheEnd$Player" "sure" "I") ∈ lw_all := lw_g (lw_at lw_m3 33 rfl) rfl
theorem q622 : (Jvm.Cond.fieldLink "BeforeTheEnd" (176 : Nat) "BeforeTheEnd$Player" "knows" "I") ∈ lw_all := lw_g (lw_at lw_m3 39 rfl) rfl
theorem q630 : (Jvm.Cond.classLink "BeforeTheEnd" (32 : Nat) "BeforeTheEnd$Sure") ∈ lw_all := lw_g (lw_at lw_m3 47 rfl) rfl
theorem q632 : (Jvm.Cond.methodLink "BeforeTheEnd" (34 : Nat) ({ cls := "BeforeTheEnd$Sure", name := "<init>", desc := "(III)V" } : Jvm.MethodName)) ∈ lw_all := lw_g (lw_at lw_m3 49 rfl) rfl
theorem q640 : (Jvm.Cond.classLink "BeforeTheEnd" (35 : Nat) "BeforeTheEnd$Bold") ∈ lw_all := lw_g (lw_at lw_m3 57 rfl) rfl
theorem q642 : (Jvm.Cond.methodLink "BeforeTheEnd" (37 : Nat) ({ cls := "BeforeTheEnd$Bold", name := "<init>", desc := "(III)V" } : Jvm.MethodName)) ∈ lw_all := lw_g (lw_at lw_m3 59 rfl) rfl
theorem q650 : (Jvm.Cond.classLink "BeforeTheEnd" (38 : Nat) "BeforeTheEnd$Learn") ∈ lw_all := lw_g (lw_at lw_m3 67 rfl) rfl
theorem q652 : (Jvm.Cond.methodLink "BeforeTheEnd" (40 : Nat) ({ cls := "BeforeTheEnd$Learn", name := "<init>", desc := "(III)V" } : Jvm.MethodName)) ∈ lw_all := lw_g (lw_at lw_m3 69 rfl) rfl
theorem q660 : (Jvm.Cond.classLink "BeforeTheEnd" (41 : Nat) "BeforeTheEnd$ToldPlayer") ∈ lw_all := lw_g (lw_at lw_m3 77 rfl) rfl
theorem q662 : (Jvm.Cond.methodLink "BeforeTheEnd" (43 : Nat) ({ cls := "BeforeTheEnd$ToldPlayer", name := "<init>", desc := "(III)V" } : Jvm.MethodName)) ∈ lw_all := lw_g (lw_at lw_m3 79 rfl) rfl
theorem q667 : (Jvm.Cond.fieldLinkNest "BeforeTheEnd" (257 : Nat) "BeforeTheEnd$ToldPlayer" "set" "I" "BeforeTheEnd") ∈ lw_tbl := lw_at lw_m3 84 rfl
theorem q674 : (Jvm.Cond.classLink "BeforeTheEnd" (44 : Nat) "BeforeTheEnd$Alone") ∈ lw_all := lw_g (lw_at lw_m3 91 rfl) rfl
theorem q676 : (Jvm.Cond.methodLink "BeforeTheEnd" (46 : Nat) ({ cls := "BeforeTheEnd$Alone", name := "<init>", desc := "(III)V" } : Jvm.MethodName)) ∈ lw_all := lw_g (lw_at lw_m3 93 rfl) rfl
theorem q696 : (Jvm.Cond.fieldLinkNest "BeforeTheEnd" (165 : Nat) "BeforeTheEnd$PlayerTold" "player" "LBeforeTheEnd$Player;" "BeforeTheEnd") ∈ lw_tbl := lw_at lw_m3 113 rfl
theorem q704 : (Jvm.Cond.methodLink "BeforeTheEnd" (132 : Nat) ({ cls := "BeforeTheEnd$Tree", name := "copied", desc := "()LBeforeTheEnd$Tree;" } : Jvm.MethodName)) ∈ lw_all := lw_g (lw_at lw_m3 121 rfl) rfl
theorem q713 : (Jvm.Cond.methodLink "BeforeTheEnd" (139 : Nat) ({ cls := "BeforeTheEnd$Told", name := "isRight", desc := "(LBeforeTheEnd$Tree;I)Z" } : Jvm.MethodName)) ∈ lw_all := lw_g (lw_at lw_m3 130 rfl) rfl
theorem q726 : (Jvm.Cond.classLink "BeforeTheEnd" (143 : Nat) "BeforeTheEnd$Fault") ∈ lw_all := lw_g (lw_at lw_m3 143 rfl) rfl
theorem q727 : (Jvm.Cond.methodLink "BeforeTheEnd" (148 : Nat) ({ cls := "BeforeTheEnd$Fault", name := "<init>", desc := "(I)V" } : Jvm.MethodName)) ∈ lw_all := lw_g (lw_at lw_m3 144 rfl) rfl
theorem q728 : (Jvm.Cond.classLink "BeforeTheEnd" (149 : Nat) "BeforeTheEnd$WordTold") ∈ lw_all := lw_g (lw_at lw_m3 145 rfl) rfl
theorem q729 : (Jvm.Cond.methodLink "BeforeTheEnd" (160 : Nat) ({ cls := "BeforeTheEnd$Tree", name := "add", desc := "(III)V" } : Jvm.MethodName)) ∈ lw_all := lw_g (lw_at lw_m3 146 rfl) rfl
theorem q733 : (Jvm.Cond.classLink "BeforeTheEnd" (163 : Nat) "BeforeTheEnd$PlayerTold") ∈ lw_all := lw_g (lw_at lw_m3 150 rfl) rfl
theorem q734 : (Jvm.Cond.methodLink "BeforeTheEnd" (388 : Nat) ({ cls := "BeforeTheEnd", name := "wordTold", desc := "(II)I" } : Jvm.MethodName)) ∈ lw_all := lw_g (lw_at lw_m3 151 rfl) rfl
theorem q735 : (Jvm.Cond.privateMethod ({ cls := "BeforeTheEnd", name := "wordTold", desc := "(II)I" } : Jvm.MethodName)) ∈ lw_tbl := lw_at lw_m3 152 rfl
theorem q736 : (Jvm.Cond.instanceMethod ({ cls := "BeforeTheEnd", name := "wordTold", desc := "(II)I" } : Jvm.MethodName)) ∈ lw_all := lw_g (lw_at lw_m3 153 rfl) rfl
theorem q737 : (Jvm.Cond.code ({ cls := "BeforeTheEnd", name := "wordTold", desc := "(II)I" } : Jvm.MethodName) prog_1_method_42_code (3 : Nat) (Option.some Jvm.ClassFile.FieldType.int)) ∈ lw_all := lw_g (lw_at lw_m3 154 rfl) rfl
theorem q738 : (Jvm.Cond.methodLink "BeforeTheEnd" (360 : Nat) ({ cls := "BeforeTheEnd", name := "mustBeWord", desc := "(I)V" } : Jvm.MethodName)) ∈ lw_all := lw_g (lw_at lw_m3 155 rfl) rfl
theorem q739 : (Jvm.Cond.privateMethod ({ cls := "BeforeTheEnd", name := "mustBeWord", desc := "(I)V" } : Jvm.MethodName)) ∈ lw_tbl := lw_at lw_m3 156 rfl
theorem q740 : (Jvm.Cond.instanceMethod ({ cls := "BeforeTheEnd", name := "mustBeWord", desc := "(I)V" } : Jvm.MethodName)) ∈ lw_all := lw_g (lw_at lw_m3 157 rfl) rfl
theorem q741 : (Jvm.Cond.code ({ cls := "BeforeTheEnd", name := "mustBeWord", desc := "(I)V" } : Jvm.MethodName) prog_1_method_38_code (2 : Nat) (Option.none : Option Jvm.ClassFile.FieldType)) ∈ lw_all := lw_g (lw_at lw_m3 158 rfl) rfl
theorem q742 : (Jvm.Cond.methodLink "BeforeTheEnd" (352 : Nat) ({ cls := "BeforeTheEnd", name := "mustBe", desc := "(II)V" } : Jvm.MethodName)) ∈ lw_all := lw_g (lw_at lw_m3 159 rfl) rfl
theorem q743 : (Jvm.Cond.static ({ cls := "BeforeTheEnd", name := "mustBe", desc := "(II)V" } : Jvm.MethodName)) ∈ lw_all := lw_g (lw_at lw_m3 160 rfl) rfl
theorem q744 : (Jvm.Cond.code ({ cls := "BeforeTheEnd", name := "mustBe", desc := "(II)V" } : Jvm.MethodName) prog_1_method_4_code (2 : Nat) (Option.none : Option Jvm.ClassFile.FieldType)) ∈ lw_all := lw_g (lw_at lw_m3 161 rfl) rfl
theorem q745 : (Jvm.Cond.methodLink "BeforeTheEnd" (13 : Nat) ({ cls := "BeforeTheEnd", name := "in", desc := "(JJJ)Z" } : Jvm.MethodName)) ∈ lw_all := lw_g (lw_at lw_m3 162 rfl) rfl
theorem q746 : (Jvm.Cond.constantLong "BeforeTheEnd" (363 : Nat) (4 : Int64)) ∈ lw_all := lw_g (lw_at lw_m3 163 rfl) rfl
theorem q747 : (Jvm.Cond.methodLink "BeforeTheEnd" (391 : Nat) ({ cls := "BeforeTheEnd", name := "playerTold", desc := "(II)I" } : Jvm.MethodName)) ∈ lw_all := lw_g (lw_at lw_m3 164 rfl) rfl
theorem q748 : (Jvm.Cond.privateMethod ({ cls := "BeforeTheEnd", name := "playerTold", desc := "(II)I" } : Jvm.MethodName)) ∈ lw_tbl := lw_at lw_m3 165 rfl
theorem q749 : (Jvm.Cond.instanceMethod ({ cls := "BeforeTheEnd", name := "playerTold", desc := "(II)I" } : Jvm.MethodName)) ∈ lw_all := lw_g (lw_at lw_m3 166 rfl) rfl
theorem q750 : (Jvm.Cond.code ({ cls := "BeforeTheEnd", name := "playerTold", desc := "(II)I" } : Jvm.MethodName) prog_1_method_43_code (4 : Nat) (Option.some Jvm.ClassFile.FieldType.int)) ∈ lw_all := lw_g (lw_at lw_m3 167 rfl) rfl
theorem q751 : (Jvm.Cond.methodLink "BeforeTheEnd" (368 : Nat) ({ cls := "BeforeTheEnd", name := "mustBePlayer", desc := "(I)V" } : Jvm.MethodName)) ∈ lw_all := lw_g (lw_at lw_m3 168 rfl) rfl
theorem q752 : (Jvm.Cond.privateMethod ({ cls := "BeforeTheEnd", name := "mustBePlayer", desc := "(I)V" } : Jvm.MethodName)) ∈ lw_tbl := lw_at lw_m3 169 rfl
theorem q753 : (Jvm.Cond.instanceMethod ({ cls := "BeforeTheEnd", name := "mustBePlayer", desc := "(I)V" } : Jvm.MethodName)) ∈ lw_all := lw_g (lw_at lw_m3 170 rfl) rfl
theorem q754 : (Jvm.Cond.code ({ cls := "BeforeTheEnd", name := "mustBePlayer", desc := "(I)V" } : Jvm.MethodName) prog_1_method_39_code (2 : Nat) (Option.none : Option Jvm.ClassFile.FieldType)) ∈ lw_all := lw_g (lw_at lw_m3 171 rfl) rfl
theorem q755 : (Jvm.Cond.methodLink "BeforeTheEnd" (371 : Nat) ({ cls := "BeforeTheEnd$Player", name := "kind", desc := "()I" } : Jvm.MethodName)) ∈ lw_all := lw_g (lw_at lw_m3 172 rfl) rfl
theorem q776 : (Jvm.Cond.methodLink "BeforeTheEnd" (374 : Nat) ({ cls := "BeforeTheEnd$Player", name := "set", desc := "()I" } : Jvm.MethodName)) ∈ lw_all := lw_g (lw_at lw_m3 193 rfl) rfl
theorem q788 : (Jvm.Cond.methodLink "BeforeTheEnd" (356 : Nat) ({ cls := "BeforeTheEnd$Tree", name := "isWhole", desc := "()Z" } : Jvm.MethodName)) ∈ lw_all := lw_g (lw_at lw_m3 205 rfl) rfl
theorem q793 : (Jvm.Cond.methodLink "BeforeTheEnd" (394 : Nat) ({ cls := "BeforeTheEnd$Tree", name := "left", desc := "(I)I" } : Jvm.MethodName)) ∈ lw_all := lw_g (lw_at lw_m3 210 rfl) rfl
theorem q801 : (Jvm.Cond.methodLink "BeforeTheEnd" (397 : Nat) ({ cls := "BeforeTheEnd", name := "mustBeWhole", desc := "()V" } : Jvm.MethodName)) ∈ lw_all := lw_g (lw_at lw_m3 218 rfl) rfl
theorem q802 : (Jvm.Cond.privateMethod ({ cls := "BeforeTheEnd", name := "mustBeWhole", desc := "()V" } : Jvm.MethodName)) ∈ lw_tbl := lw_at lw_m3 219 rfl
theorem q803 : (Jvm.Cond.instanceMethod ({ cls := "BeforeTheEnd", name := "mustBeWhole", desc := "()V" } : Jvm.MethodName)) ∈ lw_all := lw_g (lw_at lw_m3 220 rfl) rfl
theorem q804 : (Jvm.Cond.code ({ cls := "BeforeTheEnd", name := "mustBeWhole", desc := "()V" } : Jvm.MethodName) prog_1_method_40_code (1 : Nat) (Option.none : Option Jvm.ClassFile.FieldType)) ∈ lw_all := lw_g (lw_at lw_m3 221 rfl) rfl
theorem q805 : (Jvm.Cond.methodLink "BeforeTheEnd" (179 : Nat) ({ cls := "BeforeTheEnd", name := "guessOf", desc := "(II)I" } : Jvm.MethodName)) ∈ lw_all := lw_g (lw_at lw_m3 222 rfl) rfl
theorem q806 : (Jvm.Cond.privateMethod ({ cls := "BeforeTheEnd", name := "guessOf", desc := "(II)I" } : Jvm.MethodName)) ∈ lw_tbl := lw_at lw_m3 223 rfl
theorem q807 : (Jvm.Cond.instanceMethod ({ cls := "BeforeTheEnd", name := "guessOf", desc := "(II)I" } : Jvm.MethodName)) ∈ lw_all := lw_g (lw_at lw_m3 224 rfl) rfl
theorem q808 : (Jvm.Cond.code ({ cls := "BeforeTheEnd", name := "guessOf", desc := "(II)I" } : Jvm.MethodName) prog_1_method_10_code (9 : Nat) (Option.some Jvm.ClassFile.FieldType.int)) ∈ lw_all := lw_g (lw_at lw_m3 225 rfl) rfl
theorem q809 : (Jvm.Cond.methodLink "BeforeTheEnd" (172 : Nat) ({ cls := "BeforeTheEnd$Tree", name := "unitsOf", desc := "(II)J" } : Jvm.MethodName)) ∈ lw_all := lw_g (lw_at lw_m3 226 rfl) rfl
theorem q822 : (Jvm.Cond.static ({ cls := "BeforeTheEnd", name := "divisor", desc := "(JJ)J" } : Jvm.MethodName)) ∈ lw_all := lw_g (lw_at lw_m3 239 rfl) rfl
theorem q823 : (Jvm.Cond.code ({ cls := "BeforeTheEnd", name := "divisor", desc := "(JJ)J" } : Jvm.MethodName) prog_1_method_5_code (10 : Nat) (Option.some Jvm.ClassFile.FieldType.long)) ∈ lw_all := lw_g (lw_at lw_m4 0 rfl) rfl
theorem q827 : (Jvm.Cond.methodLink "BeforeTheEnd" (400 : Nat) ({ cls := "BeforeTheEnd", name := "pointsTold", desc := "(II)I" } : Jvm.MethodName)) ∈ lw_all := lw_g (lw_at lw_m4 4 rfl) rfl
theorem q828 : (Jvm.Cond.privateMethod ({ cls := "BeforeTheEnd", name := "pointsTold", desc := "(II)I" } : Jvm.MethodName)) ∈ lw_tbl := lw_at lw_m4 5 rfl
theorem q829 : (Jvm.Cond.instanceMethod ({ cls := "BeforeTheEnd", name := "pointsTold", desc := "(II)I" } : Jvm.MethodName)) ∈ lw_all := lw_g (lw_at lw_m4 6 rfl) rfl
theorem q830 : (Jvm.Cond.code ({ cls := "BeforeTheEnd", name := "pointsTold", desc := "(II)I" } : Jvm.MethodName) prog_1_method_44_code (4 : Nat) (Option.some Jvm.ClassFile.FieldType.int)) ∈ lw_all := lw_g (lw_at lw_m4 7 rfl) rfl
theorem q831 : (Jvm.Cond.constantLong "BeforeTheEnd" (376 : Nat) (3 : Int64)) ∈ lw_all := lw_g (lw_at lw_m4 8 rfl) rfl
theorem q832 : (Jvm.Cond.fieldLink "BeforeTheEnd" (378 : Nat) "BeforeTheEnd" "MOST" "[I") ∈ lw_all := lw_g (lw_at lw_m4 9 rfl) rfl
theorem q833 : (Jvm.Cond.laysStatic "BeforeTheEnd" "MOST" "[I") ∈ lw_tbl := lw_at lw_m4 10 rfl
theorem q834 : (Jvm.Cond.methodLink "BeforeTheEnd" (293 : Nat) ({ cls := "BeforeTheEnd", name := "within", desc := "(JJJ)V" } : Jvm.MethodName)) ∈ lw_all := lw_g (lw_at lw_m4 11 rfl) rfl
theorem q835 : (Jvm.Cond.static ({ cls := "BeforeTheEnd", name := "within", desc := "(JJJ)V" } : Jvm.MethodName)) ∈ lw_all := lw_g (lw_at lw_m4 12 rfl) rfl
theorem q836 : (Jvm.Cond.code ({ cls := "BeforeTheEnd", name := "within", desc := "(JJJ)V" } : Jvm.MethodName) prog_1_method_3_code (6 : Nat) (Option.none : Option Jvm.ClassFile.FieldType)) ∈ lw_all := lw_g (lw_at lw_m4 13 rfl) rfl
theorem q837 : (Jvm.Cond.methodLink "BeforeTheEnd" (403 : Nat) ({ cls := "BeforeTheEnd", name := "setTold", desc := "(II)I" } : Jvm.MethodName)) ∈ lw_all := lw_g (lw_at lw_m4 14 rfl) rfl
theorem q838 : (Jvm.Cond.privateMethod ({ cls := "BeforeTheEnd", name := "setTold", desc := "(II)I" } : Jvm.MethodName)) ∈ lw_tbl := lw_at lw_m4 15 rfl
theorem q839 : (Jvm.Cond.instanceMethod ({ cls := "BeforeTheEnd", name := "setTold", desc := "(II)I" } : Jvm.MethodName)) ∈ lw_all := lw_g (lw_at lw_m4 16 rfl) rfl
theorem q840 : (Jvm.Cond.code ({ cls := "BeforeTheEnd", name := "setTold", desc := "(II)I" } : Jvm.MethodName) prog_1_method_46_code (5 : Nat) (Option.some Jvm.ClassFile.FieldType.int)) ∈ lw_all := lw_g (lw_at lw_m4 17 rfl) rfl
theorem q841 : (Jvm.Cond.methodLink "BeforeTheEnd" (381 : Nat) ({ cls := "BeforeTheEnd", name := "toldAt", desc := "(I)LBeforeTheEnd$ToldPlayer;" } : Jvm.MethodName)) ∈ lw_all := lw_g (lw_at lw_m4 18 rfl) rfl
theorem q842 : (Jvm.Cond.privateMethod ({ cls := "BeforeTheEnd", name := "toldAt", desc := "(I)LBeforeTheEnd$ToldPlayer;" } : Jvm.MethodName)) ∈ lw_tbl := lw_at lw_m4 19 rfl
theorem q843 : (Jvm.Cond.instanceMethod ({ cls := "BeforeTheEnd", name := "toldAt", desc := "(I)LBeforeTheEnd$ToldPlayer;" } : Jvm.MethodName)) ∈ lw_all := lw_g (lw_at lw_m4 20 rfl) rfl
theorem q844 : (Jvm.Cond.code ({ cls := "BeforeTheEnd", name := "toldAt", desc := "(I)LBeforeTheEnd$ToldPlayer;" } : Jvm.MethodName) prog_1_method_45_code (2 : Nat) (Option.some (Jvm.ClassFile.FieldType.object "BeforeTheEnd$ToldPlayer"))) ∈ lw_all := lw_g (lw_at lw_m4 21 rfl) rfl
theorem q845 : (Jvm.Cond.methodLink "BeforeTheEnd" (190 : Nat) ({ cls := "BeforeTheEnd", name := "doesPress", desc := "(LBeforeTheEnd$Player;IZ)Z" } : Jvm.MethodName)) ∈ lw_all := lw_g (lw_at lw_m4 22 rfl) rfl
theorem q846 : (Jvm.Cond.privateMethod ({ cls := "BeforeTheEnd", name := "doesPress", desc := "(LBeforeTheEnd$Player;IZ)Z" } : Jvm.MethodName)) ∈ lw_tbl := lw_at lw_m4 23 rfl
theorem q847 : (Jvm.Cond.instanceMethod ({ cls := "BeforeTheEnd", name := "doesPress", desc := "(LBeforeTheEnd$Player;IZ)Z" } : Jvm.MethodName)) ∈ lw_all := lw_g (lw_at lw_m4 24 rfl) rfl
theorem q848 : (Jvm.Cond.code ({ cls := "BeforeTheEnd", name := "doesPress", desc := "(LBeforeTheEnd$Player;IZ)Z" } : Jvm.MethodName) prog_1_method_11_code (5 : Nat) (Option.some Jvm.ClassFile.FieldType.boolean)) ∈ lw_all := lw_g (lw_at lw_m4 25 rfl) rfl
theorem q849 : (Jvm.Cond.methodLink "BeforeTheEnd" (183 : Nat) ({ cls := "BeforeTheEnd$Player", name := "wants", desc := "(LBeforeTheEnd;IIZ)Z" } : Jvm.MethodName)) ∈ lw_all := lw_g (lw_at lw_m4 26 rfl) rfl
theorem q863 : (Jvm.Cond.privateMethod ({ cls := "BeforeTheEnd", name := "findValues", desc := "(LBeforeTheEnd$Player;)I" } : Jvm.MethodName)) ∈ lw_tbl := lw_at lw_m4 40 rfl
theorem q864 : (Jvm.Cond.instanceMethod ({ cls := "BeforeTheEnd", name := "findValues", desc := "(LBeforeTheEnd$Player;)I" } : Jvm.MethodName)) ∈ lw_all := lw_g (lw_at lw_m4 41 rfl) rfl
theorem q865 : (Jvm.Cond.code ({ cls := "BeforeTheEnd", name := "findValues", desc := "(LBeforeTheEnd$Player;)I" } : Jvm.MethodName) prog_1_method_16_code (8 : Nat) (Option.some Jvm.ClassFile.FieldType.int)) ∈ lw_all := lw_g (lw_at lw_m4 42 rfl) rfl
theorem q866 : (Jvm.Cond.methodLink "BeforeTheEnd" (244 : Nat) ({ cls := "BeforeTheEnd", name := "pressWorth", desc := "(LBeforeTheEnd$Player;II)J" } : Jvm.MethodName)) ∈ lw_all := lw_g (lw_at lw_m4 43 rfl) rfl
theorem q867 : (Jvm.Cond.privateMethod ({ cls := "BeforeTheEnd", name := "pressWorth", desc := "(LBeforeTheEnd$Player;II)J" } : Jvm.MethodName)) ∈ lw_tbl := lw_at lw_m4 44 rfl
theorem q868 : (Jvm.Cond.instanceMethod ({ cls := "BeforeTheEnd", name := "pressWorth", desc := "(LBeforeTheEnd$Player;II)J" } : Jvm.MethodName)) ∈ lw_all := lw_g (lw_at lw_m4 45 rfl) rfl
theorem q869 : (Jvm.Cond.code ({ cls := "BeforeTheEnd", name := "pressWorth", desc := "(LBeforeTheEnd$Player;II)J" } : Jvm.MethodName) prog_1_method_15_code (8 : Nat) (Option.some Jvm.ClassFile.FieldType.long)) ∈ lw_all := lw_g (lw_at lw_m4 46 rfl) rfl
theorem q870 : (Jvm.Cond.methodLink "BeforeTheEnd" (229 : Nat) ({ cls := "BeforeTheEnd$Tree", name := "isEnd", desc := "(I)Z" } : Jvm.MethodName)) ∈ lw_all := lw_g (lw_at lw_m4 47 rfl) rfl
theorem q871 : (Jvm.Cond.methodLink "BeforeTheEnd" (240 : Nat) ({ cls := "BeforeTheEnd$Tree", name := "isBehind", desc := "(II)Z" } : Jvm.MethodName)) ∈ lw_all := lw_g (lw_at lw_m4 48 rfl) rfl
theorem q872 : (Jvm.Cond.methodLink "BeforeTheEnd" (236 : Nat) ({ cls := "BeforeTheEnd$Tree", name := "units", desc := "(I)J" } : Jvm.MethodName)) ∈ lw_all := lw_g (lw_at lw_m4 49 rfl) rfl
theorem q912 : (Jvm.Cond.methodLink "BeforeTheEnd" (333 : Nat) ({ cls := "BeforeTheEnd", name := "ofGames", desc := "(IIII)I" } : Jvm.MethodName)) ∈ lw_all := lw_g (lw_at lw_m4 89 rfl) rfl
theorem q913 : (Jvm.Cond.privateMethod ({ cls := "BeforeTheEnd", name := "ofGames", desc := "(IIII)I" } : Jvm.MethodName)) ∈ lw_tbl := lw_at lw_m4 90 rfl
theorem q914 : (Jvm.Cond.instanceMethod ({ cls := "BeforeTheEnd", name := "ofGames", desc := "(IIII)I" } : Jvm.MethodName)) ∈ lw_all := lw_g (lw_at lw_m4 91 rfl) rfl
theorem q915 : (Jvm.Cond.code ({ cls := "BeforeTheEnd", name := "ofGames", desc := "(IIII)I" } : Jvm.MethodName) prog_1_method_52_code (5 : Nat) (Option.some Jvm.ClassFile.FieldType.int)) ∈ lw_all := lw_g (lw_at lw_m4 92 rfl) rfl
theorem q916 : (Jvm.Cond.methodLink "BeforeTheEnd" (418 : Nat) ({ cls := "BeforeTheEnd", name := "runTold", desc := "(II)I" } : Jvm.MethodName)) ∈ lw_all := lw_g (lw_at lw_m4 93 rfl) rfl
theorem q917 : (Jvm.Cond.privateMethod ({ cls := "BeforeTheEnd", name := "runTold", desc := "(II)I" } : Jvm.MethodName)) ∈ lw_tbl := lw_at lw_m4 94 rfl
theorem q918 : (Jvm.Cond.instanceMethod ({ cls := "BeforeTheEnd", name := "runTold", desc := "(II)I" } : Jvm.MethodName)) ∈ lw_all := lw_g (lw_at lw_m4 95 rfl) rfl
theorem q919 : (Jvm.Cond.code ({ cls := "BeforeTheEnd", name := "runTold", desc := "(II)I" } : Jvm.MethodName) prog_1_method_48_code (3 : Nat) (Option.some Jvm.ClassFile.FieldType.int)) ∈ lw_all := lw_g (lw_at lw_m4 96 rfl) rfl
theorem q920 : (Jvm.Cond.constantLong "BeforeTheEnd" (406 : Nat) (2 : Int64)) ∈ lw_all := lw_g (lw_at lw_m4 97 rfl) rfl
theorem q921 : (Jvm.Cond.methodLink "BeforeTheEnd" (233 : Nat) ({ cls := "BeforeTheEnd", name := "runTo", desc := "(I)V" } : Jvm.MethodName)) ∈ lw_all := lw_g (lw_at lw_m4 98 rfl) rfl
theorem q922 : (Jvm.Cond.privateMethod ({ cls := "BeforeTheEnd", name := "runTo", desc := "(I)V" } : Jvm.MethodName)) ∈ lw_tbl := lw_at lw_m4 99 rfl
theorem q923 : (Jvm.Cond.instanceMethod ({ cls := "BeforeTheEnd", name := "runTo", desc := "(I)V" } : Jvm.MethodName)) ∈ lw_all := lw_g (lw_at lw_m4 100 rfl) rfl
theorem q924 : (Jvm.Cond.code ({ cls := "BeforeTheEnd", name := "runTo", desc := "(I)V" } : Jvm.MethodName) prog_1_method_13_code (6 : Nat) (Option.none : Option Jvm.ClassFile.FieldType)) ∈ lw_all := lw_g (lw_at lw_m4 101 rfl) rfl
theorem q925 : (Jvm.Cond.methodLink "BeforeTheEnd" (209 : Nat) ({ cls := "BeforeTheEnd$Tree", name := "on", desc := "(II)I" } : Jvm.MethodName)) ∈ lw_all := lw_g (lw_at lw_m4 102 rfl) rfl
theorem q929 : (Jvm.Cond.methodLink "BeforeTheEnd" (212 : Nat) ({ cls := "BeforeTheEnd", name := "quickest", desc := "(I)I" } : Jvm.MethodName)) ∈ lw_all := lw_g (lw_at lw_m4 106 rfl) rfl
theorem q930 : (Jvm.Cond.privateMethod ({ cls := "BeforeTheEnd", name := "quickest", desc := "(I)I" } : Jvm.MethodName)) ∈ lw_tbl := lw_at lw_m4 107 rfl
theorem q931 : (Jvm.Cond.instanceMethod ({ cls := "BeforeTheEnd", name := "quickest", desc := "(I)I" } : Jvm.MethodName)) ∈ lw_all := lw_g (lw_at lw_m4 108 rfl) rfl
theorem q932 : (Jvm.Cond.code ({ cls := "BeforeTheEnd", name := "quickest", desc := "(I)I" } : Jvm.MethodName) prog_1_method_12_code (5 : Nat) (Option.some Jvm.ClassFile.FieldType.int)) ∈ lw_all := lw_g (lw_at lw_m4 109 rfl) rfl
theorem q933 : (Jvm.Cond.methodLink "BeforeTheEnd" (421 : Nat) ({ cls := "BeforeTheEnd", name := "findValues", desc := "(LBeforeTheEnd$Player;)I" } : Jvm.MethodName)) ∈ lw_all := lw_g (lw_at lw_m4 110 rfl) rfl
theorem q934 : (Jvm.Cond.methodLink "BeforeTheEnd" (263 : Nat) ({ cls := "BeforeTheEnd", name := "replyOf", desc := "(II)I" } : Jvm.MethodName)) ∈ lw_all := lw_g (lw_at lw_m4 111 rfl) rfl
theorem q935 : (Jvm.Cond.privateMethod ({ cls := "BeforeTheEnd", name := "replyOf", desc := "(II)I" } : Jvm.MethodName)) ∈ lw_tbl := lw_at lw_m4 112 rfl
theorem q936 : (Jvm.Cond.instanceMethod ({ cls := "BeforeTheEnd", name := "replyOf", desc := "(II)I" } : Jvm.MethodName)) ∈ lw_all := lw_g (lw_at lw_m4 113 rfl) rfl
theorem q937 : (Jvm.Cond.code ({ cls := "BeforeTheEnd", name := "replyOf", desc := "(II)I" } : Jvm.MethodName) prog_1_method_18_code (16 : Nat) (Option.some Jvm.ClassFile.FieldType.int)) ∈ lw_all := lw_g (lw_at lw_m4 114 rfl) rfl
theorem q938 : (Jvm.Cond.methodLink "BeforeTheEnd" (254 : Nat) ({ cls := "BeforeTheEnd", name := "ones", desc := "(I)I" } : Jvm.MethodName)) ∈ lw_all := lw_g (lw_at lw_m4 115 rfl) rfl
theorem q939 : (Jvm.Cond.static ({ cls := "BeforeTheEnd", name := "ones", desc := "(I)I" } : Jvm.MethodName)) ∈ lw_all := lw_g (lw_at lw_m4 116 rfl) rfl
theorem q940 : (Jvm.Cond.code ({ cls := "BeforeTheEnd", name := "ones", desc := "(I)I" } : Jvm.MethodName) prog_1_method_17_code (3 : Nat) (Option.some Jvm.ClassFile.FieldType.int)) ∈ lw_all := lw_g (lw_at lw_m4 117 rfl) rfl
theorem q941 : (Jvm.Cond.methodLink "BeforeTheEnd" (260 : Nat) ({ cls := "BeforeTheEnd", name := "runAll", desc := "()V" } : Jvm.MethodName)) ∈ lw_all := lw_g (lw_at lw_m4 118 rfl) rfl
theorem q942 : (Jvm.Cond.privateMethod ({ cls := "BeforeTheEnd", name := "runAll", desc := "()V" } : Jvm.MethodName)) ∈ lw_tbl := lw_at lw_m4 119 rfl
theorem q943 : (Jvm.Cond.instanceMethod ({ cls := "BeforeTheEnd", name := "runAll", desc := "()V" } : Jvm.MethodName)) ∈ lw_all := lw_g (lw_at lw_m4 120 rfl) rfl
theorem q944 : (Jvm.Cond.code ({ cls := "BeforeTheEnd", name := "runAll", desc := "()V" } : Jvm.MethodName) prog_1_method_14_code (5 : Nat) (Option.none : Option Jvm.ClassFile.FieldType)) ∈ lw_all := lw_g (lw_at lw_m4 121 rfl) rfl
theorem q945 : (Jvm.Cond.methodLink "BeforeTheEnd" (425 : Nat) ({ cls := "BeforeTheEnd", name := "restTold", desc := "(II)I" } : Jvm.MethodName)) ∈ lw_all := lw_g (lw_at lw_m4 122 rfl) rfl
theorem q946 : (Jvm.Cond.privateMethod ({ cls := "BeforeTheEnd", name := "restTold", desc := "(II)I" } : Jvm.MethodName)) ∈ lw_tbl := lw_at lw_m4 123 rfl
theorem q947 : (Jvm.Cond.instanceMethod ({ cls := "BeforeTheEnd", name := "restTold", desc := "(II)I" } : Jvm.MethodName)) ∈ lw_all := lw_g (lw_at lw_m4 124 rfl) rfl
theorem q948 : (Jvm.Cond.code ({ cls := "BeforeTheEnd", name := "restTold", desc := "(II)I" } : Jvm.MethodName) prog_1_method_49_code (3 : Nat) (Option.some Jvm.ClassFile.FieldType.int)) ∈ lw_all := lw_g (lw_at lw_m4 125 rfl) rfl
theorem q949 : (Jvm.Cond.methodLink "BeforeTheEnd" (408 : Nat) ({ cls := "BeforeTheEnd", name := "restOf", desc := "(II)I" } : Jvm.MethodName)) ∈ lw_all := lw_g (lw_at lw_m4 126 rfl) rfl
theorem q950 : (Jvm.Cond.privateMethod ({ cls := "BeforeTheEnd", name := "restOf", desc := "(II)I" } : Jvm.MethodName)) ∈ lw_tbl := lw_at lw_m4 127 rfl
theorem q951 : (Jvm.Cond.instanceMethod ({ cls := "BeforeTheEnd", name := "restOf", desc := "(II)I" } : Jvm.MethodName)) ∈ lw_all := lw_g (lw_at lw_m4 128 rfl) rfl
theorem q952 : (Jvm.Cond.code ({ cls := "BeforeTheEnd", name := "restOf", desc := "(II)I" } : Jvm.MethodName) prog_1_method_19_code (8 : Nat) (Option.some Jvm.ClassFile.FieldType.int)) ∈ lw_all := lw_g (lw_at lw_m4 129 rfl) rfl
theorem q953 : (Jvm.Cond.constantLong "BeforeTheEnd" (266 : Nat) (100 : Int64)) ∈ lw_all := lw_g (lw_at lw_m4 130 rfl) rfl
theorem q954 : (Jvm.Cond.methodLink "BeforeTheEnd" (428 : Nat) ({ cls := "BeforeTheEnd", name := "wrongFor", desc := "(I)I" } : Jvm.MethodName)) ∈ lw_all := lw_g (lw_at lw_m4 131 rfl) rfl
theorem q955 : (Jvm.Cond.privateMethod ({ cls := "BeforeTheEnd", name := "wrongFor", desc := "(I)I" } : Jvm.MethodName)) ∈ lw_tbl := lw_at lw_m4 132 rfl
theorem q956 : (Jvm.Cond.instanceMethod ({ cls := "BeforeTheEnd", name := "wrongFor", desc := "(I)I" } : Jvm.MethodName)) ∈ lw_all := lw_g (lw_at lw_m4 133 rfl) rfl
theorem q957 : (Jvm.Cond.code ({ cls := "BeforeTheEnd", name := "wrongFor", desc := "(I)I" } : Jvm.MethodName) prog_1_method_20_code (5 : Nat) (Option.some Jvm.ClassFile.FieldType.int)) ∈ lw_all := lw_g (lw_at lw_m4 134 rfl) rfl
theorem q958 : (Jvm.Cond.methodLink "BeforeTheEnd" (431 : Nat) ({ cls := "BeforeTheEnd", name := "earlyFor", desc := "(I)I" } : Jvm.MethodName)) ∈ lw_all := lw_g (lw_at lw_m4 135 rfl) rfl
theorem q959 : (Jvm.Cond.privateMethod ({ cls := "BeforeTheEnd", name := "earlyFor", desc := "(I)I" } : Jvm.MethodName)) ∈ lw_tbl := lw_at lw_m4 136 rfl
theorem q960 : (Jvm.Cond.instanceMethod ({ cls := "BeforeTheEnd", name := "earlyFor", desc := "(I)I" } : Jvm.MethodName)) ∈ lw_all := lw_g (lw_at lw_m4 137 rfl) rfl
theorem q961 : (Jvm.Cond.code ({ cls := "BeforeTheEnd", name := "earlyFor", desc := "(I)I" } : Jvm.MethodName) prog_1_method_21_code (7 : Nat) (Option.some Jvm.ClassFile.FieldType.int)) ∈ lw_all := lw_g (lw_at lw_m4 138 rfl) rfl
theorem q962 : (Jvm.Cond.constantLong "BeforeTheEnd" (268 : Nat) (-1 : Int64)) ∈ lw_all := lw_g (lw_at lw_m4 139 rfl) rfl
theorem q963 : (Jvm.Cond.methodLink "BeforeTheEnd" (434 : Nat) ({ cls := "BeforeTheEnd", name := "silentTold", desc := "(II)I" } : Jvm.MethodName)) ∈ lw_all := lw_g (lw_at lw_m4 140 rfl) rfl
theorem q964 : (Jvm.Cond.privateMethod ({ cls := "BeforeTheEnd", name := "silentTold", desc := "(II)I" } : Jvm.MethodName)) ∈ lw_tbl := lw_at lw_m4 141 rfl
theorem q965 : (Jvm.Cond.instanceMethod ({ cls := "BeforeTheEnd", name := "silentTold", desc := "(II)I" } : Jvm.MethodName)) ∈ lw_all := lw_g (lw_at lw_m4 142 rfl) rfl
theorem q966 : (Jvm.Cond.code ({ cls := "BeforeTheEnd", name := "silentTold", desc := "(II)I" } : Jvm.MethodName) prog_1_method_50_code (3 : Nat) (Option.some Jvm.ClassFile.FieldType.int)) ∈ lw_all := lw_g (lw_at lw_m4 143 rfl) rfl
theorem q967 : (Jvm.Cond.methodLink "BeforeTheEnd" (411 : Nat) ({ cls := "BeforeTheEnd", name := "silentOf", desc := "(LBeforeTheEnd$Sure;I)I" } : Jvm.MethodName)) ∈ lw_all := lw_g (lw_at lw_m4 144 rfl) rfl
theorem q968 : (Jvm.Cond.privateMethod ({ cls := "BeforeTheEnd", name := "silentOf", desc := "(LBeforeTheEnd$Sure;I)I" } : Jvm.MethodName)) ∈ lw_tbl := lw_at lw_m4 145 rfl
theorem q969 : (Jvm.Cond.instanceMethod ({ cls := "BeforeTheEnd", name := "silentOf", desc := "(LBeforeTheEnd$Sure;I)I" } : Jvm.MethodName)) ∈ lw_all := lw_g (lw_at lw_m4 146 rfl) rfl
theorem q970 : (Jvm.Cond.code ({ cls := "BeforeTheEnd", name := "silentOf", desc := "(LBeforeTheEnd$Sure;I)I" } : Jvm.MethodName) prog_1_method_22_code (8 : Nat) (Option.some Jvm.ClassFile.FieldType.int)) ∈ lw_all := lw_g (lw_at lw_m4 147 rfl) rfl
theorem q971 : (Jvm.Cond.methodLink "BeforeTheEnd" (270 : Nat) ({ cls := "BeforeTheEnd$Sure", name := "wants", desc := "(LBeforeTheEnd;IIZ)Z" } : Jvm.MethodName)) ∈ lw_all := lw_g (lw_at lw_m4 148 rfl) rfl
theorem q972 : (Jvm.Cond.methodLink "BeforeTheEnd" (437 : Nat) ({ cls := "BeforeTheEnd", name := "partnersTold", desc := "(III)I" } : Jvm.MethodName)) ∈ lw_all := lw_g (lw_at lw_m4 149 rfl) rfl
theorem q973 : (Jvm.Cond.privateMethod ({ cls := "BeforeTheEnd", name := "partnersTold", desc := "(III)I" } : Jvm.MethodName)) ∈ lw_tbl := lw_at lw_m4 150 rfl
theorem q974 : (Jvm.Cond.instanceMethod ({ cls := "BeforeTheEnd", name := "partnersTold", desc := "(III)I" } : Jvm.MethodName)) ∈ lw_all := lw_g (lw_at lw_m4 151 rfl) rfl
theorem q975 : (Jvm.Cond.code ({ cls := "BeforeTheEnd", name := "partnersTold", desc := "(III)I" } : Jvm.MethodName) prog_1_method_51_code (4 : Nat) (Option.some Jvm.ClassFile.FieldType.int)) ∈ lw_all := lw_g (lw_at lw_m4 152 rfl) rfl
theorem q976 : (Jvm.Cond.methodLink "BeforeTheEnd" (415 : Nat) ({ cls := "BeforeTheEnd", name := "partnerFor", desc := "(III)I" } : Jvm.MethodName)) ∈ lw_all := lw_g (lw_at lw_m4 153 rfl) rfl
theorem q977 : (Jvm.Cond.privateMethod ({ cls := "BeforeTheEnd", name := "partnerFor", desc := "(III)I" } : Jvm.MethodName)) ∈ lw_tbl := lw_at lw_m4 154 rfl
theorem q978 : (Jvm.Cond.instanceMethod ({ cls := "BeforeTheEnd", name := "partnerFor", desc := "(III)I" } : Jvm.MethodName)) ∈ lw_all := lw_g (lw_at lw_m4 155 rfl) rfl
theorem q979 : (Jvm.Cond.code ({ cls := "BeforeTheEnd", name := "partnerFor", desc := "(III)I" } : Jvm.MethodName) prog_1_method_23_code (10 : Nat) (Option.some Jvm.ClassFile.FieldType.int)) ∈ lw_all := lw_g (lw_at lw_m4 156 rfl) rfl
theorem q980 : (Jvm.Cond.methodLink "BeforeTheEnd" (337 : Nat) ({ cls := "BeforeTheEnd", name := "ofRest", desc := "(IIII)I" } : Jvm.MethodName)) ∈ lw_all := lw_g (lw_at lw_m4 157 rfl) rfl
theorem q981 : (Jvm.Cond.privateMethod ({ cls := "BeforeTheEnd", name := "ofRest", desc := "(IIII)I" } : Jvm.MethodName)) ∈ lw_tbl := lw_at lw_m4 158 rfl
theorem q982 : (Jvm.Cond.instanceMethod ({ cls := "BeforeTheEnd", name := "ofRest", desc := "(IIII)I" } : Jvm.MethodName)) ∈ lw_all := lw_g (lw_at lw_m4 159 rfl) rfl
theorem q983 : (Jvm.Cond.code ({ cls := "BeforeTheEnd", name := "ofRest", desc := "(IIII)I" } : Jvm.MethodName) prog_1_method_55_code (5 : Nat) (Option.some Jvm.ClassFile.FieldType.int)) ∈ lw_all := lw_g (lw_at lw_m4 160 rfl) rfl
theorem q984 : (Jvm.Cond.methodLink "BeforeTheEnd" (447 : Nat) ({ cls := "BeforeTheEnd", name := "factIt", desc := "(I)I" } : Jvm.MethodName)) ∈ lw_all := lw_g (lw_at lw_m4 161 rfl) rfl
theorem q985 : (Jvm.Cond.privateMethod ({ cls := "BeforeTheEnd", name := "factIt", desc := "(I)I" } : Jvm.MethodName)) ∈ lw_tbl := lw_at lw_m4 162 rfl
theorem q986 : (Jvm.Cond.instanceMethod ({ cls := "BeforeTheEnd", name := "factIt", desc := "(I)I" } : Jvm.MethodName)) ∈ lw_all := lw_g (lw_at lw_m4 163 rfl) rfl
theorem q987 : (Jvm.Cond.code ({ cls := "BeforeTheEnd", name := "factIt", desc := "(I)I" } : Jvm.MethodName) prog_1_method_54_code (2 : Nat) (Option.some Jvm.ClassFile.FieldType.int)) ∈ lw_all := lw_g (lw_at lw_m4 164 rfl) rfl
theorem q988 : (Jvm.Cond.constantLong "BeforeTheEnd" (445 : Nat) (1022 : Int64)) ∈ lw_all := lw_g (lw_at lw_m4 165 rfl) rfl
theorem q989 : (Jvm.Cond.methodLink "BeforeTheEnd" (450 : Nat) ({ cls := "BeforeTheEnd", name := "hadTold", desc := "(II)I" } : Jvm.MethodName)) ∈ lw_all := lw_g (lw_at lw_m4 166 rfl) rfl
theorem q990 : (Jvm.Cond.privateMethod ({ cls := "BeforeTheEnd", name := "hadTold", desc := "(II)I" } : Jvm.MethodName)) ∈ lw_tbl := lw_at lw_m4 167 rfl
theorem q991 : (Jvm.Cond.instanceMethod ({ cls := "BeforeTheEnd", name := "hadTold", desc := "(II)I" } : Jvm.MethodName)) ∈ lw_all := lw_g (lw_at lw_m4 168 rfl) rfl
theorem q992 : (Jvm.Cond.code ({ cls := "BeforeTheEnd", name := "hadTold", desc := "(II)I" } : Jvm.MethodName) prog_1_method_27_code (7 : Nat) (Option.some Jvm.ClassFile.FieldType.int)) ∈ lw_all := lw_g (lw_at lw_m4 169 rfl) rfl
theorem q993 : (Jvm.Cond.constantLong "BeforeTheEnd" (291 : Nat) (5 : Int64)) ∈ lw_all := lw_g (lw_at lw_m4 170 rfl) rfl
theorem q994 : (Jvm.Cond.methodLink "BeforeTheEnd" (274 : Nat) ({ cls := "BeforeTheEnd", name := "hadBy", desc := "([II)I" } : Jvm.MethodName)) ∈ lw_all := lw_g (lw_at lw_m4 171 rfl) rfl
theorem q995 : (Jvm.Cond.privateMethod ({ cls := "BeforeTheEnd", name := "hadBy", desc := "([II)I" } : Jvm.MethodName)) ∈ lw_tbl := lw_at lw_m4 172 rfl
theorem q996 : (Jvm.Cond.instanceMethod ({ cls := "BeforeTheEnd", name := "hadBy", desc := "([II)I" } : Jvm.MethodName)) ∈ lw_all := lw_g (lw_at lw_m4 173 rfl) rfl
theorem q997 : (Jvm.Cond.code ({ cls := "BeforeTheEnd", name := "hadBy", desc := "([II)I" } : Jvm.MethodName) prog_1_method_24_code (5 : Nat) (Option.some Jvm.ClassFile.FieldType.int)) ∈ lw_all := lw_g (lw_at lw_m4 174 rfl) rfl
theorem q998 : (Jvm.Cond.methodLink "BeforeTheEnd" (453 : Nat) ({ cls := "BeforeTheEnd", name := "orderTold", desc := "(IZ)I" } : Jvm.MethodName)) ∈ lw_all := lw_g (lw_at lw_m4 175 rfl) rfl
theorem q999 : (Jvm.Cond.privateMethod ({ cls := "BeforeTheEnd", name := "orderTold", desc := "(IZ)I" } : Jvm.MethodName)) ∈ lw_tbl := lw_at lw_m4 176 rfl
theorem q1000 : (Jvm.Cond.instanceMethod ({ cls := "BeforeTheEnd", name := "orderTold", desc := "(IZ)I" } : Jvm.MethodName)) ∈ lw_all := lw_g (lw_at lw_m4 177 rfl) rfl
theorem q1001 : (Jvm.Cond.code ({ cls := "BeforeTheEnd", name := "orderTold", desc := "(IZ)I" } : Jvm.MethodName) prog_1_method_26_code (3 : Nat) (Option.some Jvm.ClassFile.FieldType.int)) ∈ lw_all := lw_g (lw_at lw_m4 178 rfl) rfl
theorem q1002 : (Jvm.Cond.methodLink "BeforeTheEnd" (287 : Nat) ({ cls := "BeforeTheEnd", name := "seek", desc := "(IIZ)V" } : Jvm.MethodName)) ∈ lw_all := lw_g (lw_at lw_m4 179 rfl) rfl
theorem q1003 : (Jvm.Cond.privateMethod ({ cls := "BeforeTheEnd", name := "seek", desc := "(IIZ)V" } : Jvm.MethodName)) ∈ lw_tbl := lw_at lw_m4 180 rfl
theorem q1004 : (Jvm.Cond.instanceMethod ({ cls := "BeforeTheEnd", name := "seek", desc := "(IIZ)V" } : Jvm.MethodName)) ∈ lw_all := lw_g (lw_at lw_m4 181 rfl) rfl
theorem q1005 : (Jvm.Cond.code ({ cls := "BeforeTheEnd", name := "seek", desc := "(IIZ)V" } : Jvm.MethodName) prog_1_method_25_code (5 : Nat) (Option.none : Option Jvm.ClassFile.FieldType)) ∈ lw_all := lw_g (lw_at lw_m4 182 rfl) rfl
theorem q1006 : (Jvm.Cond.methodLink "BeforeTheEnd" (281 : Nat) ({ cls := "java/lang/System", name := "arraycopy", desc := "(Ljava/lang/Object;ILjava/lang/Object;II)V" } : Jvm.MethodName)) ∈ lw_all := lw_g (lw_at lw_m4 183 rfl) rfl
theorem q1007 : (Jvm.Cond.methodLink "BeforeTheEnd" (457 : Nat) ({ cls := "BeforeTheEnd", name := "eveningTold", desc := "(III)I" } : Jvm.MethodName)) ∈ lw_all := lw_g (lw_at lw_m4 184 rfl) rfl
theorem q1008 : (Jvm.Cond.privateMethod ({ cls := "BeforeTheEnd", name := "eveningTold", desc := "(III)I" } : Jvm.MethodName)) ∈ lw_tbl := lw_at lw_m4 185 rfl
theorem q1009 : (Jvm.Cond.instanceMethod ({ cls := "BeforeTheEnd", name := "eveningTold", desc := "(III)I" } : Jvm.MethodName)) ∈ lw_all := lw_g (lw_at lw_m4 186 rfl) rfl
theorem q1010 : (Jvm.Cond.code ({ cls := "BeforeTheEnd", name := "eveningTold", desc := "(III)I" } : Jvm.MethodName) prog_1_method_53_code (4 : Nat) (Option.some Jvm.ClassFile.FieldType.int)) ∈ lw_all := lw_g (lw_at lw_m4 187 rfl) rfl
theorem q1011 : (Jvm.Cond.constantLong "BeforeTheEnd" (440 : Nat) (20 : Int64)) ∈ lw_all := lw_g (lw_at lw_m4 188 rfl) rfl
theorem q1012 : (Jvm.Cond.methodLink "BeforeTheEnd" (442 : Nat) ({ cls := "BeforeTheEnd", name := "eveningOf", desc := "(III)I" } : Jvm.MethodName)) ∈ lw_all := lw_g (lw_at lw_m4 189 rfl) rfl
theorem q1013 : (Jvm.Cond.privateMethod ({ cls := "BeforeTheEnd", name := "eveningOf", desc := "(III)I" } : Jvm.MethodName)) ∈ lw_tbl := lw_at lw_m4 190 rfl
theorem q1014 : (Jvm.Cond.instanceMethod ({ cls := "BeforeTheEnd", name := "eveningOf", desc := "(III)I" } : Jvm.MethodName)) ∈ lw_all := lw_g (lw_at lw_m4 191 rfl) rfl
theorem q1015 : (Jvm.Cond.code ({ cls := "BeforeTheEnd", name := "eveningOf", desc := "(III)I" } : Jvm.MethodName) prog_1_method_30_code (6 : Nat) (Option.some Jvm.ClassFile.FieldType.int)) ∈ lw_all := lw_g (lw_at lw_m4 192 rfl) rfl
theorem q1016 : (Jvm.Cond.methodLink "BeforeTheEnd" (313 : Nat) ({ cls := "BeforeTheEnd", name := "drawnEnd", desc := "()I" } : Jvm.MethodName)) ∈ lw_all := lw_g (lw_at lw_m4 193 rfl) rfl
theorem q1017 : (Jvm.Cond.privateMethod ({ cls := "BeforeTheEnd", name := "drawnEnd", desc := "()I" } : Jvm.MethodName)) ∈ lw_tbl := lw_at lw_m4 194 rfl
theorem q1018 : (Jvm.Cond.instanceMethod ({ cls := "BeforeTheEnd", name := "drawnEnd", desc := "()I" } : Jvm.MethodName)) ∈ lw_all := lw_g (lw_at lw_m4 195 rfl) rfl
theorem q1019 : (Jvm.Cond.code ({ cls := "BeforeTheEnd", name := "drawnEnd", desc := "()I" } : Jvm.MethodName) prog_1_method_29_code (4 : Nat) (Option.some Jvm.ClassFile.FieldType.int)) ∈ lw_all := lw_g (lw_at lw_m4 196 rfl) rfl
theorem q1020 : (Jvm.Cond.methodLinkNest "BeforeTheEnd" (303 : Nat) ({ cls := "BeforeTheEnd$Tree", name := "sumOf", desc := "(IZ)J" } : Jvm.MethodName) "BeforeTheEnd") ∈ lw_tbl := lw_at lw_m4 197 rfl
theorem q1021 : (Jvm.Cond.methodLink "BeforeTheEnd" (307 : Nat) ({ cls := "BeforeTheEnd", name := "draw", desc := "(I)I" } : Jvm.MethodName)) ∈ lw_all := lw_g (lw_at lw_m4 198 rfl) rfl
theorem q1022 : (Jvm.Cond.privateMethod ({ cls := "BeforeTheEnd", name := "draw", desc := "(I)I" } : Jvm.MethodName)) ∈ lw_tbl := lw_at lw_m4 199 rfl
theorem q1023 : (Jvm.Cond.instanceMethod ({ cls := "BeforeTheEnd", name := "draw", desc := "(I)I" } : Jvm.MethodName)) ∈ lw_all := lw_g (lw_at lw_m4 200 rfl) rfl
theorem q1024 : (Jvm.Cond.code ({ cls := "BeforeTheEnd", name := "draw", desc := "(I)I" } : Jvm.MethodName) prog_1_method_28_code (2 : Nat) (Option.some Jvm.ClassFile.FieldType.int)) ∈ lw_all := lw_g (lw_at lw_m4 201 rfl) rfl
theorem q1025 : (Jvm.Cond.constant "BeforeTheEnd" (300 : Nat) (1664525 : Int32)) ∈ lw_all := lw_g (lw_at lw_m4 202 rfl) rfl
theorem q1026 : (Jvm.Cond.constant "BeforeTheEnd" (301 : Nat) (1013904223 : Int32)) ∈ lw_all := lw_g (lw_at lw_m4 203 rfl) rfl
theorem q1027 : (Jvm.Cond.constant "BeforeTheEnd" (302 : Nat) (2147483647 : Int32)) ∈ lw_all := lw_g (lw_at lw_m4 204 rfl) rfl
theorem q1028 : (Jvm.Cond.constantLong "BeforeTheEnd" (460 : Nat) (9 : Int64)) ∈ lw_all := lw_g (lw_at lw_m4 205 rfl) rfl
theorem q1029 : (Jvm.Cond.methodLink "BeforeTheEnd" (462 : Nat) ({ cls := "BeforeTheEnd", name := "judgeRow", desc := "(I)I" } : Jvm.MethodName)) ∈ lw_all := lw_g (lw_at lw_m4 206 rfl) rfl
theorem q1030 : (Jvm.Cond.privateMethod ({ cls := "BeforeTheEnd", name := "judgeRow", desc := "(I)I" } : Jvm.MethodName)) ∈ lw_tbl := lw_at lw_m4 207 rfl
theorem q1031 : (Jvm.Cond.instanceMethod ({ cls := "BeforeTheEnd", name := "judgeRow", desc := "(I)I" } : Jvm.MethodName)) ∈ lw_all := lw_g (lw_at lw_m4 208 rfl) rfl
theorem q1032 : (Jvm.Cond.code ({ cls := "BeforeTheEnd", name := "judgeRow", desc := "(I)I" } : Jvm.MethodName) prog_1_method_31_code (4 : Nat) (Option.some Jvm.ClassFile.FieldType.int)) ∈ lw_all := lw_g (lw_at lw_m4 209 rfl) rfl
theorem q1033 : (Jvm.Cond.methodLink "BeforeTheEnd" (465 : Nat) ({ cls := "BeforeTheEnd", name := "takeImage", desc := "()I" } : Jvm.MethodName)) ∈ lw_all := lw_g (lw_at lw_m4 210 rfl) rfl
theorem q1034 : (Jvm.Cond.privateMethod ({ cls := "BeforeTheEnd", name := "takeImage", desc := "()I" } : Jvm.MethodName)) ∈ lw_tbl := lw_at lw_m4 211 rfl
theorem q1035 : (Jvm.Cond.instanceMethod ({ cls := "BeforeTheEnd", name := "takeImage", desc := "()I" } : Jvm.MethodName)) ∈ lw_all := lw_g (lw_at lw_m4 212 rfl) rfl
theorem q1036 : (Jvm.Cond.code ({ cls := "BeforeTheEnd", name := "takeImage", desc := "()I" } : Jvm.MethodName) prog_1_method_32_code (2 : Nat) (Option.some Jvm.ClassFile.FieldType.int)) ∈ lw_all := lw_g (lw_at lw_m4 213 rfl) rfl
theorem q1037 : (Jvm.Cond.methodLink "BeforeTheEnd" (326 : Nat) ({ cls := "BeforeTheEnd$Player", name := "copied", desc := "()LBeforeTheEnd$Player;" } : Jvm.MethodName)) ∈ lw_all := lw_g (lw_at lw_m4 214 rfl) rfl
theorem q1055 : (Jvm.Cond.methodLink "BeforeTheEnd" (468 : Nat) ({ cls := "BeforeTheEnd", name := "goOn", desc := "()I" } : Jvm.MethodName)) ∈ lw_all := lw_g (lw_at lw_m4 232 rfl) rfl
theorem q1056 : (Jvm.Cond.privateMethod ({ cls := "BeforeTheEnd", name := "goOn", desc := "()I" } : Jvm.MethodName)) ∈ lw_tbl := lw_at lw_m4 233 rfl
theorem q1057 : (Jvm.Cond.instanceMethod ({ cls := "BeforeTheEnd", name := "goOn", desc := "()I" } : Jvm.MethodName)) ∈ lw_all := lw_g (lw_at lw_m4 234 rfl) rfl
theorem q1058 : (Jvm.Cond.code ({ cls := "BeforeTheEnd", name := "goOn", desc := "()I" } : Jvm.MethodName) prog_1_method_33_code (2 : Nat) (Option.some Jvm.ClassFile.FieldType.int)) ∈ lw_all := lw_g (lw_at lw_m4 235 rfl) rfl
theorem q1060 : (Jvm.Cond.instanceMethod ({ cls := "BeforeTheEnd", name := "word", desc := "(II)I" } : Jvm.MethodName)) ∈ lw_all := lw_g (lw_at lw_m4 237 rfl) rfl
theorem q1061 : (Jvm.Cond.selects "BeforeTheEnd" ({ cls := "BeforeTheEnd", name := "word", desc := "(II)I" } : Jvm.MethodName) ({ cls := "BeforeTheEnd", name := "word", desc := "(II)I" } : Jvm.MethodName)) ∈ lw_all := lw_g (lw_at lw_m4 238 rfl) rfl
theorem q1062 : (Jvm.Cond.code ({ cls := "BeforeTheEnd", name := "word", desc := "(II)I" } : Jvm.MethodName) prog_1_method_62_code (3 : Nat) (Option.some Jvm.ClassFile.FieldType.int)) ∈ lw_all := lw_g (lw_at lw_m4 239 rfl) rfl
theorem q1064 : (Jvm.Cond.instanceMethod ({ cls := "BeforeTheEnd", name := "player", desc := "(II)I" } : Jvm.MethodName)) ∈ lw_all := lw_g (lw_at lw_m5 1 rfl) rfl
theorem q1065 : (Jvm.Cond.selects "BeforeTheEnd" ({ cls := "BeforeTheEnd", name := "player", desc := "(II)I" } : Jvm.MethodName) ({ cls := "BeforeTheEnd", name := "player", desc := "(II)I" } : Jvm.MethodName)) ∈ lw_all := lw_g (lw_at lw_m5 2 rfl) rfl
theorem q1066 : (Jvm.Cond.code ({ cls := "BeforeTheEnd", name := "player", desc := "(II)I" } : Jvm.MethodName) prog_1_method_63_code (3 : Nat) (Option.some Jvm.ClassFile.FieldType.int)) ∈ lw_all := lw_g (lw_at lw_m5 3 rfl) rfl
theorem q1068 : (Jvm.Cond.instanceMethod ({ cls := "BeforeTheEnd", name := "whole", desc := "()I" } : Jvm.MethodName)) ∈ lw_all := lw_g (lw_at lw_m5 5 rfl) rfl
theorem q1069 : (Jvm.Cond.selects "BeforeTheEnd" ({ cls := "BeforeTheEnd", name := "whole", desc := "()I" } : Jvm.MethodName) ({ cls := "BeforeTheEnd", name := "whole", desc := "()I" } : Jvm.MethodName)) ∈ lw_all := lw_g (lw_at lw_m5 6 rfl) rfl
theorem q1070 : (Jvm.Cond.code ({ cls := "BeforeTheEnd", name := "whole", desc := "()I" } : Jvm.MethodName) prog_1_method_64_code (1 : Nat) (Option.some Jvm.ClassFile.FieldType.int)) ∈ lw_all := lw_g (lw_at lw_m5 7 rfl) rfl
theorem q1072 : (Jvm.Cond.instanceMethod ({ cls := "BeforeTheEnd", name := "left", desc := "(I)I" } : Jvm.MethodName)) ∈ lw_all := lw_g (lw_at lw_m5 9 rfl) rfl
theorem q1073 : (Jvm.Cond.selects "BeforeTheEnd" ({ cls := "BeforeTheEnd", name := "left", desc := "(I)I" } : Jvm.MethodName) ({ cls := "BeforeTheEnd", name := "left", desc := "(I)I" } : Jvm.MethodName)) ∈ lw_all := lw_g (lw_at lw_m5 10 rfl) rfl
theorem q1074 : (Jvm.Cond.code ({ cls := "BeforeTheEnd", name := "left", desc := "(I)I" } : Jvm.MethodName) prog_1_method_65_code (2 : Nat) (Option.some Jvm.ClassFile.FieldType.int)) ∈ lw_all := lw_g (lw_at lw_m5 11 rfl) rfl
theorem q1076 : (Jvm.Cond.instanceMethod ({ cls := "BeforeTheEnd", name := "chance", desc := "(III)J" } : Jvm.MethodName)) ∈ lw_all := lw_g (lw_at lw_m5 13 rfl) rfl
theorem q1077 : (Jvm.Cond.selects "BeforeTheEnd" ({ cls := "BeforeTheEnd", name := "chance", desc := "(III)J" } : Jvm.MethodName) ({ cls := "BeforeTheEnd", name := "chance", desc := "(III)J" } : Jvm.MethodName)) ∈ lw_all := lw_g (lw_at lw_m5 14 rfl) rfl
theorem q1078 : (Jvm.Cond.code ({ cls := "BeforeTheEnd", name := "chance", desc := "(III)J" } : Jvm.MethodName) prog_1_method_66_code (4 : Nat) (Option.some Jvm.ClassFile.FieldType.long)) ∈ lw_all := lw_g (lw_at lw_m5 15 rfl) rfl
theorem q1079 : (Jvm.Cond.methodLink "BeforeTheEnd" (487 : Nat) ({ cls := "BeforeTheEnd", name := "chanceTold", desc := "(III)J" } : Jvm.MethodName)) ∈ lw_all := lw_g (lw_at lw_m5 16 rfl) rfl
theorem q1080 : (Jvm.Cond.privateMethod ({ cls := "BeforeTheEnd", name := "chanceTold", desc := "(III)J" } : Jvm.MethodName)) ∈ lw_tbl := lw_at lw_m5 17 rfl
theorem q1081 : (Jvm.Cond.instanceMethod ({ cls := "BeforeTheEnd", name := "chanceTold", desc := "(III)J" } : Jvm.MethodName)) ∈ lw_all := lw_g (lw_at lw_m5 18 rfl) rfl
theorem q1082 : (Jvm.Cond.codeWith ({ cls := "BeforeTheEnd", name := "chanceTold", desc := "(III)J" } : Jvm.MethodName) prog_1_method_56_code (5 : Nat) (Option.some Jvm.ClassFile.FieldType.long) [((0 : Nat), (47 : Nat), (48 : Nat), (343 : Nat))]) ∈ lw_all := lw_g (lw_at lw_m5 19 rfl) rfl
theorem q1083 : (Jvm.Cond.methodLink "BeforeTheEnd" (471 : Nat) ({ cls := "BeforeTheEnd", name := "mustBePart", desc := "(I)V" } : Jvm.MethodName)) ∈ lw_all := lw_g (lw_at lw_m5 20 rfl) rfl
theorem q1084 : (Jvm.Cond.static ({ cls := "BeforeTheEnd", name := "mustBePart", desc := "(I)V" } : Jvm.MethodName)) ∈ lw_all := lw_g (lw_at lw_m5 21 rfl) rfl
theorem q1085 : (Jvm.Cond.code ({ cls := "BeforeTheEnd", name := "mustBePart", desc := "(I)V" } : Jvm.MethodName) prog_1_method_41_code (1 : Nat) (Option.none : Option Jvm.ClassFile.FieldType)) ∈ lw_all := lw_g (lw_at lw_m5 22 rfl) rfl
theorem q1086 : (Jvm.Cond.methodLink "BeforeTheEnd" (474 : Nat) ({ cls := "BeforeTheEnd", name := "partTold", desc := "(JJI)J" } : Jvm.MethodName)) ∈ lw_all := lw_g (lw_at lw_m5 23 rfl) rfl
theorem q1087 : (Jvm.Cond.static ({ cls := "BeforeTheEnd", name := "partTold", desc := "(JJI)J" } : Jvm.MethodName)) ∈ lw_all := lw_g (lw_at lw_m5 24 rfl) rfl
theorem q1088 : (Jvm.Cond.code ({ cls := "BeforeTheEnd", name := "partTold", desc := "(JJI)J" } : Jvm.MethodName) prog_1_method_6_code (7 : Nat) (Option.some Jvm.ClassFile.FieldType.long)) ∈ lw_all := lw_g (lw_at lw_m5 25 rfl) rfl
theorem q1089 : (Jvm.Cond.methodLink "BeforeTheEnd" (17 : Nat) ({ cls := "java/lang/Math", name := "abs", desc := "(J)J" } : Jvm.MethodName)) ∈ lw_all := lw_g (lw_at lw_m5 26 rfl) rfl
theorem q1092 : (Jvm.Cond.methodLink "BeforeTheEnd" (23 : Nat) ({ cls := "BeforeTheEnd", name := "divisor", desc := "(JJ)J" } : Jvm.MethodName)) ∈ lw_all := lw_g (lw_at lw_m5 29 rfl) rfl
theorem q1093 : (Jvm.Cond.constantLong "BeforeTheEnd" (478 : Nat) (4000000000000000000 : Int64)) ∈ lw_all := lw_g (lw_at lw_m5 30 rfl) rfl
theorem q1095 : (Jvm.Cond.instanceMethod ({ cls := "BeforeTheEnd", name := "guess", desc := "(II)I" } : Jvm.MethodName)) ∈ lw_all := lw_g (lw_at lw_m5 32 rfl) rfl
theorem q1096 : (Jvm.Cond.selects "BeforeTheEnd" ({ cls := "BeforeTheEnd", name := "guess", desc := "(II)I" } : Jvm.MethodName) ({ cls := "BeforeTheEnd", name := "guess", desc := "(II)I" } : Jvm.MethodName)) ∈ lw_all := lw_g (lw_at lw_m5 33 rfl) rfl
theorem q1097 : (Jvm.Cond.code ({ cls := "BeforeTheEnd", name := "guess", desc := "(II)I" } : Jvm.MethodName) prog_1_method_67_code (3 : Nat) (Option.some Jvm.ClassFile.FieldType.int)) ∈ lw_all := lw_g (lw_at lw_m5 34 rfl) rfl
theorem q1099 : (Jvm.Cond.instanceMethod ({ cls := "BeforeTheEnd", name := "points", desc := "(II)I" } : Jvm.MethodName)) ∈ lw_all := lw_g (lw_at lw_m5 36 rfl) rfl
theorem q1100 : (Jvm.Cond.selects "BeforeTheEnd" ({ cls := "BeforeTheEnd", name := "points", desc := "(II)I" } : Jvm.MethodName) ({ cls := "BeforeTheEnd", name := "points", desc := "(II)I" } : Jvm.MethodName)) ∈ lw_all := lw_g (lw_at lw_m5 37 rfl) rfl
theorem q1101 : (Jvm.Cond.code ({ cls := "BeforeTheEnd", name := "points", desc := "(II)I" } : Jvm.MethodName) prog_1_method_68_code (3 : Nat) (Option.some Jvm.ClassFile.FieldType.int)) ∈ lw_all := lw_g (lw_at lw_m5 38 rfl) rfl
theorem q1103 : (Jvm.Cond.instanceMethod ({ cls := "BeforeTheEnd", name := "setOf", desc := "(II)I" } : Jvm.MethodName)) ∈ lw_all := lw_g (lw_at lw_m5 40 rfl) rfl
theorem q1104 : (Jvm.Cond.selects "BeforeTheEnd" ({ cls := "BeforeTheEnd", name := "setOf", desc := "(II)I" } : Jvm.MethodName) ({ cls := "BeforeTheEnd", name := "setOf", desc := "(II)I" } : Jvm.MethodName)) ∈ lw_all := lw_g (lw_at lw_m5 41 rfl) rfl
theorem q1105 : (Jvm.Cond.code ({ cls := "BeforeTheEnd", name := "setOf", desc := "(II)I" } : Jvm.MethodName) prog_1_method_69_code (3 : Nat) (Option.some Jvm.ClassFile.FieldType.int)) ∈ lw_all := lw_g (lw_at lw_m5 42 rfl) rfl
theorem q1107 : (Jvm.Cond.instanceMethod ({ cls := "BeforeTheEnd", name := "presses", desc := "(II)I" } : Jvm.MethodName)) ∈ lw_all := lw_g (lw_at lw_m5 44 rfl) rfl
theorem q1108 : (Jvm.Cond.selects "BeforeTheEnd" ({ cls := "BeforeTheEnd", name := "presses", desc := "(II)I" } : Jvm.MethodName) ({ cls := "BeforeTheEnd", name := "presses", desc := "(II)I" } : Jvm.MethodName)) ∈ lw_all := lw_g (lw_at lw_m5 45 rfl) rfl
theorem q1109 : (Jvm.Cond.code ({ cls := "BeforeTheEnd", name := "presses", desc := "(II)I" } : Jvm.MethodName) prog_1_method_70_code (3 : Nat) (Option.some Jvm.ClassFile.FieldType.int)) ∈ lw_all := lw_g (lw_at lw_m5 46 rfl) rfl
theorem q1111 : (Jvm.Cond.instanceMethod ({ cls := "BeforeTheEnd", name := "run", desc := "(II)I" } : Jvm.MethodName)) ∈ lw_all := lw_g (lw_at lw_m5 48 rfl) rfl
theorem q1112 : (Jvm.Cond.selects "BeforeTheEnd" ({ cls := "BeforeTheEnd", name := "run", desc := "(II)I" } : Jvm.MethodName) ({ cls := "BeforeTheEnd", name := "run", desc := "(II)I" } : Jvm.MethodName)) ∈ lw_all := lw_g (lw_at lw_m5 49 rfl) rfl
theorem q1113 : (Jvm.Cond.code ({ cls := "BeforeTheEnd", name := "run", desc := "(II)I" } : Jvm.MethodName) prog_1_method_71_code (3 : Nat) (Option.some Jvm.ClassFile.FieldType.int)) ∈ lw_all := lw_g (lw_at lw_m5 50 rfl) rfl
theorem q1115 : (Jvm.Cond.instanceMethod ({ cls := "BeforeTheEnd", name := "wins", desc := "(II)J" } : Jvm.MethodName)) ∈ lw_all := lw_g (lw_at lw_m5 52 rfl) rfl
theorem q1116 : (Jvm.Cond.selects "BeforeTheEnd" ({ cls := "BeforeTheEnd", name := "wins", desc := "(II)J" } : Jvm.MethodName) ({ cls := "BeforeTheEnd", name := "wins", desc := "(II)J" } : Jvm.MethodName)) ∈ lw_all := lw_g (lw_at lw_m5 53 rfl) rfl
theorem q1117 : (Jvm.Cond.code ({ cls := "BeforeTheEnd", name := "wins", desc := "(II)J" } : Jvm.MethodName) prog_1_method_72_code (3 : Nat) (Option.some Jvm.ClassFile.FieldType.long)) ∈ lw_all := lw_g (lw_at lw_m5 54 rfl) rfl
theorem q1118 : (Jvm.Cond.methodLink "BeforeTheEnd" (491 : Nat) ({ cls := "BeforeTheEnd", name := "allTold", desc := "(III)J" } : Jvm.MethodName)) ∈ lw_all := lw_g (lw_at lw_m5 55 rfl) rfl
theorem q1119 : (Jvm.Cond.privateMethod ({ cls := "BeforeTheEnd", name := "allTold", desc := "(III)J" } : Jvm.MethodName)) ∈ lw_tbl := lw_at lw_m5 56 rfl
theorem q1120 : (Jvm.Cond.instanceMethod ({ cls := "BeforeTheEnd", name := "allTold", desc := "(III)J" } : Jvm.MethodName)) ∈ lw_all := lw_g (lw_at lw_m5 57 rfl) rfl
theorem q1121 : (Jvm.Cond.codeWith ({ cls := "BeforeTheEnd", name := "allTold", desc := "(III)J" } : Jvm.MethodName) prog_1_method_57_code (6 : Nat) (Option.some Jvm.ClassFile.FieldType.long) [((0 : Nat), (81 : Nat), (82 : Nat), (343 : Nat))]) ∈ lw_all := lw_g (lw_at lw_m5 58 rfl) rfl
theorem q1123 : (Jvm.Cond.instanceMethod ({ cls := "BeforeTheEnd", name := "worth", desc := "(II)J" } : Jvm.MethodName)) ∈ lw_all := lw_g (lw_at lw_m5 60 rfl) rfl
theorem q1124 : (Jvm.Cond.selects "BeforeTheEnd" ({ cls := "BeforeTheEnd", name := "worth", desc := "(II)J" } : Jvm.MethodName) ({ cls := "BeforeTheEnd", name := "worth", desc := "(II)J" } : Jvm.MethodName)) ∈ lw_all := lw_g (lw_at lw_m5 61 rfl) rfl
theorem q1125 : (Jvm.Cond.code ({ cls := "BeforeTheEnd", name := "worth", desc := "(II)J" } : Jvm.MethodName) prog_1_method_73_code (3 : Nat) (Option.some Jvm.ClassFile.FieldType.long)) ∈ lw_all := lw_g (lw_at lw_m5 62 rfl) rfl
theorem q1127 : (Jvm.Cond.instanceMethod ({ cls := "BeforeTheEnd", name := "nobody", desc := "(I)J" } : Jvm.MethodName)) ∈ lw_all := lw_g (lw_at lw_m5 64 rfl) rfl
theorem q1128 : (Jvm.Cond.selects "BeforeTheEnd" ({ cls := "BeforeTheEnd", name := "nobody", desc := "(I)J" } : Jvm.MethodName) ({ cls := "BeforeTheEnd", name := "nobody", desc := "(I)J" } : Jvm.MethodName)) ∈ lw_all := lw_g (lw_at lw_m5 65 rfl) rfl
theorem q1129 : (Jvm.Cond.code ({ cls := "BeforeTheEnd", name := "nobody", desc := "(I)J" } : Jvm.MethodName) prog_1_method_74_code (2 : Nat) (Option.some Jvm.ClassFile.FieldType.long)) ∈ lw_all := lw_g (lw_at lw_m5 66 rfl) rfl
theorem q1131 : (Jvm.Cond.instanceMethod ({ cls := "BeforeTheEnd", name := "dull", desc := "(I)J" } : Jvm.MethodName)) ∈ lw_all := lw_g (lw_at lw_m5 68 rfl) rfl
theorem q1132 : (Jvm.Cond.selects "BeforeTheEnd" ({ cls := "BeforeTheEnd", name := "dull", desc := "(I)J" } : Jvm.MethodName) ({ cls := "BeforeTheEnd", name := "dull", desc := "(I)J" } : Jvm.MethodName)) ∈ lw_all := lw_g (lw_at lw_m5 69 rfl) rfl
theorem q1133 : (Jvm.Cond.code ({ cls := "BeforeTheEnd", name := "dull", desc := "(I)J" } : Jvm.MethodName) prog_1_method_75_code (2 : Nat) (Option.some Jvm.ClassFile.FieldType.long)) ∈ lw_all := lw_g (lw_at lw_m5 70 rfl) rfl
theorem q1135 : (Jvm.Cond.instanceMethod ({ cls := "BeforeTheEnd", name := "value", desc := "(III)J" } : Jvm.MethodName)) ∈ lw_all := lw_g (lw_at lw_m5 72 rfl) rfl
theorem q1136 : (Jvm.Cond.selects "BeforeTheEnd" ({ cls := "BeforeTheEnd", name := "value", desc := "(III)J" } : Jvm.MethodName) ({ cls := "BeforeTheEnd", name := "value", desc := "(III)J" } : Jvm.MethodName)) ∈ lw_all := lw_g (lw_at lw_m5 73 rfl) rfl
theorem q1137 : (Jvm.Cond.code ({ cls := "BeforeTheEnd", name := "value", desc := "(III)J" } : Jvm.MethodName) prog_1_method_76_code (4 : Nat) (Option.some Jvm.ClassFile.FieldType.long)) ∈ lw_all := lw_g (lw_at lw_m5 74 rfl) rfl
theorem q1138 : (Jvm.Cond.methodLink "BeforeTheEnd" (494 : Nat) ({ cls := "BeforeTheEnd", name := "valueTold", desc := "(III)J" } : Jvm.MethodName)) ∈ lw_all := lw_g (lw_at lw_m5 75 rfl) rfl
theorem q1139 : (Jvm.Cond.privateMethod ({ cls := "BeforeTheEnd", name := "valueTold", desc := "(III)J" } : Jvm.MethodName)) ∈ lw_tbl := lw_at lw_m5 76 rfl
theorem q1140 : (Jvm.Cond.instanceMethod ({ cls := "BeforeTheEnd", name := "valueTold", desc := "(III)J" } : Jvm.MethodName)) ∈ lw_all := lw_g (lw_at lw_m5 77 rfl) rfl
theorem q1141 : (Jvm.Cond.codeWith ({ cls := "BeforeTheEnd", name := "valueTold", desc := "(III)J" } : Jvm.MethodName) prog_1_method_58_code (5 : Nat) (Option.some Jvm.ClassFile.FieldType.long) [((0 : Nat), (47 : Nat), (48 : Nat), (343 : Nat))]) ∈ lw_all := lw_g (lw_at lw_m5 78 rfl) rfl
theorem q1143 : (Jvm.Cond.instanceMethod ({ cls := "BeforeTheEnd", name := "alone", desc := "(I)I" } : Jvm.MethodName)) ∈ lw_all := lw_g (lw_at lw_m5 80 rfl) rfl
theorem q1144 : (Jvm.Cond.selects "BeforeTheEnd" ({ cls := "BeforeTheEnd", name := "alone", desc := "(I)I" } : Jvm.MethodName) ({ cls := "BeforeTheEnd", name := "alone", desc := "(I)I" } : Jvm.MethodName)) ∈ lw_all := lw_g (lw_at lw_m5 81 rfl) rfl
theorem q1145 : (Jvm.Cond.code ({ cls := "BeforeTheEnd", name := "alone", desc := "(I)I" } : Jvm.MethodName) prog_1_method_77_code (2 : Nat) (Option.some Jvm.ClassFile.FieldType.int)) ∈ lw_all := lw_g (lw_at lw_m5 82 rfl) rfl
theorem q1147 : (Jvm.Cond.instanceMethod ({ cls := "BeforeTheEnd", name := "reply", desc := "(II)I" } : Jvm.MethodName)) ∈ lw_all := lw_g (lw_at lw_m5 84 rfl) rfl
theorem q1148 : (Jvm.Cond.selects "BeforeTheEnd" ({ cls := "BeforeTheEnd", name := "reply", desc := "(II)I" } : Jvm.MethodName) ({ cls := "BeforeTheEnd", name := "reply", desc := "(II)I" } : Jvm.MethodName)) ∈ lw_all := lw_g (lw_at lw_m5 85 rfl) rfl
theorem q1149 : (Jvm.Cond.code ({ cls := "BeforeTheEnd", name := "reply", desc := "(II)I" } : Jvm.MethodName) prog_1_method_78_code (3 : Nat) (Option.some Jvm.ClassFile.FieldType.int)) ∈ lw_all := lw_g (lw_at lw_m5 86 rfl) rfl
theorem q1151 : (Jvm.Cond.instanceMethod ({ cls := "BeforeTheEnd", name := "rest", desc := "(II)I" } : Jvm.MethodName)) ∈ lw_all := lw_g (lw_at lw_m5 88 rfl) rfl
theorem q1152 : (Jvm.Cond.selects "BeforeTheEnd" ({ cls := "BeforeTheEnd", name := "rest", desc := "(II)I" } : Jvm.MethodName) ({ cls := "BeforeTheEnd", name := "rest", desc := "(II)I" } : Jvm.MethodName)) ∈ lw_all := lw_g (lw_at lw_m5 89 rfl) rfl
theorem q1153 : (Jvm.Cond.code ({ cls := "BeforeTheEnd", name := "rest", desc := "(II)I" } : Jvm.MethodName) prog_1_method_79_code (3 : Nat) (Option.some Jvm.ClassFile.FieldType.int)) ∈ lw_all := lw_g (lw_at lw_m5 90 rfl) rfl
theorem q1155 : (Jvm.Cond.instanceMethod ({ cls := "BeforeTheEnd", name := "law", desc := "(I)I" } : Jvm.MethodName)) ∈ lw_all := lw_g (lw_at lw_m5 92 rfl) rfl
theorem q1156 : (Jvm.Cond.selects "BeforeTheEnd" ({ cls := "BeforeTheEnd", name := "law", desc := "(I)I" } : Jvm.MethodName) ({ cls := "BeforeTheEnd", name := "law", desc := "(I)I" } : Jvm.MethodName)) ∈ lw_all := lw_g (lw_at lw_m5 93 rfl) rfl
theorem q1157 : (Jvm.Cond.code ({ cls := "BeforeTheEnd", name := "law", desc := "(I)I" } : Jvm.MethodName) prog_1_method_80_code (2 : Nat) (Option.some Jvm.ClassFile.FieldType.int)) ∈ lw_all := lw_g (lw_at lw_m5 94 rfl) rfl
theorem q1159 : (Jvm.Cond.instanceMethod ({ cls := "BeforeTheEnd", name := "mostEarly", desc := "(I)I" } : Jvm.MethodName)) ∈ lw_all := lw_g (lw_at lw_m5 96 rfl) rfl
theorem q1160 : (Jvm.Cond.selects "BeforeTheEnd" ({ cls := "BeforeTheEnd", name := "mostEarly", desc := "(I)I" } : Jvm.MethodName) ({ cls := "BeforeTheEnd", name := "mostEarly", desc := "(I)I" } : Jvm.MethodName)) ∈ lw_all := lw_g (lw_at lw_m5 97 rfl) rfl
theorem q1161 : (Jvm.Cond.code ({ cls := "BeforeTheEnd", name := "mostEarly", desc := "(I)I" } : Jvm.MethodName) prog_1_method_81_code (2 : Nat) (Option.some Jvm.ClassFile.FieldType.int)) ∈ lw_all := lw_g (lw_at lw_m5 98 rfl) rfl
theorem q1163 : (Jvm.Cond.instanceMethod ({ cls := "BeforeTheEnd", name := "silent", desc := "(II)I" } : Jvm.MethodName)) ∈ lw_all := lw_g (lw_at lw_m5 100 rfl) rfl
theorem q1164 : (Jvm.Cond.selects "BeforeTheEnd" ({ cls := "BeforeTheEnd", name := "silent", desc := "(II)I" } : Jvm.MethodName) ({ cls := "BeforeTheEnd", name := "silent", desc := "(II)I" } : Jvm.MethodName)) ∈ lw_all := lw_g (lw_at lw_m5 101 rfl) rfl
theorem q1165 : (Jvm.Cond.code ({ cls := "BeforeTheEnd", name := "silent", desc := "(II)I" } : Jvm.MethodName) prog_1_method_82_code (3 : Nat) (Option.some Jvm.ClassFile.FieldType.int)) ∈ lw_all := lw_g (lw_at lw_m5 102 rfl) rfl
theorem q1167 : (Jvm.Cond.instanceMethod ({ cls := "BeforeTheEnd", name := "partners", desc := "(III)I" } : Jvm.MethodName)) ∈ lw_all := lw_g (lw_at lw_m5 104 rfl) rfl
theorem q1168 : (Jvm.Cond.selects "BeforeTheEnd" ({ cls := "BeforeTheEnd", name := "partners", desc := "(III)I" } : Jvm.MethodName) ({ cls := "BeforeTheEnd", name := "partners", desc := "(III)I" } : Jvm.MethodName)) ∈ lw_all := lw_g (lw_at lw_m5 105 rfl) rfl
theorem q1169 : (Jvm.Cond.code ({ cls := "BeforeTheEnd", name := "partners", desc := "(III)I" } : Jvm.MethodName) prog_1_method_83_code (4 : Nat) (Option.some Jvm.ClassFile.FieldType.int)) ∈ lw_all := lw_g (lw_at lw_m5 106 rfl) rfl
theorem q1171 : (Jvm.Cond.instanceMethod ({ cls := "BeforeTheEnd", name := "fact", desc := "(I)I" } : Jvm.MethodName)) ∈ lw_all := lw_g (lw_at lw_m5 108 rfl) rfl
theorem q1172 : (Jvm.Cond.selects "BeforeTheEnd" ({ cls := "BeforeTheEnd", name := "fact", desc := "(I)I" } : Jvm.MethodName) ({ cls := "BeforeTheEnd", name := "fact", desc := "(I)I" } : Jvm.MethodName)) ∈ lw_all := lw_g (lw_at lw_m5 109 rfl) rfl
theorem q1173 : (Jvm.Cond.code ({ cls := "BeforeTheEnd", name := "fact", desc := "(I)I" } : Jvm.MethodName) prog_1_method_84_code (2 : Nat) (Option.some Jvm.ClassFile.FieldType.int)) ∈ lw_all := lw_g (lw_at lw_m5 110 rfl) rfl
theorem q1175 : (Jvm.Cond.instanceMethod ({ cls := "BeforeTheEnd", name := "had", desc := "(II)I" } : Jvm.MethodName)) ∈ lw_all := lw_g (lw_at lw_m5 112 rfl) rfl
theorem q1176 : (Jvm.Cond.selects "BeforeTheEnd" ({ cls := "BeforeTheEnd", name := "had", desc := "(II)I" } : Jvm.MethodName) ({ cls := "BeforeTheEnd", name := "had", desc := "(II)I" } : Jvm.MethodName)) ∈ lw_all := lw_g (lw_at lw_m5 113 rfl) rfl
theorem q1177 : (Jvm.Cond.code ({ cls := "BeforeTheEnd", name := "had", desc := "(II)I" } : Jvm.MethodName) prog_1_method_85_code (3 : Nat) (Option.some Jvm.ClassFile.FieldType.int)) ∈ lw_all := lw_g (lw_at lw_m5 114 rfl) rfl
theorem q1179 : (Jvm.Cond.instanceMethod ({ cls := "BeforeTheEnd", name := "late", desc := "(I)I" } : Jvm.MethodName)) ∈ lw_all := lw_g (lw_at lw_m5 116 rfl) rfl
theorem q1180 : (Jvm.Cond.selects "BeforeTheEnd" ({ cls := "BeforeTheEnd", name := "late", desc := "(I)I" } : Jvm.MethodName) ({ cls := "BeforeTheEnd", name := "late", desc := "(I)I" } : Jvm.MethodName)) ∈ lw_all := lw_g (lw_at lw_m5 117 rfl) rfl
theorem q1181 : (Jvm.Cond.code ({ cls := "BeforeTheEnd", name := "late", desc := "(I)I" } : Jvm.MethodName) prog_1_method_86_code (2 : Nat) (Option.some Jvm.ClassFile.FieldType.int)) ∈ lw_all := lw_g (lw_at lw_m5 118 rfl) rfl
theorem q1183 : (Jvm.Cond.instanceMethod ({ cls := "BeforeTheEnd", name := "soon", desc := "(I)I" } : Jvm.MethodName)) ∈ lw_all := lw_g (lw_at lw_m5 120 rfl) rfl
theorem q1184 : (Jvm.Cond.selects "BeforeTheEnd" ({ cls := "BeforeTheEnd", name := "soon", desc := "(I)I" } : Jvm.MethodName) ({ cls := "BeforeTheEnd", name := "soon", desc := "(I)I" } : Jvm.MethodName)) ∈ lw_all := lw_g (lw_at lw_m5 121 rfl) rfl
theorem q1185 : (Jvm.Cond.code ({ cls := "BeforeTheEnd", name := "soon", desc := "(I)I" } : Jvm.MethodName) prog_1_method_87_code (2 : Nat) (Option.some Jvm.ClassFile.FieldType.int)) ∈ lw_all := lw_g (lw_at lw_m5 122 rfl) rfl
theorem q1187 : (Jvm.Cond.instanceMethod ({ cls := "BeforeTheEnd", name := "evening", desc := "(III)I" } : Jvm.MethodName)) ∈ lw_all := lw_g (lw_at lw_m5 124 rfl) rfl
theorem q1188 : (Jvm.Cond.selects "BeforeTheEnd" ({ cls := "BeforeTheEnd", name := "evening", desc := "(III)I" } : Jvm.MethodName) ({ cls := "BeforeTheEnd", name := "evening", desc := "(III)I" } : Jvm.MethodName)) ∈ lw_all := lw_g (lw_at lw_m5 125 rfl) rfl
theorem q1189 : (Jvm.Cond.code ({ cls := "BeforeTheEnd", name := "evening", desc := "(III)I" } : Jvm.MethodName) prog_1_method_88_code (4 : Nat) (Option.some Jvm.ClassFile.FieldType.int)) ∈ lw_all := lw_g (lw_at lw_m5 126 rfl) rfl
theorem q1190 : (Jvm.Cond.methodLink "BeforeTheEnd" (497 : Nat) ({ cls := "BeforeTheEnd", name := "actFar", desc := "(IIII)I" } : Jvm.MethodName)) ∈ lw_all := lw_g (lw_at lw_m5 127 rfl) rfl
theorem q1191 : (Jvm.Cond.privateMethod ({ cls := "BeforeTheEnd", name := "actFar", desc := "(IIII)I" } : Jvm.MethodName)) ∈ lw_tbl := lw_at lw_m5 128 rfl
theorem q1192 : (Jvm.Cond.instanceMethod ({ cls := "BeforeTheEnd", name := "actFar", desc := "(IIII)I" } : Jvm.MethodName)) ∈ lw_all := lw_g (lw_at lw_m5 129 rfl) rfl
theorem q1193 : (Jvm.Cond.codeWith ({ cls := "BeforeTheEnd", name := "actFar", desc := "(IIII)I" } : Jvm.MethodName) prog_1_method_37_code (6 : Nat) (Option.some Jvm.ClassFile.FieldType.int) [((0 : Nat), (9 : Nat), (10 : Nat), (343 : Nat))]) ∈ lw_all := lw_g (lw_at lw_m5 130 rfl) rfl
theorem q1194 : (Jvm.Cond.constant "BeforeTheEnd" (351 : Nat) (1000000000 : Int32)) ∈ lw_all := lw_g (lw_at lw_m5 131 rfl) rfl
theorem q1196 : (Jvm.Cond.instanceMethod ({ cls := "BeforeTheEnd", name := "row", desc := "(I)I" } : Jvm.MethodName)) ∈ lw_all := lw_g (lw_at lw_m5 133 rfl) rfl
theorem q1197 : (Jvm.Cond.selects "BeforeTheEnd" ({ cls := "BeforeTheEnd", name := "row", desc := "(I)I" } : Jvm.MethodName) ({ cls := "BeforeTheEnd", name := "row", desc := "(I)I" } : Jvm.MethodName)) ∈ lw_all := lw_g (lw_at lw_m5 134 rfl) rfl
theorem q1198 : (Jvm.Cond.code ({ cls := "BeforeTheEnd", name := "row", desc := "(I)I" } : Jvm.MethodName) prog_1_method_89_code (2 : Nat) (Option.some Jvm.ClassFile.FieldType.int)) ∈ lw_all := lw_g (lw_at lw_m5 135 rfl) rfl
theorem q1200 : (Jvm.Cond.instanceMethod ({ cls := "BeforeTheEnd", name := "judge", desc := "(I)I" } : Jvm.MethodName)) ∈ lw_all := lw_g (lw_at lw_m5 137 rfl) rfl
theorem q1201 : (Jvm.Cond.selects "BeforeTheEnd" ({ cls := "BeforeTheEnd", name := "judge", desc := "(I)I" } : Jvm.MethodName) ({ cls := "BeforeTheEnd", name := "judge", desc := "(I)I" } : Jvm.MethodName)) ∈ lw_all := lw_g (lw_at lw_m5 138 rfl) rfl
theorem q1202 : (Jvm.Cond.code ({ cls := "BeforeTheEnd", name := "judge", desc := "(I)I" } : Jvm.MethodName) prog_1_method_90_code (2 : Nat) (Option.some Jvm.ClassFile.FieldType.int)) ∈ lw_all := lw_g (lw_at lw_m5 139 rfl) rfl
theorem q1204 : (Jvm.Cond.instanceMethod ({ cls := "BeforeTheEnd", name := "image", desc := "()I" } : Jvm.MethodName)) ∈ lw_all := lw_g (lw_at lw_m5 141 rfl) rfl
theorem q1205 : (Jvm.Cond.selects "BeforeTheEnd" ({ cls := "BeforeTheEnd", name := "image", desc := "()I" } : Jvm.MethodName) ({ cls := "BeforeTheEnd", name := "image", desc := "()I" } : Jvm.MethodName)) ∈ lw_all := lw_g (lw_at lw_m5 142 rfl) rfl
theorem q1206 : (Jvm.Cond.code ({ cls := "BeforeTheEnd", name := "image", desc := "()I" } : Jvm.MethodName) prog_1_method_91_code (1 : Nat) (Option.some Jvm.ClassFile.FieldType.int)) ∈ lw_all := lw_g (lw_at lw_m5 143 rfl) rfl
theorem q1208 : (Jvm.Cond.instanceMethod ({ cls := "BeforeTheEnd", name := "on", desc := "()I" } : Jvm.MethodName)) ∈ lw_all := lw_g (lw_at lw_m5 145 rfl) rfl
theorem q1209 : (Jvm.Cond.selects "BeforeTheEnd" ({ cls := "BeforeTheEnd", name := "on", desc := "()I" } : Jvm.MethodName) ({ cls := "BeforeTheEnd", name := "on", desc := "()I" } : Jvm.MethodName)) ∈ lw_all := lw_g (lw_at lw_m5 146 rfl) rfl
theorem q1210 : (Jvm.Cond.code ({ cls := "BeforeTheEnd", name := "on", desc := "()I" } : Jvm.MethodName) prog_1_method_92_code (1 : Nat) (Option.some Jvm.ClassFile.FieldType.int)) ∈ lw_all := lw_g (lw_at lw_m5 147 rfl) rfl
theorem q1212 : (Jvm.Cond.instanceMethod ({ cls := "BeforeTheEnd", name := "count", desc := "(I)I" } : Jvm.MethodName)) ∈ lw_all := lw_g (lw_at lw_m5 149 rfl) rfl
theorem q1213 : (Jvm.Cond.selects "BeforeTheEnd" ({ cls := "BeforeTheEnd", name := "count", desc := "(I)I" } : Jvm.MethodName) ({ cls := "BeforeTheEnd", name := "count", desc := "(I)I" } : Jvm.MethodName)) ∈ lw_all := lw_g (lw_at lw_m5 150 rfl) rfl
theorem q1214 : (Jvm.Cond.code ({ cls := "BeforeTheEnd", name := "count", desc := "(I)I" } : Jvm.MethodName) prog_1_method_93_code (4 : Nat) (Option.some Jvm.ClassFile.FieldType.int)) ∈ lw_all := lw_g (lw_at lw_m5 151 rfl) rfl
theorem q1215 : (Jvm.Cond.constantLong "BeforeTheEnd" (500 : Nat) (11 : Int64)) ∈ lw_all := lw_g (lw_at lw_m5 152 rfl) rfl
theorem q1216 : (Jvm.Cond.constantLong "BeforeTheEnd" (502 : Nat) (16 : Int64)) ∈ lw_all := lw_g (lw_at lw_m5 153 rfl) rfl
theorem in_X0 : ∀ w ∈ wsX00, w ∈ lw_all := lw_in wsX00 [220, 222, 224, 226, 228, 230, 232, 234, 236, 238, 240, 242, 244, 246, 248, 250, 252, 254, 256, 258, 260, 262, 264, 266, 268, 270, 272, 274, 276, 278, 280] (by decide +kernel) (by decide +kernel)
