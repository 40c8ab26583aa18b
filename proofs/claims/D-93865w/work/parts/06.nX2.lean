/-! BeforeTheEndModel -/
set_option maxRecDepth 100000
def RX2 : String := "BeforeTheEndModel"
def TX2 : u_T := fun k => match k with
  | 0 => ("BeforeTheEndModel", "refused", "[I", true)
  | 1 => ("BeforeTheEndModel", "parent", "[I", true)
  | 2 => ("BeforeTheEndModel", "weight", "[I", true)
  | 3 => ("BeforeTheEndModel", "answer", "[I", true)
  | 4 => ("BeforeTheEndModel", "length", "[I", true)
  | 5 => ("BeforeTheEndModel", "kind", "[I", true)
  | 6 => ("BeforeTheEndModel", "knows", "[I", true)
  | 7 => ("BeforeTheEndModel", "hand", "[I", true)
  | 8 => ("BeforeTheEndModel", "sure", "[I", true)
  | 9 => ("BeforeTheEndModel", "told", "[I", true)
  | 10 => ("BeforeTheEndModel", "points", "[I", true)
  | 11 => ("BeforeTheEndModel", "most", "[I", true)
  | 12 => ("BeforeTheEndModel", "words", "I", false)
  | 13 => ("BeforeTheEndModel", "players", "I", false)
  | 14 => ("BeforeTheEndModel", "tape", "[I", true)
  | 15 => ("BeforeTheEndModel", "told1", "[I", true)
  | 16 => ("BeforeTheEndModel", "told2", "[I", true)
  | 17 => ("BeforeTheEndModel", "told3", "[I", true)
  | 18 => ("BeforeTheEndModel", "toldSet", "[I", true)
  | 19 => ("BeforeTheEndModel", "toldKind", "[I", true)
  | 20 => ("BeforeTheEndModel", "toldAt", "[I", true)
  | 21 => ("BeforeTheEndModel", "taped", "I", false)
  | 22 => ("BeforeTheEndModel", "at", "I", false)
  | 23 => ("BeforeTheEndModel", "statements", "I", false)
  | 24 => ("BeforeTheEndModel", "share", "[J", true)
  | 25 => ("BeforeTheEndModel", "ofAnswer", "[J", true)
  | 26 => ("BeforeTheEndModel", "guessAt", "[I", true)
  | 27 => ("BeforeTheEndModel", "presses", "[I", true)
  | 28 => ("BeforeTheEndModel", "learnt", "[I", true)
  | 29 => ("BeforeTheEndModel", "unit", "J", false)
  | 30 => ("BeforeTheEndModel", "worthAt", "[J", true)
  | 31 => ("BeforeTheEndModel", "aloneSet", "I", false)
  | 32 => ("BeforeTheEndModel", "way", "[I", true)
  | 33 => ("BeforeTheEndModel", "gets", "[I", true)
  | 34 => ("BeforeTheEndModel", "winner", "I", false)
  | 35 => ("BeforeTheEndModel", "firstWord", "I", false)
  | 36 => ("BeforeTheEndModel", "firstWho", "I", false)
  | 37 => ("BeforeTheEndModel", "wrongs", "I", false)
  | 38 => ("BeforeTheEndModel", "out", "I", false)
  | 39 => ("BeforeTheEndModel", "bestWorth", "J", false)
  | 40 => ("BeforeTheEndModel", "bestSet", "I", false)
  | 41 => ("BeforeTheEndModel", "fact", "[I", true)
  | 42 => ("BeforeTheEndModel", "order", "[I", true)
  | 43 => ("BeforeTheEndModel", "bestOrder", "[I", true)
  | 44 => ("BeforeTheEndModel", "facts", "I", false)
  | 45 => ("BeforeTheEndModel", "lots", "I", false)
  | 46 => ("BeforeTheEndModel", "row", "[I", true)
  | 47 => ("BeforeTheEndModel", "rowMany", "I", false)
  | 48 => ("BeforeTheEndModel", "kept", "[I", true)
  | 49 => ("BeforeTheEndModel", "hasImage", "Z", false)
  | 50 => ("BeforeTheEndModel", "isKeeping", "Z", false)
  | _ => ("BeforeTheEndModel", "cursor", "I", false)
def tyX2 : Nat → FieldType := fun k => match k with
  | 0 => .array .int
  | 1 => .array .int
  | 2 => .array .int
  | 3 => .array .int
  | 4 => .array .int
  | 5 => .array .int
  | 6 => .array .int
  | 7 => .array .int
  | 8 => .array .int
  | 9 => .array .int
  | 10 => .array .int
  | 11 => .array .int
  | 12 => .int
  | 13 => .int
  | 14 => .array .int
  | 15 => .array .int
  | 16 => .array .int
  | 17 => .array .int
  | 18 => .array .int
  | 19 => .array .int
  | 20 => .array .int
  | 21 => .int
  | 22 => .int
  | 23 => .int
  | 24 => .array .long
  | 25 => .array .long
  | 26 => .array .int
  | 27 => .array .int
  | 28 => .array .int
  | 29 => .long
  | 30 => .array .long
  | 31 => .int
  | 32 => .array .int
  | 33 => .array .int
  | 34 => .int
  | 35 => .int
  | 36 => .int
  | 37 => .int
  | 38 => .int
  | 39 => .long
  | 40 => .int
  | 41 => .array .int
  | 42 => .array .int
  | 43 => .array .int
  | 44 => .int
  | 45 => .int
  | 46 => .array .int
  | 47 => .int
  | 48 => .array .int
  | 49 => .boolean
  | 50 => .boolean
  | _ => .int
abbrev wsX20 : List Cond := u_ws RX2 TX2 52
set_option maxRecDepth 100000 in
theorem nmX2 : ∀ a, a < 52 → ∀ b, b < 52 → a ≠ b → (TX2 a).2.1 ≠ (TX2 b).2.1 := by decide +kernel
set_option maxRecDepth 100000 in
theorem tyX2_ok : ∀ k, k < 52 → parseFieldDescriptor (TX2 k).2.2.1 = some (tyX2 k) := by decide +kernel
abbrev cX2_init : ByteArray := prog_18_method_1_code
def yX2_init : MethodName := ⟨RX2, "<init>", "()V"⟩
def dkwX2_init_12 : List UInt8 := [181, 0, 105, 42, 17, 0, 140, 188, 10, 181, 0, 108, 177]
abbrev dktX2_init_12 : List UInt8 := dkwX2_init_12 ++ []
def dkwX2_init_11 : List UInt8 := [181, 0, 96, 42, 8, 188, 10, 181, 0, 99, 42, 8, 188, 10, 181, 0, 102, 42, 16, 20, 188, 10]
abbrev dktX2_init_11 : List UInt8 := dkwX2_init_11 ++ dktX2_init_12
def dkwX2_init_10 : List UInt8 := [181, 0, 87, 42, 16, 24, 188, 10, 181, 0, 90, 42, 7, 188, 10, 181, 0, 93, 42, 8, 188, 10]
abbrev dktX2_init_10 : List UInt8 := dkwX2_init_10 ++ dktX2_init_11
def dkwX2_init_9 : List UInt8 := [181, 0, 78, 42, 7, 188, 10, 181, 0, 81, 42, 7, 188, 10, 181, 0, 84, 42, 16, 24, 188, 11]
abbrev dktX2_init_9 : List UInt8 := dkwX2_init_9 ++ dktX2_init_10
def dkwX2_init_8 : List UInt8 := [42, 16, 24, 188, 11, 181, 0, 71, 42, 17, 0, 240, 188, 11, 181, 0, 75, 42, 16, 96, 188, 10]
abbrev dktX2_init_8 : List UInt8 := dkwX2_init_8 ++ dktX2_init_9
def dkwX2_init_7 : List UInt8 := [42, 16, 32, 188, 10, 181, 0, 62, 42, 16, 32, 188, 10, 181, 0, 65, 42, 16, 32, 188, 10, 181, 0, 68]
abbrev dktX2_init_7 : List UInt8 := dkwX2_init_7 ++ dktX2_init_8
def dkwX2_init_6 : List UInt8 := [42, 16, 32, 188, 10, 181, 0, 53, 42, 16, 32, 188, 10, 181, 0, 56, 42, 16, 32, 188, 10, 181, 0, 59]
abbrev dktX2_init_6 : List UInt8 := dkwX2_init_6 ++ dktX2_init_7
def dkwX2_init_5 : List UInt8 := [89, 5, 8, 79, 89, 6, 4, 79, 181, 0, 43, 42, 4, 181, 0, 46, 42, 16, 64, 188, 10, 181, 0, 50]
abbrev dktX2_init_5 : List UInt8 := dkwX2_init_5 ++ dktX2_init_6
def dkwX2_init_4 : List UInt8 := [5, 3, 79, 89, 6, 4, 79, 181, 0, 40, 42, 7, 188, 10, 89, 3, 16, 20, 79, 89, 4, 16, 20, 79]
abbrev dktX2_init_4 : List UInt8 := dkwX2_init_4 ++ dktX2_init_5
def dkwX2_init_3 : List UInt8 := [181, 0, 34, 42, 7, 188, 10, 181, 0, 37, 42, 7, 188, 10, 89, 3, 16, 10, 79, 89, 4, 8, 79, 89]
abbrev dktX2_init_3 : List UInt8 := dkwX2_init_3 ++ dktX2_init_4
def dkwX2_init_2 : List UInt8 := [188, 10, 181, 0, 25, 42, 7, 188, 10, 181, 0, 28, 42, 7, 188, 10, 181, 0, 31, 42, 7, 188, 10]
abbrev dktX2_init_2 : List UInt8 := dkwX2_init_2 ++ dktX2_init_3
def dkwX2_init_1 : List UInt8 := [188, 10, 181, 0, 16, 42, 16, 24, 188, 10, 181, 0, 19, 42, 16, 24, 188, 10, 181, 0, 22, 42, 7]
abbrev dktX2_init_1 : List UInt8 := dkwX2_init_1 ++ dktX2_init_2
def dkwX2_init_0 : List UInt8 := [42, 183, 0, 1, 42, 16, 7, 188, 10, 181, 0, 7, 42, 16, 24, 188, 10, 181, 0, 13, 42, 16, 24]
abbrev dktX2_init_0 : List UInt8 := dkwX2_init_0 ++ dktX2_init_1
theorem dksX2_init_0 : cX2_init.data.toList.drop 0 = dktX2_init_0 := by decide +kernel
theorem dksX2_init_1 : cX2_init.data.toList.drop 23 = dktX2_init_1 := dk_seg dksX2_init_0 23 rfl rfl
theorem dksX2_init_2 : cX2_init.data.toList.drop 46 = dktX2_init_2 := dk_seg dksX2_init_1 23 rfl rfl
theorem dksX2_init_3 : cX2_init.data.toList.drop 69 = dktX2_init_3 := dk_seg dksX2_init_2 23 rfl rfl
theorem dksX2_init_4 : cX2_init.data.toList.drop 93 = dktX2_init_4 := dk_seg dksX2_init_3 24 rfl rfl
theorem dksX2_init_5 : cX2_init.data.toList.drop 117 = dktX2_init_5 := dk_seg dksX2_init_4 24 rfl rfl
theorem dksX2_init_6 : cX2_init.data.toList.drop 141 = dktX2_init_6 := dk_seg dksX2_init_5 24 rfl rfl
theorem dksX2_init_7 : cX2_init.data.toList.drop 165 = dktX2_init_7 := dk_seg dksX2_init_6 24 rfl rfl
theorem dksX2_init_8 : cX2_init.data.toList.drop 189 = dktX2_init_8 := dk_seg dksX2_init_7 24 rfl rfl
theorem dksX2_init_9 : cX2_init.data.toList.drop 211 = dktX2_init_9 := dk_seg dksX2_init_8 22 rfl rfl
theorem dksX2_init_10 : cX2_init.data.toList.drop 233 = dktX2_init_10 := dk_seg dksX2_init_9 22 rfl rfl
theorem dksX2_init_11 : cX2_init.data.toList.drop 255 = dktX2_init_11 := dk_seg dksX2_init_10 22 rfl rfl
theorem dksX2_init_12 : cX2_init.data.toList.drop 277 = dktX2_init_12 := dk_seg dksX2_init_11 22 rfl rfl
theorem dX2_init_0 : decode cX2_init 0 = .ok (.aload_n 0, 1) := dk_42 (dk_at dksX2_init_0 0 rfl rfl)
theorem dX2_init_1 : decode cX2_init 1 = .ok (.invokespecial 1, 3) := dk_183 0 1 (dk_at dksX2_init_0 1 rfl rfl)
theorem dX2_init_4 : decode cX2_init 4 = .ok (.aload_n 0, 1) := dk_42 (dk_at dksX2_init_0 4 rfl rfl)
theorem dX2_init_5 : decode cX2_init 5 = .ok (.bipush 7, 2) := dk_16 7 (dk_at dksX2_init_0 5 rfl rfl)
theorem dX2_init_7 : decode cX2_init 7 = .ok (.newarray .int, 2) := dk_188_10 (dk_at dksX2_init_0 7 rfl rfl)
theorem dX2_init_9 : decode cX2_init 9 = .ok (.putfield 7, 3) := dk_181 0 7 (dk_at dksX2_init_0 9 rfl rfl)
theorem dX2_init_12 : decode cX2_init 12 = .ok (.aload_n 0, 1) := dk_42 (dk_at dksX2_init_0 12 rfl rfl)
theorem dX2_init_13 : decode cX2_init 13 = .ok (.bipush 24, 2) := dk_16 24 (dk_at dksX2_init_0 13 rfl rfl)
theorem dX2_init_15 : decode cX2_init 15 = .ok (.newarray .int, 2) := dk_188_10 (dk_at dksX2_init_0 15 rfl rfl)
theorem dX2_init_17 : decode cX2_init 17 = .ok (.putfield 13, 3) := dk_181 0 13 (dk_at dksX2_init_0 17 rfl rfl)
theorem dX2_init_20 : decode cX2_init 20 = .ok (.aload_n 0, 1) := dk_42 (dk_at dksX2_init_0 20 rfl rfl)
theorem dX2_init_21 : decode cX2_init 21 = .ok (.bipush 24, 2) := dk_16 24 (dk_at dksX2_init_0 21 rfl rfl)
theorem dX2_init_23 : decode cX2_init 23 = .ok (.newarray .int, 2) := dk_188_10 (dk_at dksX2_init_1 0 rfl rfl)
theorem dX2_init_25 : decode cX2_init 25 = .ok (.putfield 16, 3) := dk_181 0 16 (dk_at dksX2_init_1 2 rfl rfl)
theorem dX2_init_28 : decode cX2_init 28 = .ok (.aload_n 0, 1) := dk_42 (dk_at dksX2_init_1 5 rfl rfl)
theorem dX2_init_29 : decode cX2_init 29 = .ok (.bipush 24, 2) := dk_16 24 (dk_at dksX2_init_1 6 rfl rfl)
theorem dX2_init_31 : decode cX2_init 31 = .ok (.newarray .int, 2) := dk_188_10 (dk_at dksX2_init_1 8 rfl rfl)
theorem dX2_init_33 : decode cX2_init 33 = .ok (.putfield 19, 3) := dk_181 0 19 (dk_at dksX2_init_1 10 rfl rfl)
theorem dX2_init_36 : decode cX2_init 36 = .ok (.aload_n 0, 1) := dk_42 (dk_at dksX2_init_1 13 rfl rfl)
theorem dX2_init_37 : decode cX2_init 37 = .ok (.bipush 24, 2) := dk_16 24 (dk_at dksX2_init_1 14 rfl rfl)
theorem dX2_init_39 : decode cX2_init 39 = .ok (.newarray .int, 2) := dk_188_10 (dk_at dksX2_init_1 16 rfl rfl)
theorem dX2_init_41 : decode cX2_init 41 = .ok (.putfield 22, 3) := dk_181 0 22 (dk_at dksX2_init_1 18 rfl rfl)
theorem dX2_init_44 : decode cX2_init 44 = .ok (.aload_n 0, 1) := dk_42 (dk_at dksX2_init_1 21 rfl rfl)
theorem dX2_init_45 : decode cX2_init 45 = .ok (.iconst 4, 1) := dk_7 (dk_at dksX2_init_1 22 rfl rfl)
theorem dX2_init_46 : decode cX2_init 46 = .ok (.newarray .int, 2) := dk_188_10 (dk_at dksX2_init_2 0 rfl rfl)
theorem dX2_init_48 : decode cX2_init 48 = .ok (.putfield 25, 3) := dk_181 0 25 (dk_at dksX2_init_2 2 rfl rfl)
theorem dX2_init_51 : decode cX2_init 51 = .ok (.aload_n 0, 1) := dk_42 (dk_at dksX2_init_2 5 rfl rfl)
theorem dX2_init_52 : decode cX2_init 52 = .ok (.iconst 4, 1) := dk_7 (dk_at dksX2_init_2 6 rfl rfl)
theorem dX2_init_53 : decode cX2_init 53 = .ok (.newarray .int, 2) := dk_188_10 (dk_at dksX2_init_2 7 rfl rfl)
theorem dX2_init_55 : decode cX2_init 55 = .ok (.putfield 28, 3) := dk_181 0 28 (dk_at dksX2_init_2 9 rfl rfl)
theorem dX2_init_58 : decode cX2_init 58 = .ok (.aload_n 0, 1) := dk_42 (dk_at dksX2_init_2 12 rfl rfl)
theorem dX2_init_59 : decode cX2_init 59 = .ok (.iconst 4, 1) := dk_7 (dk_at dksX2_init_2 13 rfl rfl)
theorem dX2_init_60 : decode cX2_init 60 = .ok (.newarray .int, 2) := dk_188_10 (dk_at dksX2_init_2 14 rfl rfl)
theorem dX2_init_62 : decode cX2_init 62 = .ok (.putfield 31, 3) := dk_181 0 31 (dk_at dksX2_init_2 16 rfl rfl)
theorem dX2_init_65 : decode cX2_init 65 = .ok (.aload_n 0, 1) := dk_42 (dk_at dksX2_init_2 19 rfl rfl)
theorem dX2_init_66 : decode cX2_init 66 = .ok (.iconst 4, 1) := dk_7 (dk_at dksX2_init_2 20 rfl rfl)
theorem dX2_init_67 : decode cX2_init 67 = .ok (.newarray .int, 2) := dk_188_10 (dk_at dksX2_init_2 21 rfl rfl)
theorem dX2_init_69 : decode cX2_init 69 = .ok (.putfield 34, 3) := dk_181 0 34 (dk_at dksX2_init_3 0 rfl rfl)
theorem dX2_init_72 : decode cX2_init 72 = .ok (.aload_n 0, 1) := dk_42 (dk_at dksX2_init_3 3 rfl rfl)
theorem dX2_init_73 : decode cX2_init 73 = .ok (.iconst 4, 1) := dk_7 (dk_at dksX2_init_3 4 rfl rfl)
theorem dX2_init_74 : decode cX2_init 74 = .ok (.newarray .int, 2) := dk_188_10 (dk_at dksX2_init_3 5 rfl rfl)
theorem dX2_init_76 : decode cX2_init 76 = .ok (.putfield 37, 3) := dk_181 0 37 (dk_at dksX2_init_3 7 rfl rfl)
theorem dX2_init_79 : decode cX2_init 79 = .ok (.aload_n 0, 1) := dk_42 (dk_at dksX2_init_3 10 rfl rfl)
theorem dX2_init_80 : decode cX2_init 80 = .ok (.iconst 4, 1) := dk_7 (dk_at dksX2_init_3 11 rfl rfl)
theorem dX2_init_81 : decode cX2_init 81 = .ok (.newarray .int, 2) := dk_188_10 (dk_at dksX2_init_3 12 rfl rfl)
theorem dX2_init_83 : decode cX2_init 83 = .ok (.dup, 1) := dk_89 (dk_at dksX2_init_3 14 rfl rfl)
theorem dX2_init_84 : decode cX2_init 84 = .ok (.iconst 0, 1) := dk_3 (dk_at dksX2_init_3 15 rfl rfl)
theorem dX2_init_85 : decode cX2_init 85 = .ok (.bipush 10, 2) := dk_16 10 (dk_at dksX2_init_3 16 rfl rfl)
theorem dX2_init_87 : decode cX2_init 87 = .ok (.iastore, 1) := dk_79 (dk_at dksX2_init_3 18 rfl rfl)
theorem dX2_init_88 : decode cX2_init 88 = .ok (.dup, 1) := dk_89 (dk_at dksX2_init_3 19 rfl rfl)
theorem dX2_init_89 : decode cX2_init 89 = .ok (.iconst 1, 1) := dk_4 (dk_at dksX2_init_3 20 rfl rfl)
theorem dX2_init_90 : decode cX2_init 90 = .ok (.iconst 5, 1) := dk_8 (dk_at dksX2_init_3 21 rfl rfl)
theorem dX2_init_91 : decode cX2_init 91 = .ok (.iastore, 1) := dk_79 (dk_at dksX2_init_3 22 rfl rfl)
theorem dX2_init_92 : decode cX2_init 92 = .ok (.dup, 1) := dk_89 (dk_at dksX2_init_3 23 rfl rfl)
theorem dX2_init_93 : decode cX2_init 93 = .ok (.iconst 2, 1) := dk_5 (dk_at dksX2_init_4 0 rfl rfl)
theorem dX2_init_94 : decode cX2_init 94 = .ok (.iconst 0, 1) := dk_3 (dk_at dksX2_init_4 1 rfl rfl)
theorem dX2_init_95 : decode cX2_init 95 = .ok (.iastore, 1) := dk_79 (dk_at dksX2_init_4 2 rfl rfl)
theorem dX2_init_96 : decode cX2_init 96 = .ok (.dup, 1) := dk_89 (dk_at dksX2_init_4 3 rfl rfl)
theorem dX2_init_97 : decode cX2_init 97 = .ok (.iconst 3, 1) := dk_6 (dk_at dksX2_init_4 4 rfl rfl)
theorem dX2_init_98 : decode cX2_init 98 = .ok (.iconst 1, 1) := dk_4 (dk_at dksX2_init_4 5 rfl rfl)
theorem dX2_init_99 : decode cX2_init 99 = .ok (.iastore, 1) := dk_79 (dk_at dksX2_init_4 6 rfl rfl)
theorem dX2_init_100 : decode cX2_init 100 = .ok (.putfield 40, 3) := dk_181 0 40 (dk_at dksX2_init_4 7 rfl rfl)
theorem dX2_init_103 : decode cX2_init 103 = .ok (.aload_n 0, 1) := dk_42 (dk_at dksX2_init_4 10 rfl rfl)
theorem dX2_init_104 : decode cX2_init 104 = .ok (.iconst 4, 1) := dk_7 (dk_at dksX2_init_4 11 rfl rfl)
theorem dX2_init_105 : decode cX2_init 105 = .ok (.newarray .int, 2) := dk_188_10 (dk_at dksX2_init_4 12 rfl rfl)
theorem dX2_init_107 : decode cX2_init 107 = .ok (.dup, 1) := dk_89 (dk_at dksX2_init_4 14 rfl rfl)
theorem dX2_init_108 : decode cX2_init 108 = .ok (.iconst 0, 1) := dk_3 (dk_at dksX2_init_4 15 rfl rfl)
theorem dX2_init_109 : decode cX2_init 109 = .ok (.bipush 20, 2) := dk_16 20 (dk_at dksX2_init_4 16 rfl rfl)
theorem dX2_init_111 : decode cX2_init 111 = .ok (.iastore, 1) := dk_79 (dk_at dksX2_init_4 18 rfl rfl)
theorem dX2_init_112 : decode cX2_init 112 = .ok (.dup, 1) := dk_89 (dk_at dksX2_init_4 19 rfl rfl)
theorem dX2_init_113 : decode cX2_init 113 = .ok (.iconst 1, 1) := dk_4 (dk_at dksX2_init_4 20 rfl rfl)
theorem dX2_init_114 : decode cX2_init 114 = .ok (.bipush 20, 2) := dk_16 20 (dk_at dksX2_init_4 21 rfl rfl)
theorem dX2_init_116 : decode cX2_init 116 = .ok (.iastore, 1) := dk_79 (dk_at dksX2_init_4 23 rfl rfl)
theorem dX2_init_117 : decode cX2_init 117 = .ok (.dup, 1) := dk_89 (dk_at dksX2_init_5 0 rfl rfl)
theorem dX2_init_118 : decode cX2_init 118 = .ok (.iconst 2, 1) := dk_5 (dk_at dksX2_init_5 1 rfl rfl)
theorem dX2_init_119 : decode cX2_init 119 = .ok (.iconst 5, 1) := dk_8 (dk_at dksX2_init_5 2 rfl rfl)
theorem dX2_init_120 : decode cX2_init 120 = .ok (.iastore, 1) := dk_79 (dk_at dksX2_init_5 3 rfl rfl)
theorem dX2_init_121 : decode cX2_init 121 = .ok (.dup, 1) := dk_89 (dk_at dksX2_init_5 4 rfl rfl)
theorem dX2_init_122 : decode cX2_init 122 = .ok (.iconst 3, 1) := dk_6 (dk_at dksX2_init_5 5 rfl rfl)
theorem dX2_init_123 : decode cX2_init 123 = .ok (.iconst 1, 1) := dk_4 (dk_at dksX2_init_5 6 rfl rfl)
theorem dX2_init_124 : decode cX2_init 124 = .ok (.iastore, 1) := dk_79 (dk_at dksX2_init_5 7 rfl rfl)
theorem dX2_init_125 : decode cX2_init 125 = .ok (.putfield 43, 3) := dk_181 0 43 (dk_at dksX2_init_5 8 rfl rfl)
theorem dX2_init_128 : decode cX2_init 128 = .ok (.aload_n 0, 1) := dk_42 (dk_at dksX2_init_5 11 rfl rfl)
theorem dX2_init_129 : decode cX2_init 129 = .ok (.iconst 1, 1) := dk_4 (dk_at dksX2_init_5 12 rfl rfl)
theorem dX2_init_130 : decode cX2_init 130 = .ok (.putfield 46, 3) := dk_181 0 46 (dk_at dksX2_init_5 13 rfl rfl)
theorem dX2_init_133 : decode cX2_init 133 = .ok (.aload_n 0, 1) := dk_42 (dk_at dksX2_init_5 16 rfl rfl)
theorem dX2_init_134 : decode cX2_init 134 = .ok (.bipush 64, 2) := dk_16 64 (dk_at dksX2_init_5 17 rfl rfl)
theorem dX2_init_136 : decode cX2_init 136 = .ok (.newarray .int, 2) := dk_188_10 (dk_at dksX2_init_5 19 rfl rfl)
theorem dX2_init_138 : decode cX2_init 138 = .ok (.putfield 50, 3) := dk_181 0 50 (dk_at dksX2_init_5 21 rfl rfl)
theorem dX2_init_141 : decode cX2_init 141 = .ok (.aload_n 0, 1) := dk_42 (dk_at dksX2_init_6 0 rfl rfl)
theorem dX2_init_142 : decode cX2_init 142 = .ok (.bipush 32, 2) := dk_16 32 (dk_at dksX2_init_6 1 rfl rfl)
theorem dX2_init_144 : decode cX2_init 144 = .ok (.newarray .int, 2) := dk_188_10 (dk_at dksX2_init_6 3 rfl rfl)
theorem dX2_init_146 : decode cX2_init 146 = .ok (.putfield 53, 3) := dk_181 0 53 (dk_at dksX2_init_6 5 rfl rfl)
theorem dX2_init_149 : decode cX2_init 149 = .ok (.aload_n 0, 1) := dk_42 (dk_at dksX2_init_6 8 rfl rfl)
theorem dX2_init_150 : decode cX2_init 150 = .ok (.bipush 32, 2) := dk_16 32 (dk_at dksX2_init_6 9 rfl rfl)
theorem dX2_init_152 : decode cX2_init 152 = .ok (.newarray .int, 2) := dk_188_10 (dk_at dksX2_init_6 11 rfl rfl)
theorem dX2_init_154 : decode cX2_init 154 = .ok (.putfield 56, 3) := dk_181 0 56 (dk_at dksX2_init_6 13 rfl rfl)
theorem dX2_init_157 : decode cX2_init 157 = .ok (.aload_n 0, 1) := dk_42 (dk_at dksX2_init_6 16 rfl rfl)
theorem dX2_init_158 : decode cX2_init 158 = .ok (.bipush 32, 2) := dk_16 32 (dk_at dksX2_init_6 17 rfl rfl)
theorem dX2_init_160 : decode cX2_init 160 = .ok (.newarray .int, 2) := dk_188_10 (dk_at dksX2_init_6 19 rfl rfl)
theorem dX2_init_162 : decode cX2_init 162 = .ok (.putfield 59, 3) := dk_181 0 59 (dk_at dksX2_init_6 21 rfl rfl)
theorem dX2_init_165 : decode cX2_init 165 = .ok (.aload_n 0, 1) := dk_42 (dk_at dksX2_init_7 0 rfl rfl)
theorem dX2_init_166 : decode cX2_init 166 = .ok (.bipush 32, 2) := dk_16 32 (dk_at dksX2_init_7 1 rfl rfl)
theorem dX2_init_168 : decode cX2_init 168 = .ok (.newarray .int, 2) := dk_188_10 (dk_at dksX2_init_7 3 rfl rfl)
theorem dX2_init_170 : decode cX2_init 170 = .ok (.putfield 62, 3) := dk_181 0 62 (dk_at dksX2_init_7 5 rfl rfl)
theorem dX2_init_173 : decode cX2_init 173 = .ok (.aload_n 0, 1) := dk_42 (dk_at dksX2_init_7 8 rfl rfl)
theorem dX2_init_174 : decode cX2_init 174 = .ok (.bipush 32, 2) := dk_16 32 (dk_at dksX2_init_7 9 rfl rfl)
theorem dX2_init_176 : decode cX2_init 176 = .ok (.newarray .int, 2) := dk_188_10 (dk_at dksX2_init_7 11 rfl rfl)
theorem dX2_init_178 : decode cX2_init 178 = .ok (.putfield 65, 3) := dk_181 0 65 (dk_at dksX2_init_7 13 rfl rfl)
theorem dX2_init_181 : decode cX2_init 181 = .ok (.aload_n 0, 1) := dk_42 (dk_at dksX2_init_7 16 rfl rfl)
theorem dX2_init_182 : decode cX2_init 182 = .ok (.bipush 32, 2) := dk_16 32 (dk_at dksX2_init_7 17 rfl rfl)
theorem dX2_init_184 : decode cX2_init 184 = .ok (.newarray .int, 2) := dk_188_10 (dk_at dksX2_init_7 19 rfl rfl)
theorem dX2_init_186 : decode cX2_init 186 = .ok (.putfield 68, 3) := dk_181 0 68 (dk_at dksX2_init_7 21 rfl rfl)
theorem dX2_init_189 : decode cX2_init 189 = .ok (.aload_n 0, 1) := dk_42 (dk_at dksX2_init_8 0 rfl rfl)
theorem dX2_init_190 : decode cX2_init 190 = .ok (.bipush 24, 2) := dk_16 24 (dk_at dksX2_init_8 1 rfl rfl)
theorem dX2_init_192 : decode cX2_init 192 = .ok (.newarray .long, 2) := dk_188_11 (dk_at dksX2_init_8 3 rfl rfl)
theorem dX2_init_194 : decode cX2_init 194 = .ok (.putfield 71, 3) := dk_181 0 71 (dk_at dksX2_init_8 5 rfl rfl)
theorem dX2_init_197 : decode cX2_init 197 = .ok (.aload_n 0, 1) := dk_42 (dk_at dksX2_init_8 8 rfl rfl)
theorem dX2_init_198 : decode cX2_init 198 = .ok (.sipush 240, 3) := dk_17 0 240 (dk_at dksX2_init_8 9 rfl rfl)
theorem dX2_init_201 : decode cX2_init 201 = .ok (.newarray .long, 2) := dk_188_11 (dk_at dksX2_init_8 12 rfl rfl)
theorem dX2_init_203 : decode cX2_init 203 = .ok (.putfield 75, 3) := dk_181 0 75 (dk_at dksX2_init_8 14 rfl rfl)
theorem dX2_init_206 : decode cX2_init 206 = .ok (.aload_n 0, 1) := dk_42 (dk_at dksX2_init_8 17 rfl rfl)
theorem dX2_init_207 : decode cX2_init 207 = .ok (.bipush 96, 2) := dk_16 96 (dk_at dksX2_init_8 18 rfl rfl)
theorem dX2_init_209 : decode cX2_init 209 = .ok (.newarray .int, 2) := dk_188_10 (dk_at dksX2_init_8 20 rfl rfl)
theorem dX2_init_211 : decode cX2_init 211 = .ok (.putfield 78, 3) := dk_181 0 78 (dk_at dksX2_init_9 0 rfl rfl)
theorem dX2_init_214 : decode cX2_init 214 = .ok (.aload_n 0, 1) := dk_42 (dk_at dksX2_init_9 3 rfl rfl)
theorem dX2_init_215 : decode cX2_init 215 = .ok (.iconst 4, 1) := dk_7 (dk_at dksX2_init_9 4 rfl rfl)
theorem dX2_init_216 : decode cX2_init 216 = .ok (.newarray .int, 2) := dk_188_10 (dk_at dksX2_init_9 5 rfl rfl)
theorem dX2_init_218 : decode cX2_init 218 = .ok (.putfield 81, 3) := dk_181 0 81 (dk_at dksX2_init_9 7 rfl rfl)
theorem dX2_init_221 : decode cX2_init 221 = .ok (.aload_n 0, 1) := dk_42 (dk_at dksX2_init_9 10 rfl rfl)
theorem dX2_init_222 : decode cX2_init 222 = .ok (.iconst 4, 1) := dk_7 (dk_at dksX2_init_9 11 rfl rfl)
theorem dX2_init_223 : decode cX2_init 223 = .ok (.newarray .int, 2) := dk_188_10 (dk_at dksX2_init_9 12 rfl rfl)
theorem dX2_init_225 : decode cX2_init 225 = .ok (.putfield 84, 3) := dk_181 0 84 (dk_at dksX2_init_9 14 rfl rfl)
theorem dX2_init_228 : decode cX2_init 228 = .ok (.aload_n 0, 1) := dk_42 (dk_at dksX2_init_9 17 rfl rfl)
theorem dX2_init_229 : decode cX2_init 229 = .ok (.bipush 24, 2) := dk_16 24 (dk_at dksX2_init_9 18 rfl rfl)
theorem dX2_init_231 : decode cX2_init 231 = .ok (.newarray .long, 2) := dk_188_11 (dk_at dksX2_init_9 20 rfl rfl)
theorem dX2_init_233 : decode cX2_init 233 = .ok (.putfield 87, 3) := dk_181 0 87 (dk_at dksX2_init_10 0 rfl rfl)
theorem dX2_init_236 : decode cX2_init 236 = .ok (.aload_n 0, 1) := dk_42 (dk_at dksX2_init_10 3 rfl rfl)
theorem dX2_init_237 : decode cX2_init 237 = .ok (.bipush 24, 2) := dk_16 24 (dk_at dksX2_init_10 4 rfl rfl)
theorem dX2_init_239 : decode cX2_init 239 = .ok (.newarray .int, 2) := dk_188_10 (dk_at dksX2_init_10 6 rfl rfl)
theorem dX2_init_241 : decode cX2_init 241 = .ok (.putfield 90, 3) := dk_181 0 90 (dk_at dksX2_init_10 8 rfl rfl)
theorem dX2_init_244 : decode cX2_init 244 = .ok (.aload_n 0, 1) := dk_42 (dk_at dksX2_init_10 11 rfl rfl)
theorem dX2_init_245 : decode cX2_init 245 = .ok (.iconst 4, 1) := dk_7 (dk_at dksX2_init_10 12 rfl rfl)
theorem dX2_init_246 : decode cX2_init 246 = .ok (.newarray .int, 2) := dk_188_10 (dk_at dksX2_init_10 13 rfl rfl)
theorem dX2_init_248 : decode cX2_init 248 = .ok (.putfield 93, 3) := dk_181 0 93 (dk_at dksX2_init_10 15 rfl rfl)
theorem dX2_init_251 : decode cX2_init 251 = .ok (.aload_n 0, 1) := dk_42 (dk_at dksX2_init_10 18 rfl rfl)
theorem dX2_init_252 : decode cX2_init 252 = .ok (.iconst 5, 1) := dk_8 (dk_at dksX2_init_10 19 rfl rfl)
theorem dX2_init_253 : decode cX2_init 253 = .ok (.newarray .int, 2) := dk_188_10 (dk_at dksX2_init_10 20 rfl rfl)
theorem dX2_init_255 : decode cX2_init 255 = .ok (.putfield 96, 3) := dk_181 0 96 (dk_at dksX2_init_11 0 rfl rfl)
theorem dX2_init_258 : decode cX2_init 258 = .ok (.aload_n 0, 1) := dk_42 (dk_at dksX2_init_11 3 rfl rfl)
theorem dX2_init_259 : decode cX2_init 259 = .ok (.iconst 5, 1) := dk_8 (dk_at dksX2_init_11 4 rfl rfl)
theorem dX2_init_260 : decode cX2_init 260 = .ok (.newarray .int, 2) := dk_188_10 (dk_at dksX2_init_11 5 rfl rfl)
theorem dX2_init_262 : decode cX2_init 262 = .ok (.putfield 99, 3) := dk_181 0 99 (dk_at dksX2_init_11 7 rfl rfl)
theorem dX2_init_265 : decode cX2_init 265 = .ok (.aload_n 0, 1) := dk_42 (dk_at dksX2_init_11 10 rfl rfl)
theorem dX2_init_266 : decode cX2_init 266 = .ok (.iconst 5, 1) := dk_8 (dk_at dksX2_init_11 11 rfl rfl)
theorem dX2_init_267 : decode cX2_init 267 = .ok (.newarray .int, 2) := dk_188_10 (dk_at dksX2_init_11 12 rfl rfl)
theorem dX2_init_269 : decode cX2_init 269 = .ok (.putfield 102, 3) := dk_181 0 102 (dk_at dksX2_init_11 14 rfl rfl)
theorem dX2_init_272 : decode cX2_init 272 = .ok (.aload_n 0, 1) := dk_42 (dk_at dksX2_init_11 17 rfl rfl)
theorem dX2_init_273 : decode cX2_init 273 = .ok (.bipush 20, 2) := dk_16 20 (dk_at dksX2_init_11 18 rfl rfl)
theorem dX2_init_275 : decode cX2_init 275 = .ok (.newarray .int, 2) := dk_188_10 (dk_at dksX2_init_11 20 rfl rfl)
theorem dX2_init_277 : decode cX2_init 277 = .ok (.putfield 105, 3) := dk_181 0 105 (dk_at dksX2_init_12 0 rfl rfl)
theorem dX2_init_280 : decode cX2_init 280 = .ok (.aload_n 0, 1) := dk_42 (dk_at dksX2_init_12 3 rfl rfl)
theorem dX2_init_281 : decode cX2_init 281 = .ok (.sipush 140, 3) := dk_17 0 140 (dk_at dksX2_init_12 4 rfl rfl)
theorem dX2_init_284 : decode cX2_init 284 = .ok (.newarray .int, 2) := dk_188_10 (dk_at dksX2_init_12 7 rfl rfl)
theorem dX2_init_286 : decode cX2_init 286 = .ok (.putfield 108, 3) := dk_181 0 108 (dk_at dksX2_init_12 9 rfl rfl)
theorem dX2_init_289 : decode cX2_init 289 = .ok (.return_, 1) := dk_177 (dk_at dksX2_init_12 12 rfl rfl)
abbrev cX2_feed : ByteArray := prog_18_method_12_code
def yX2_feed : MethodName := ⟨RX2, "feed", "(IJ)I"⟩
def dkwX2_feed_3 : List UInt8 := [79, 42, 89, 180, 0, 125, 4, 96, 181, 0, 125, 132, 5, 1, 167, 255, 216, 42, 180, 0, 125, 172]
abbrev dktX2_feed_3 : List UInt8 := dkwX2_feed_3 ++ []
def dkwX2_feed_2 : List UInt8 := [27, 162, 0, 40, 42, 180, 0, 50, 42, 180, 0, 125, 32, 16, 8, 21, 5, 104, 123, 20, 0, 131, 127, 136]
abbrev dktX2_feed_2 : List UInt8 := dkwX2_feed_2 ++ dktX2_feed_3
def dkwX2_feed_1 : List UInt8 := [164, 0, 7, 16, 250, 54, 4, 21, 4, 153, 0, 10, 42, 21, 4, 182, 0, 128, 172, 3, 54, 5, 21, 5]
abbrev dktX2_feed_1 : List UInt8 := dkwX2_feed_1 ++ dktX2_feed_2
def dkwX2_feed_0 : List UInt8 := [27, 4, 16, 8, 184, 0, 121, 54, 4, 21, 4, 154, 0, 18, 42, 180, 0, 125, 27, 96, 16, 64]
abbrev dktX2_feed_0 : List UInt8 := dkwX2_feed_0 ++ dktX2_feed_1
theorem dksX2_feed_0 : cX2_feed.data.toList.drop 0 = dktX2_feed_0 := by decide +kernel
theorem dksX2_feed_1 : cX2_feed.data.toList.drop 22 = dktX2_feed_1 := dk_seg dksX2_feed_0 22 rfl rfl
theorem dksX2_feed_2 : cX2_feed.data.toList.drop 46 = dktX2_feed_2 := dk_seg dksX2_feed_1 24 rfl rfl
theorem dksX2_feed_3 : cX2_feed.data.toList.drop 70 = dktX2_feed_3 := dk_seg dksX2_feed_2 24 rfl rfl
theorem dX2_feed_0 : decode cX2_feed 0 = .ok (.iload_n 1, 1) := dk_27 (dk_at dksX2_feed_0 0 rfl rfl)
theorem dX2_feed_1 : decode cX2_feed 1 = .ok (.iconst 1, 1) := dk_4 (dk_at dksX2_feed_0 1 rfl rfl)
theorem dX2_feed_2 : decode cX2_feed 2 = .ok (.bipush 8, 2) := dk_16 8 (dk_at dksX2_feed_0 2 rfl rfl)
theorem dX2_feed_4 : decode cX2_feed 4 = .ok (.invokestatic 121, 3) := dk_184 0 121 (dk_at dksX2_feed_0 4 rfl rfl)
theorem dX2_feed_7 : decode cX2_feed 7 = .ok (.istore 4, 2) := dk_54 4 (dk_at dksX2_feed_0 7 rfl rfl)
theorem dX2_feed_9 : decode cX2_feed 9 = .ok (.iload 4, 2) := dk_21 4 (dk_at dksX2_feed_0 9 rfl rfl)
theorem dX2_feed_11 : decode cX2_feed 11 = .ok (.ifCond .ne 18, 3) := dk_154 0 18 (dk_at dksX2_feed_0 11 rfl rfl)
theorem dX2_feed_14 : decode cX2_feed 14 = .ok (.aload_n 0, 1) := dk_42 (dk_at dksX2_feed_0 14 rfl rfl)
theorem dX2_feed_15 : decode cX2_feed 15 = .ok (.getfield 125, 3) := dk_180 0 125 (dk_at dksX2_feed_0 15 rfl rfl)
theorem dX2_feed_18 : decode cX2_feed 18 = .ok (.iload_n 1, 1) := dk_27 (dk_at dksX2_feed_0 18 rfl rfl)
theorem dX2_feed_19 : decode cX2_feed 19 = .ok (.iadd, 1) := dk_96 (dk_at dksX2_feed_0 19 rfl rfl)
theorem dX2_feed_20 : decode cX2_feed 20 = .ok (.bipush 64, 2) := dk_16 64 (dk_at dksX2_feed_0 20 rfl rfl)
theorem dX2_feed_22 : decode cX2_feed 22 = .ok (.if_icmp .le 7, 3) := dk_164 0 7 (dk_at dksX2_feed_1 0 rfl rfl)
theorem dX2_feed_25 : decode cX2_feed 25 = .ok (.bipush (-6), 2) := dk_16 250 (dk_at dksX2_feed_1 3 rfl rfl)
theorem dX2_feed_27 : decode cX2_feed 27 = .ok (.istore 4, 2) := dk_54 4 (dk_at dksX2_feed_1 5 rfl rfl)
theorem dX2_feed_29 : decode cX2_feed 29 = .ok (.iload 4, 2) := dk_21 4 (dk_at dksX2_feed_1 7 rfl rfl)
theorem dX2_feed_31 : decode cX2_feed 31 = .ok (.ifCond .eq 10, 3) := dk_153 0 10 (dk_at dksX2_feed_1 9 rfl rfl)
theorem dX2_feed_34 : decode cX2_feed 34 = .ok (.aload_n 0, 1) := dk_42 (dk_at dksX2_feed_1 12 rfl rfl)
theorem dX2_feed_35 : decode cX2_feed 35 = .ok (.iload 4, 2) := dk_21 4 (dk_at dksX2_feed_1 13 rfl rfl)
theorem dX2_feed_37 : decode cX2_feed 37 = .ok (.invokevirtual 128, 3) := dk_182 0 128 (dk_at dksX2_feed_1 15 rfl rfl)
theorem dX2_feed_40 : decode cX2_feed 40 = .ok (.ireturn, 1) := dk_172 (dk_at dksX2_feed_1 18 rfl rfl)
theorem dX2_feed_41 : decode cX2_feed 41 = .ok (.iconst 0, 1) := dk_3 (dk_at dksX2_feed_1 19 rfl rfl)
theorem dX2_feed_42 : decode cX2_feed 42 = .ok (.istore 5, 2) := dk_54 5 (dk_at dksX2_feed_1 20 rfl rfl)
theorem dX2_feed_44 : decode cX2_feed 44 = .ok (.iload 5, 2) := dk_21 5 (dk_at dksX2_feed_1 22 rfl rfl)
theorem dX2_feed_46 : decode cX2_feed 46 = .ok (.iload_n 1, 1) := dk_27 (dk_at dksX2_feed_2 0 rfl rfl)
theorem dX2_feed_47 : decode cX2_feed 47 = .ok (.if_icmp .ge 40, 3) := dk_162 0 40 (dk_at dksX2_feed_2 1 rfl rfl)
theorem dX2_feed_50 : decode cX2_feed 50 = .ok (.aload_n 0, 1) := dk_42 (dk_at dksX2_feed_2 4 rfl rfl)
theorem dX2_feed_51 : decode cX2_feed 51 = .ok (.getfield 50, 3) := dk_180 0 50 (dk_at dksX2_feed_2 5 rfl rfl)
theorem dX2_feed_54 : decode cX2_feed 54 = .ok (.aload_n 0, 1) := dk_42 (dk_at dksX2_feed_2 8 rfl rfl)
theorem dX2_feed_55 : decode cX2_feed 55 = .ok (.getfield 125, 3) := dk_180 0 125 (dk_at dksX2_feed_2 9 rfl rfl)
theorem dX2_feed_58 : decode cX2_feed 58 = .ok (.lload_n 2, 1) := dk_32 (dk_at dksX2_feed_2 12 rfl rfl)
theorem dX2_feed_59 : decode cX2_feed 59 = .ok (.bipush 8, 2) := dk_16 8 (dk_at dksX2_feed_2 13 rfl rfl)
theorem dX2_feed_61 : decode cX2_feed 61 = .ok (.iload 5, 2) := dk_21 5 (dk_at dksX2_feed_2 15 rfl rfl)
theorem dX2_feed_63 : decode cX2_feed 63 = .ok (.imul, 1) := dk_104 (dk_at dksX2_feed_2 17 rfl rfl)
theorem dX2_feed_64 : decode cX2_feed 64 = .ok (.lshr, 1) := dk_123 (dk_at dksX2_feed_2 18 rfl rfl)
theorem dX2_feed_65 : decode cX2_feed 65 = .ok (.ldc2_w 131, 3) := dk_20 0 131 (dk_at dksX2_feed_2 19 rfl rfl)
theorem dX2_feed_68 : decode cX2_feed 68 = .ok (.land, 1) := dk_127 (dk_at dksX2_feed_2 22 rfl rfl)
theorem dX2_feed_69 : decode cX2_feed 69 = .ok (.l2i, 1) := dk_136 (dk_at dksX2_feed_2 23 rfl rfl)
theorem dX2_feed_70 : decode cX2_feed 70 = .ok (.iastore, 1) := dk_79 (dk_at dksX2_feed_3 0 rfl rfl)
theorem dX2_feed_71 : decode cX2_feed 71 = .ok (.aload_n 0, 1) := dk_42 (dk_at dksX2_feed_3 1 rfl rfl)
theorem dX2_feed_72 : decode cX2_feed 72 = .ok (.dup, 1) := dk_89 (dk_at dksX2_feed_3 2 rfl rfl)
theorem dX2_feed_73 : decode cX2_feed 73 = .ok (.getfield 125, 3) := dk_180 0 125 (dk_at dksX2_feed_3 3 rfl rfl)
theorem dX2_feed_76 : decode cX2_feed 76 = .ok (.iconst 1, 1) := dk_4 (dk_at dksX2_feed_3 6 rfl rfl)
theorem dX2_feed_77 : decode cX2_feed 77 = .ok (.iadd, 1) := dk_96 (dk_at dksX2_feed_3 7 rfl rfl)
theorem dX2_feed_78 : decode cX2_feed 78 = .ok (.putfield 125, 3) := dk_181 0 125 (dk_at dksX2_feed_3 8 rfl rfl)
theorem dX2_feed_81 : decode cX2_feed 81 = .ok (.iinc 5 1, 3) := dk_132 5 1 (dk_at dksX2_feed_3 11 rfl rfl)
theorem dX2_feed_84 : decode cX2_feed 84 = .ok (.goto (-40), 3) := dk_167 255 216 (dk_at dksX2_feed_3 14 rfl rfl)
theorem dX2_feed_87 : decode cX2_feed 87 = .ok (.aload_n 0, 1) := dk_42 (dk_at dksX2_feed_3 17 rfl rfl)
theorem dX2_feed_88 : decode cX2_feed 88 = .ok (.getfield 125, 3) := dk_180 0 125 (dk_at dksX2_feed_3 18 rfl rfl)
theorem dX2_feed_91 : decode cX2_feed 91 = .ok (.ireturn, 1) := dk_172 (dk_at dksX2_feed_3 21 rfl rfl)
abbrev cX2_bound : ByteArray := prog_18_method_6_code
def yX2_bound : MethodName := ⟨RX2, "bound", "(III)I"⟩
def dkwX2_bound_0 : List UInt8 := [26, 27, 162, 0, 8, 16, 252, 167, 0, 14, 26, 28, 164, 0, 8, 16, 250, 167, 0, 4, 3, 172]
abbrev dktX2_bound_0 : List UInt8 := dkwX2_bound_0 ++ []
theorem dksX2_bound_0 : cX2_bound.data.toList.drop 0 = dktX2_bound_0 := by decide +kernel
theorem dX2_bound_0 : decode cX2_bound 0 = .ok (.iload_n 0, 1) := dk_26 (dk_at dksX2_bound_0 0 rfl rfl)
theorem dX2_bound_1 : decode cX2_bound 1 = .ok (.iload_n 1, 1) := dk_27 (dk_at dksX2_bound_0 1 rfl rfl)
theorem dX2_bound_2 : decode cX2_bound 2 = .ok (.if_icmp .ge 8, 3) := dk_162 0 8 (dk_at dksX2_bound_0 2 rfl rfl)
theorem dX2_bound_5 : decode cX2_bound 5 = .ok (.bipush (-4), 2) := dk_16 252 (dk_at dksX2_bound_0 5 rfl rfl)
theorem dX2_bound_7 : decode cX2_bound 7 = .ok (.goto 14, 3) := dk_167 0 14 (dk_at dksX2_bound_0 7 rfl rfl)
theorem dX2_bound_10 : decode cX2_bound 10 = .ok (.iload_n 0, 1) := dk_26 (dk_at dksX2_bound_0 10 rfl rfl)
theorem dX2_bound_11 : decode cX2_bound 11 = .ok (.iload_n 2, 1) := dk_28 (dk_at dksX2_bound_0 11 rfl rfl)
theorem dX2_bound_12 : decode cX2_bound 12 = .ok (.if_icmp .le 8, 3) := dk_164 0 8 (dk_at dksX2_bound_0 12 rfl rfl)
theorem dX2_bound_15 : decode cX2_bound 15 = .ok (.bipush (-6), 2) := dk_16 250 (dk_at dksX2_bound_0 15 rfl rfl)
theorem dX2_bound_17 : decode cX2_bound 17 = .ok (.goto 4, 3) := dk_167 0 4 (dk_at dksX2_bound_0 17 rfl rfl)
theorem dX2_bound_20 : decode cX2_bound 20 = .ok (.iconst 0, 1) := dk_3 (dk_at dksX2_bound_0 20 rfl rfl)
theorem dX2_bound_21 : decode cX2_bound 21 = .ok (.ireturn, 1) := dk_172 (dk_at dksX2_bound_0 21 rfl rfl)
abbrev cX2_no : ByteArray := prog_18_method_2_code
def yX2_no : MethodName := ⟨RX2, "no", "(I)I"⟩
def dkwX2_no_0 : List UInt8 := [42, 180, 0, 7, 27, 116, 92, 46, 4, 96, 79, 27, 172]
abbrev dktX2_no_0 : List UInt8 := dkwX2_no_0 ++ []
theorem dksX2_no_0 : cX2_no.data.toList.drop 0 = dktX2_no_0 := by decide +kernel
theorem dX2_no_0 : decode cX2_no 0 = .ok (.aload_n 0, 1) := dk_42 (dk_at dksX2_no_0 0 rfl rfl)
theorem dX2_no_1 : decode cX2_no 1 = .ok (.getfield 7, 3) := dk_180 0 7 (dk_at dksX2_no_0 1 rfl rfl)
theorem dX2_no_4 : decode cX2_no 4 = .ok (.iload_n 1, 1) := dk_27 (dk_at dksX2_no_0 4 rfl rfl)
theorem dX2_no_5 : decode cX2_no 5 = .ok (.ineg, 1) := dk_116 (dk_at dksX2_no_0 5 rfl rfl)
theorem dX2_no_6 : decode cX2_no 6 = .ok (.dup2, 1) := dk_92 (dk_at dksX2_no_0 6 rfl rfl)
theorem dX2_no_7 : decode cX2_no 7 = .ok (.iaload, 1) := dk_46 (dk_at dksX2_no_0 7 rfl rfl)
theorem dX2_no_8 : decode cX2_no 8 = .ok (.iconst 1, 1) := dk_4 (dk_at dksX2_no_0 8 rfl rfl)
theorem dX2_no_9 : decode cX2_no 9 = .ok (.iadd, 1) := dk_96 (dk_at dksX2_no_0 9 rfl rfl)
theorem dX2_no_10 : decode cX2_no 10 = .ok (.iastore, 1) := dk_79 (dk_at dksX2_no_0 10 rfl rfl)
theorem dX2_no_11 : decode cX2_no 11 = .ok (.iload_n 1, 1) := dk_27 (dk_at dksX2_no_0 11 rfl rfl)
theorem dX2_no_12 : decode cX2_no 12 = .ok (.ireturn, 1) := dk_172 (dk_at dksX2_no_0 12 rfl rfl)
abbrev cX2_quiz : ByteArray := prog_18_method_22_code
def yX2_quiz : MethodName := ⟨RX2, "quiz", "()I"⟩
def dkwX2_quiz_6 : List UInt8 := [180, 0, 157, 172]
abbrev dktX2_quiz_6 : List UInt8 := dkwX2_quiz_6 ++ []
def dkwX2_quiz_5 : List UInt8 := [29, 181, 0, 114, 17, 248, 48, 42, 180, 0, 68, 21, 4, 46, 100, 172, 132, 4, 1, 167, 255, 210, 42]
abbrev dktX2_quiz_5 : List UInt8 := dkwX2_quiz_5 ++ dktX2_quiz_6
def dkwX2_quiz_4 : List UInt8 := [180, 0, 157, 162, 0, 43, 42, 21, 4, 182, 0, 177, 153, 0, 6, 167, 0, 25, 42, 28, 181, 0, 46, 42]
abbrev dktX2_quiz_4 : List UInt8 := dkwX2_quiz_4 ++ dktX2_quiz_5
def dkwX2_quiz_3 : List UInt8 := [42, 180, 0, 133, 100, 172, 42, 180, 0, 46, 61, 42, 180, 0, 114, 62, 3, 54, 4, 21, 4, 42]
abbrev dktX2_quiz_3 : List UInt8 := dkwX2_quiz_3 ++ dktX2_quiz_4
def dkwX2_quiz_2 : List UInt8 := [4, 167, 0, 4, 3, 96, 181, 0, 157, 167, 255, 211, 42, 3, 181, 0, 125, 27, 154, 0, 12, 17, 252, 24]
abbrev dktX2_quiz_2 : List UInt8 := dkwX2_quiz_2 ++ dktX2_quiz_3
def dkwX2_quiz_1 : List UInt8 := [161, 0, 10, 42, 180, 0, 157, 154, 0, 29, 42, 182, 0, 173, 60, 42, 89, 180, 0, 157, 27, 153, 0, 7]
abbrev dktX2_quiz_1 : List UInt8 := dkwX2_quiz_1 ++ dktX2_quiz_2
def dkwX2_quiz_0 : List UInt8 := [42, 3, 181, 0, 133, 42, 3, 181, 0, 157, 4, 60, 27, 153, 0, 47, 42, 180, 0, 133, 42, 180, 0, 125]
abbrev dktX2_quiz_0 : List UInt8 := dkwX2_quiz_0 ++ dktX2_quiz_1
theorem dksX2_quiz_0 : cX2_quiz.data.toList.drop 0 = dktX2_quiz_0 := by decide +kernel
theorem dksX2_quiz_1 : cX2_quiz.data.toList.drop 24 = dktX2_quiz_1 := dk_seg dksX2_quiz_0 24 rfl rfl
theorem dksX2_quiz_2 : cX2_quiz.data.toList.drop 48 = dktX2_quiz_2 := dk_seg dksX2_quiz_1 24 rfl rfl
theorem dksX2_quiz_3 : cX2_quiz.data.toList.drop 72 = dktX2_quiz_3 := dk_seg dksX2_quiz_2 24 rfl rfl
theorem dksX2_quiz_4 : cX2_quiz.data.toList.drop 94 = dktX2_quiz_4 := dk_seg dksX2_quiz_3 22 rfl rfl
theorem dksX2_quiz_5 : cX2_quiz.data.toList.drop 118 = dktX2_quiz_5 := dk_seg dksX2_quiz_4 24 rfl rfl
theorem dksX2_quiz_6 : cX2_quiz.data.toList.drop 141 = dktX2_quiz_6 := dk_seg dksX2_quiz_5 23 rfl rfl
theorem dX2_quiz_0 : decode cX2_quiz 0 = .ok (.aload_n 0, 1) := dk_42 (dk_at dksX2_quiz_0 0 rfl rfl)
theorem dX2_quiz_1 : decode cX2_quiz 1 = .ok (.iconst 0, 1) := dk_3 (dk_at dksX2_quiz_0 1 rfl rfl)
theorem dX2_quiz_2 : decode cX2_quiz 2 = .ok (.putfield 133, 3) := dk_181 0 133 (dk_at dksX2_quiz_0 2 rfl rfl)
theorem dX2_quiz_5 : decode cX2_quiz 5 = .ok (.aload_n 0, 1) := dk_42 (dk_at dksX2_quiz_0 5 rfl rfl)
theorem dX2_quiz_6 : decode cX2_quiz 6 = .ok (.iconst 0, 1) := dk_3 (dk_at dksX2_quiz_0 6 rfl rfl)
theorem dX2_quiz_7 : decode cX2_quiz 7 = .ok (.putfield 157, 3) := dk_181 0 157 (dk_at dksX2_quiz_0 7 rfl rfl)
theorem dX2_quiz_10 : decode cX2_quiz 10 = .ok (.iconst 1, 1) := dk_4 (dk_at dksX2_quiz_0 10 rfl rfl)
theorem dX2_quiz_11 : decode cX2_quiz 11 = .ok (.istore_n 1, 1) := dk_60 (dk_at dksX2_quiz_0 11 rfl rfl)
theorem dX2_quiz_12 : decode cX2_quiz 12 = .ok (.iload_n 1, 1) := dk_27 (dk_at dksX2_quiz_0 12 rfl rfl)
theorem dX2_quiz_13 : decode cX2_quiz 13 = .ok (.ifCond .eq 47, 3) := dk_153 0 47 (dk_at dksX2_quiz_0 13 rfl rfl)
theorem dX2_quiz_16 : decode cX2_quiz 16 = .ok (.aload_n 0, 1) := dk_42 (dk_at dksX2_quiz_0 16 rfl rfl)
theorem dX2_quiz_17 : decode cX2_quiz 17 = .ok (.getfield 133, 3) := dk_180 0 133 (dk_at dksX2_quiz_0 17 rfl rfl)
theorem dX2_quiz_20 : decode cX2_quiz 20 = .ok (.aload_n 0, 1) := dk_42 (dk_at dksX2_quiz_0 20 rfl rfl)
theorem dX2_quiz_21 : decode cX2_quiz 21 = .ok (.getfield 125, 3) := dk_180 0 125 (dk_at dksX2_quiz_0 21 rfl rfl)
theorem dX2_quiz_24 : decode cX2_quiz 24 = .ok (.if_icmp .lt 10, 3) := dk_161 0 10 (dk_at dksX2_quiz_1 0 rfl rfl)
theorem dX2_quiz_27 : decode cX2_quiz 27 = .ok (.aload_n 0, 1) := dk_42 (dk_at dksX2_quiz_1 3 rfl rfl)
theorem dX2_quiz_28 : decode cX2_quiz 28 = .ok (.getfield 157, 3) := dk_180 0 157 (dk_at dksX2_quiz_1 4 rfl rfl)
theorem dX2_quiz_31 : decode cX2_quiz 31 = .ok (.ifCond .ne 29, 3) := dk_154 0 29 (dk_at dksX2_quiz_1 7 rfl rfl)
theorem dX2_quiz_34 : decode cX2_quiz 34 = .ok (.aload_n 0, 1) := dk_42 (dk_at dksX2_quiz_1 10 rfl rfl)
theorem dX2_quiz_35 : decode cX2_quiz 35 = .ok (.invokevirtual 173, 3) := dk_182 0 173 (dk_at dksX2_quiz_1 11 rfl rfl)
theorem dX2_quiz_38 : decode cX2_quiz 38 = .ok (.istore_n 1, 1) := dk_60 (dk_at dksX2_quiz_1 14 rfl rfl)
theorem dX2_quiz_39 : decode cX2_quiz 39 = .ok (.aload_n 0, 1) := dk_42 (dk_at dksX2_quiz_1 15 rfl rfl)
theorem dX2_quiz_40 : decode cX2_quiz 40 = .ok (.dup, 1) := dk_89 (dk_at dksX2_quiz_1 16 rfl rfl)
theorem dX2_quiz_41 : decode cX2_quiz 41 = .ok (.getfield 157, 3) := dk_180 0 157 (dk_at dksX2_quiz_1 17 rfl rfl)
theorem dX2_quiz_44 : decode cX2_quiz 44 = .ok (.iload_n 1, 1) := dk_27 (dk_at dksX2_quiz_1 20 rfl rfl)
theorem dX2_quiz_45 : decode cX2_quiz 45 = .ok (.ifCond .eq 7, 3) := dk_153 0 7 (dk_at dksX2_quiz_1 21 rfl rfl)
theorem dX2_quiz_48 : decode cX2_quiz 48 = .ok (.iconst 1, 1) := dk_4 (dk_at dksX2_quiz_2 0 rfl rfl)
theorem dX2_quiz_49 : decode cX2_quiz 49 = .ok (.goto 4, 3) := dk_167 0 4 (dk_at dksX2_quiz_2 1 rfl rfl)
theorem dX2_quiz_52 : decode cX2_quiz 52 = .ok (.iconst 0, 1) := dk_3 (dk_at dksX2_quiz_2 4 rfl rfl)
theorem dX2_quiz_53 : decode cX2_quiz 53 = .ok (.iadd, 1) := dk_96 (dk_at dksX2_quiz_2 5 rfl rfl)
theorem dX2_quiz_54 : decode cX2_quiz 54 = .ok (.putfield 157, 3) := dk_181 0 157 (dk_at dksX2_quiz_2 6 rfl rfl)
theorem dX2_quiz_57 : decode cX2_quiz 57 = .ok (.goto (-45), 3) := dk_167 255 211 (dk_at dksX2_quiz_2 9 rfl rfl)
theorem dX2_quiz_60 : decode cX2_quiz 60 = .ok (.aload_n 0, 1) := dk_42 (dk_at dksX2_quiz_2 12 rfl rfl)
theorem dX2_quiz_61 : decode cX2_quiz 61 = .ok (.iconst 0, 1) := dk_3 (dk_at dksX2_quiz_2 13 rfl rfl)
theorem dX2_quiz_62 : decode cX2_quiz 62 = .ok (.putfield 125, 3) := dk_181 0 125 (dk_at dksX2_quiz_2 14 rfl rfl)
theorem dX2_quiz_65 : decode cX2_quiz 65 = .ok (.iload_n 1, 1) := dk_27 (dk_at dksX2_quiz_2 17 rfl rfl)
theorem dX2_quiz_66 : decode cX2_quiz 66 = .ok (.ifCond .ne 12, 3) := dk_154 0 12 (dk_at dksX2_quiz_2 18 rfl rfl)
theorem dX2_quiz_69 : decode cX2_quiz 69 = .ok (.sipush (-1000), 3) := dk_17 252 24 (dk_at dksX2_quiz_2 21 rfl rfl)
theorem dX2_quiz_72 : decode cX2_quiz 72 = .ok (.aload_n 0, 1) := dk_42 (dk_at dksX2_quiz_3 0 rfl rfl)
theorem dX2_quiz_73 : decode cX2_quiz 73 = .ok (.getfield 133, 3) := dk_180 0 133 (dk_at dksX2_quiz_3 1 rfl rfl)
theorem dX2_quiz_76 : decode cX2_quiz 76 = .ok (.isub, 1) := dk_100 (dk_at dksX2_quiz_3 4 rfl rfl)
theorem dX2_quiz_77 : decode cX2_quiz 77 = .ok (.ireturn, 1) := dk_172 (dk_at dksX2_quiz_3 5 rfl rfl)
theorem dX2_quiz_78 : decode cX2_quiz 78 = .ok (.aload_n 0, 1) := dk_42 (dk_at dksX2_quiz_3 6 rfl rfl)
theorem dX2_quiz_79 : decode cX2_quiz 79 = .ok (.getfield 46, 3) := dk_180 0 46 (dk_at dksX2_quiz_3 7 rfl rfl)
theorem dX2_quiz_82 : decode cX2_quiz 82 = .ok (.istore_n 2, 1) := dk_61 (dk_at dksX2_quiz_3 10 rfl rfl)
theorem dX2_quiz_83 : decode cX2_quiz 83 = .ok (.aload_n 0, 1) := dk_42 (dk_at dksX2_quiz_3 11 rfl rfl)
theorem dX2_quiz_84 : decode cX2_quiz 84 = .ok (.getfield 114, 3) := dk_180 0 114 (dk_at dksX2_quiz_3 12 rfl rfl)
theorem dX2_quiz_87 : decode cX2_quiz 87 = .ok (.istore_n 3, 1) := dk_62 (dk_at dksX2_quiz_3 15 rfl rfl)
theorem dX2_quiz_88 : decode cX2_quiz 88 = .ok (.iconst 0, 1) := dk_3 (dk_at dksX2_quiz_3 16 rfl rfl)
theorem dX2_quiz_89 : decode cX2_quiz 89 = .ok (.istore 4, 2) := dk_54 4 (dk_at dksX2_quiz_3 17 rfl rfl)
theorem dX2_quiz_91 : decode cX2_quiz 91 = .ok (.iload 4, 2) := dk_21 4 (dk_at dksX2_quiz_3 19 rfl rfl)
theorem dX2_quiz_93 : decode cX2_quiz 93 = .ok (.aload_n 0, 1) := dk_42 (dk_at dksX2_quiz_3 21 rfl rfl)
theorem dX2_quiz_94 : decode cX2_quiz 94 = .ok (.getfield 157, 3) := dk_180 0 157 (dk_at dksX2_quiz_4 0 rfl rfl)
theorem dX2_quiz_97 : decode cX2_quiz 97 = .ok (.if_icmp .ge 43, 3) := dk_162 0 43 (dk_at dksX2_quiz_4 3 rfl rfl)
theorem dX2_quiz_100 : decode cX2_quiz 100 = .ok (.aload_n 0, 1) := dk_42 (dk_at dksX2_quiz_4 6 rfl rfl)
theorem dX2_quiz_101 : decode cX2_quiz 101 = .ok (.iload 4, 2) := dk_21 4 (dk_at dksX2_quiz_4 7 rfl rfl)
theorem dX2_quiz_103 : decode cX2_quiz 103 = .ok (.invokevirtual 177, 3) := dk_182 0 177 (dk_at dksX2_quiz_4 9 rfl rfl)
theorem dX2_quiz_106 : decode cX2_quiz 106 = .ok (.ifCond .eq 6, 3) := dk_153 0 6 (dk_at dksX2_quiz_4 12 rfl rfl)
theorem dX2_quiz_109 : decode cX2_quiz 109 = .ok (.goto 25, 3) := dk_167 0 25 (dk_at dksX2_quiz_4 15 rfl rfl)
theorem dX2_quiz_112 : decode cX2_quiz 112 = .ok (.aload_n 0, 1) := dk_42 (dk_at dksX2_quiz_4 18 rfl rfl)
theorem dX2_quiz_113 : decode cX2_quiz 113 = .ok (.iload_n 2, 1) := dk_28 (dk_at dksX2_quiz_4 19 rfl rfl)
theorem dX2_quiz_114 : decode cX2_quiz 114 = .ok (.putfield 46, 3) := dk_181 0 46 (dk_at dksX2_quiz_4 20 rfl rfl)
theorem dX2_quiz_117 : decode cX2_quiz 117 = .ok (.aload_n 0, 1) := dk_42 (dk_at dksX2_quiz_4 23 rfl rfl)
theorem dX2_quiz_118 : decode cX2_quiz 118 = .ok (.iload_n 3, 1) := dk_29 (dk_at dksX2_quiz_5 0 rfl rfl)
theorem dX2_quiz_119 : decode cX2_quiz 119 = .ok (.putfield 114, 3) := dk_181 0 114 (dk_at dksX2_quiz_5 1 rfl rfl)
theorem dX2_quiz_122 : decode cX2_quiz 122 = .ok (.sipush (-2000), 3) := dk_17 248 48 (dk_at dksX2_quiz_5 4 rfl rfl)
theorem dX2_quiz_125 : decode cX2_quiz 125 = .ok (.aload_n 0, 1) := dk_42 (dk_at dksX2_quiz_5 7 rfl rfl)
theorem dX2_quiz_126 : decode cX2_quiz 126 = .ok (.getfield 68, 3) := dk_180 0 68 (dk_at dksX2_quiz_5 8 rfl rfl)
theorem dX2_quiz_129 : decode cX2_quiz 129 = .ok (.iload 4, 2) := dk_21 4 (dk_at dksX2_quiz_5 11 rfl rfl)
theorem dX2_quiz_131 : decode cX2_quiz 131 = .ok (.iaload, 1) := dk_46 (dk_at dksX2_quiz_5 13 rfl rfl)
theorem dX2_quiz_132 : decode cX2_quiz 132 = .ok (.isub, 1) := dk_100 (dk_at dksX2_quiz_5 14 rfl rfl)
theorem dX2_quiz_133 : decode cX2_quiz 133 = .ok (.ireturn, 1) := dk_172 (dk_at dksX2_quiz_5 15 rfl rfl)
theorem dX2_quiz_134 : decode cX2_quiz 134 = .ok (.iinc 4 1, 3) := dk_132 4 1 (dk_at dksX2_quiz_5 16 rfl rfl)
theorem dX2_quiz_137 : decode cX2_quiz 137 = .ok (.goto (-46), 3) := dk_167 255 210 (dk_at dksX2_quiz_5 19 rfl rfl)
theorem dX2_quiz_140 : decode cX2_quiz 140 = .ok (.aload_n 0, 1) := dk_42 (dk_at dksX2_quiz_5 22 rfl rfl)
theorem dX2_quiz_141 : decode cX2_quiz 141 = .ok (.getfield 157, 3) := dk_180 0 157 (dk_at dksX2_quiz_6 0 rfl rfl)
theorem dX2_quiz_144 : decode cX2_quiz 144 = .ok (.ireturn, 1) := dk_172 (dk_at dksX2_quiz_6 3 rfl rfl)
abbrev cX2_statement : ByteArray := prog_18_method_20_code
def yX2_statement : MethodName := ⟨RX2, "statement", "()Z"⟩
def dkwX2_statement_2 : List UInt8 := [96, 181, 0, 133, 28, 16, 119, 160, 0, 11, 42, 27, 182, 0, 160, 167, 0, 8, 42, 27, 182, 0, 163, 172]
abbrev dktX2_statement_2 : List UInt8 := dkwX2_statement_2 ++ []
def dkwX2_statement_1 : List UInt8 := [180, 0, 133, 79, 28, 16, 119, 159, 0, 11, 28, 16, 112, 159, 0, 5, 3, 172, 42, 89, 180, 0, 133, 4]
abbrev dktX2_statement_1 : List UInt8 := dkwX2_statement_1 ++ dktX2_statement_2
def dkwX2_statement_0 : List UInt8 := [42, 180, 0, 157, 60, 42, 182, 0, 136, 61, 42, 180, 0, 65, 27, 28, 79, 42, 180, 0, 68, 27, 42]
abbrev dktX2_statement_0 : List UInt8 := dkwX2_statement_0 ++ dktX2_statement_1
theorem dksX2_statement_0 : cX2_statement.data.toList.drop 0 = dktX2_statement_0 := by decide +kernel
theorem dksX2_statement_1 : cX2_statement.data.toList.drop 23 = dktX2_statement_1 := dk_seg dksX2_statement_0 23 rfl rfl
theorem dksX2_statement_2 : cX2_statement.data.toList.drop 47 = dktX2_statement_2 := dk_seg dksX2_statement_1 24 rfl rfl
theorem dX2_statement_0 : decode cX2_statement 0 = .ok (.aload_n 0, 1) := dk_42 (dk_at dksX2_statement_0 0 rfl rfl)
theorem dX2_statement_1 : decode cX2_statement 1 = .ok (.getfield 157, 3) := dk_180 0 157 (dk_at dksX2_statement_0 1 rfl rfl)
theorem dX2_statement_4 : decode cX2_statement 4 = .ok (.istore_n 1, 1) := dk_60 (dk_at dksX2_statement_0 4 rfl rfl)
theorem dX2_statement_5 : decode cX2_statement 5 = .ok (.aload_n 0, 1) := dk_42 (dk_at dksX2_statement_0 5 rfl rfl)
theorem dX2_statement_6 : decode cX2_statement 6 = .ok (.invokevirtual 136, 3) := dk_182 0 136 (dk_at dksX2_statement_0 6 rfl rfl)
theorem dX2_statement_9 : decode cX2_statement 9 = .ok (.istore_n 2, 1) := dk_61 (dk_at dksX2_statement_0 9 rfl rfl)
theorem dX2_statement_10 : decode cX2_statement 10 = .ok (.aload_n 0, 1) := dk_42 (dk_at dksX2_statement_0 10 rfl rfl)
theorem dX2_statement_11 : decode cX2_statement 11 = .ok (.getfield 65, 3) := dk_180 0 65 (dk_at dksX2_statement_0 11 rfl rfl)
theorem dX2_statement_14 : decode cX2_statement 14 = .ok (.iload_n 1, 1) := dk_27 (dk_at dksX2_statement_0 14 rfl rfl)
theorem dX2_statement_15 : decode cX2_statement 15 = .ok (.iload_n 2, 1) := dk_28 (dk_at dksX2_statement_0 15 rfl rfl)
theorem dX2_statement_16 : decode cX2_statement 16 = .ok (.iastore, 1) := dk_79 (dk_at dksX2_statement_0 16 rfl rfl)
theorem dX2_statement_17 : decode cX2_statement 17 = .ok (.aload_n 0, 1) := dk_42 (dk_at dksX2_statement_0 17 rfl rfl)
theorem dX2_statement_18 : decode cX2_statement 18 = .ok (.getfield 68, 3) := dk_180 0 68 (dk_at dksX2_statement_0 18 rfl rfl)
theorem dX2_statement_21 : decode cX2_statement 21 = .ok (.iload_n 1, 1) := dk_27 (dk_at dksX2_statement_0 21 rfl rfl)
theorem dX2_statement_22 : decode cX2_statement 22 = .ok (.aload_n 0, 1) := dk_42 (dk_at dksX2_statement_0 22 rfl rfl)
theorem dX2_statement_23 : decode cX2_statement 23 = .ok (.getfield 133, 3) := dk_180 0 133 (dk_at dksX2_statement_1 0 rfl rfl)
theorem dX2_statement_26 : decode cX2_statement 26 = .ok (.iastore, 1) := dk_79 (dk_at dksX2_statement_1 3 rfl rfl)
theorem dX2_statement_27 : decode cX2_statement 27 = .ok (.iload_n 2, 1) := dk_28 (dk_at dksX2_statement_1 4 rfl rfl)
theorem dX2_statement_28 : decode cX2_statement 28 = .ok (.bipush 119, 2) := dk_16 119 (dk_at dksX2_statement_1 5 rfl rfl)
theorem dX2_statement_30 : decode cX2_statement 30 = .ok (.if_icmp .eq 11, 3) := dk_159 0 11 (dk_at dksX2_statement_1 7 rfl rfl)
theorem dX2_statement_33 : decode cX2_statement 33 = .ok (.iload_n 2, 1) := dk_28 (dk_at dksX2_statement_1 10 rfl rfl)
theorem dX2_statement_34 : decode cX2_statement 34 = .ok (.bipush 112, 2) := dk_16 112 (dk_at dksX2_statement_1 11 rfl rfl)
theorem dX2_statement_36 : decode cX2_statement 36 = .ok (.if_icmp .eq 5, 3) := dk_159 0 5 (dk_at dksX2_statement_1 13 rfl rfl)
theorem dX2_statement_39 : decode cX2_statement 39 = .ok (.iconst 0, 1) := dk_3 (dk_at dksX2_statement_1 16 rfl rfl)
theorem dX2_statement_40 : decode cX2_statement 40 = .ok (.ireturn, 1) := dk_172 (dk_at dksX2_statement_1 17 rfl rfl)
theorem dX2_statement_41 : decode cX2_statement 41 = .ok (.aload_n 0, 1) := dk_42 (dk_at dksX2_statement_1 18 rfl rfl)
theorem dX2_statement_42 : decode cX2_statement 42 = .ok (.dup, 1) := dk_89 (dk_at dksX2_statement_1 19 rfl rfl)
theorem dX2_statement_43 : decode cX2_statement 43 = .ok (.getfield 133, 3) := dk_180 0 133 (dk_at dksX2_statement_1 20 rfl rfl)
theorem dX2_statement_46 : decode cX2_statement 46 = .ok (.iconst 1, 1) := dk_4 (dk_at dksX2_statement_1 23 rfl rfl)
theorem dX2_statement_47 : decode cX2_statement 47 = .ok (.iadd, 1) := dk_96 (dk_at dksX2_statement_2 0 rfl rfl)
theorem dX2_statement_48 : decode cX2_statement 48 = .ok (.putfield 133, 3) := dk_181 0 133 (dk_at dksX2_statement_2 1 rfl rfl)
theorem dX2_statement_51 : decode cX2_statement 51 = .ok (.iload_n 2, 1) := dk_28 (dk_at dksX2_statement_2 4 rfl rfl)
theorem dX2_statement_52 : decode cX2_statement 52 = .ok (.bipush 119, 2) := dk_16 119 (dk_at dksX2_statement_2 5 rfl rfl)
theorem dX2_statement_54 : decode cX2_statement 54 = .ok (.if_icmp .ne 11, 3) := dk_160 0 11 (dk_at dksX2_statement_2 7 rfl rfl)
theorem dX2_statement_57 : decode cX2_statement 57 = .ok (.aload_n 0, 1) := dk_42 (dk_at dksX2_statement_2 10 rfl rfl)
theorem dX2_statement_58 : decode cX2_statement 58 = .ok (.iload_n 1, 1) := dk_27 (dk_at dksX2_statement_2 11 rfl rfl)
theorem dX2_statement_59 : decode cX2_statement 59 = .ok (.invokevirtual 160, 3) := dk_182 0 160 (dk_at dksX2_statement_2 12 rfl rfl)
theorem dX2_statement_62 : decode cX2_statement 62 = .ok (.goto 8, 3) := dk_167 0 8 (dk_at dksX2_statement_2 15 rfl rfl)
theorem dX2_statement_65 : decode cX2_statement 65 = .ok (.aload_n 0, 1) := dk_42 (dk_at dksX2_statement_2 18 rfl rfl)
theorem dX2_statement_66 : decode cX2_statement 66 = .ok (.iload_n 1, 1) := dk_27 (dk_at dksX2_statement_2 19 rfl rfl)
theorem dX2_statement_67 : decode cX2_statement 67 = .ok (.invokevirtual 163, 3) := dk_182 0 163 (dk_at dksX2_statement_2 20 rfl rfl)
theorem dX2_statement_70 : decode cX2_statement 70 = .ok (.ireturn, 1) := dk_172 (dk_at dksX2_statement_2 23 rfl rfl)
abbrev cX2_sign : ByteArray := prog_18_method_13_code
def yX2_sign : MethodName := ⟨RX2, "sign", "()I"⟩
def dkwX2_sign_1 : List UInt8 := [172]
abbrev dktX2_sign_1 : List UInt8 := dkwX2_sign_1 ++ []
def dkwX2_sign_0 : List UInt8 := [42, 180, 0, 133, 42, 180, 0, 125, 162, 0, 15, 42, 180, 0, 50, 42, 180, 0, 133, 46, 167, 0, 4, 2]
abbrev dktX2_sign_0 : List UInt8 := dkwX2_sign_0 ++ dktX2_sign_1
theorem dksX2_sign_0 : cX2_sign.data.toList.drop 0 = dktX2_sign_0 := by decide +kernel
theorem dksX2_sign_1 : cX2_sign.data.toList.drop 24 = dktX2_sign_1 := dk_seg dksX2_sign_0 24 rfl rfl
theorem dX2_sign_0 : decode cX2_sign 0 = .ok (.aload_n 0, 1) := dk_42 (dk_at dksX2_sign_0 0 rfl rfl)
theorem dX2_sign_1 : decode cX2_sign 1 = .ok (.getfield 133, 3) := dk_180 0 133 (dk_at dksX2_sign_0 1 rfl rfl)
theorem dX2_sign_4 : decode cX2_sign 4 = .ok (.aload_n 0, 1) := dk_42 (dk_at dksX2_sign_0 4 rfl rfl)
theorem dX2_sign_5 : decode cX2_sign 5 = .ok (.getfield 125, 3) := dk_180 0 125 (dk_at dksX2_sign_0 5 rfl rfl)
theorem dX2_sign_8 : decode cX2_sign 8 = .ok (.if_icmp .ge 15, 3) := dk_162 0 15 (dk_at dksX2_sign_0 8 rfl rfl)
theorem dX2_sign_11 : decode cX2_sign 11 = .ok (.aload_n 0, 1) := dk_42 (dk_at dksX2_sign_0 11 rfl rfl)
theorem dX2_sign_12 : decode cX2_sign 12 = .ok (.getfield 50, 3) := dk_180 0 50 (dk_at dksX2_sign_0 12 rfl rfl)
theorem dX2_sign_15 : decode cX2_sign 15 = .ok (.aload_n 0, 1) := dk_42 (dk_at dksX2_sign_0 15 rfl rfl)
theorem dX2_sign_16 : decode cX2_sign 16 = .ok (.getfield 133, 3) := dk_180 0 133 (dk_at dksX2_sign_0 16 rfl rfl)
theorem dX2_sign_19 : decode cX2_sign 19 = .ok (.iaload, 1) := dk_46 (dk_at dksX2_sign_0 19 rfl rfl)
theorem dX2_sign_20 : decode cX2_sign 20 = .ok (.goto 4, 3) := dk_167 0 4 (dk_at dksX2_sign_0 20 rfl rfl)
theorem dX2_sign_23 : decode cX2_sign 23 = .ok (.iconst (-1), 1) := dk_2 (dk_at dksX2_sign_0 23 rfl rfl)
theorem dX2_sign_24 : decode cX2_sign 24 = .ok (.ireturn, 1) := dk_172 (dk_at dksX2_sign_1 0 rfl rfl)
abbrev cX2_readsWord : ByteArray := prog_18_method_16_code
def yX2_readsWord : MethodName := ⟨RX2, "readsWord", "(I)Z"⟩
def dkwX2_readsWord_4 : List UInt8 := [167, 0, 4, 3, 172]
abbrev dktX2_readsWord_4 : List UInt8 := dkwX2_readsWord_4 ++ []
def dkwX2_readsWord_3 : List UInt8 := [182, 0, 144, 79, 42, 180, 0, 59, 27, 46, 155, 0, 16, 42, 16, 59, 182, 0, 147, 153, 0, 7, 4]
abbrev dktX2_readsWord_3 : List UInt8 := dkwX2_readsWord_3 ++ dktX2_readsWord_4
def dkwX2_readsWord_2 : List UInt8 := [46, 155, 0, 12, 42, 16, 44, 182, 0, 147, 154, 0, 5, 3, 172, 42, 180, 0, 59, 27, 42, 4]
abbrev dktX2_readsWord_2 : List UInt8 := dkwX2_readsWord_2 ++ dktX2_readsWord_3
def dkwX2_readsWord_1 : List UInt8 := [182, 0, 147, 154, 0, 5, 3, 172, 42, 180, 0, 56, 27, 42, 4, 182, 0, 144, 79, 42, 180, 0, 56, 27]
abbrev dktX2_readsWord_1 : List UInt8 := dkwX2_readsWord_1 ++ dktX2_readsWord_2
def dkwX2_readsWord_0 : List UInt8 := [42, 180, 0, 53, 27, 42, 5, 182, 0, 144, 79, 42, 180, 0, 53, 27, 46, 155, 0, 12, 42, 16, 44]
abbrev dktX2_readsWord_0 : List UInt8 := dkwX2_readsWord_0 ++ dktX2_readsWord_1
theorem dksX2_readsWord_0 : cX2_readsWord.data.toList.drop 0 = dktX2_readsWord_0 := by decide +kernel
theorem dksX2_readsWord_1 : cX2_readsWord.data.toList.drop 23 = dktX2_readsWord_1 := dk_seg dksX2_readsWord_0 23 rfl rfl
theorem dksX2_readsWord_2 : cX2_readsWord.data.toList.drop 47 = dktX2_readsWord_2 := dk_seg dksX2_readsWord_1 24 rfl rfl
theorem dksX2_readsWord_3 : cX2_readsWord.data.toList.drop 69 = dktX2_readsWord_3 := dk_seg dksX2_readsWord_2 22 rfl rfl
theorem dksX2_readsWord_4 : cX2_readsWord.data.toList.drop 92 = dktX2_readsWord_4 := dk_seg dksX2_readsWord_3 23 rfl rfl
theorem dX2_readsWord_0 : decode cX2_readsWord 0 = .ok (.aload_n 0, 1) := dk_42 (dk_at dksX2_readsWord_0 0 rfl rfl)
theorem dX2_readsWord_1 : decode cX2_readsWord 1 = .ok (.getfield 53, 3) := dk_180 0 53 (dk_at dksX2_readsWord_0 1 rfl rfl)
theorem dX2_readsWord_4 : decode cX2_readsWord 4 = .ok (.iload_n 1, 1) := dk_27 (dk_at dksX2_readsWord_0 4 rfl rfl)
theorem dX2_readsWord_5 : decode cX2_readsWord 5 = .ok (.aload_n 0, 1) := dk_42 (dk_at dksX2_readsWord_0 5 rfl rfl)
theorem dX2_readsWord_6 : decode cX2_readsWord 6 = .ok (.iconst 2, 1) := dk_5 (dk_at dksX2_readsWord_0 6 rfl rfl)
theorem dX2_readsWord_7 : decode cX2_readsWord 7 = .ok (.invokevirtual 144, 3) := dk_182 0 144 (dk_at dksX2_readsWord_0 7 rfl rfl)
theorem dX2_readsWord_10 : decode cX2_readsWord 10 = .ok (.iastore, 1) := dk_79 (dk_at dksX2_readsWord_0 10 rfl rfl)
theorem dX2_readsWord_11 : decode cX2_readsWord 11 = .ok (.aload_n 0, 1) := dk_42 (dk_at dksX2_readsWord_0 11 rfl rfl)
theorem dX2_readsWord_12 : decode cX2_readsWord 12 = .ok (.getfield 53, 3) := dk_180 0 53 (dk_at dksX2_readsWord_0 12 rfl rfl)
theorem dX2_readsWord_15 : decode cX2_readsWord 15 = .ok (.iload_n 1, 1) := dk_27 (dk_at dksX2_readsWord_0 15 rfl rfl)
theorem dX2_readsWord_16 : decode cX2_readsWord 16 = .ok (.iaload, 1) := dk_46 (dk_at dksX2_readsWord_0 16 rfl rfl)
theorem dX2_readsWord_17 : decode cX2_readsWord 17 = .ok (.ifCond .lt 12, 3) := dk_155 0 12 (dk_at dksX2_readsWord_0 17 rfl rfl)
theorem dX2_readsWord_20 : decode cX2_readsWord 20 = .ok (.aload_n 0, 1) := dk_42 (dk_at dksX2_readsWord_0 20 rfl rfl)
theorem dX2_readsWord_21 : decode cX2_readsWord 21 = .ok (.bipush 44, 2) := dk_16 44 (dk_at dksX2_readsWord_0 21 rfl rfl)
theorem dX2_readsWord_23 : decode cX2_readsWord 23 = .ok (.invokevirtual 147, 3) := dk_182 0 147 (dk_at dksX2_readsWord_1 0 rfl rfl)
theorem dX2_readsWord_26 : decode cX2_readsWord 26 = .ok (.ifCond .ne 5, 3) := dk_154 0 5 (dk_at dksX2_readsWord_1 3 rfl rfl)
theorem dX2_readsWord_29 : decode cX2_readsWord 29 = .ok (.iconst 0, 1) := dk_3 (dk_at dksX2_readsWord_1 6 rfl rfl)
theorem dX2_readsWord_30 : decode cX2_readsWord 30 = .ok (.ireturn, 1) := dk_172 (dk_at dksX2_readsWord_1 7 rfl rfl)
theorem dX2_readsWord_31 : decode cX2_readsWord 31 = .ok (.aload_n 0, 1) := dk_42 (dk_at dksX2_readsWord_1 8 rfl rfl)
theorem dX2_readsWord_32 : decode cX2_readsWord 32 = .ok (.getfield 56, 3) := dk_180 0 56 (dk_at dksX2_readsWord_1 9 rfl rfl)
theorem dX2_readsWord_35 : decode cX2_readsWord 35 = .ok (.iload_n 1, 1) := dk_27 (dk_at dksX2_readsWord_1 12 rfl rfl)
theorem dX2_readsWord_36 : decode cX2_readsWord 36 = .ok (.aload_n 0, 1) := dk_42 (dk_at dksX2_readsWord_1 13 rfl rfl)
theorem dX2_readsWord_37 : decode cX2_readsWord 37 = .ok (.iconst 1, 1) := dk_4 (dk_at dksX2_readsWord_1 14 rfl rfl)
theorem dX2_readsWord_38 : decode cX2_readsWord 38 = .ok (.invokevirtual 144, 3) := dk_182 0 144 (dk_at dksX2_readsWord_1 15 rfl rfl)
theorem dX2_readsWord_41 : decode cX2_readsWord 41 = .ok (.iastore, 1) := dk_79 (dk_at dksX2_readsWord_1 18 rfl rfl)
theorem dX2_readsWord_42 : decode cX2_readsWord 42 = .ok (.aload_n 0, 1) := dk_42 (dk_at dksX2_readsWord_1 19 rfl rfl)
theorem dX2_readsWord_43 : decode cX2_readsWord 43 = .ok (.getfield 56, 3) := dk_180 0 56 (dk_at dksX2_readsWord_1 20 rfl rfl)
theorem dX2_readsWord_46 : decode cX2_readsWord 46 = .ok (.iload_n 1, 1) := dk_27 (dk_at dksX2_readsWord_1 23 rfl rfl)
theorem dX2_readsWord_47 : decode cX2_readsWord 47 = .ok (.iaload, 1) := dk_46 (dk_at dksX2_readsWord_2 0 rfl rfl)
theorem dX2_readsWord_48 : decode cX2_readsWord 48 = .ok (.ifCond .lt 12, 3) := dk_155 0 12 (dk_at dksX2_readsWord_2 1 rfl rfl)
theorem dX2_readsWord_51 : decode cX2_readsWord 51 = .ok (.aload_n 0, 1) := dk_42 (dk_at dksX2_readsWord_2 4 rfl rfl)
theorem dX2_readsWord_52 : decode cX2_readsWord 52 = .ok (.bipush 44, 2) := dk_16 44 (dk_at dksX2_readsWord_2 5 rfl rfl)
theorem dX2_readsWord_54 : decode cX2_readsWord 54 = .ok (.invokevirtual 147, 3) := dk_182 0 147 (dk_at dksX2_readsWord_2 7 rfl rfl)
theorem dX2_readsWord_57 : decode cX2_readsWord 57 = .ok (.ifCond .ne 5, 3) := dk_154 0 5 (dk_at dksX2_readsWord_2 10 rfl rfl)
theorem dX2_readsWord_60 : decode cX2_readsWord 60 = .ok (.iconst 0, 1) := dk_3 (dk_at dksX2_readsWord_2 13 rfl rfl)
theorem dX2_readsWord_61 : decode cX2_readsWord 61 = .ok (.ireturn, 1) := dk_172 (dk_at dksX2_readsWord_2 14 rfl rfl)
theorem dX2_readsWord_62 : decode cX2_readsWord 62 = .ok (.aload_n 0, 1) := dk_42 (dk_at dksX2_readsWord_2 15 rfl rfl)
theorem dX2_readsWord_63 : decode cX2_readsWord 63 = .ok (.getfield 59, 3) := dk_180 0 59 (dk_at dksX2_readsWord_2 16 rfl rfl)
theorem dX2_readsWord_66 : decode cX2_readsWord 66 = .ok (.iload_n 1, 1) := dk_27 (dk_at dksX2_readsWord_2 19 rfl rfl)
theorem dX2_readsWord_67 : decode cX2_readsWord 67 = .ok (.aload_n 0, 1) := dk_42 (dk_at dksX2_readsWord_2 20 rfl rfl)
theorem dX2_readsWord_68 : decode cX2_readsWord 68 = .ok (.iconst 1, 1) := dk_4 (dk_at dksX2_readsWord_2 21 rfl rfl)
theorem dX2_readsWord_69 : decode cX2_readsWord 69 = .ok (.invokevirtual 144, 3) := dk_182 0 144 (dk_at dksX2_readsWord_3 0 rfl rfl)
theorem dX2_readsWord_72 : decode cX2_readsWord 72 = .ok (.iastore, 1) := dk_79 (dk_at dksX2_readsWord_3 3 rfl rfl)
theorem dX2_readsWord_73 : decode cX2_readsWord 73 = .ok (.aload_n 0, 1) := dk_42 (dk_at dksX2_readsWord_3 4 rfl rfl)
theorem dX2_readsWord_74 : decode cX2_readsWord 74 = .ok (.getfield 59, 3) := dk_180 0 59 (dk_at dksX2_readsWord_3 5 rfl rfl)
theorem dX2_readsWord_77 : decode cX2_readsWord 77 = .ok (.iload_n 1, 1) := dk_27 (dk_at dksX2_readsWord_3 8 rfl rfl)
theorem dX2_readsWord_78 : decode cX2_readsWord 78 = .ok (.iaload, 1) := dk_46 (dk_at dksX2_readsWord_3 9 rfl rfl)
theorem dX2_readsWord_79 : decode cX2_readsWord 79 = .ok (.ifCond .lt 16, 3) := dk_155 0 16 (dk_at dksX2_readsWord_3 10 rfl rfl)
theorem dX2_readsWord_82 : decode cX2_readsWord 82 = .ok (.aload_n 0, 1) := dk_42 (dk_at dksX2_readsWord_3 13 rfl rfl)
theorem dX2_readsWord_83 : decode cX2_readsWord 83 = .ok (.bipush 59, 2) := dk_16 59 (dk_at dksX2_readsWord_3 14 rfl rfl)
theorem dX2_readsWord_85 : decode cX2_readsWord 85 = .ok (.invokevirtual 147, 3) := dk_182 0 147 (dk_at dksX2_readsWord_3 16 rfl rfl)
theorem dX2_readsWord_88 : decode cX2_readsWord 88 = .ok (.ifCond .eq 7, 3) := dk_153 0 7 (dk_at dksX2_readsWord_3 19 rfl rfl)
theorem dX2_readsWord_91 : decode cX2_readsWord 91 = .ok (.iconst 1, 1) := dk_4 (dk_at dksX2_readsWord_3 22 rfl rfl)
theorem dX2_readsWord_92 : decode cX2_readsWord 92 = .ok (.goto 4, 3) := dk_167 0 4 (dk_at dksX2_readsWord_4 0 rfl rfl)
theorem dX2_readsWord_95 : decode cX2_readsWord 95 = .ok (.iconst 0, 1) := dk_3 (dk_at dksX2_readsWord_4 3 rfl rfl)
theorem dX2_readsWord_96 : decode cX2_readsWord 96 = .ok (.ireturn, 1) := dk_172 (dk_at dksX2_readsWord_4 4 rfl rfl)
abbrev cX2_number : ByteArray := prog_18_method_15_code
def yX2_number : MethodName := ⟨RX2, "number", "(I)I"⟩
def dkwX2_number_3 : List UInt8 := [28, 172]
abbrev dktX2_number_3 : List UInt8 := dkwX2_number_3 ++ []
def dkwX2_number_2 : List UInt8 := [182, 0, 136, 96, 16, 48, 100, 61, 42, 89, 180, 0, 133, 4, 96, 181, 0, 133, 132, 3, 1, 167, 255, 211]
abbrev dktX2_number_2 : List UInt8 := dkwX2_number_2 ++ dktX2_number_3
def dkwX2_number_1 : List UInt8 := [162, 0, 46, 42, 182, 0, 136, 16, 48, 16, 57, 184, 0, 140, 153, 0, 32, 16, 10, 28, 104, 42]
abbrev dktX2_number_1 : List UInt8 := dkwX2_number_1 ++ dktX2_number_2
def dkwX2_number_0 : List UInt8 := [42, 182, 0, 136, 16, 48, 16, 57, 184, 0, 140, 154, 0, 5, 2, 172, 3, 61, 3, 62, 29, 27]
abbrev dktX2_number_0 : List UInt8 := dkwX2_number_0 ++ dktX2_number_1
theorem dksX2_number_0 : cX2_number.data.toList.drop 0 = dktX2_number_0 := by decide +kernel
theorem dksX2_number_1 : cX2_number.data.toList.drop 22 = dktX2_number_1 := dk_seg dksX2_number_0 22 rfl rfl
theorem dksX2_number_2 : cX2_number.data.toList.drop 44 = dktX2_number_2 := dk_seg dksX2_number_1 22 rfl rfl
theorem dksX2_number_3 : cX2_number.data.toList.drop 68 = dktX2_number_3 := dk_seg dksX2_number_2 24 rfl rfl
theorem dX2_number_0 : decode cX2_number 0 = .ok (.aload_n 0, 1) := dk_42 (dk_at dksX2_number_0 0 rfl rfl)
theorem dX2_number_1 : decode cX2_number 1 = .ok (.invokevirtual 136, 3) := dk_182 0 136 (dk_at dksX2_number_0 1 rfl rfl)
theorem dX2_number_4 : decode cX2_number 4 = .ok (.bipush 48, 2) := dk_16 48 (dk_at dksX2_number_0 4 rfl rfl)
theorem dX2_number_6 : decode cX2_number 6 = .ok (.bipush 57, 2) := dk_16 57 (dk_at dksX2_number_0 6 rfl rfl)
theorem dX2_number_8 : decode cX2_number 8 = .ok (.invokestatic 140, 3) := dk_184 0 140 (dk_at dksX2_number_0 8 rfl rfl)
theorem dX2_number_11 : decode cX2_number 11 = .ok (.ifCond .ne 5, 3) := dk_154 0 5 (dk_at dksX2_number_0 11 rfl rfl)
theorem dX2_number_14 : decode cX2_number 14 = .ok (.iconst (-1), 1) := dk_2 (dk_at dksX2_number_0 14 rfl rfl)
theorem dX2_number_15 : decode cX2_number 15 = .ok (.ireturn, 1) := dk_172 (dk_at dksX2_number_0 15 rfl rfl)
theorem dX2_number_16 : decode cX2_number 16 = .ok (.iconst 0, 1) := dk_3 (dk_at dksX2_number_0 16 rfl rfl)
theorem dX2_number_17 : decode cX2_number 17 = .ok (.istore_n 2, 1) := dk_61 (dk_at dksX2_number_0 17 rfl rfl)
theorem dX2_number_18 : decode cX2_number 18 = .ok (.iconst 0, 1) := dk_3 (dk_at dksX2_number_0 18 rfl rfl)
theorem dX2_number_19 : decode cX2_number 19 = .ok (.istore_n 3, 1) := dk_62 (dk_at dksX2_number_0 19 rfl rfl)
theorem dX2_number_20 : decode cX2_number 20 = .ok (.iload_n 3, 1) := dk_29 (dk_at dksX2_number_0 20 rfl rfl)
theorem dX2_number_21 : decode cX2_number 21 = .ok (.iload_n 1, 1) := dk_27 (dk_at dksX2_number_0 21 rfl rfl)
theorem dX2_number_22 : decode cX2_number 22 = .ok (.if_icmp .ge 46, 3) := dk_162 0 46 (dk_at dksX2_number_1 0 rfl rfl)
theorem dX2_number_25 : decode cX2_number 25 = .ok (.aload_n 0, 1) := dk_42 (dk_at dksX2_number_1 3 rfl rfl)
theorem dX2_number_26 : decode cX2_number 26 = .ok (.invokevirtual 136, 3) := dk_182 0 136 (dk_at dksX2_number_1 4 rfl rfl)
theorem dX2_number_29 : decode cX2_number 29 = .ok (.bipush 48, 2) := dk_16 48 (dk_at dksX2_number_1 7 rfl rfl)
theorem dX2_number_31 : decode cX2_number 31 = .ok (.bipush 57, 2) := dk_16 57 (dk_at dksX2_number_1 9 rfl rfl)
theorem dX2_number_33 : decode cX2_number 33 = .ok (.invokestatic 140, 3) := dk_184 0 140 (dk_at dksX2_number_1 11 rfl rfl)
theorem dX2_number_36 : decode cX2_number 36 = .ok (.ifCond .eq 32, 3) := dk_153 0 32 (dk_at dksX2_number_1 14 rfl rfl)
theorem dX2_number_39 : decode cX2_number 39 = .ok (.bipush 10, 2) := dk_16 10 (dk_at dksX2_number_1 17 rfl rfl)
theorem dX2_number_41 : decode cX2_number 41 = .ok (.iload_n 2, 1) := dk_28 (dk_at dksX2_number_1 19 rfl rfl)
theorem dX2_number_42 : decode cX2_number 42 = .ok (.imul, 1) := dk_104 (dk_at dksX2_number_1 20 rfl rfl)
theorem dX2_number_43 : decode cX2_number 43 = .ok (.aload_n 0, 1) := dk_42 (dk_at dksX2_number_1 21 rfl rfl)
theorem dX2_number_44 : decode cX2_number 44 = .ok (.invokevirtual 136, 3) := dk_182 0 136 (dk_at dksX2_number_2 0 rfl rfl)
theorem dX2_number_47 : decode cX2_number 47 = .ok (.iadd, 1) := dk_96 (dk_at dksX2_number_2 3 rfl rfl)
theorem dX2_number_48 : decode cX2_number 48 = .ok (.bipush 48, 2) := dk_16 48 (dk_at dksX2_number_2 4 rfl rfl)
theorem dX2_number_50 : decode cX2_number 50 = .ok (.isub, 1) := dk_100 (dk_at dksX2_number_2 6 rfl rfl)
theorem dX2_number_51 : decode cX2_number 51 = .ok (.istore_n 2, 1) := dk_61 (dk_at dksX2_number_2 7 rfl rfl)
theorem dX2_number_52 : decode cX2_number 52 = .ok (.aload_n 0, 1) := dk_42 (dk_at dksX2_number_2 8 rfl rfl)
theorem dX2_number_53 : decode cX2_number 53 = .ok (.dup, 1) := dk_89 (dk_at dksX2_number_2 9 rfl rfl)
theorem dX2_number_54 : decode cX2_number 54 = .ok (.getfield 133, 3) := dk_180 0 133 (dk_at dksX2_number_2 10 rfl rfl)
theorem dX2_number_57 : decode cX2_number 57 = .ok (.iconst 1, 1) := dk_4 (dk_at dksX2_number_2 13 rfl rfl)
theorem dX2_number_58 : decode cX2_number 58 = .ok (.iadd, 1) := dk_96 (dk_at dksX2_number_2 14 rfl rfl)
theorem dX2_number_59 : decode cX2_number 59 = .ok (.putfield 133, 3) := dk_181 0 133 (dk_at dksX2_number_2 15 rfl rfl)
theorem dX2_number_62 : decode cX2_number 62 = .ok (.iinc 3 1, 3) := dk_132 3 1 (dk_at dksX2_number_2 18 rfl rfl)
theorem dX2_number_65 : decode cX2_number 65 = .ok (.goto (-45), 3) := dk_167 255 211 (dk_at dksX2_number_2 21 rfl rfl)
theorem dX2_number_68 : decode cX2_number 68 = .ok (.iload_n 2, 1) := dk_28 (dk_at dksX2_number_3 0 rfl rfl)
theorem dX2_number_69 : decode cX2_number 69 = .ok (.ireturn, 1) := dk_172 (dk_at dksX2_number_3 1 rfl rfl)
abbrev cX2_isIn : ByteArray := prog_18_method_5_code
def yX2_isIn : MethodName := ⟨RX2, "isIn", "(III)Z"⟩
def dkwX2_isIn_0 : List UInt8 := [26, 27, 161, 0, 12, 26, 28, 163, 0, 7, 4, 167, 0, 4, 3, 172]
abbrev dktX2_isIn_0 : List UInt8 := dkwX2_isIn_0 ++ []
theorem dksX2_isIn_0 : cX2_isIn.data.toList.drop 0 = dktX2_isIn_0 := by decide +kernel
theorem dX2_isIn_0 : decode cX2_isIn 0 = .ok (.iload_n 0, 1) := dk_26 (dk_at dksX2_isIn_0 0 rfl rfl)
theorem dX2_isIn_1 : decode cX2_isIn 1 = .ok (.iload_n 1, 1) := dk_27 (dk_at dksX2_isIn_0 1 rfl rfl)
theorem dX2_isIn_2 : decode cX2_isIn 2 = .ok (.if_icmp .lt 12, 3) := dk_161 0 12 (dk_at dksX2_isIn_0 2 rfl rfl)
theorem dX2_isIn_5 : decode cX2_isIn 5 = .ok (.iload_n 0, 1) := dk_26 (dk_at dksX2_isIn_0 5 rfl rfl)
theorem dX2_isIn_6 : decode cX2_isIn 6 = .ok (.iload_n 2, 1) := dk_28 (dk_at dksX2_isIn_0 6 rfl rfl)
theorem dX2_isIn_7 : decode cX2_isIn 7 = .ok (.if_icmp .gt 7, 3) := dk_163 0 7 (dk_at dksX2_isIn_0 7 rfl rfl)
theorem dX2_isIn_10 : decode cX2_isIn 10 = .ok (.iconst 1, 1) := dk_4 (dk_at dksX2_isIn_0 10 rfl rfl)
theorem dX2_isIn_11 : decode cX2_isIn 11 = .ok (.goto 4, 3) := dk_167 0 4 (dk_at dksX2_isIn_0 11 rfl rfl)
theorem dX2_isIn_14 : decode cX2_isIn 14 = .ok (.iconst 0, 1) := dk_3 (dk_at dksX2_isIn_0 14 rfl rfl)
theorem dX2_isIn_15 : decode cX2_isIn 15 = .ok (.ireturn, 1) := dk_172 (dk_at dksX2_isIn_0 15 rfl rfl)
abbrev cX2_takes : ByteArray := prog_18_method_14_code
def yX2_takes : MethodName := ⟨RX2, "takes", "(I)Z"⟩
def dkwX2_takes_0 : List UInt8 := [42, 182, 0, 136, 27, 159, 0, 5, 3, 172, 42, 89, 180, 0, 133, 4, 96, 181, 0, 133, 4, 172]
abbrev dktX2_takes_0 : List UInt8 := dkwX2_takes_0 ++ []
theorem dksX2_takes_0 : cX2_takes.data.toList.drop 0 = dktX2_takes_0 := by decide +kernel
theorem dX2_takes_0 : decode cX2_takes 0 = .ok (.aload_n 0, 1) := dk_42 (dk_at dksX2_takes_0 0 rfl rfl)
theorem dX2_takes_1 : decode cX2_takes 1 = .ok (.invokevirtual 136, 3) := dk_182 0 136 (dk_at dksX2_takes_0 1 rfl rfl)
theorem dX2_takes_4 : decode cX2_takes 4 = .ok (.iload_n 1, 1) := dk_27 (dk_at dksX2_takes_0 4 rfl rfl)
theorem dX2_takes_5 : decode cX2_takes 5 = .ok (.if_icmp .eq 5, 3) := dk_159 0 5 (dk_at dksX2_takes_0 5 rfl rfl)
theorem dX2_takes_8 : decode cX2_takes 8 = .ok (.iconst 0, 1) := dk_3 (dk_at dksX2_takes_0 8 rfl rfl)
theorem dX2_takes_9 : decode cX2_takes 9 = .ok (.ireturn, 1) := dk_172 (dk_at dksX2_takes_0 9 rfl rfl)
theorem dX2_takes_10 : decode cX2_takes 10 = .ok (.aload_n 0, 1) := dk_42 (dk_at dksX2_takes_0 10 rfl rfl)
theorem dX2_takes_11 : decode cX2_takes 11 = .ok (.dup, 1) := dk_89 (dk_at dksX2_takes_0 11 rfl rfl)
theorem dX2_takes_12 : decode cX2_takes 12 = .ok (.getfield 133, 3) := dk_180 0 133 (dk_at dksX2_takes_0 12 rfl rfl)
theorem dX2_takes_15 : decode cX2_takes 15 = .ok (.iconst 1, 1) := dk_4 (dk_at dksX2_takes_0 15 rfl rfl)
theorem dX2_takes_16 : decode cX2_takes 16 = .ok (.iadd, 1) := dk_96 (dk_at dksX2_takes_0 16 rfl rfl)
theorem dX2_takes_17 : decode cX2_takes 17 = .ok (.putfield 133, 3) := dk_181 0 133 (dk_at dksX2_takes_0 17 rfl rfl)
theorem dX2_takes_20 : decode cX2_takes 20 = .ok (.iconst 1, 1) := dk_4 (dk_at dksX2_takes_0 20 rfl rfl)
theorem dX2_takes_21 : decode cX2_takes 21 = .ok (.ireturn, 1) := dk_172 (dk_at dksX2_takes_0 21 rfl rfl)
abbrev cX2_readsPlayer : ByteArray := prog_18_method_19_code
def yX2_readsPlayer : MethodName := ⟨RX2, "readsPlayer", "(I)Z"⟩
def dkwX2_readsPlayer_4 : List UInt8 := [153, 0, 7, 4, 167, 0, 4, 3, 172]
abbrev dktX2_readsPlayer_4 : List UInt8 := dkwX2_readsPlayer_4 ++ []
def dkwX2_readsPlayer_3 : List UInt8 := [180, 0, 56, 27, 46, 155, 0, 24, 42, 16, 58, 182, 0, 147, 153, 0, 15, 42, 27, 182, 0, 154]
abbrev dktX2_readsPlayer_3 : List UInt8 := dkwX2_readsPlayer_3 ++ dktX2_readsPlayer_4
def dkwX2_readsPlayer_2 : List UInt8 := [180, 0, 53, 27, 46, 156, 0, 5, 3, 172, 42, 180, 0, 56, 27, 42, 6, 182, 0, 144, 79, 42]
abbrev dktX2_readsPlayer_2 : List UInt8 := dkwX2_readsPlayer_2 ++ dktX2_readsPlayer_3
def dkwX2_readsPlayer_1 : List UInt8 := [42, 89, 180, 0, 133, 4, 96, 181, 0, 133, 42, 180, 0, 53, 27, 42, 4, 182, 0, 144, 79, 42]
abbrev dktX2_readsPlayer_1 : List UInt8 := dkwX2_readsPlayer_1 ++ dktX2_readsPlayer_2
def dkwX2_readsPlayer_0 : List UInt8 := [42, 180, 0, 59, 27, 42, 182, 0, 136, 184, 0, 151, 79, 42, 180, 0, 59, 27, 46, 156, 0, 5, 3, 172]
abbrev dktX2_readsPlayer_0 : List UInt8 := dkwX2_readsPlayer_0 ++ dktX2_readsPlayer_1
theorem dksX2_readsPlayer_0 : cX2_readsPlayer.data.toList.drop 0 = dktX2_readsPlayer_0 := by decide +kernel
theorem dksX2_readsPlayer_1 : cX2_readsPlayer.data.toList.drop 24 = dktX2_readsPlayer_1 := dk_seg dksX2_readsPlayer_0 24 rfl rfl
theorem dksX2_readsPlayer_2 : cX2_readsPlayer.data.toList.drop 46 = dktX2_readsPlayer_2 := dk_seg dksX2_readsPlayer_1 22 rfl rfl
theorem dksX2_readsPlayer_3 : cX2_readsPlayer.data.toList.drop 68 = dktX2_readsPlayer_3 := dk_seg dksX2_readsPlayer_2 22 rfl rfl
theorem dksX2_readsPlayer_4 : cX2_readsPlayer.data.toList.drop 90 = dktX2_readsPlayer_4 := dk_seg dksX2_readsPlayer_3 22 rfl rfl
theorem dX2_readsPlayer_0 : decode cX2_readsPlayer 0 = .ok (.aload_n 0, 1) := dk_42 (dk_at dksX2_readsPlayer_0 0 rfl rfl)
theorem dX2_readsPlayer_1 : decode cX2_readsPlayer 1 = .ok (.getfield 59, 3) := dk_180 0 59 (dk_at dksX2_readsPlayer_0 1 rfl rfl)
theorem dX2_readsPlayer_4 : decode cX2_readsPlayer 4 = .ok (.iload_n 1, 1) := dk_27 (dk_at dksX2_readsPlayer_0 4 rfl rfl)
theorem dX2_readsPlayer_5 : decode cX2_readsPlayer 5 = .ok (.aload_n 0, 1) := dk_42 (dk_at dksX2_readsPlayer_0 5 rfl rfl)
theorem dX2_readsPlayer_6 : decode cX2_readsPlayer 6 = .ok (.invokevirtual 136, 3) := dk_182 0 136 (dk_at dksX2_readsPlayer_0 6 rfl rfl)
theorem dX2_readsPlayer_9 : decode cX2_readsPlayer 9 = .ok (.invokestatic 151, 3) := dk_184 0 151 (dk_at dksX2_readsPlayer_0 9 rfl rfl)
theorem dX2_readsPlayer_12 : decode cX2_readsPlayer 12 = .ok (.iastore, 1) := dk_79 (dk_at dksX2_readsPlayer_0 12 rfl rfl)
theorem dX2_readsPlayer_13 : decode cX2_readsPlayer 13 = .ok (.aload_n 0, 1) := dk_42 (dk_at dksX2_readsPlayer_0 13 rfl rfl)
theorem dX2_readsPlayer_14 : decode cX2_readsPlayer 14 = .ok (.getfield 59, 3) := dk_180 0 59 (dk_at dksX2_readsPlayer_0 14 rfl rfl)
theorem dX2_readsPlayer_17 : decode cX2_readsPlayer 17 = .ok (.iload_n 1, 1) := dk_27 (dk_at dksX2_readsPlayer_0 17 rfl rfl)
theorem dX2_readsPlayer_18 : decode cX2_readsPlayer 18 = .ok (.iaload, 1) := dk_46 (dk_at dksX2_readsPlayer_0 18 rfl rfl)
theorem dX2_readsPlayer_19 : decode cX2_readsPlayer 19 = .ok (.ifCond .ge 5, 3) := dk_156 0 5 (dk_at dksX2_readsPlayer_0 19 rfl rfl)
theorem dX2_readsPlayer_22 : decode cX2_readsPlayer 22 = .ok (.iconst 0, 1) := dk_3 (dk_at dksX2_readsPlayer_0 22 rfl rfl)
theorem dX2_readsPlayer_23 : decode cX2_readsPlayer 23 = .ok (.ireturn, 1) := dk_172 (dk_at dksX2_readsPlayer_0 23 rfl rfl)
theorem dX2_readsPlayer_24 : decode cX2_readsPlayer 24 = .ok (.aload_n 0, 1) := dk_42 (dk_at dksX2_readsPlayer_1 0 rfl rfl)
theorem dX2_readsPlayer_25 : decode cX2_readsPlayer 25 = .ok (.dup, 1) := dk_89 (dk_at dksX2_readsPlayer_1 1 rfl rfl)
theorem dX2_readsPlayer_26 : decode cX2_readsPlayer 26 = .ok (.getfield 133, 3) := dk_180 0 133 (dk_at dksX2_readsPlayer_1 2 rfl rfl)
theorem dX2_readsPlayer_29 : decode cX2_readsPlayer 29 = .ok (.iconst 1, 1) := dk_4 (dk_at dksX2_readsPlayer_1 5 rfl rfl)
theorem dX2_readsPlayer_30 : decode cX2_readsPlayer 30 = .ok (.iadd, 1) := dk_96 (dk_at dksX2_readsPlayer_1 6 rfl rfl)
theorem dX2_readsPlayer_31 : decode cX2_readsPlayer 31 = .ok (.putfield 133, 3) := dk_181 0 133 (dk_at dksX2_readsPlayer_1 7 rfl rfl)
theorem dX2_readsPlayer_34 : decode cX2_readsPlayer 34 = .ok (.aload_n 0, 1) := dk_42 (dk_at dksX2_readsPlayer_1 10 rfl rfl)
theorem dX2_readsPlayer_35 : decode cX2_readsPlayer 35 = .ok (.getfield 53, 3) := dk_180 0 53 (dk_at dksX2_readsPlayer_1 11 rfl rfl)
theorem dX2_readsPlayer_38 : decode cX2_readsPlayer 38 = .ok (.iload_n 1, 1) := dk_27 (dk_at dksX2_readsPlayer_1 14 rfl rfl)
theorem dX2_readsPlayer_39 : decode cX2_readsPlayer 39 = .ok (.aload_n 0, 1) := dk_42 (dk_at dksX2_readsPlayer_1 15 rfl rfl)
theorem dX2_readsPlayer_40 : decode cX2_readsPlayer 40 = .ok (.iconst 1, 1) := dk_4 (dk_at dksX2_readsPlayer_1 16 rfl rfl)
theorem dX2_readsPlayer_41 : decode cX2_readsPlayer 41 = .ok (.invokevirtual 144, 3) := dk_182 0 144 (dk_at dksX2_readsPlayer_1 17 rfl rfl)
theorem dX2_readsPlayer_44 : decode cX2_readsPlayer 44 = .ok (.iastore, 1) := dk_79 (dk_at dksX2_readsPlayer_1 20 rfl rfl)
theorem dX2_readsPlayer_45 : decode cX2_readsPlayer 45 = .ok (.aload_n 0, 1) := dk_42 (dk_at dksX2_readsPlayer_1 21 rfl rfl)
theorem dX2_readsPlayer_46 : decode cX2_readsPlayer 46 = .ok (.getfield 53, 3) := dk_180 0 53 (dk_at dksX2_readsPlayer_2 0 rfl rfl)
theorem dX2_readsPlayer_49 : decode cX2_readsPlayer 49 = .ok (.iload_n 1, 1) := dk_27 (dk_at dksX2_readsPlayer_2 3 rfl rfl)
theorem dX2_readsPlayer_50 : decode cX2_readsPlayer 50 = .ok (.iaload, 1) := dk_46 (dk_at dksX2_readsPlayer_2 4 rfl rfl)
theorem dX2_readsPlayer_51 : decode cX2_readsPlayer 51 = .ok (.ifCond .ge 5, 3) := dk_156 0 5 (dk_at dksX2_readsPlayer_2 5 rfl rfl)
theorem dX2_readsPlayer_54 : decode cX2_readsPlayer 54 = .ok (.iconst 0, 1) := dk_3 (dk_at dksX2_readsPlayer_2 8 rfl rfl)
theorem dX2_readsPlayer_55 : decode cX2_readsPlayer 55 = .ok (.ireturn, 1) := dk_172 (dk_at dksX2_readsPlayer_2 9 rfl rfl)
theorem dX2_readsPlayer_56 : decode cX2_readsPlayer 56 = .ok (.aload_n 0, 1) := dk_42 (dk_at dksX2_readsPlayer_2 10 rfl rfl)
theorem dX2_readsPlayer_57 : decode cX2_readsPlayer 57 = .ok (.getfield 56, 3) := dk_180 0 56 (dk_at dksX2_readsPlayer_2 11 rfl rfl)
theorem dX2_readsPlayer_60 : decode cX2_readsPlayer 60 = .ok (.iload_n 1, 1) := dk_27 (dk_at dksX2_readsPlayer_2 14 rfl rfl)
theorem dX2_readsPlayer_61 : decode cX2_readsPlayer 61 = .ok (.aload_n 0, 1) := dk_42 (dk_at dksX2_readsPlayer_2 15 rfl rfl)
theorem dX2_readsPlayer_62 : decode cX2_readsPlayer 62 = .ok (.iconst 3, 1) := dk_6 (dk_at dksX2_readsPlayer_2 16 rfl rfl)
theorem dX2_readsPlayer_63 : decode cX2_readsPlayer 63 = .ok (.invokevirtual 144, 3) := dk_182 0 144 (dk_at dksX2_readsPlayer_2 17 rfl rfl)
theorem dX2_readsPlayer_66 : decode cX2_readsPlayer 66 = .ok (.iastore, 1) := dk_79 (dk_at dksX2_readsPlayer_2 20 rfl rfl)
theorem dX2_readsPlayer_67 : decode cX2_readsPlayer 67 = .ok (.aload_n 0, 1) := dk_42 (dk_at dksX2_readsPlayer_2 21 rfl rfl)
theorem dX2_readsPlayer_68 : decode cX2_readsPlayer 68 = .ok (.getfield 56, 3) := dk_180 0 56 (dk_at dksX2_readsPlayer_3 0 rfl rfl)
theorem dX2_readsPlayer_71 : decode cX2_readsPlayer 71 = .ok (.iload_n 1, 1) := dk_27 (dk_at dksX2_readsPlayer_3 3 rfl rfl)
theorem dX2_readsPlayer_72 : decode cX2_readsPlayer 72 = .ok (.iaload, 1) := dk_46 (dk_at dksX2_readsPlayer_3 4 rfl rfl)
theorem dX2_readsPlayer_73 : decode cX2_readsPlayer 73 = .ok (.ifCond .lt 24, 3) := dk_155 0 24 (dk_at dksX2_readsPlayer_3 5 rfl rfl)
theorem dX2_readsPlayer_76 : decode cX2_readsPlayer 76 = .ok (.aload_n 0, 1) := dk_42 (dk_at dksX2_readsPlayer_3 8 rfl rfl)
theorem dX2_readsPlayer_77 : decode cX2_readsPlayer 77 = .ok (.bipush 58, 2) := dk_16 58 (dk_at dksX2_readsPlayer_3 9 rfl rfl)
theorem dX2_readsPlayer_79 : decode cX2_readsPlayer 79 = .ok (.invokevirtual 147, 3) := dk_182 0 147 (dk_at dksX2_readsPlayer_3 11 rfl rfl)
theorem dX2_readsPlayer_82 : decode cX2_readsPlayer 82 = .ok (.ifCond .eq 15, 3) := dk_153 0 15 (dk_at dksX2_readsPlayer_3 14 rfl rfl)
theorem dX2_readsPlayer_85 : decode cX2_readsPlayer 85 = .ok (.aload_n 0, 1) := dk_42 (dk_at dksX2_readsPlayer_3 17 rfl rfl)
theorem dX2_readsPlayer_86 : decode cX2_readsPlayer 86 = .ok (.iload_n 1, 1) := dk_27 (dk_at dksX2_readsPlayer_3 18 rfl rfl)
theorem dX2_readsPlayer_87 : decode cX2_readsPlayer 87 = .ok (.invokevirtual 154, 3) := dk_182 0 154 (dk_at dksX2_readsPlayer_3 19 rfl rfl)
theorem dX2_readsPlayer_90 : decode cX2_readsPlayer 90 = .ok (.ifCond .eq 7, 3) := dk_153 0 7 (dk_at dksX2_readsPlayer_4 0 rfl rfl)
theorem dX2_readsPlayer_93 : decode cX2_readsPlayer 93 = .ok (.iconst 1, 1) := dk_4 (dk_at dksX2_readsPlayer_4 3 rfl rfl)
theorem dX2_readsPlayer_94 : decode cX2_readsPlayer 94 = .ok (.goto 4, 3) := dk_167 0 4 (dk_at dksX2_readsPlayer_4 4 rfl rfl)
theorem dX2_readsPlayer_97 : decode cX2_readsPlayer 97 = .ok (.iconst 0, 1) := dk_3 (dk_at dksX2_readsPlayer_4 7 rfl rfl)
theorem dX2_readsPlayer_98 : decode cX2_readsPlayer 98 = .ok (.ireturn, 1) := dk_172 (dk_at dksX2_readsPlayer_4 8 rfl rfl)
abbrev cX2_kindOf : ByteArray := prog_18_method_17_code
def yX2_kindOf : MethodName := ⟨RX2, "kindOf", "(I)I"⟩
def dkwX2_kindOf_2 : List UInt8 := [3, 172, 4, 172, 5, 172, 6, 172, 7, 172, 8, 172, 2, 172]
abbrev dktX2_kindOf_2 : List UInt8 := dkwX2_kindOf_2 ++ []
def dkwX2_kindOf_1 : List UInt8 := [170, 0, 0, 0, 0, 0, 107, 0, 0, 0, 97, 0, 0, 0, 116, 0, 0, 0, 105, 0, 0, 0, 99, 0, 0, 0, 107, 0, 0, 0, 107, 0, 0, 0, 95, 0, 0, 0, 107, 0, 0, 0, 107, 0, 0, 0, 107, 0, 0, 0, 107, 0, 0, 0, 107, 0, 0, 0, 107, 0, 0, 0, 101, 0, 0, 0, 107, 0, 0, 0, 107, 0, 0, 0, 107, 0, 0, 0, 107, 0, 0, 0, 107, 0, 0, 0, 107, 0, 0, 0, 97, 0, 0, 0, 103]
abbrev dktX2_kindOf_1 : List UInt8 := dkwX2_kindOf_1 ++ dktX2_kindOf_2
def dkwX2_kindOf_0 : List UInt8 := [26]
abbrev dktX2_kindOf_0 : List UInt8 := dkwX2_kindOf_0 ++ dktX2_kindOf_1
theorem dksX2_kindOf_0 : cX2_kindOf.data.toList.drop 0 = dktX2_kindOf_0 := by decide +kernel
theorem dksX2_kindOf_1 : cX2_kindOf.data.toList.drop 1 = dktX2_kindOf_1 := dk_seg dksX2_kindOf_0 1 rfl rfl
theorem dksX2_kindOf_2 : cX2_kindOf.data.toList.drop 96 = dktX2_kindOf_2 := dk_seg dksX2_kindOf_1 95 rfl rfl
theorem dX2_kindOf_0 : decode cX2_kindOf 0 = .ok (.iload_n 0, 1) := dk_26 (dk_at dksX2_kindOf_0 0 rfl rfl)
theorem dX2_kindOf_1 : decode cX2_kindOf 1 = .ok (.tableswitch 107 97 116 #[105, 99, 107, 107, 95, 107, 107, 107, 107, 107, 107, 101, 107, 107, 107, 107, 107, 107, 97, 103], 95) := by decide +kernel
theorem dX2_kindOf_96 : decode cX2_kindOf 96 = .ok (.iconst 0, 1) := dk_3 (dk_at dksX2_kindOf_2 0 rfl rfl)
theorem dX2_kindOf_97 : decode cX2_kindOf 97 = .ok (.ireturn, 1) := dk_172 (dk_at dksX2_kindOf_2 1 rfl rfl)
theorem dX2_kindOf_98 : decode cX2_kindOf 98 = .ok (.iconst 1, 1) := dk_4 (dk_at dksX2_kindOf_2 2 rfl rfl)
theorem dX2_kindOf_99 : decode cX2_kindOf 99 = .ok (.ireturn, 1) := dk_172 (dk_at dksX2_kindOf_2 3 rfl rfl)
theorem dX2_kindOf_100 : decode cX2_kindOf 100 = .ok (.iconst 2, 1) := dk_5 (dk_at dksX2_kindOf_2 4 rfl rfl)
theorem dX2_kindOf_101 : decode cX2_kindOf 101 = .ok (.ireturn, 1) := dk_172 (dk_at dksX2_kindOf_2 5 rfl rfl)
theorem dX2_kindOf_102 : decode cX2_kindOf 102 = .ok (.iconst 3, 1) := dk_6 (dk_at dksX2_kindOf_2 6 rfl rfl)
theorem dX2_kindOf_103 : decode cX2_kindOf 103 = .ok (.ireturn, 1) := dk_172 (dk_at dksX2_kindOf_2 7 rfl rfl)
theorem dX2_kindOf_104 : decode cX2_kindOf 104 = .ok (.iconst 4, 1) := dk_7 (dk_at dksX2_kindOf_2 8 rfl rfl)
theorem dX2_kindOf_105 : decode cX2_kindOf 105 = .ok (.ireturn, 1) := dk_172 (dk_at dksX2_kindOf_2 9 rfl rfl)
theorem dX2_kindOf_106 : decode cX2_kindOf 106 = .ok (.iconst 5, 1) := dk_8 (dk_at dksX2_kindOf_2 10 rfl rfl)
theorem dX2_kindOf_107 : decode cX2_kindOf 107 = .ok (.ireturn, 1) := dk_172 (dk_at dksX2_kindOf_2 11 rfl rfl)
theorem dX2_kindOf_108 : decode cX2_kindOf 108 = .ok (.iconst (-1), 1) := dk_2 (dk_at dksX2_kindOf_2 12 rfl rfl)
theorem dX2_kindOf_109 : decode cX2_kindOf 109 = .ok (.ireturn, 1) := dk_172 (dk_at dksX2_kindOf_2 13 rfl rfl)
abbrev cX2_readsKnown : ByteArray := prog_18_method_18_code
def yX2_readsKnown : MethodName := ⟨RX2, "readsKnown", "(I)Z"⟩
def dkwX2_readsKnown_4 : List UInt8 := [4, 167, 0, 4, 3, 172]
abbrev dktX2_readsKnown_4 : List UInt8 := dkwX2_readsKnown_4 ++ []
def dkwX2_readsKnown_3 : List UInt8 := [4, 96, 181, 0, 133, 132, 2, 1, 167, 255, 186, 28, 158, 0, 16, 42, 16, 59, 182, 0, 147, 153, 0, 7]
abbrev dktX2_readsKnown_3 : List UInt8 := dkwX2_readsKnown_3 ++ dktX2_readsKnown_4
def dkwX2_readsKnown_2 : List UInt8 := [180, 0, 62, 27, 46, 29, 126, 153, 0, 9, 17, 4, 0, 167, 0, 4, 29, 128, 79, 42, 89, 180, 0, 133]
abbrev dktX2_readsKnown_2 : List UInt8 := dkwX2_readsKnown_2 ++ dktX2_readsKnown_3
def dkwX2_readsKnown_1 : List UInt8 := [184, 0, 140, 153, 0, 56, 4, 42, 182, 0, 136, 16, 48, 100, 120, 62, 42, 180, 0, 62, 27, 92, 46, 42]
abbrev dktX2_readsKnown_1 : List UInt8 := dkwX2_readsKnown_1 ++ dktX2_readsKnown_2
def dkwX2_readsKnown_0 : List UInt8 := [42, 180, 0, 62, 27, 3, 79, 3, 61, 28, 16, 9, 162, 0, 70, 42, 182, 0, 136, 16, 49, 16, 57]
abbrev dktX2_readsKnown_0 : List UInt8 := dkwX2_readsKnown_0 ++ dktX2_readsKnown_1
theorem dksX2_readsKnown_0 : cX2_readsKnown.data.toList.drop 0 = dktX2_readsKnown_0 := by decide +kernel
theorem dksX2_readsKnown_1 : cX2_readsKnown.data.toList.drop 23 = dktX2_readsKnown_1 := dk_seg dksX2_readsKnown_0 23 rfl rfl
theorem dksX2_readsKnown_2 : cX2_readsKnown.data.toList.drop 47 = dktX2_readsKnown_2 := dk_seg dksX2_readsKnown_1 24 rfl rfl
theorem dksX2_readsKnown_3 : cX2_readsKnown.data.toList.drop 71 = dktX2_readsKnown_3 := dk_seg dksX2_readsKnown_2 24 rfl rfl
theorem dksX2_readsKnown_4 : cX2_readsKnown.data.toList.drop 95 = dktX2_readsKnown_4 := dk_seg dksX2_readsKnown_3 24 rfl rfl
theorem dX2_readsKnown_0 : decode cX2_readsKnown 0 = .ok (.aload_n 0, 1) := dk_42 (dk_at dksX2_readsKnown_0 0 rfl rfl)
theorem dX2_readsKnown_1 : decode cX2_readsKnown 1 = .ok (.getfield 62, 3) := dk_180 0 62 (dk_at dksX2_readsKnown_0 1 rfl rfl)
theorem dX2_readsKnown_4 : decode cX2_readsKnown 4 = .ok (.iload_n 1, 1) := dk_27 (dk_at dksX2_readsKnown_0 4 rfl rfl)
theorem dX2_readsKnown_5 : decode cX2_readsKnown 5 = .ok (.iconst 0, 1) := dk_3 (dk_at dksX2_readsKnown_0 5 rfl rfl)
theorem dX2_readsKnown_6 : decode cX2_readsKnown 6 = .ok (.iastore, 1) := dk_79 (dk_at dksX2_readsKnown_0 6 rfl rfl)
theorem dX2_readsKnown_7 : decode cX2_readsKnown 7 = .ok (.iconst 0, 1) := dk_3 (dk_at dksX2_readsKnown_0 7 rfl rfl)
theorem dX2_readsKnown_8 : decode cX2_readsKnown 8 = .ok (.istore_n 2, 1) := dk_61 (dk_at dksX2_readsKnown_0 8 rfl rfl)
theorem dX2_readsKnown_9 : decode cX2_readsKnown 9 = .ok (.iload_n 2, 1) := dk_28 (dk_at dksX2_readsKnown_0 9 rfl rfl)
theorem dX2_readsKnown_10 : decode cX2_readsKnown 10 = .ok (.bipush 9, 2) := dk_16 9 (dk_at dksX2_readsKnown_0 10 rfl rfl)
theorem dX2_readsKnown_12 : decode cX2_readsKnown 12 = .ok (.if_icmp .ge 70, 3) := dk_162 0 70 (dk_at dksX2_readsKnown_0 12 rfl rfl)
theorem dX2_readsKnown_15 : decode cX2_readsKnown 15 = .ok (.aload_n 0, 1) := dk_42 (dk_at dksX2_readsKnown_0 15 rfl rfl)
theorem dX2_readsKnown_16 : decode cX2_readsKnown 16 = .ok (.invokevirtual 136, 3) := dk_182 0 136 (dk_at dksX2_readsKnown_0 16 rfl rfl)
theorem dX2_readsKnown_19 : decode cX2_readsKnown 19 = .ok (.bipush 49, 2) := dk_16 49 (dk_at dksX2_readsKnown_0 19 rfl rfl)
theorem dX2_readsKnown_21 : decode cX2_readsKnown 21 = .ok (.bipush 57, 2) := dk_16 57 (dk_at dksX2_readsKnown_0 21 rfl rfl)
theorem dX2_readsKnown_23 : decode cX2_readsKnown 23 = .ok (.invokestatic 140, 3) := dk_184 0 140 (dk_at dksX2_readsKnown_1 0 rfl rfl)
theorem dX2_readsKnown_26 : decode cX2_readsKnown 26 = .ok (.ifCond .eq 56, 3) := dk_153 0 56 (dk_at dksX2_readsKnown_1 3 rfl rfl)
theorem dX2_readsKnown_29 : decode cX2_readsKnown 29 = .ok (.iconst 1, 1) := dk_4 (dk_at dksX2_readsKnown_1 6 rfl rfl)
theorem dX2_readsKnown_30 : decode cX2_readsKnown 30 = .ok (.aload_n 0, 1) := dk_42 (dk_at dksX2_readsKnown_1 7 rfl rfl)
theorem dX2_readsKnown_31 : decode cX2_readsKnown 31 = .ok (.invokevirtual 136, 3) := dk_182 0 136 (dk_at dksX2_readsKnown_1 8 rfl rfl)
theorem dX2_readsKnown_34 : decode cX2_readsKnown 34 = .ok (.bipush 48, 2) := dk_16 48 (dk_at dksX2_readsKnown_1 11 rfl rfl)
theorem dX2_readsKnown_36 : decode cX2_readsKnown 36 = .ok (.isub, 1) := dk_100 (dk_at dksX2_readsKnown_1 13 rfl rfl)
theorem dX2_readsKnown_37 : decode cX2_readsKnown 37 = .ok (.ishl, 1) := dk_120 (dk_at dksX2_readsKnown_1 14 rfl rfl)
theorem dX2_readsKnown_38 : decode cX2_readsKnown 38 = .ok (.istore_n 3, 1) := dk_62 (dk_at dksX2_readsKnown_1 15 rfl rfl)
theorem dX2_readsKnown_39 : decode cX2_readsKnown 39 = .ok (.aload_n 0, 1) := dk_42 (dk_at dksX2_readsKnown_1 16 rfl rfl)
theorem dX2_readsKnown_40 : decode cX2_readsKnown 40 = .ok (.getfield 62, 3) := dk_180 0 62 (dk_at dksX2_readsKnown_1 17 rfl rfl)
theorem dX2_readsKnown_43 : decode cX2_readsKnown 43 = .ok (.iload_n 1, 1) := dk_27 (dk_at dksX2_readsKnown_1 20 rfl rfl)
theorem dX2_readsKnown_44 : decode cX2_readsKnown 44 = .ok (.dup2, 1) := dk_92 (dk_at dksX2_readsKnown_1 21 rfl rfl)
theorem dX2_readsKnown_45 : decode cX2_readsKnown 45 = .ok (.iaload, 1) := dk_46 (dk_at dksX2_readsKnown_1 22 rfl rfl)
theorem dX2_readsKnown_46 : decode cX2_readsKnown 46 = .ok (.aload_n 0, 1) := dk_42 (dk_at dksX2_readsKnown_1 23 rfl rfl)
theorem dX2_readsKnown_47 : decode cX2_readsKnown 47 = .ok (.getfield 62, 3) := dk_180 0 62 (dk_at dksX2_readsKnown_2 0 rfl rfl)
theorem dX2_readsKnown_50 : decode cX2_readsKnown 50 = .ok (.iload_n 1, 1) := dk_27 (dk_at dksX2_readsKnown_2 3 rfl rfl)
theorem dX2_readsKnown_51 : decode cX2_readsKnown 51 = .ok (.iaload, 1) := dk_46 (dk_at dksX2_readsKnown_2 4 rfl rfl)
theorem dX2_readsKnown_52 : decode cX2_readsKnown 52 = .ok (.iload_n 3, 1) := dk_29 (dk_at dksX2_readsKnown_2 5 rfl rfl)
theorem dX2_readsKnown_53 : decode cX2_readsKnown 53 = .ok (.iand, 1) := dk_126 (dk_at dksX2_readsKnown_2 6 rfl rfl)
theorem dX2_readsKnown_54 : decode cX2_readsKnown 54 = .ok (.ifCond .eq 9, 3) := dk_153 0 9 (dk_at dksX2_readsKnown_2 7 rfl rfl)
theorem dX2_readsKnown_57 : decode cX2_readsKnown 57 = .ok (.sipush 1024, 3) := dk_17 4 0 (dk_at dksX2_readsKnown_2 10 rfl rfl)
theorem dX2_readsKnown_60 : decode cX2_readsKnown 60 = .ok (.goto 4, 3) := dk_167 0 4 (dk_at dksX2_readsKnown_2 13 rfl rfl)
theorem dX2_readsKnown_63 : decode cX2_readsKnown 63 = .ok (.iload_n 3, 1) := dk_29 (dk_at dksX2_readsKnown_2 16 rfl rfl)
theorem dX2_readsKnown_64 : decode cX2_readsKnown 64 = .ok (.ior, 1) := dk_128 (dk_at dksX2_readsKnown_2 17 rfl rfl)
theorem dX2_readsKnown_65 : decode cX2_readsKnown 65 = .ok (.iastore, 1) := dk_79 (dk_at dksX2_readsKnown_2 18 rfl rfl)
theorem dX2_readsKnown_66 : decode cX2_readsKnown 66 = .ok (.aload_n 0, 1) := dk_42 (dk_at dksX2_readsKnown_2 19 rfl rfl)
theorem dX2_readsKnown_67 : decode cX2_readsKnown 67 = .ok (.dup, 1) := dk_89 (dk_at dksX2_readsKnown_2 20 rfl rfl)
theorem dX2_readsKnown_68 : decode cX2_readsKnown 68 = .ok (.getfield 133, 3) := dk_180 0 133 (dk_at dksX2_readsKnown_2 21 rfl rfl)
theorem dX2_readsKnown_71 : decode cX2_readsKnown 71 = .ok (.iconst 1, 1) := dk_4 (dk_at dksX2_readsKnown_3 0 rfl rfl)
theorem dX2_readsKnown_72 : decode cX2_readsKnown 72 = .ok (.iadd, 1) := dk_96 (dk_at dksX2_readsKnown_3 1 rfl rfl)
theorem dX2_readsKnown_73 : decode cX2_readsKnown 73 = .ok (.putfield 133, 3) := dk_181 0 133 (dk_at dksX2_readsKnown_3 2 rfl rfl)
theorem dX2_readsKnown_76 : decode cX2_readsKnown 76 = .ok (.iinc 2 1, 3) := dk_132 2 1 (dk_at dksX2_readsKnown_3 5 rfl rfl)
theorem dX2_readsKnown_79 : decode cX2_readsKnown 79 = .ok (.goto (-70), 3) := dk_167 255 186 (dk_at dksX2_readsKnown_3 8 rfl rfl)
theorem dX2_readsKnown_82 : decode cX2_readsKnown 82 = .ok (.iload_n 2, 1) := dk_28 (dk_at dksX2_readsKnown_3 11 rfl rfl)
theorem dX2_readsKnown_83 : decode cX2_readsKnown 83 = .ok (.ifCond .le 16, 3) := dk_158 0 16 (dk_at dksX2_readsKnown_3 12 rfl rfl)
theorem dX2_readsKnown_86 : decode cX2_readsKnown 86 = .ok (.aload_n 0, 1) := dk_42 (dk_at dksX2_readsKnown_3 15 rfl rfl)
theorem dX2_readsKnown_87 : decode cX2_readsKnown 87 = .ok (.bipush 59, 2) := dk_16 59 (dk_at dksX2_readsKnown_3 16 rfl rfl)
theorem dX2_readsKnown_89 : decode cX2_readsKnown 89 = .ok (.invokevirtual 147, 3) := dk_182 0 147 (dk_at dksX2_readsKnown_3 18 rfl rfl)
theorem dX2_readsKnown_92 : decode cX2_readsKnown 92 = .ok (.ifCond .eq 7, 3) := dk_153 0 7 (dk_at dksX2_readsKnown_3 21 rfl rfl)
theorem dX2_readsKnown_95 : decode cX2_readsKnown 95 = .ok (.iconst 1, 1) := dk_4 (dk_at dksX2_readsKnown_4 0 rfl rfl)
theorem dX2_readsKnown_96 : decode cX2_readsKnown 96 = .ok (.goto 4, 3) := dk_167 0 4 (dk_at dksX2_readsKnown_4 1 rfl rfl)
theorem dX2_readsKnown_99 : decode cX2_readsKnown 99 = .ok (.iconst 0, 1) := dk_3 (dk_at dksX2_readsKnown_4 4 rfl rfl)
theorem dX2_readsKnown_100 : decode cX2_readsKnown 100 = .ok (.ireturn, 1) := dk_172 (dk_at dksX2_readsKnown_4 5 rfl rfl)
abbrev cX2_comes : ByteArray := prog_18_method_21_code
def yX2_comes : MethodName := ⟨RX2, "comes", "(I)Z"⟩
def dkwX2_comes_8 : List UInt8 := [42, 89, 180, 0, 114, 4, 96, 181, 0, 114, 4, 172]
abbrev dktX2_comes_8 : List UInt8 := dkwX2_comes_8 ++ []
def dkwX2_comes_7 : List UInt8 := [180, 0, 28, 42, 180, 0, 114, 42, 180, 0, 62, 27, 46, 79, 42, 180, 0, 37, 42, 180, 0, 114, 3, 79]
abbrev dktX2_comes_7 : List UInt8 := dkwX2_comes_7 ++ dktX2_comes_8
def dkwX2_comes_6 : List UInt8 := [42, 180, 0, 53, 27, 46, 79, 42, 180, 0, 34, 42, 180, 0, 114, 42, 180, 0, 56, 27, 46, 79, 42]
abbrev dktX2_comes_6 : List UInt8 := dkwX2_comes_6 ++ dktX2_comes_7
def dkwX2_comes_5 : List UInt8 := [172, 42, 180, 0, 25, 42, 180, 0, 114, 42, 180, 0, 59, 27, 46, 79, 42, 180, 0, 31, 42, 180, 0, 114]
abbrev dktX2_comes_5 : List UInt8 := dkwX2_comes_5 ++ dktX2_comes_6
def dkwX2_comes_4 : List UInt8 := [42, 180, 0, 56, 27, 46, 16, 100, 163, 0, 15, 42, 180, 0, 62, 27, 46, 17, 4, 0, 161, 0, 5, 3]
abbrev dktX2_comes_4 : List UInt8 := dkwX2_comes_4 ++ dktX2_comes_5
def dkwX2_comes_3 : List UInt8 := [180, 0, 56, 27, 46, 42, 180, 0, 59, 27, 46, 182, 0, 169, 4, 172, 42, 180, 0, 114, 7, 159, 0, 26]
abbrev dktX2_comes_3 : List UInt8 := dkwX2_comes_3 ++ dktX2_comes_4
def dkwX2_comes_2 : List UInt8 := [154, 0, 12, 42, 180, 0, 56, 27, 46, 154, 0, 5, 3, 172, 42, 42, 180, 0, 53, 27, 46, 42]
abbrev dktX2_comes_2 : List UInt8 := dkwX2_comes_2 ++ dktX2_comes_3
def dkwX2_comes_1 : List UInt8 := [180, 0, 53, 27, 46, 182, 0, 166, 153, 0, 26, 42, 180, 0, 19, 42, 180, 0, 53, 27, 46, 46]
abbrev dktX2_comes_1 : List UInt8 := dkwX2_comes_1 ++ dktX2_comes_2
def dkwX2_comes_0 : List UInt8 := [42, 180, 0, 65, 27, 46, 16, 119, 160, 0, 74, 42, 180, 0, 46, 16, 24, 159, 0, 39, 42, 42]
abbrev dktX2_comes_0 : List UInt8 := dkwX2_comes_0 ++ dktX2_comes_1
theorem dksX2_comes_0 : cX2_comes.data.toList.drop 0 = dktX2_comes_0 := by decide +kernel
theorem dksX2_comes_1 : cX2_comes.data.toList.drop 22 = dktX2_comes_1 := dk_seg dksX2_comes_0 22 rfl rfl
theorem dksX2_comes_2 : cX2_comes.data.toList.drop 44 = dktX2_comes_2 := dk_seg dksX2_comes_1 22 rfl rfl
theorem dksX2_comes_3 : cX2_comes.data.toList.drop 66 = dktX2_comes_3 := dk_seg dksX2_comes_2 22 rfl rfl
theorem dksX2_comes_4 : cX2_comes.data.toList.drop 90 = dktX2_comes_4 := dk_seg dksX2_comes_3 24 rfl rfl
theorem dksX2_comes_5 : cX2_comes.data.toList.drop 114 = dktX2_comes_5 := dk_seg dksX2_comes_4 24 rfl rfl
theorem dksX2_comes_6 : cX2_comes.data.toList.drop 138 = dktX2_comes_6 := dk_seg dksX2_comes_5 24 rfl rfl
theorem dksX2_comes_7 : cX2_comes.data.toList.drop 161 = dktX2_comes_7 := dk_seg dksX2_comes_6 23 rfl rfl
theorem dksX2_comes_8 : cX2_comes.data.toList.drop 185 = dktX2_comes_8 := dk_seg dksX2_comes_7 24 rfl rfl
theorem dX2_comes_0 : decode cX2_comes 0 = .ok (.aload_n 0, 1) := dk_42 (dk_at dksX2_comes_0 0 rfl rfl)
theorem dX2_comes_1 : decode cX2_comes 1 = .ok (.getfield 65, 3) := dk_180 0 65 (dk_at dksX2_comes_0 1 rfl rfl)
theorem dX2_comes_4 : decode cX2_comes 4 = .ok (.iload_n 1, 1) := dk_27 (dk_at dksX2_comes_0 4 rfl rfl)
theorem dX2_comes_5 : decode cX2_comes 5 = .ok (.iaload, 1) := dk_46 (dk_at dksX2_comes_0 5 rfl rfl)
theorem dX2_comes_6 : decode cX2_comes 6 = .ok (.bipush 119, 2) := dk_16 119 (dk_at dksX2_comes_0 6 rfl rfl)
theorem dX2_comes_8 : decode cX2_comes 8 = .ok (.if_icmp .ne 74, 3) := dk_160 0 74 (dk_at dksX2_comes_0 8 rfl rfl)
theorem dX2_comes_11 : decode cX2_comes 11 = .ok (.aload_n 0, 1) := dk_42 (dk_at dksX2_comes_0 11 rfl rfl)
theorem dX2_comes_12 : decode cX2_comes 12 = .ok (.getfield 46, 3) := dk_180 0 46 (dk_at dksX2_comes_0 12 rfl rfl)
theorem dX2_comes_15 : decode cX2_comes 15 = .ok (.bipush 24, 2) := dk_16 24 (dk_at dksX2_comes_0 15 rfl rfl)
theorem dX2_comes_17 : decode cX2_comes 17 = .ok (.if_icmp .eq 39, 3) := dk_159 0 39 (dk_at dksX2_comes_0 17 rfl rfl)
theorem dX2_comes_20 : decode cX2_comes 20 = .ok (.aload_n 0, 1) := dk_42 (dk_at dksX2_comes_0 20 rfl rfl)
theorem dX2_comes_21 : decode cX2_comes 21 = .ok (.aload_n 0, 1) := dk_42 (dk_at dksX2_comes_0 21 rfl rfl)
theorem dX2_comes_22 : decode cX2_comes 22 = .ok (.getfield 53, 3) := dk_180 0 53 (dk_at dksX2_comes_1 0 rfl rfl)
theorem dX2_comes_25 : decode cX2_comes 25 = .ok (.iload_n 1, 1) := dk_27 (dk_at dksX2_comes_1 3 rfl rfl)
theorem dX2_comes_26 : decode cX2_comes 26 = .ok (.iaload, 1) := dk_46 (dk_at dksX2_comes_1 4 rfl rfl)
theorem dX2_comes_27 : decode cX2_comes 27 = .ok (.invokevirtual 166, 3) := dk_182 0 166 (dk_at dksX2_comes_1 5 rfl rfl)
theorem dX2_comes_30 : decode cX2_comes 30 = .ok (.ifCond .eq 26, 3) := dk_153 0 26 (dk_at dksX2_comes_1 8 rfl rfl)
theorem dX2_comes_33 : decode cX2_comes 33 = .ok (.aload_n 0, 1) := dk_42 (dk_at dksX2_comes_1 11 rfl rfl)
theorem dX2_comes_34 : decode cX2_comes 34 = .ok (.getfield 19, 3) := dk_180 0 19 (dk_at dksX2_comes_1 12 rfl rfl)
theorem dX2_comes_37 : decode cX2_comes 37 = .ok (.aload_n 0, 1) := dk_42 (dk_at dksX2_comes_1 15 rfl rfl)
theorem dX2_comes_38 : decode cX2_comes 38 = .ok (.getfield 53, 3) := dk_180 0 53 (dk_at dksX2_comes_1 16 rfl rfl)
theorem dX2_comes_41 : decode cX2_comes 41 = .ok (.iload_n 1, 1) := dk_27 (dk_at dksX2_comes_1 19 rfl rfl)
theorem dX2_comes_42 : decode cX2_comes 42 = .ok (.iaload, 1) := dk_46 (dk_at dksX2_comes_1 20 rfl rfl)
theorem dX2_comes_43 : decode cX2_comes 43 = .ok (.iaload, 1) := dk_46 (dk_at dksX2_comes_1 21 rfl rfl)
theorem dX2_comes_44 : decode cX2_comes 44 = .ok (.ifCond .ne 12, 3) := dk_154 0 12 (dk_at dksX2_comes_2 0 rfl rfl)
theorem dX2_comes_47 : decode cX2_comes 47 = .ok (.aload_n 0, 1) := dk_42 (dk_at dksX2_comes_2 3 rfl rfl)
theorem dX2_comes_48 : decode cX2_comes 48 = .ok (.getfield 56, 3) := dk_180 0 56 (dk_at dksX2_comes_2 4 rfl rfl)
theorem dX2_comes_51 : decode cX2_comes 51 = .ok (.iload_n 1, 1) := dk_27 (dk_at dksX2_comes_2 7 rfl rfl)
theorem dX2_comes_52 : decode cX2_comes 52 = .ok (.iaload, 1) := dk_46 (dk_at dksX2_comes_2 8 rfl rfl)
theorem dX2_comes_53 : decode cX2_comes 53 = .ok (.ifCond .ne 5, 3) := dk_154 0 5 (dk_at dksX2_comes_2 9 rfl rfl)
theorem dX2_comes_56 : decode cX2_comes 56 = .ok (.iconst 0, 1) := dk_3 (dk_at dksX2_comes_2 12 rfl rfl)
theorem dX2_comes_57 : decode cX2_comes 57 = .ok (.ireturn, 1) := dk_172 (dk_at dksX2_comes_2 13 rfl rfl)
theorem dX2_comes_58 : decode cX2_comes 58 = .ok (.aload_n 0, 1) := dk_42 (dk_at dksX2_comes_2 14 rfl rfl)
theorem dX2_comes_59 : decode cX2_comes 59 = .ok (.aload_n 0, 1) := dk_42 (dk_at dksX2_comes_2 15 rfl rfl)
theorem dX2_comes_60 : decode cX2_comes 60 = .ok (.getfield 53, 3) := dk_180 0 53 (dk_at dksX2_comes_2 16 rfl rfl)
theorem dX2_comes_63 : decode cX2_comes 63 = .ok (.iload_n 1, 1) := dk_27 (dk_at dksX2_comes_2 19 rfl rfl)
theorem dX2_comes_64 : decode cX2_comes 64 = .ok (.iaload, 1) := dk_46 (dk_at dksX2_comes_2 20 rfl rfl)
theorem dX2_comes_65 : decode cX2_comes 65 = .ok (.aload_n 0, 1) := dk_42 (dk_at dksX2_comes_2 21 rfl rfl)
theorem dX2_comes_66 : decode cX2_comes 66 = .ok (.getfield 56, 3) := dk_180 0 56 (dk_at dksX2_comes_3 0 rfl rfl)
theorem dX2_comes_69 : decode cX2_comes 69 = .ok (.iload_n 1, 1) := dk_27 (dk_at dksX2_comes_3 3 rfl rfl)
theorem dX2_comes_70 : decode cX2_comes 70 = .ok (.iaload, 1) := dk_46 (dk_at dksX2_comes_3 4 rfl rfl)
theorem dX2_comes_71 : decode cX2_comes 71 = .ok (.aload_n 0, 1) := dk_42 (dk_at dksX2_comes_3 5 rfl rfl)
theorem dX2_comes_72 : decode cX2_comes 72 = .ok (.getfield 59, 3) := dk_180 0 59 (dk_at dksX2_comes_3 6 rfl rfl)
theorem dX2_comes_75 : decode cX2_comes 75 = .ok (.iload_n 1, 1) := dk_27 (dk_at dksX2_comes_3 9 rfl rfl)
theorem dX2_comes_76 : decode cX2_comes 76 = .ok (.iaload, 1) := dk_46 (dk_at dksX2_comes_3 10 rfl rfl)
theorem dX2_comes_77 : decode cX2_comes 77 = .ok (.invokevirtual 169, 3) := dk_182 0 169 (dk_at dksX2_comes_3 11 rfl rfl)
theorem dX2_comes_80 : decode cX2_comes 80 = .ok (.iconst 1, 1) := dk_4 (dk_at dksX2_comes_3 14 rfl rfl)
theorem dX2_comes_81 : decode cX2_comes 81 = .ok (.ireturn, 1) := dk_172 (dk_at dksX2_comes_3 15 rfl rfl)
theorem dX2_comes_82 : decode cX2_comes 82 = .ok (.aload_n 0, 1) := dk_42 (dk_at dksX2_comes_3 16 rfl rfl)
theorem dX2_comes_83 : decode cX2_comes 83 = .ok (.getfield 114, 3) := dk_180 0 114 (dk_at dksX2_comes_3 17 rfl rfl)
theorem dX2_comes_86 : decode cX2_comes 86 = .ok (.iconst 4, 1) := dk_7 (dk_at dksX2_comes_3 20 rfl rfl)
theorem dX2_comes_87 : decode cX2_comes 87 = .ok (.if_icmp .eq 26, 3) := dk_159 0 26 (dk_at dksX2_comes_3 21 rfl rfl)
theorem dX2_comes_90 : decode cX2_comes 90 = .ok (.aload_n 0, 1) := dk_42 (dk_at dksX2_comes_4 0 rfl rfl)
theorem dX2_comes_91 : decode cX2_comes 91 = .ok (.getfield 56, 3) := dk_180 0 56 (dk_at dksX2_comes_4 1 rfl rfl)
theorem dX2_comes_94 : decode cX2_comes 94 = .ok (.iload_n 1, 1) := dk_27 (dk_at dksX2_comes_4 4 rfl rfl)
theorem dX2_comes_95 : decode cX2_comes 95 = .ok (.iaload, 1) := dk_46 (dk_at dksX2_comes_4 5 rfl rfl)
theorem dX2_comes_96 : decode cX2_comes 96 = .ok (.bipush 100, 2) := dk_16 100 (dk_at dksX2_comes_4 6 rfl rfl)
theorem dX2_comes_98 : decode cX2_comes 98 = .ok (.if_icmp .gt 15, 3) := dk_163 0 15 (dk_at dksX2_comes_4 8 rfl rfl)
theorem dX2_comes_101 : decode cX2_comes 101 = .ok (.aload_n 0, 1) := dk_42 (dk_at dksX2_comes_4 11 rfl rfl)
theorem dX2_comes_102 : decode cX2_comes 102 = .ok (.getfield 62, 3) := dk_180 0 62 (dk_at dksX2_comes_4 12 rfl rfl)
theorem dX2_comes_105 : decode cX2_comes 105 = .ok (.iload_n 1, 1) := dk_27 (dk_at dksX2_comes_4 15 rfl rfl)
theorem dX2_comes_106 : decode cX2_comes 106 = .ok (.iaload, 1) := dk_46 (dk_at dksX2_comes_4 16 rfl rfl)
theorem dX2_comes_107 : decode cX2_comes 107 = .ok (.sipush 1024, 3) := dk_17 4 0 (dk_at dksX2_comes_4 17 rfl rfl)
theorem dX2_comes_110 : decode cX2_comes 110 = .ok (.if_icmp .lt 5, 3) := dk_161 0 5 (dk_at dksX2_comes_4 20 rfl rfl)
theorem dX2_comes_113 : decode cX2_comes 113 = .ok (.iconst 0, 1) := dk_3 (dk_at dksX2_comes_4 23 rfl rfl)
theorem dX2_comes_114 : decode cX2_comes 114 = .ok (.ireturn, 1) := dk_172 (dk_at dksX2_comes_5 0 rfl rfl)
theorem dX2_comes_115 : decode cX2_comes 115 = .ok (.aload_n 0, 1) := dk_42 (dk_at dksX2_comes_5 1 rfl rfl)
theorem dX2_comes_116 : decode cX2_comes 116 = .ok (.getfield 25, 3) := dk_180 0 25 (dk_at dksX2_comes_5 2 rfl rfl)
theorem dX2_comes_119 : decode cX2_comes 119 = .ok (.aload_n 0, 1) := dk_42 (dk_at dksX2_comes_5 5 rfl rfl)
theorem dX2_comes_120 : decode cX2_comes 120 = .ok (.getfield 114, 3) := dk_180 0 114 (dk_at dksX2_comes_5 6 rfl rfl)
theorem dX2_comes_123 : decode cX2_comes 123 = .ok (.aload_n 0, 1) := dk_42 (dk_at dksX2_comes_5 9 rfl rfl)
theorem dX2_comes_124 : decode cX2_comes 124 = .ok (.getfield 59, 3) := dk_180 0 59 (dk_at dksX2_comes_5 10 rfl rfl)
theorem dX2_comes_127 : decode cX2_comes 127 = .ok (.iload_n 1, 1) := dk_27 (dk_at dksX2_comes_5 13 rfl rfl)
theorem dX2_comes_128 : decode cX2_comes 128 = .ok (.iaload, 1) := dk_46 (dk_at dksX2_comes_5 14 rfl rfl)
theorem dX2_comes_129 : decode cX2_comes 129 = .ok (.iastore, 1) := dk_79 (dk_at dksX2_comes_5 15 rfl rfl)
theorem dX2_comes_130 : decode cX2_comes 130 = .ok (.aload_n 0, 1) := dk_42 (dk_at dksX2_comes_5 16 rfl rfl)
theorem dX2_comes_131 : decode cX2_comes 131 = .ok (.getfield 31, 3) := dk_180 0 31 (dk_at dksX2_comes_5 17 rfl rfl)
theorem dX2_comes_134 : decode cX2_comes 134 = .ok (.aload_n 0, 1) := dk_42 (dk_at dksX2_comes_5 20 rfl rfl)
theorem dX2_comes_135 : decode cX2_comes 135 = .ok (.getfield 114, 3) := dk_180 0 114 (dk_at dksX2_comes_5 21 rfl rfl)
theorem dX2_comes_138 : decode cX2_comes 138 = .ok (.aload_n 0, 1) := dk_42 (dk_at dksX2_comes_6 0 rfl rfl)
theorem dX2_comes_139 : decode cX2_comes 139 = .ok (.getfield 53, 3) := dk_180 0 53 (dk_at dksX2_comes_6 1 rfl rfl)
theorem dX2_comes_142 : decode cX2_comes 142 = .ok (.iload_n 1, 1) := dk_27 (dk_at dksX2_comes_6 4 rfl rfl)
theorem dX2_comes_143 : decode cX2_comes 143 = .ok (.iaload, 1) := dk_46 (dk_at dksX2_comes_6 5 rfl rfl)
theorem dX2_comes_144 : decode cX2_comes 144 = .ok (.iastore, 1) := dk_79 (dk_at dksX2_comes_6 6 rfl rfl)
theorem dX2_comes_145 : decode cX2_comes 145 = .ok (.aload_n 0, 1) := dk_42 (dk_at dksX2_comes_6 7 rfl rfl)
theorem dX2_comes_146 : decode cX2_comes 146 = .ok (.getfield 34, 3) := dk_180 0 34 (dk_at dksX2_comes_6 8 rfl rfl)
theorem dX2_comes_149 : decode cX2_comes 149 = .ok (.aload_n 0, 1) := dk_42 (dk_at dksX2_comes_6 11 rfl rfl)
theorem dX2_comes_150 : decode cX2_comes 150 = .ok (.getfield 114, 3) := dk_180 0 114 (dk_at dksX2_comes_6 12 rfl rfl)
theorem dX2_comes_153 : decode cX2_comes 153 = .ok (.aload_n 0, 1) := dk_42 (dk_at dksX2_comes_6 15 rfl rfl)
theorem dX2_comes_154 : decode cX2_comes 154 = .ok (.getfield 56, 3) := dk_180 0 56 (dk_at dksX2_comes_6 16 rfl rfl)
theorem dX2_comes_157 : decode cX2_comes 157 = .ok (.iload_n 1, 1) := dk_27 (dk_at dksX2_comes_6 19 rfl rfl)
theorem dX2_comes_158 : decode cX2_comes 158 = .ok (.iaload, 1) := dk_46 (dk_at dksX2_comes_6 20 rfl rfl)
theorem dX2_comes_159 : decode cX2_comes 159 = .ok (.iastore, 1) := dk_79 (dk_at dksX2_comes_6 21 rfl rfl)
theorem dX2_comes_160 : decode cX2_comes 160 = .ok (.aload_n 0, 1) := dk_42 (dk_at dksX2_comes_6 22 rfl rfl)
theorem dX2_comes_161 : decode cX2_comes 161 = .ok (.getfield 28, 3) := dk_180 0 28 (dk_at dksX2_comes_7 0 rfl rfl)
theorem dX2_comes_164 : decode cX2_comes 164 = .ok (.aload_n 0, 1) := dk_42 (dk_at dksX2_comes_7 3 rfl rfl)
theorem dX2_comes_165 : decode cX2_comes 165 = .ok (.getfield 114, 3) := dk_180 0 114 (dk_at dksX2_comes_7 4 rfl rfl)
theorem dX2_comes_168 : decode cX2_comes 168 = .ok (.aload_n 0, 1) := dk_42 (dk_at dksX2_comes_7 7 rfl rfl)
theorem dX2_comes_169 : decode cX2_comes 169 = .ok (.getfield 62, 3) := dk_180 0 62 (dk_at dksX2_comes_7 8 rfl rfl)
theorem dX2_comes_172 : decode cX2_comes 172 = .ok (.iload_n 1, 1) := dk_27 (dk_at dksX2_comes_7 11 rfl rfl)
theorem dX2_comes_173 : decode cX2_comes 173 = .ok (.iaload, 1) := dk_46 (dk_at dksX2_comes_7 12 rfl rfl)
theorem dX2_comes_174 : decode cX2_comes 174 = .ok (.iastore, 1) := dk_79 (dk_at dksX2_comes_7 13 rfl rfl)
theorem dX2_comes_175 : decode cX2_comes 175 = .ok (.aload_n 0, 1) := dk_42 (dk_at dksX2_comes_7 14 rfl rfl)
theorem dX2_comes_176 : decode cX2_comes 176 = .ok (.getfield 37, 3) := dk_180 0 37 (dk_at dksX2_comes_7 15 rfl rfl)
theorem dX2_comes_179 : decode cX2_comes 179 = .ok (.aload_n 0, 1) := dk_42 (dk_at dksX2_comes_7 18 rfl rfl)
theorem dX2_comes_180 : decode cX2_comes 180 = .ok (.getfield 114, 3) := dk_180 0 114 (dk_at dksX2_comes_7 19 rfl rfl)
theorem dX2_comes_183 : decode cX2_comes 183 = .ok (.iconst 0, 1) := dk_3 (dk_at dksX2_comes_7 22 rfl rfl)
theorem dX2_comes_184 : decode cX2_comes 184 = .ok (.iastore, 1) := dk_79 (dk_at dksX2_comes_7 23 rfl rfl)
theorem dX2_comes_185 : decode cX2_comes 185 = .ok (.aload_n 0, 1) := dk_42 (dk_at dksX2_comes_8 0 rfl rfl)
theorem dX2_comes_186 : decode cX2_comes 186 = .ok (.dup, 1) := dk_89 (dk_at dksX2_comes_8 1 rfl rfl)
theorem dX2_comes_187 : decode cX2_comes 187 = .ok (.getfield 114, 3) := dk_180 0 114 (dk_at dksX2_comes_8 2 rfl rfl)
theorem dX2_comes_190 : decode cX2_comes 190 = .ok (.iconst 1, 1) := dk_4 (dk_at dksX2_comes_8 5 rfl rfl)
theorem dX2_comes_191 : decode cX2_comes 191 = .ok (.iadd, 1) := dk_96 (dk_at dksX2_comes_8 6 rfl rfl)
theorem dX2_comes_192 : decode cX2_comes 192 = .ok (.putfield 114, 3) := dk_181 0 114 (dk_at dksX2_comes_8 7 rfl rfl)
theorem dX2_comes_195 : decode cX2_comes 195 = .ok (.iconst 1, 1) := dk_4 (dk_at dksX2_comes_8 10 rfl rfl)
theorem dX2_comes_196 : decode cX2_comes 196 = .ok (.ireturn, 1) := dk_172 (dk_at dksX2_comes_8 11 rfl rfl)
abbrev cX2_isWord : ByteArray := prog_18_method_7_code
def yX2_isWord : MethodName := ⟨RX2, "isWord", "(I)Z"⟩
def dkwX2_isWord_0 : List UInt8 := [27, 155, 0, 15, 27, 42, 180, 0, 46, 162, 0, 7, 4, 167, 0, 4, 3, 172]
abbrev dktX2_isWord_0 : List UInt8 := dkwX2_isWord_0 ++ []
theorem dksX2_isWord_0 : cX2_isWord.data.toList.drop 0 = dktX2_isWord_0 := by decide +kernel
theorem dX2_isWord_0 : decode cX2_isWord 0 = .ok (.iload_n 1, 1) := dk_27 (dk_at dksX2_isWord_0 0 rfl rfl)
theorem dX2_isWord_1 : decode cX2_isWord 1 = .ok (.ifCond .lt 15, 3) := dk_155 0 15 (dk_at dksX2_isWord_0 1 rfl rfl)
theorem dX2_isWord_4 : decode cX2_isWord 4 = .ok (.iload_n 1, 1) := dk_27 (dk_at dksX2_isWord_0 4 rfl rfl)
theorem dX2_isWord_5 : decode cX2_isWord 5 = .ok (.aload_n 0, 1) := dk_42 (dk_at dksX2_isWord_0 5 rfl rfl)
theorem dX2_isWord_6 : decode cX2_isWord 6 = .ok (.getfield 46, 3) := dk_180 0 46 (dk_at dksX2_isWord_0 6 rfl rfl)
theorem dX2_isWord_9 : decode cX2_isWord 9 = .ok (.if_icmp .ge 7, 3) := dk_162 0 7 (dk_at dksX2_isWord_0 9 rfl rfl)
theorem dX2_isWord_12 : decode cX2_isWord 12 = .ok (.iconst 1, 1) := dk_4 (dk_at dksX2_isWord_0 12 rfl rfl)
theorem dX2_isWord_13 : decode cX2_isWord 13 = .ok (.goto 4, 3) := dk_167 0 4 (dk_at dksX2_isWord_0 13 rfl rfl)
theorem dX2_isWord_16 : decode cX2_isWord 16 = .ok (.iconst 0, 1) := dk_3 (dk_at dksX2_isWord_0 16 rfl rfl)
theorem dX2_isWord_17 : decode cX2_isWord 17 = .ok (.ireturn, 1) := dk_172 (dk_at dksX2_isWord_0 17 rfl rfl)
abbrev cX2_comesWord : ByteArray := prog_18_method_11_code
def yX2_comesWord : MethodName := ⟨RX2, "comesWord", "(III)V"⟩
def dkwX2_comesWord_2 : List UInt8 := [89, 180, 0, 46, 4, 96, 181, 0, 46, 177]
abbrev dktX2_comesWord_2 : List UInt8 := dkwX2_comesWord_2 ++ []
def dkwX2_comesWord_1 : List UInt8 := [42, 180, 0, 46, 29, 79, 42, 180, 0, 22, 42, 180, 0, 46, 42, 180, 0, 22, 27, 46, 4, 96, 79, 42]
abbrev dktX2_comesWord_1 : List UInt8 := dkwX2_comesWord_1 ++ dktX2_comesWord_2
def dkwX2_comesWord_0 : List UInt8 := [42, 180, 0, 13, 42, 180, 0, 46, 27, 79, 42, 180, 0, 16, 42, 180, 0, 46, 28, 79, 42, 180, 0, 19]
abbrev dktX2_comesWord_0 : List UInt8 := dkwX2_comesWord_0 ++ dktX2_comesWord_1
theorem dksX2_comesWord_0 : cX2_comesWord.data.toList.drop 0 = dktX2_comesWord_0 := by decide +kernel
theorem dksX2_comesWord_1 : cX2_comesWord.data.toList.drop 24 = dktX2_comesWord_1 := dk_seg dksX2_comesWord_0 24 rfl rfl
theorem dksX2_comesWord_2 : cX2_comesWord.data.toList.drop 48 = dktX2_comesWord_2 := dk_seg dksX2_comesWord_1 24 rfl rfl
theorem dX2_comesWord_0 : decode cX2_comesWord 0 = .ok (.aload_n 0, 1) := dk_42 (dk_at dksX2_comesWord_0 0 rfl rfl)
theorem dX2_comesWord_1 : decode cX2_comesWord 1 = .ok (.getfield 13, 3) := dk_180 0 13 (dk_at dksX2_comesWord_0 1 rfl rfl)
theorem dX2_comesWord_4 : decode cX2_comesWord 4 = .ok (.aload_n 0, 1) := dk_42 (dk_at dksX2_comesWord_0 4 rfl rfl)
theorem dX2_comesWord_5 : decode cX2_comesWord 5 = .ok (.getfield 46, 3) := dk_180 0 46 (dk_at dksX2_comesWord_0 5 rfl rfl)
theorem dX2_comesWord_8 : decode cX2_comesWord 8 = .ok (.iload_n 1, 1) := dk_27 (dk_at dksX2_comesWord_0 8 rfl rfl)
theorem dX2_comesWord_9 : decode cX2_comesWord 9 = .ok (.iastore, 1) := dk_79 (dk_at dksX2_comesWord_0 9 rfl rfl)
theorem dX2_comesWord_10 : decode cX2_comesWord 10 = .ok (.aload_n 0, 1) := dk_42 (dk_at dksX2_comesWord_0 10 rfl rfl)
theorem dX2_comesWord_11 : decode cX2_comesWord 11 = .ok (.getfield 16, 3) := dk_180 0 16 (dk_at dksX2_comesWord_0 11 rfl rfl)
theorem dX2_comesWord_14 : decode cX2_comesWord 14 = .ok (.aload_n 0, 1) := dk_42 (dk_at dksX2_comesWord_0 14 rfl rfl)
theorem dX2_comesWord_15 : decode cX2_comesWord 15 = .ok (.getfield 46, 3) := dk_180 0 46 (dk_at dksX2_comesWord_0 15 rfl rfl)
theorem dX2_comesWord_18 : decode cX2_comesWord 18 = .ok (.iload_n 2, 1) := dk_28 (dk_at dksX2_comesWord_0 18 rfl rfl)
theorem dX2_comesWord_19 : decode cX2_comesWord 19 = .ok (.iastore, 1) := dk_79 (dk_at dksX2_comesWord_0 19 rfl rfl)
theorem dX2_comesWord_20 : decode cX2_comesWord 20 = .ok (.aload_n 0, 1) := dk_42 (dk_at dksX2_comesWord_0 20 rfl rfl)
theorem dX2_comesWord_21 : decode cX2_comesWord 21 = .ok (.getfield 19, 3) := dk_180 0 19 (dk_at dksX2_comesWord_0 21 rfl rfl)
theorem dX2_comesWord_24 : decode cX2_comesWord 24 = .ok (.aload_n 0, 1) := dk_42 (dk_at dksX2_comesWord_1 0 rfl rfl)
theorem dX2_comesWord_25 : decode cX2_comesWord 25 = .ok (.getfield 46, 3) := dk_180 0 46 (dk_at dksX2_comesWord_1 1 rfl rfl)
theorem dX2_comesWord_28 : decode cX2_comesWord 28 = .ok (.iload_n 3, 1) := dk_29 (dk_at dksX2_comesWord_1 4 rfl rfl)
theorem dX2_comesWord_29 : decode cX2_comesWord 29 = .ok (.iastore, 1) := dk_79 (dk_at dksX2_comesWord_1 5 rfl rfl)
theorem dX2_comesWord_30 : decode cX2_comesWord 30 = .ok (.aload_n 0, 1) := dk_42 (dk_at dksX2_comesWord_1 6 rfl rfl)
theorem dX2_comesWord_31 : decode cX2_comesWord 31 = .ok (.getfield 22, 3) := dk_180 0 22 (dk_at dksX2_comesWord_1 7 rfl rfl)
theorem dX2_comesWord_34 : decode cX2_comesWord 34 = .ok (.aload_n 0, 1) := dk_42 (dk_at dksX2_comesWord_1 10 rfl rfl)
theorem dX2_comesWord_35 : decode cX2_comesWord 35 = .ok (.getfield 46, 3) := dk_180 0 46 (dk_at dksX2_comesWord_1 11 rfl rfl)
theorem dX2_comesWord_38 : decode cX2_comesWord 38 = .ok (.aload_n 0, 1) := dk_42 (dk_at dksX2_comesWord_1 14 rfl rfl)
theorem dX2_comesWord_39 : decode cX2_comesWord 39 = .ok (.getfield 22, 3) := dk_180 0 22 (dk_at dksX2_comesWord_1 15 rfl rfl)
theorem dX2_comesWord_42 : decode cX2_comesWord 42 = .ok (.iload_n 1, 1) := dk_27 (dk_at dksX2_comesWord_1 18 rfl rfl)
theorem dX2_comesWord_43 : decode cX2_comesWord 43 = .ok (.iaload, 1) := dk_46 (dk_at dksX2_comesWord_1 19 rfl rfl)
theorem dX2_comesWord_44 : decode cX2_comesWord 44 = .ok (.iconst 1, 1) := dk_4 (dk_at dksX2_comesWord_1 20 rfl rfl)
theorem dX2_comesWord_45 : decode cX2_comesWord 45 = .ok (.iadd, 1) := dk_96 (dk_at dksX2_comesWord_1 21 rfl rfl)
theorem dX2_comesWord_46 : decode cX2_comesWord 46 = .ok (.iastore, 1) := dk_79 (dk_at dksX2_comesWord_1 22 rfl rfl)
theorem dX2_comesWord_47 : decode cX2_comesWord 47 = .ok (.aload_n 0, 1) := dk_42 (dk_at dksX2_comesWord_1 23 rfl rfl)
theorem dX2_comesWord_48 : decode cX2_comesWord 48 = .ok (.dup, 1) := dk_89 (dk_at dksX2_comesWord_2 0 rfl rfl)
theorem dX2_comesWord_49 : decode cX2_comesWord 49 = .ok (.getfield 46, 3) := dk_180 0 46 (dk_at dksX2_comesWord_2 1 rfl rfl)
theorem dX2_comesWord_52 : decode cX2_comesWord 52 = .ok (.iconst 1, 1) := dk_4 (dk_at dksX2_comesWord_2 4 rfl rfl)
theorem dX2_comesWord_53 : decode cX2_comesWord 53 = .ok (.iadd, 1) := dk_96 (dk_at dksX2_comesWord_2 5 rfl rfl)
theorem dX2_comesWord_54 : decode cX2_comesWord 54 = .ok (.putfield 46, 3) := dk_181 0 46 (dk_at dksX2_comesWord_2 6 rfl rfl)
theorem dX2_comesWord_57 : decode cX2_comesWord 57 = .ok (.return_, 1) := dk_177 (dk_at dksX2_comesWord_2 9 rfl rfl)
abbrev cX2_word : ByteArray := prog_18_method_23_code
def yX2_word : MethodName := ⟨RX2, "word", "(II)I"⟩
def dkwX2_word_3 : List UInt8 := [180, 0, 22, 27, 46, 172, 42, 27, 182, 0, 117, 172, 42, 16, 254, 182, 0, 128, 172]
abbrev dktX2_word_3 : List UInt8 := dkwX2_word_3 ++ []
def dkwX2_word_2 : List UInt8 := [42, 180, 0, 13, 27, 46, 172, 42, 180, 0, 16, 27, 46, 172, 42, 180, 0, 19, 27, 46, 172, 42]
abbrev dktX2_word_2 : List UInt8 := dkwX2_word_2 ++ dktX2_word_3
def dkwX2_word_1 : List UInt8 := [170, 0, 0, 0, 67, 0, 0, 0, 0, 0, 0, 0, 4, 0, 0, 0, 33, 0, 0, 0, 40, 0, 0, 0, 47, 0, 0, 0, 54, 0, 0, 0, 61]
abbrev dktX2_word_1 : List UInt8 := dkwX2_word_1 ++ dktX2_word_2
def dkwX2_word_0 : List UInt8 := [42, 27, 182, 0, 166, 154, 0, 9, 42, 2, 182, 0, 128, 172, 28]
abbrev dktX2_word_0 : List UInt8 := dkwX2_word_0 ++ dktX2_word_1
theorem dksX2_word_0 : cX2_word.data.toList.drop 0 = dktX2_word_0 := by decide +kernel
theorem dksX2_word_1 : cX2_word.data.toList.drop 15 = dktX2_word_1 := dk_seg dksX2_word_0 15 rfl rfl
theorem dksX2_word_2 : cX2_word.data.toList.drop 48 = dktX2_word_2 := dk_seg dksX2_word_1 33 rfl rfl
theorem dksX2_word_3 : cX2_word.data.toList.drop 70 = dktX2_word_3 := dk_seg dksX2_word_2 22 rfl rfl
theorem dX2_word_0 : decode cX2_word 0 = .ok (.aload_n 0, 1) := dk_42 (dk_at dksX2_word_0 0 rfl rfl)
theorem dX2_word_1 : decode cX2_word 1 = .ok (.iload_n 1, 1) := dk_27 (dk_at dksX2_word_0 1 rfl rfl)
theorem dX2_word_2 : decode cX2_word 2 = .ok (.invokevirtual 166, 3) := dk_182 0 166 (dk_at dksX2_word_0 2 rfl rfl)
theorem dX2_word_5 : decode cX2_word 5 = .ok (.ifCond .ne 9, 3) := dk_154 0 9 (dk_at dksX2_word_0 5 rfl rfl)
theorem dX2_word_8 : decode cX2_word 8 = .ok (.aload_n 0, 1) := dk_42 (dk_at dksX2_word_0 8 rfl rfl)
theorem dX2_word_9 : decode cX2_word 9 = .ok (.iconst (-1), 1) := dk_2 (dk_at dksX2_word_0 9 rfl rfl)
theorem dX2_word_10 : decode cX2_word 10 = .ok (.invokevirtual 128, 3) := dk_182 0 128 (dk_at dksX2_word_0 10 rfl rfl)
theorem dX2_word_13 : decode cX2_word 13 = .ok (.ireturn, 1) := dk_172 (dk_at dksX2_word_0 13 rfl rfl)
theorem dX2_word_14 : decode cX2_word 14 = .ok (.iload_n 2, 1) := dk_28 (dk_at dksX2_word_0 14 rfl rfl)
theorem dX2_word_15 : decode cX2_word 15 = .ok (.tableswitch 67 0 4 #[33, 40, 47, 54, 61], 33) := by decide +kernel
theorem dX2_word_48 : decode cX2_word 48 = .ok (.aload_n 0, 1) := dk_42 (dk_at dksX2_word_2 0 rfl rfl)
theorem dX2_word_49 : decode cX2_word 49 = .ok (.getfield 13, 3) := dk_180 0 13 (dk_at dksX2_word_2 1 rfl rfl)
theorem dX2_word_52 : decode cX2_word 52 = .ok (.iload_n 1, 1) := dk_27 (dk_at dksX2_word_2 4 rfl rfl)
theorem dX2_word_53 : decode cX2_word 53 = .ok (.iaload, 1) := dk_46 (dk_at dksX2_word_2 5 rfl rfl)
theorem dX2_word_54 : decode cX2_word 54 = .ok (.ireturn, 1) := dk_172 (dk_at dksX2_word_2 6 rfl rfl)
theorem dX2_word_55 : decode cX2_word 55 = .ok (.aload_n 0, 1) := dk_42 (dk_at dksX2_word_2 7 rfl rfl)
theorem dX2_word_56 : decode cX2_word 56 = .ok (.getfield 16, 3) := dk_180 0 16 (dk_at dksX2_word_2 8 rfl rfl)
theorem dX2_word_59 : decode cX2_word 59 = .ok (.iload_n 1, 1) := dk_27 (dk_at dksX2_word_2 11 rfl rfl)
theorem dX2_word_60 : decode cX2_word 60 = .ok (.iaload, 1) := dk_46 (dk_at dksX2_word_2 12 rfl rfl)
theorem dX2_word_61 : decode cX2_word 61 = .ok (.ireturn, 1) := dk_172 (dk_at dksX2_word_2 13 rfl rfl)
theorem dX2_word_62 : decode cX2_word 62 = .ok (.aload_n 0, 1) := dk_42 (dk_at dksX2_word_2 14 rfl rfl)
theorem dX2_word_63 : decode cX2_word 63 = .ok (.getfield 19, 3) := dk_180 0 19 (dk_at dksX2_word_2 15 rfl rfl)
theorem dX2_word_66 : decode cX2_word 66 = .ok (.iload_n 1, 1) := dk_27 (dk_at dksX2_word_2 18 rfl rfl)
theorem dX2_word_67 : decode cX2_word 67 = .ok (.iaload, 1) := dk_46 (dk_at dksX2_word_2 19 rfl rfl)
theorem dX2_word_68 : decode cX2_word 68 = .ok (.ireturn, 1) := dk_172 (dk_at dksX2_word_2 20 rfl rfl)
theorem dX2_word_69 : decode cX2_word 69 = .ok (.aload_n 0, 1) := dk_42 (dk_at dksX2_word_2 21 rfl rfl)
theorem dX2_word_70 : decode cX2_word 70 = .ok (.getfield 22, 3) := dk_180 0 22 (dk_at dksX2_word_3 0 rfl rfl)
theorem dX2_word_73 : decode cX2_word 73 = .ok (.iload_n 1, 1) := dk_27 (dk_at dksX2_word_3 3 rfl rfl)
theorem dX2_word_74 : decode cX2_word 74 = .ok (.iaload, 1) := dk_46 (dk_at dksX2_word_3 4 rfl rfl)
theorem dX2_word_75 : decode cX2_word 75 = .ok (.ireturn, 1) := dk_172 (dk_at dksX2_word_3 5 rfl rfl)
theorem dX2_word_76 : decode cX2_word 76 = .ok (.aload_n 0, 1) := dk_42 (dk_at dksX2_word_3 6 rfl rfl)
theorem dX2_word_77 : decode cX2_word 77 = .ok (.iload_n 1, 1) := dk_27 (dk_at dksX2_word_3 7 rfl rfl)
theorem dX2_word_78 : decode cX2_word 78 = .ok (.invokevirtual 117, 3) := dk_182 0 117 (dk_at dksX2_word_3 8 rfl rfl)
theorem dX2_word_81 : decode cX2_word 81 = .ok (.ireturn, 1) := dk_172 (dk_at dksX2_word_3 11 rfl rfl)
theorem dX2_word_82 : decode cX2_word 82 = .ok (.aload_n 0, 1) := dk_42 (dk_at dksX2_word_3 12 rfl rfl)
theorem dX2_word_83 : decode cX2_word 83 = .ok (.bipush (-2), 2) := dk_16 254 (dk_at dksX2_word_3 13 rfl rfl)
theorem dX2_word_85 : decode cX2_word 85 = .ok (.invokevirtual 128, 3) := dk_182 0 128 (dk_at dksX2_word_3 15 rfl rfl)
theorem dX2_word_88 : decode cX2_word 88 = .ok (.ireturn, 1) := dk_172 (dk_at dksX2_word_3 18 rfl rfl)
abbrev cX2_nexts : ByteArray := prog_18_method_9_code
def yX2_nexts : MethodName := ⟨RX2, "nexts", "(I)I"⟩
def dkwX2_nexts_1 : List UInt8 := [160, 0, 7, 4, 167, 0, 4, 3, 96, 61, 132, 3, 1, 167, 255, 227, 28, 172]
abbrev dktX2_nexts_1 : List UInt8 := dkwX2_nexts_1 ++ []
def dkwX2_nexts_0 : List UInt8 := [3, 61, 27, 4, 96, 62, 29, 42, 180, 0, 46, 162, 0, 27, 28, 42, 180, 0, 13, 29, 46, 27]
abbrev dktX2_nexts_0 : List UInt8 := dkwX2_nexts_0 ++ dktX2_nexts_1
theorem dksX2_nexts_0 : cX2_nexts.data.toList.drop 0 = dktX2_nexts_0 := by decide +kernel
theorem dksX2_nexts_1 : cX2_nexts.data.toList.drop 22 = dktX2_nexts_1 := dk_seg dksX2_nexts_0 22 rfl rfl
theorem dX2_nexts_0 : decode cX2_nexts 0 = .ok (.iconst 0, 1) := dk_3 (dk_at dksX2_nexts_0 0 rfl rfl)
theorem dX2_nexts_1 : decode cX2_nexts 1 = .ok (.istore_n 2, 1) := dk_61 (dk_at dksX2_nexts_0 1 rfl rfl)
theorem dX2_nexts_2 : decode cX2_nexts 2 = .ok (.iload_n 1, 1) := dk_27 (dk_at dksX2_nexts_0 2 rfl rfl)
theorem dX2_nexts_3 : decode cX2_nexts 3 = .ok (.iconst 1, 1) := dk_4 (dk_at dksX2_nexts_0 3 rfl rfl)
theorem dX2_nexts_4 : decode cX2_nexts 4 = .ok (.iadd, 1) := dk_96 (dk_at dksX2_nexts_0 4 rfl rfl)
theorem dX2_nexts_5 : decode cX2_nexts 5 = .ok (.istore_n 3, 1) := dk_62 (dk_at dksX2_nexts_0 5 rfl rfl)
theorem dX2_nexts_6 : decode cX2_nexts 6 = .ok (.iload_n 3, 1) := dk_29 (dk_at dksX2_nexts_0 6 rfl rfl)
theorem dX2_nexts_7 : decode cX2_nexts 7 = .ok (.aload_n 0, 1) := dk_42 (dk_at dksX2_nexts_0 7 rfl rfl)
theorem dX2_nexts_8 : decode cX2_nexts 8 = .ok (.getfield 46, 3) := dk_180 0 46 (dk_at dksX2_nexts_0 8 rfl rfl)
theorem dX2_nexts_11 : decode cX2_nexts 11 = .ok (.if_icmp .ge 27, 3) := dk_162 0 27 (dk_at dksX2_nexts_0 11 rfl rfl)
theorem dX2_nexts_14 : decode cX2_nexts 14 = .ok (.iload_n 2, 1) := dk_28 (dk_at dksX2_nexts_0 14 rfl rfl)
theorem dX2_nexts_15 : decode cX2_nexts 15 = .ok (.aload_n 0, 1) := dk_42 (dk_at dksX2_nexts_0 15 rfl rfl)
theorem dX2_nexts_16 : decode cX2_nexts 16 = .ok (.getfield 13, 3) := dk_180 0 13 (dk_at dksX2_nexts_0 16 rfl rfl)
theorem dX2_nexts_19 : decode cX2_nexts 19 = .ok (.iload_n 3, 1) := dk_29 (dk_at dksX2_nexts_0 19 rfl rfl)
theorem dX2_nexts_20 : decode cX2_nexts 20 = .ok (.iaload, 1) := dk_46 (dk_at dksX2_nexts_0 20 rfl rfl)
theorem dX2_nexts_21 : decode cX2_nexts 21 = .ok (.iload_n 1, 1) := dk_27 (dk_at dksX2_nexts_0 21 rfl rfl)
theorem dX2_nexts_22 : decode cX2_nexts 22 = .ok (.if_icmp .ne 7, 3) := dk_160 0 7 (dk_at dksX2_nexts_1 0 rfl rfl)
theorem dX2_nexts_25 : decode cX2_nexts 25 = .ok (.iconst 1, 1) := dk_4 (dk_at dksX2_nexts_1 3 rfl rfl)
theorem dX2_nexts_26 : decode cX2_nexts 26 = .ok (.goto 4, 3) := dk_167 0 4 (dk_at dksX2_nexts_1 4 rfl rfl)
theorem dX2_nexts_29 : decode cX2_nexts 29 = .ok (.iconst 0, 1) := dk_3 (dk_at dksX2_nexts_1 7 rfl rfl)
theorem dX2_nexts_30 : decode cX2_nexts 30 = .ok (.iadd, 1) := dk_96 (dk_at dksX2_nexts_1 8 rfl rfl)
theorem dX2_nexts_31 : decode cX2_nexts 31 = .ok (.istore_n 2, 1) := dk_61 (dk_at dksX2_nexts_1 9 rfl rfl)
theorem dX2_nexts_32 : decode cX2_nexts 32 = .ok (.iinc 3 1, 3) := dk_132 3 1 (dk_at dksX2_nexts_1 10 rfl rfl)
theorem dX2_nexts_35 : decode cX2_nexts 35 = .ok (.goto (-29), 3) := dk_167 255 227 (dk_at dksX2_nexts_1 13 rfl rfl)
theorem dX2_nexts_38 : decode cX2_nexts 38 = .ok (.iload_n 2, 1) := dk_28 (dk_at dksX2_nexts_1 16 rfl rfl)
theorem dX2_nexts_39 : decode cX2_nexts 39 = .ok (.ireturn, 1) := dk_172 (dk_at dksX2_nexts_1 17 rfl rfl)
abbrev cX2_player : ByteArray := prog_18_method_24_code
def yX2_player : MethodName := ⟨RX2, "player", "(II)I"⟩
def dkwX2_player_4 : List UInt8 := [167, 0, 4, 3, 172, 42, 16, 254, 182, 0, 128, 172]
abbrev dktX2_player_4 : List UInt8 := dkwX2_player_4 ++ []
def dkwX2_player_3 : List UInt8 := [180, 0, 28, 27, 46, 172, 42, 180, 0, 25, 27, 46, 7, 160, 0, 12, 42, 180, 0, 37, 27, 46]
abbrev dktX2_player_3 : List UInt8 := dkwX2_player_3 ++ dktX2_player_4
def dkwX2_player_2 : List UInt8 := [42, 180, 0, 25, 27, 46, 172, 42, 180, 0, 31, 27, 46, 172, 42, 180, 0, 34, 27, 46, 172, 42]
abbrev dktX2_player_2 : List UInt8 := dkwX2_player_2 ++ dktX2_player_3
def dkwX2_player_1 : List UInt8 := [170, 0, 0, 0, 82, 0, 0, 0, 0, 0, 0, 0, 4, 0, 0, 0, 33, 0, 0, 0, 40, 0, 0, 0, 47, 0, 0, 0, 54, 0, 0, 0, 61]
abbrev dktX2_player_1 : List UInt8 := dkwX2_player_1 ++ dktX2_player_2
def dkwX2_player_0 : List UInt8 := [42, 27, 182, 0, 180, 154, 0, 9, 42, 2, 182, 0, 128, 172, 28]
abbrev dktX2_player_0 : List UInt8 := dkwX2_player_0 ++ dktX2_player_1
theorem dksX2_player_0 : cX2_player.data.toList.drop 0 = dktX2_player_0 := by decide +kernel
theorem dksX2_player_1 : cX2_player.data.toList.drop 15 = dktX2_player_1 := dk_seg dksX2_player_0 15 rfl rfl
theorem dksX2_player_2 : cX2_player.data.toList.drop 48 = dktX2_player_2 := dk_seg dksX2_player_1 33 rfl rfl
theorem dksX2_player_3 : cX2_player.data.toList.drop 70 = dktX2_player_3 := dk_seg dksX2_player_2 22 rfl rfl
theorem dksX2_player_4 : cX2_player.data.toList.drop 92 = dktX2_player_4 := dk_seg dksX2_player_3 22 rfl rfl
theorem dX2_player_0 : decode cX2_player 0 = .ok (.aload_n 0, 1) := dk_42 (dk_at dksX2_player_0 0 rfl rfl)
theorem dX2_player_1 : decode cX2_player 1 = .ok (.iload_n 1, 1) := dk_27 (dk_at dksX2_player_0 1 rfl rfl)
theorem dX2_player_2 : decode cX2_player 2 = .ok (.invokevirtual 180, 3) := dk_182 0 180 (dk_at dksX2_player_0 2 rfl rfl)
theorem dX2_player_5 : decode cX2_player 5 = .ok (.ifCond .ne 9, 3) := dk_154 0 9 (dk_at dksX2_player_0 5 rfl rfl)
theorem dX2_player_8 : decode cX2_player 8 = .ok (.aload_n 0, 1) := dk_42 (dk_at dksX2_player_0 8 rfl rfl)
theorem dX2_player_9 : decode cX2_player 9 = .ok (.iconst (-1), 1) := dk_2 (dk_at dksX2_player_0 9 rfl rfl)
theorem dX2_player_10 : decode cX2_player 10 = .ok (.invokevirtual 128, 3) := dk_182 0 128 (dk_at dksX2_player_0 10 rfl rfl)
theorem dX2_player_13 : decode cX2_player 13 = .ok (.ireturn, 1) := dk_172 (dk_at dksX2_player_0 13 rfl rfl)
theorem dX2_player_14 : decode cX2_player 14 = .ok (.iload_n 2, 1) := dk_28 (dk_at dksX2_player_0 14 rfl rfl)
theorem dX2_player_15 : decode cX2_player 15 = .ok (.tableswitch 82 0 4 #[33, 40, 47, 54, 61], 33) := by decide +kernel
theorem dX2_player_48 : decode cX2_player 48 = .ok (.aload_n 0, 1) := dk_42 (dk_at dksX2_player_2 0 rfl rfl)
theorem dX2_player_49 : decode cX2_player 49 = .ok (.getfield 25, 3) := dk_180 0 25 (dk_at dksX2_player_2 1 rfl rfl)
theorem dX2_player_52 : decode cX2_player 52 = .ok (.iload_n 1, 1) := dk_27 (dk_at dksX2_player_2 4 rfl rfl)
theorem dX2_player_53 : decode cX2_player 53 = .ok (.iaload, 1) := dk_46 (dk_at dksX2_player_2 5 rfl rfl)
theorem dX2_player_54 : decode cX2_player 54 = .ok (.ireturn, 1) := dk_172 (dk_at dksX2_player_2 6 rfl rfl)
theorem dX2_player_55 : decode cX2_player 55 = .ok (.aload_n 0, 1) := dk_42 (dk_at dksX2_player_2 7 rfl rfl)
theorem dX2_player_56 : decode cX2_player 56 = .ok (.getfield 31, 3) := dk_180 0 31 (dk_at dksX2_player_2 8 rfl rfl)
theorem dX2_player_59 : decode cX2_player 59 = .ok (.iload_n 1, 1) := dk_27 (dk_at dksX2_player_2 11 rfl rfl)
theorem dX2_player_60 : decode cX2_player 60 = .ok (.iaload, 1) := dk_46 (dk_at dksX2_player_2 12 rfl rfl)
theorem dX2_player_61 : decode cX2_player 61 = .ok (.ireturn, 1) := dk_172 (dk_at dksX2_player_2 13 rfl rfl)
theorem dX2_player_62 : decode cX2_player 62 = .ok (.aload_n 0, 1) := dk_42 (dk_at dksX2_player_2 14 rfl rfl)
theorem dX2_player_63 : decode cX2_player 63 = .ok (.getfield 34, 3) := dk_180 0 34 (dk_at dksX2_player_2 15 rfl rfl)
theorem dX2_player_66 : decode cX2_player 66 = .ok (.iload_n 1, 1) := dk_27 (dk_at dksX2_player_2 18 rfl rfl)
theorem dX2_player_67 : decode cX2_player 67 = .ok (.iaload, 1) := dk_46 (dk_at dksX2_player_2 19 rfl rfl)
theorem dX2_player_68 : decode cX2_player 68 = .ok (.ireturn, 1) := dk_172 (dk_at dksX2_player_2 20 rfl rfl)
theorem dX2_player_69 : decode cX2_player 69 = .ok (.aload_n 0, 1) := dk_42 (dk_at dksX2_player_2 21 rfl rfl)
theorem dX2_player_70 : decode cX2_player 70 = .ok (.getfield 28, 3) := dk_180 0 28 (dk_at dksX2_player_3 0 rfl rfl)
theorem dX2_player_73 : decode cX2_player 73 = .ok (.iload_n 1, 1) := dk_27 (dk_at dksX2_player_3 3 rfl rfl)
theorem dX2_player_74 : decode cX2_player 74 = .ok (.iaload, 1) := dk_46 (dk_at dksX2_player_3 4 rfl rfl)
theorem dX2_player_75 : decode cX2_player 75 = .ok (.ireturn, 1) := dk_172 (dk_at dksX2_player_3 5 rfl rfl)
theorem dX2_player_76 : decode cX2_player 76 = .ok (.aload_n 0, 1) := dk_42 (dk_at dksX2_player_3 6 rfl rfl)
theorem dX2_player_77 : decode cX2_player 77 = .ok (.getfield 25, 3) := dk_180 0 25 (dk_at dksX2_player_3 7 rfl rfl)
theorem dX2_player_80 : decode cX2_player 80 = .ok (.iload_n 1, 1) := dk_27 (dk_at dksX2_player_3 10 rfl rfl)
theorem dX2_player_81 : decode cX2_player 81 = .ok (.iaload, 1) := dk_46 (dk_at dksX2_player_3 11 rfl rfl)
theorem dX2_player_82 : decode cX2_player 82 = .ok (.iconst 4, 1) := dk_7 (dk_at dksX2_player_3 12 rfl rfl)
theorem dX2_player_83 : decode cX2_player 83 = .ok (.if_icmp .ne 12, 3) := dk_160 0 12 (dk_at dksX2_player_3 13 rfl rfl)
theorem dX2_player_86 : decode cX2_player 86 = .ok (.aload_n 0, 1) := dk_42 (dk_at dksX2_player_3 16 rfl rfl)
theorem dX2_player_87 : decode cX2_player 87 = .ok (.getfield 37, 3) := dk_180 0 37 (dk_at dksX2_player_3 17 rfl rfl)
theorem dX2_player_90 : decode cX2_player 90 = .ok (.iload_n 1, 1) := dk_27 (dk_at dksX2_player_3 20 rfl rfl)
theorem dX2_player_91 : decode cX2_player 91 = .ok (.iaload, 1) := dk_46 (dk_at dksX2_player_3 21 rfl rfl)
theorem dX2_player_92 : decode cX2_player 92 = .ok (.goto 4, 3) := dk_167 0 4 (dk_at dksX2_player_4 0 rfl rfl)
theorem dX2_player_95 : decode cX2_player 95 = .ok (.iconst 0, 1) := dk_3 (dk_at dksX2_player_4 3 rfl rfl)
theorem dX2_player_96 : decode cX2_player 96 = .ok (.ireturn, 1) := dk_172 (dk_at dksX2_player_4 4 rfl rfl)
theorem dX2_player_97 : decode cX2_player 97 = .ok (.aload_n 0, 1) := dk_42 (dk_at dksX2_player_4 5 rfl rfl)
theorem dX2_player_98 : decode cX2_player 98 = .ok (.bipush (-2), 2) := dk_16 254 (dk_at dksX2_player_4 6 rfl rfl)
theorem dX2_player_100 : decode cX2_player 100 = .ok (.invokevirtual 128, 3) := dk_182 0 128 (dk_at dksX2_player_4 8 rfl rfl)
theorem dX2_player_103 : decode cX2_player 103 = .ok (.ireturn, 1) := dk_172 (dk_at dksX2_player_4 11 rfl rfl)
abbrev cX2_isPlayer : ByteArray := prog_18_method_8_code
def yX2_isPlayer : MethodName := ⟨RX2, "isPlayer", "(I)Z"⟩
def dkwX2_isPlayer_0 : List UInt8 := [27, 155, 0, 15, 27, 42, 180, 0, 114, 162, 0, 7, 4, 167, 0, 4, 3, 172]
abbrev dktX2_isPlayer_0 : List UInt8 := dkwX2_isPlayer_0 ++ []
theorem dksX2_isPlayer_0 : cX2_isPlayer.data.toList.drop 0 = dktX2_isPlayer_0 := by decide +kernel
theorem dX2_isPlayer_0 : decode cX2_isPlayer 0 = .ok (.iload_n 1, 1) := dk_27 (dk_at dksX2_isPlayer_0 0 rfl rfl)
theorem dX2_isPlayer_1 : decode cX2_isPlayer 1 = .ok (.ifCond .lt 15, 3) := dk_155 0 15 (dk_at dksX2_isPlayer_0 1 rfl rfl)
theorem dX2_isPlayer_4 : decode cX2_isPlayer 4 = .ok (.iload_n 1, 1) := dk_27 (dk_at dksX2_isPlayer_0 4 rfl rfl)
theorem dX2_isPlayer_5 : decode cX2_isPlayer 5 = .ok (.aload_n 0, 1) := dk_42 (dk_at dksX2_isPlayer_0 5 rfl rfl)
theorem dX2_isPlayer_6 : decode cX2_isPlayer 6 = .ok (.getfield 114, 3) := dk_180 0 114 (dk_at dksX2_isPlayer_0 6 rfl rfl)
theorem dX2_isPlayer_9 : decode cX2_isPlayer 9 = .ok (.if_icmp .ge 7, 3) := dk_162 0 7 (dk_at dksX2_isPlayer_0 9 rfl rfl)
theorem dX2_isPlayer_12 : decode cX2_isPlayer 12 = .ok (.iconst 1, 1) := dk_4 (dk_at dksX2_isPlayer_0 12 rfl rfl)
theorem dX2_isPlayer_13 : decode cX2_isPlayer 13 = .ok (.goto 4, 3) := dk_167 0 4 (dk_at dksX2_isPlayer_0 13 rfl rfl)
theorem dX2_isPlayer_16 : decode cX2_isPlayer 16 = .ok (.iconst 0, 1) := dk_3 (dk_at dksX2_isPlayer_0 16 rfl rfl)
theorem dX2_isPlayer_17 : decode cX2_isPlayer 17 = .ok (.ireturn, 1) := dk_172 (dk_at dksX2_isPlayer_0 17 rfl rfl)
abbrev cX2_whole : ByteArray := prog_18_method_25_code
def yX2_whole : MethodName := ⟨RX2, "whole", "()I"⟩
def dkwX2_whole_0 : List UInt8 := [42, 182, 0, 183, 153, 0, 7, 4, 167, 0, 4, 3, 172]
abbrev dktX2_whole_0 : List UInt8 := dkwX2_whole_0 ++ []
theorem dksX2_whole_0 : cX2_whole.data.toList.drop 0 = dktX2_whole_0 := by decide +kernel
theorem dX2_whole_0 : decode cX2_whole 0 = .ok (.aload_n 0, 1) := dk_42 (dk_at dksX2_whole_0 0 rfl rfl)
theorem dX2_whole_1 : decode cX2_whole 1 = .ok (.invokevirtual 183, 3) := dk_182 0 183 (dk_at dksX2_whole_0 1 rfl rfl)
theorem dX2_whole_4 : decode cX2_whole 4 = .ok (.ifCond .eq 7, 3) := dk_153 0 7 (dk_at dksX2_whole_0 4 rfl rfl)
theorem dX2_whole_7 : decode cX2_whole 7 = .ok (.iconst 1, 1) := dk_4 (dk_at dksX2_whole_0 7 rfl rfl)
theorem dX2_whole_8 : decode cX2_whole 8 = .ok (.goto 4, 3) := dk_167 0 4 (dk_at dksX2_whole_0 8 rfl rfl)
theorem dX2_whole_11 : decode cX2_whole 11 = .ok (.iconst 0, 1) := dk_3 (dk_at dksX2_whole_0 11 rfl rfl)
theorem dX2_whole_12 : decode cX2_whole 12 = .ok (.ireturn, 1) := dk_172 (dk_at dksX2_whole_0 12 rfl rfl)
abbrev cX2_isWhole : ByteArray := prog_18_method_10_code
def yX2_isWhole : MethodName := ⟨RX2, "isWhole", "()Z"⟩
def dkwX2_isWhole_1 : List UInt8 := [154, 0, 5, 3, 172, 132, 1, 1, 167, 255, 226, 4, 172]
abbrev dktX2_isWhole_1 : List UInt8 := dkwX2_isWhole_1 ++ []
def dkwX2_isWhole_0 : List UInt8 := [3, 60, 27, 42, 180, 0, 46, 162, 0, 28, 42, 180, 0, 19, 27, 46, 154, 0, 13, 42, 27, 182, 0, 117]
abbrev dktX2_isWhole_0 : List UInt8 := dkwX2_isWhole_0 ++ dktX2_isWhole_1
theorem dksX2_isWhole_0 : cX2_isWhole.data.toList.drop 0 = dktX2_isWhole_0 := by decide +kernel
theorem dksX2_isWhole_1 : cX2_isWhole.data.toList.drop 24 = dktX2_isWhole_1 := dk_seg dksX2_isWhole_0 24 rfl rfl
theorem dX2_isWhole_0 : decode cX2_isWhole 0 = .ok (.iconst 0, 1) := dk_3 (dk_at dksX2_isWhole_0 0 rfl rfl)
theorem dX2_isWhole_1 : decode cX2_isWhole 1 = .ok (.istore_n 1, 1) := dk_60 (dk_at dksX2_isWhole_0 1 rfl rfl)
theorem dX2_isWhole_2 : decode cX2_isWhole 2 = .ok (.iload_n 1, 1) := dk_27 (dk_at dksX2_isWhole_0 2 rfl rfl)
theorem dX2_isWhole_3 : decode cX2_isWhole 3 = .ok (.aload_n 0, 1) := dk_42 (dk_at dksX2_isWhole_0 3 rfl rfl)
theorem dX2_isWhole_4 : decode cX2_isWhole 4 = .ok (.getfield 46, 3) := dk_180 0 46 (dk_at dksX2_isWhole_0 4 rfl rfl)
theorem dX2_isWhole_7 : decode cX2_isWhole 7 = .ok (.if_icmp .ge 28, 3) := dk_162 0 28 (dk_at dksX2_isWhole_0 7 rfl rfl)
theorem dX2_isWhole_10 : decode cX2_isWhole 10 = .ok (.aload_n 0, 1) := dk_42 (dk_at dksX2_isWhole_0 10 rfl rfl)
theorem dX2_isWhole_11 : decode cX2_isWhole 11 = .ok (.getfield 19, 3) := dk_180 0 19 (dk_at dksX2_isWhole_0 11 rfl rfl)
theorem dX2_isWhole_14 : decode cX2_isWhole 14 = .ok (.iload_n 1, 1) := dk_27 (dk_at dksX2_isWhole_0 14 rfl rfl)
theorem dX2_isWhole_15 : decode cX2_isWhole 15 = .ok (.iaload, 1) := dk_46 (dk_at dksX2_isWhole_0 15 rfl rfl)
theorem dX2_isWhole_16 : decode cX2_isWhole 16 = .ok (.ifCond .ne 13, 3) := dk_154 0 13 (dk_at dksX2_isWhole_0 16 rfl rfl)
theorem dX2_isWhole_19 : decode cX2_isWhole 19 = .ok (.aload_n 0, 1) := dk_42 (dk_at dksX2_isWhole_0 19 rfl rfl)
theorem dX2_isWhole_20 : decode cX2_isWhole 20 = .ok (.iload_n 1, 1) := dk_27 (dk_at dksX2_isWhole_0 20 rfl rfl)
theorem dX2_isWhole_21 : decode cX2_isWhole 21 = .ok (.invokevirtual 117, 3) := dk_182 0 117 (dk_at dksX2_isWhole_0 21 rfl rfl)
theorem dX2_isWhole_24 : decode cX2_isWhole 24 = .ok (.ifCond .ne 5, 3) := dk_154 0 5 (dk_at dksX2_isWhole_1 0 rfl rfl)
theorem dX2_isWhole_27 : decode cX2_isWhole 27 = .ok (.iconst 0, 1) := dk_3 (dk_at dksX2_isWhole_1 3 rfl rfl)
theorem dX2_isWhole_28 : decode cX2_isWhole 28 = .ok (.ireturn, 1) := dk_172 (dk_at dksX2_isWhole_1 4 rfl rfl)
theorem dX2_isWhole_29 : decode cX2_isWhole 29 = .ok (.iinc 1 1, 3) := dk_132 1 1 (dk_at dksX2_isWhole_1 5 rfl rfl)
theorem dX2_isWhole_32 : decode cX2_isWhole 32 = .ok (.goto (-30), 3) := dk_167 255 226 (dk_at dksX2_isWhole_1 8 rfl rfl)
theorem dX2_isWhole_35 : decode cX2_isWhole 35 = .ok (.iconst 1, 1) := dk_4 (dk_at dksX2_isWhole_1 11 rfl rfl)
theorem dX2_isWhole_36 : decode cX2_isWhole 36 = .ok (.ireturn, 1) := dk_172 (dk_at dksX2_isWhole_1 12 rfl rfl)
abbrev cX2_left : ByteArray := prog_18_method_27_code
def yX2_left : MethodName := ⟨RX2, "left", "(I)I"⟩
def dkwX2_left_2 : List UInt8 := [180, 0, 19, 29, 46, 120, 167, 0, 4, 3, 128, 61, 132, 3, 1, 167, 255, 212, 28, 172]
abbrev dktX2_left_2 : List UInt8 := dkwX2_left_2 ++ []
def dkwX2_left_1 : List UInt8 := [162, 0, 42, 28, 42, 180, 0, 19, 29, 46, 153, 0, 23, 42, 29, 27, 182, 0, 186, 153, 0, 14, 4, 42]
abbrev dktX2_left_1 : List UInt8 := dkwX2_left_1 ++ dktX2_left_2
def dkwX2_left_0 : List UInt8 := [42, 27, 182, 0, 166, 154, 0, 9, 42, 2, 182, 0, 128, 172, 3, 61, 27, 62, 29, 42, 180, 0, 46]
abbrev dktX2_left_0 : List UInt8 := dkwX2_left_0 ++ dktX2_left_1
theorem dksX2_left_0 : cX2_left.data.toList.drop 0 = dktX2_left_0 := by decide +kernel
theorem dksX2_left_1 : cX2_left.data.toList.drop 23 = dktX2_left_1 := dk_seg dksX2_left_0 23 rfl rfl
theorem dksX2_left_2 : cX2_left.data.toList.drop 47 = dktX2_left_2 := dk_seg dksX2_left_1 24 rfl rfl
theorem dX2_left_0 : decode cX2_left 0 = .ok (.aload_n 0, 1) := dk_42 (dk_at dksX2_left_0 0 rfl rfl)
theorem dX2_left_1 : decode cX2_left 1 = .ok (.iload_n 1, 1) := dk_27 (dk_at dksX2_left_0 1 rfl rfl)
theorem dX2_left_2 : decode cX2_left 2 = .ok (.invokevirtual 166, 3) := dk_182 0 166 (dk_at dksX2_left_0 2 rfl rfl)
theorem dX2_left_5 : decode cX2_left 5 = .ok (.ifCond .ne 9, 3) := dk_154 0 9 (dk_at dksX2_left_0 5 rfl rfl)
theorem dX2_left_8 : decode cX2_left 8 = .ok (.aload_n 0, 1) := dk_42 (dk_at dksX2_left_0 8 rfl rfl)
theorem dX2_left_9 : decode cX2_left 9 = .ok (.iconst (-1), 1) := dk_2 (dk_at dksX2_left_0 9 rfl rfl)
theorem dX2_left_10 : decode cX2_left 10 = .ok (.invokevirtual 128, 3) := dk_182 0 128 (dk_at dksX2_left_0 10 rfl rfl)
theorem dX2_left_13 : decode cX2_left 13 = .ok (.ireturn, 1) := dk_172 (dk_at dksX2_left_0 13 rfl rfl)
theorem dX2_left_14 : decode cX2_left 14 = .ok (.iconst 0, 1) := dk_3 (dk_at dksX2_left_0 14 rfl rfl)
theorem dX2_left_15 : decode cX2_left 15 = .ok (.istore_n 2, 1) := dk_61 (dk_at dksX2_left_0 15 rfl rfl)
theorem dX2_left_16 : decode cX2_left 16 = .ok (.iload_n 1, 1) := dk_27 (dk_at dksX2_left_0 16 rfl rfl)
theorem dX2_left_17 : decode cX2_left 17 = .ok (.istore_n 3, 1) := dk_62 (dk_at dksX2_left_0 17 rfl rfl)
theorem dX2_left_18 : decode cX2_left 18 = .ok (.iload_n 3, 1) := dk_29 (dk_at dksX2_left_0 18 rfl rfl)
theorem dX2_left_19 : decode cX2_left 19 = .ok (.aload_n 0, 1) := dk_42 (dk_at dksX2_left_0 19 rfl rfl)
theorem dX2_left_20 : decode cX2_left 20 = .ok (.getfield 46, 3) := dk_180 0 46 (dk_at dksX2_left_0 20 rfl rfl)
theorem dX2_left_23 : decode cX2_left 23 = .ok (.if_icmp .ge 42, 3) := dk_162 0 42 (dk_at dksX2_left_1 0 rfl rfl)
theorem dX2_left_26 : decode cX2_left 26 = .ok (.iload_n 2, 1) := dk_28 (dk_at dksX2_left_1 3 rfl rfl)
theorem dX2_left_27 : decode cX2_left 27 = .ok (.aload_n 0, 1) := dk_42 (dk_at dksX2_left_1 4 rfl rfl)
theorem dX2_left_28 : decode cX2_left 28 = .ok (.getfield 19, 3) := dk_180 0 19 (dk_at dksX2_left_1 5 rfl rfl)
theorem dX2_left_31 : decode cX2_left 31 = .ok (.iload_n 3, 1) := dk_29 (dk_at dksX2_left_1 8 rfl rfl)
theorem dX2_left_32 : decode cX2_left 32 = .ok (.iaload, 1) := dk_46 (dk_at dksX2_left_1 9 rfl rfl)
theorem dX2_left_33 : decode cX2_left 33 = .ok (.ifCond .eq 23, 3) := dk_153 0 23 (dk_at dksX2_left_1 10 rfl rfl)
theorem dX2_left_36 : decode cX2_left 36 = .ok (.aload_n 0, 1) := dk_42 (dk_at dksX2_left_1 13 rfl rfl)
theorem dX2_left_37 : decode cX2_left 37 = .ok (.iload_n 3, 1) := dk_29 (dk_at dksX2_left_1 14 rfl rfl)
theorem dX2_left_38 : decode cX2_left 38 = .ok (.iload_n 1, 1) := dk_27 (dk_at dksX2_left_1 15 rfl rfl)
theorem dX2_left_39 : decode cX2_left 39 = .ok (.invokevirtual 186, 3) := dk_182 0 186 (dk_at dksX2_left_1 16 rfl rfl)
theorem dX2_left_42 : decode cX2_left 42 = .ok (.ifCond .eq 14, 3) := dk_153 0 14 (dk_at dksX2_left_1 19 rfl rfl)
theorem dX2_left_45 : decode cX2_left 45 = .ok (.iconst 1, 1) := dk_4 (dk_at dksX2_left_1 22 rfl rfl)
theorem dX2_left_46 : decode cX2_left 46 = .ok (.aload_n 0, 1) := dk_42 (dk_at dksX2_left_1 23 rfl rfl)
theorem dX2_left_47 : decode cX2_left 47 = .ok (.getfield 19, 3) := dk_180 0 19 (dk_at dksX2_left_2 0 rfl rfl)
theorem dX2_left_50 : decode cX2_left 50 = .ok (.iload_n 3, 1) := dk_29 (dk_at dksX2_left_2 3 rfl rfl)
theorem dX2_left_51 : decode cX2_left 51 = .ok (.iaload, 1) := dk_46 (dk_at dksX2_left_2 4 rfl rfl)
theorem dX2_left_52 : decode cX2_left 52 = .ok (.ishl, 1) := dk_120 (dk_at dksX2_left_2 5 rfl rfl)
theorem dX2_left_53 : decode cX2_left 53 = .ok (.goto 4, 3) := dk_167 0 4 (dk_at dksX2_left_2 6 rfl rfl)
theorem dX2_left_56 : decode cX2_left 56 = .ok (.iconst 0, 1) := dk_3 (dk_at dksX2_left_2 9 rfl rfl)
theorem dX2_left_57 : decode cX2_left 57 = .ok (.ior, 1) := dk_128 (dk_at dksX2_left_2 10 rfl rfl)
theorem dX2_left_58 : decode cX2_left 58 = .ok (.istore_n 2, 1) := dk_61 (dk_at dksX2_left_2 11 rfl rfl)
theorem dX2_left_59 : decode cX2_left 59 = .ok (.iinc 3 1, 3) := dk_132 3 1 (dk_at dksX2_left_2 12 rfl rfl)
theorem dX2_left_62 : decode cX2_left 62 = .ok (.goto (-44), 3) := dk_167 255 212 (dk_at dksX2_left_2 15 rfl rfl)
theorem dX2_left_65 : decode cX2_left 65 = .ok (.iload_n 2, 1) := dk_28 (dk_at dksX2_left_2 18 rfl rfl)
theorem dX2_left_66 : decode cX2_left 66 = .ok (.ireturn, 1) := dk_172 (dk_at dksX2_left_2 19 rfl rfl)
abbrev cX2_isBehind : ByteArray := prog_18_method_26_code
def yX2_isBehind : MethodName := ⟨RX2, "isBehind", "(II)Z"⟩
def dkwX2_isBehind_1 : List UInt8 := [167, 0, 4, 3, 172]
abbrev dktX2_isBehind_1 : List UInt8 := dkwX2_isBehind_1 ++ []
def dkwX2_isBehind_0 : List UInt8 := [27, 62, 29, 28, 164, 0, 13, 42, 180, 0, 13, 29, 46, 62, 167, 255, 244, 29, 28, 160, 0, 7, 4]
abbrev dktX2_isBehind_0 : List UInt8 := dkwX2_isBehind_0 ++ dktX2_isBehind_1
theorem dksX2_isBehind_0 : cX2_isBehind.data.toList.drop 0 = dktX2_isBehind_0 := by decide +kernel
theorem dksX2_isBehind_1 : cX2_isBehind.data.toList.drop 23 = dktX2_isBehind_1 := dk_seg dksX2_isBehind_0 23 rfl rfl
theorem dX2_isBehind_0 : decode cX2_isBehind 0 = .ok (.iload_n 1, 1) := dk_27 (dk_at dksX2_isBehind_0 0 rfl rfl)
theorem dX2_isBehind_1 : decode cX2_isBehind 1 = .ok (.istore_n 3, 1) := dk_62 (dk_at dksX2_isBehind_0 1 rfl rfl)
theorem dX2_isBehind_2 : decode cX2_isBehind 2 = .ok (.iload_n 3, 1) := dk_29 (dk_at dksX2_isBehind_0 2 rfl rfl)
theorem dX2_isBehind_3 : decode cX2_isBehind 3 = .ok (.iload_n 2, 1) := dk_28 (dk_at dksX2_isBehind_0 3 rfl rfl)
theorem dX2_isBehind_4 : decode cX2_isBehind 4 = .ok (.if_icmp .le 13, 3) := dk_164 0 13 (dk_at dksX2_isBehind_0 4 rfl rfl)
theorem dX2_isBehind_7 : decode cX2_isBehind 7 = .ok (.aload_n 0, 1) := dk_42 (dk_at dksX2_isBehind_0 7 rfl rfl)
theorem dX2_isBehind_8 : decode cX2_isBehind 8 = .ok (.getfield 13, 3) := dk_180 0 13 (dk_at dksX2_isBehind_0 8 rfl rfl)
theorem dX2_isBehind_11 : decode cX2_isBehind 11 = .ok (.iload_n 3, 1) := dk_29 (dk_at dksX2_isBehind_0 11 rfl rfl)
theorem dX2_isBehind_12 : decode cX2_isBehind 12 = .ok (.iaload, 1) := dk_46 (dk_at dksX2_isBehind_0 12 rfl rfl)
theorem dX2_isBehind_13 : decode cX2_isBehind 13 = .ok (.istore_n 3, 1) := dk_62 (dk_at dksX2_isBehind_0 13 rfl rfl)
theorem dX2_isBehind_14 : decode cX2_isBehind 14 = .ok (.goto (-12), 3) := dk_167 255 244 (dk_at dksX2_isBehind_0 14 rfl rfl)
theorem dX2_isBehind_17 : decode cX2_isBehind 17 = .ok (.iload_n 3, 1) := dk_29 (dk_at dksX2_isBehind_0 17 rfl rfl)
theorem dX2_isBehind_18 : decode cX2_isBehind 18 = .ok (.iload_n 2, 1) := dk_28 (dk_at dksX2_isBehind_0 18 rfl rfl)
theorem dX2_isBehind_19 : decode cX2_isBehind 19 = .ok (.if_icmp .ne 7, 3) := dk_160 0 7 (dk_at dksX2_isBehind_0 19 rfl rfl)
theorem dX2_isBehind_22 : decode cX2_isBehind 22 = .ok (.iconst 1, 1) := dk_4 (dk_at dksX2_isBehind_0 22 rfl rfl)
theorem dX2_isBehind_23 : decode cX2_isBehind 23 = .ok (.goto 4, 3) := dk_167 0 4 (dk_at dksX2_isBehind_1 0 rfl rfl)
theorem dX2_isBehind_26 : decode cX2_isBehind 26 = .ok (.iconst 0, 1) := dk_3 (dk_at dksX2_isBehind_1 3 rfl rfl)
theorem dX2_isBehind_27 : decode cX2_isBehind 27 = .ok (.ireturn, 1) := dk_172 (dk_at dksX2_isBehind_1 4 rfl rfl)
abbrev cX2_chance : ByteArray := prog_18_method_42_code
def yX2_chance : MethodName := ⟨RX2, "chance", "(III)J"⟩
def dkwX2_chance_3 : List UInt8 := [180, 0, 71, 27, 47, 29, 184, 0, 243, 173]
abbrev dktX2_chance_3 : List UInt8 := dkwX2_chance_3 ++ []
def dkwX2_chance_2 : List UInt8 := [16, 253, 182, 0, 239, 173, 42, 182, 0, 233, 42, 180, 0, 75, 16, 10, 27, 104, 28, 96, 47, 42]
abbrev dktX2_chance_2 : List UInt8 := dkwX2_chance_2 ++ dktX2_chance_3
def dkwX2_chance_1 : List UInt8 := [29, 3, 4, 184, 0, 140, 154, 0, 10, 42, 16, 254, 182, 0, 239, 173, 42, 182, 0, 183, 154, 0, 10, 42]
abbrev dktX2_chance_1 : List UInt8 := dkwX2_chance_1 ++ dktX2_chance_2
def dkwX2_chance_0 : List UInt8 := [42, 27, 182, 0, 166, 153, 0, 13, 28, 4, 16, 9, 184, 0, 140, 154, 0, 9, 42, 2, 182, 0, 239, 173]
abbrev dktX2_chance_0 : List UInt8 := dkwX2_chance_0 ++ dktX2_chance_1
theorem dksX2_chance_0 : cX2_chance.data.toList.drop 0 = dktX2_chance_0 := by decide +kernel
theorem dksX2_chance_1 : cX2_chance.data.toList.drop 24 = dktX2_chance_1 := dk_seg dksX2_chance_0 24 rfl rfl
theorem dksX2_chance_2 : cX2_chance.data.toList.drop 48 = dktX2_chance_2 := dk_seg dksX2_chance_1 24 rfl rfl
theorem dksX2_chance_3 : cX2_chance.data.toList.drop 70 = dktX2_chance_3 := dk_seg dksX2_chance_2 22 rfl rfl
theorem dX2_chance_0 : decode cX2_chance 0 = .ok (.aload_n 0, 1) := dk_42 (dk_at dksX2_chance_0 0 rfl rfl)
theorem dX2_chance_1 : decode cX2_chance 1 = .ok (.iload_n 1, 1) := dk_27 (dk_at dksX2_chance_0 1 rfl rfl)
theorem dX2_chance_2 : decode cX2_chance 2 = .ok (.invokevirtual 166, 3) := dk_182 0 166 (dk_at dksX2_chance_0 2 rfl rfl)
theorem dX2_chance_5 : decode cX2_chance 5 = .ok (.ifCond .eq 13, 3) := dk_153 0 13 (dk_at dksX2_chance_0 5 rfl rfl)
theorem dX2_chance_8 : decode cX2_chance 8 = .ok (.iload_n 2, 1) := dk_28 (dk_at dksX2_chance_0 8 rfl rfl)
theorem dX2_chance_9 : decode cX2_chance 9 = .ok (.iconst 1, 1) := dk_4 (dk_at dksX2_chance_0 9 rfl rfl)
theorem dX2_chance_10 : decode cX2_chance 10 = .ok (.bipush 9, 2) := dk_16 9 (dk_at dksX2_chance_0 10 rfl rfl)
theorem dX2_chance_12 : decode cX2_chance 12 = .ok (.invokestatic 140, 3) := dk_184 0 140 (dk_at dksX2_chance_0 12 rfl rfl)
theorem dX2_chance_15 : decode cX2_chance 15 = .ok (.ifCond .ne 9, 3) := dk_154 0 9 (dk_at dksX2_chance_0 15 rfl rfl)
theorem dX2_chance_18 : decode cX2_chance 18 = .ok (.aload_n 0, 1) := dk_42 (dk_at dksX2_chance_0 18 rfl rfl)
theorem dX2_chance_19 : decode cX2_chance 19 = .ok (.iconst (-1), 1) := dk_2 (dk_at dksX2_chance_0 19 rfl rfl)
theorem dX2_chance_20 : decode cX2_chance 20 = .ok (.invokevirtual 239, 3) := dk_182 0 239 (dk_at dksX2_chance_0 20 rfl rfl)
theorem dX2_chance_23 : decode cX2_chance 23 = .ok (.lreturn, 1) := dk_173 (dk_at dksX2_chance_0 23 rfl rfl)
theorem dX2_chance_24 : decode cX2_chance 24 = .ok (.iload_n 3, 1) := dk_29 (dk_at dksX2_chance_1 0 rfl rfl)
theorem dX2_chance_25 : decode cX2_chance 25 = .ok (.iconst 0, 1) := dk_3 (dk_at dksX2_chance_1 1 rfl rfl)
theorem dX2_chance_26 : decode cX2_chance 26 = .ok (.iconst 1, 1) := dk_4 (dk_at dksX2_chance_1 2 rfl rfl)
theorem dX2_chance_27 : decode cX2_chance 27 = .ok (.invokestatic 140, 3) := dk_184 0 140 (dk_at dksX2_chance_1 3 rfl rfl)
theorem dX2_chance_30 : decode cX2_chance 30 = .ok (.ifCond .ne 10, 3) := dk_154 0 10 (dk_at dksX2_chance_1 6 rfl rfl)
theorem dX2_chance_33 : decode cX2_chance 33 = .ok (.aload_n 0, 1) := dk_42 (dk_at dksX2_chance_1 9 rfl rfl)
theorem dX2_chance_34 : decode cX2_chance 34 = .ok (.bipush (-2), 2) := dk_16 254 (dk_at dksX2_chance_1 10 rfl rfl)
theorem dX2_chance_36 : decode cX2_chance 36 = .ok (.invokevirtual 239, 3) := dk_182 0 239 (dk_at dksX2_chance_1 12 rfl rfl)
theorem dX2_chance_39 : decode cX2_chance 39 = .ok (.lreturn, 1) := dk_173 (dk_at dksX2_chance_1 15 rfl rfl)
theorem dX2_chance_40 : decode cX2_chance 40 = .ok (.aload_n 0, 1) := dk_42 (dk_at dksX2_chance_1 16 rfl rfl)
theorem dX2_chance_41 : decode cX2_chance 41 = .ok (.invokevirtual 183, 3) := dk_182 0 183 (dk_at dksX2_chance_1 17 rfl rfl)
theorem dX2_chance_44 : decode cX2_chance 44 = .ok (.ifCond .ne 10, 3) := dk_154 0 10 (dk_at dksX2_chance_1 20 rfl rfl)
theorem dX2_chance_47 : decode cX2_chance 47 = .ok (.aload_n 0, 1) := dk_42 (dk_at dksX2_chance_1 23 rfl rfl)
theorem dX2_chance_48 : decode cX2_chance 48 = .ok (.bipush (-3), 2) := dk_16 253 (dk_at dksX2_chance_2 0 rfl rfl)
theorem dX2_chance_50 : decode cX2_chance 50 = .ok (.invokevirtual 239, 3) := dk_182 0 239 (dk_at dksX2_chance_2 2 rfl rfl)
theorem dX2_chance_53 : decode cX2_chance 53 = .ok (.lreturn, 1) := dk_173 (dk_at dksX2_chance_2 5 rfl rfl)
theorem dX2_chance_54 : decode cX2_chance 54 = .ok (.aload_n 0, 1) := dk_42 (dk_at dksX2_chance_2 6 rfl rfl)
theorem dX2_chance_55 : decode cX2_chance 55 = .ok (.invokevirtual 233, 3) := dk_182 0 233 (dk_at dksX2_chance_2 7 rfl rfl)
theorem dX2_chance_58 : decode cX2_chance 58 = .ok (.aload_n 0, 1) := dk_42 (dk_at dksX2_chance_2 10 rfl rfl)
theorem dX2_chance_59 : decode cX2_chance 59 = .ok (.getfield 75, 3) := dk_180 0 75 (dk_at dksX2_chance_2 11 rfl rfl)
theorem dX2_chance_62 : decode cX2_chance 62 = .ok (.bipush 10, 2) := dk_16 10 (dk_at dksX2_chance_2 14 rfl rfl)
theorem dX2_chance_64 : decode cX2_chance 64 = .ok (.iload_n 1, 1) := dk_27 (dk_at dksX2_chance_2 16 rfl rfl)
theorem dX2_chance_65 : decode cX2_chance 65 = .ok (.imul, 1) := dk_104 (dk_at dksX2_chance_2 17 rfl rfl)
theorem dX2_chance_66 : decode cX2_chance 66 = .ok (.iload_n 2, 1) := dk_28 (dk_at dksX2_chance_2 18 rfl rfl)
theorem dX2_chance_67 : decode cX2_chance 67 = .ok (.iadd, 1) := dk_96 (dk_at dksX2_chance_2 19 rfl rfl)
theorem dX2_chance_68 : decode cX2_chance 68 = .ok (.laload, 1) := dk_47 (dk_at dksX2_chance_2 20 rfl rfl)
theorem dX2_chance_69 : decode cX2_chance 69 = .ok (.aload_n 0, 1) := dk_42 (dk_at dksX2_chance_2 21 rfl rfl)
theorem dX2_chance_70 : decode cX2_chance 70 = .ok (.getfield 71, 3) := dk_180 0 71 (dk_at dksX2_chance_3 0 rfl rfl)
theorem dX2_chance_73 : decode cX2_chance 73 = .ok (.iload_n 1, 1) := dk_27 (dk_at dksX2_chance_3 3 rfl rfl)
theorem dX2_chance_74 : decode cX2_chance 74 = .ok (.laload, 1) := dk_47 (dk_at dksX2_chance_3 4 rfl rfl)
theorem dX2_chance_75 : decode cX2_chance 75 = .ok (.iload_n 3, 1) := dk_29 (dk_at dksX2_chance_3 5 rfl rfl)
theorem dX2_chance_76 : decode cX2_chance 76 = .ok (.invokestatic 243, 3) := dk_184 0 243 (dk_at dksX2_chance_3 6 rfl rfl)
theorem dX2_chance_79 : decode cX2_chance 79 = .ok (.lreturn, 1) := dk_173 (dk_at dksX2_chance_3 9 rfl rfl)
abbrev cX2_noLong : ByteArray := prog_18_method_4_code
def yX2_noLong : MethodName := ⟨RX2, "noLong", "(I)J"⟩
def dkwX2_noLong_0 : List UInt8 := [42, 180, 0, 7, 27, 116, 92, 46, 4, 96, 79, 20, 0, 112, 27, 133, 101, 173]
abbrev dktX2_noLong_0 : List UInt8 := dkwX2_noLong_0 ++ []
theorem dksX2_noLong_0 : cX2_noLong.data.toList.drop 0 = dktX2_noLong_0 := by decide +kernel
theorem dX2_noLong_0 : decode cX2_noLong 0 = .ok (.aload_n 0, 1) := dk_42 (dk_at dksX2_noLong_0 0 rfl rfl)
theorem dX2_noLong_1 : decode cX2_noLong 1 = .ok (.getfield 7, 3) := dk_180 0 7 (dk_at dksX2_noLong_0 1 rfl rfl)
theorem dX2_noLong_4 : decode cX2_noLong 4 = .ok (.iload_n 1, 1) := dk_27 (dk_at dksX2_noLong_0 4 rfl rfl)
theorem dX2_noLong_5 : decode cX2_noLong 5 = .ok (.ineg, 1) := dk_116 (dk_at dksX2_noLong_0 5 rfl rfl)
theorem dX2_noLong_6 : decode cX2_noLong 6 = .ok (.dup2, 1) := dk_92 (dk_at dksX2_noLong_0 6 rfl rfl)
theorem dX2_noLong_7 : decode cX2_noLong 7 = .ok (.iaload, 1) := dk_46 (dk_at dksX2_noLong_0 7 rfl rfl)
theorem dX2_noLong_8 : decode cX2_noLong 8 = .ok (.iconst 1, 1) := dk_4 (dk_at dksX2_noLong_0 8 rfl rfl)
theorem dX2_noLong_9 : decode cX2_noLong 9 = .ok (.iadd, 1) := dk_96 (dk_at dksX2_noLong_0 9 rfl rfl)
theorem dX2_noLong_10 : decode cX2_noLong 10 = .ok (.iastore, 1) := dk_79 (dk_at dksX2_noLong_0 10 rfl rfl)
theorem dX2_noLong_11 : decode cX2_noLong 11 = .ok (.ldc2_w 112, 3) := dk_20 0 112 (dk_at dksX2_noLong_0 11 rfl rfl)
theorem dX2_noLong_14 : decode cX2_noLong 14 = .ok (.iload_n 1, 1) := dk_27 (dk_at dksX2_noLong_0 14 rfl rfl)
theorem dX2_noLong_15 : decode cX2_noLong 15 = .ok (.i2l, 1) := dk_133 (dk_at dksX2_noLong_0 15 rfl rfl)
theorem dX2_noLong_16 : decode cX2_noLong 16 = .ok (.lsub, 1) := dk_101 (dk_at dksX2_noLong_0 16 rfl rfl)
theorem dX2_noLong_17 : decode cX2_noLong 17 = .ok (.lreturn, 1) := dk_173 (dk_at dksX2_noLong_0 17 rfl rfl)
abbrev cX2_findShares : ByteArray := prog_18_method_31_code
def yX2_findShares : MethodName := ⟨RX2, "findShares", "()V"⟩
def dkwX2_findShares_10 : List UInt8 := [180, 0, 71, 27, 47, 97, 80, 132, 1, 1, 167, 255, 172, 177]
abbrev dktX2_findShares_10 : List UInt8 := dkwX2_findShares_10 ++ []
def dkwX2_findShares_9 : List UInt8 := [80, 42, 180, 0, 13, 28, 46, 61, 167, 255, 220, 42, 180, 0, 75, 42, 180, 0, 19, 27, 46, 92, 47, 42]
abbrev dktX2_findShares_9 : List UInt8 := dkwX2_findShares_9 ++ dktX2_findShares_10
def dkwX2_findShares_8 : List UInt8 := [42, 180, 0, 75, 16, 10, 28, 104, 42, 180, 0, 19, 27, 46, 96, 92, 47, 42, 180, 0, 71, 27, 47, 97]
abbrev dktX2_findShares_8 : List UInt8 := dkwX2_findShares_8 ++ dktX2_findShares_9
def dkwX2_findShares_7 : List UInt8 := [180, 0, 46, 162, 0, 82, 42, 180, 0, 19, 27, 46, 154, 0, 6, 167, 0, 64, 27, 61, 28, 158, 0, 38]
abbrev dktX2_findShares_7 : List UInt8 := dkwX2_findShares_7 ++ dktX2_findShares_8
def dkwX2_findShares_6 : List UInt8 := [180, 0, 46, 104, 162, 0, 16, 42, 180, 0, 75, 27, 9, 80, 132, 1, 1, 167, 255, 235, 4, 60, 27, 42]
abbrev dktX2_findShares_6 : List UInt8 := dkwX2_findShares_6 ++ dktX2_findShares_7
def dkwX2_findShares_5 : List UInt8 := [42, 180, 0, 16, 27, 46, 28, 108, 133, 105, 80, 132, 1, 1, 167, 255, 193, 3, 60, 27, 16, 10, 42]
abbrev dktX2_findShares_5 : List UInt8 := dkwX2_findShares_5 ++ dktX2_findShares_6
def dkwX2_findShares_4 : List UInt8 := [180, 0, 71, 42, 180, 0, 13, 27, 46, 47, 42, 42, 180, 0, 13, 27, 46, 182, 0, 198, 28, 108, 133, 109]
abbrev dktX2_findShares_4 : List UInt8 := dkwX2_findShares_4 ++ dktX2_findShares_5
def dkwX2_findShares_3 : List UInt8 := [180, 0, 46, 162, 0, 61, 42, 42, 180, 0, 13, 27, 46, 182, 0, 201, 61, 42, 180, 0, 71, 27, 42]
abbrev dktX2_findShares_3 : List UInt8 := dkwX2_findShares_3 ++ dktX2_findShares_4
def dkwX2_findShares_2 : List UInt8 := [181, 0, 194, 132, 1, 1, 167, 255, 211, 42, 180, 0, 71, 3, 42, 180, 0, 194, 80, 4, 60, 27, 42]
abbrev dktX2_findShares_2 : List UInt8 := dkwX2_findShares_2 ++ dktX2_findShares_3
def dkwX2_findShares_1 : List UInt8 := [27, 46, 154, 0, 18, 42, 27, 182, 0, 198, 42, 27, 182, 0, 201, 108, 133, 167, 0, 4, 10, 105]
abbrev dktX2_findShares_1 : List UInt8 := dkwX2_findShares_1 ++ dktX2_findShares_2
def dkwX2_findShares_0 : List UInt8 := [42, 10, 181, 0, 194, 3, 60, 27, 42, 180, 0, 46, 162, 0, 43, 42, 89, 180, 0, 194, 42, 180, 0, 19]
abbrev dktX2_findShares_0 : List UInt8 := dkwX2_findShares_0 ++ dktX2_findShares_1
theorem dksX2_findShares_0 : cX2_findShares.data.toList.drop 0 = dktX2_findShares_0 := by decide +kernel
theorem dksX2_findShares_1 : cX2_findShares.data.toList.drop 24 = dktX2_findShares_1 := dk_seg dksX2_findShares_0 24 rfl rfl
theorem dksX2_findShares_2 : cX2_findShares.data.toList.drop 46 = dktX2_findShares_2 := dk_seg dksX2_findShares_1 22 rfl rfl
theorem dksX2_findShares_3 : cX2_findShares.data.toList.drop 69 = dktX2_findShares_3 := dk_seg dksX2_findShares_2 23 rfl rfl
theorem dksX2_findShares_4 : cX2_findShares.data.toList.drop 92 = dktX2_findShares_4 := dk_seg dksX2_findShares_3 23 rfl rfl
theorem dksX2_findShares_5 : cX2_findShares.data.toList.drop 116 = dktX2_findShares_5 := dk_seg dksX2_findShares_4 24 rfl rfl
theorem dksX2_findShares_6 : cX2_findShares.data.toList.drop 139 = dktX2_findShares_6 := dk_seg dksX2_findShares_5 23 rfl rfl
theorem dksX2_findShares_7 : cX2_findShares.data.toList.drop 163 = dktX2_findShares_7 := dk_seg dksX2_findShares_6 24 rfl rfl
theorem dksX2_findShares_8 : cX2_findShares.data.toList.drop 187 = dktX2_findShares_8 := dk_seg dksX2_findShares_7 24 rfl rfl
theorem dksX2_findShares_9 : cX2_findShares.data.toList.drop 211 = dktX2_findShares_9 := dk_seg dksX2_findShares_8 24 rfl rfl
theorem dksX2_findShares_10 : cX2_findShares.data.toList.drop 235 = dktX2_findShares_10 := dk_seg dksX2_findShares_9 24 rfl rfl
theorem dX2_findShares_0 : decode cX2_findShares 0 = .ok (.aload_n 0, 1) := dk_42 (dk_at dksX2_findShares_0 0 rfl rfl)
theorem dX2_findShares_1 : decode cX2_findShares 1 = .ok (.lconst 1, 1) := dk_10 (dk_at dksX2_findShares_0 1 rfl rfl)
theorem dX2_findShares_2 : decode cX2_findShares 2 = .ok (.putfield 194, 3) := dk_181 0 194 (dk_at dksX2_findShares_0 2 rfl rfl)
theorem dX2_findShares_5 : decode cX2_findShares 5 = .ok (.iconst 0, 1) := dk_3 (dk_at dksX2_findShares_0 5 rfl rfl)
theorem dX2_findShares_6 : decode cX2_findShares 6 = .ok (.istore_n 1, 1) := dk_60 (dk_at dksX2_findShares_0 6 rfl rfl)
theorem dX2_findShares_7 : decode cX2_findShares 7 = .ok (.iload_n 1, 1) := dk_27 (dk_at dksX2_findShares_0 7 rfl rfl)
theorem dX2_findShares_8 : decode cX2_findShares 8 = .ok (.aload_n 0, 1) := dk_42 (dk_at dksX2_findShares_0 8 rfl rfl)
theorem dX2_findShares_9 : decode cX2_findShares 9 = .ok (.getfield 46, 3) := dk_180 0 46 (dk_at dksX2_findShares_0 9 rfl rfl)
theorem dX2_findShares_12 : decode cX2_findShares 12 = .ok (.if_icmp .ge 43, 3) := dk_162 0 43 (dk_at dksX2_findShares_0 12 rfl rfl)
theorem dX2_findShares_15 : decode cX2_findShares 15 = .ok (.aload_n 0, 1) := dk_42 (dk_at dksX2_findShares_0 15 rfl rfl)
theorem dX2_findShares_16 : decode cX2_findShares 16 = .ok (.dup, 1) := dk_89 (dk_at dksX2_findShares_0 16 rfl rfl)
theorem dX2_findShares_17 : decode cX2_findShares 17 = .ok (.getfield 194, 3) := dk_180 0 194 (dk_at dksX2_findShares_0 17 rfl rfl)
theorem dX2_findShares_20 : decode cX2_findShares 20 = .ok (.aload_n 0, 1) := dk_42 (dk_at dksX2_findShares_0 20 rfl rfl)
theorem dX2_findShares_21 : decode cX2_findShares 21 = .ok (.getfield 19, 3) := dk_180 0 19 (dk_at dksX2_findShares_0 21 rfl rfl)
theorem dX2_findShares_24 : decode cX2_findShares 24 = .ok (.iload_n 1, 1) := dk_27 (dk_at dksX2_findShares_1 0 rfl rfl)
theorem dX2_findShares_25 : decode cX2_findShares 25 = .ok (.iaload, 1) := dk_46 (dk_at dksX2_findShares_1 1 rfl rfl)
theorem dX2_findShares_26 : decode cX2_findShares 26 = .ok (.ifCond .ne 18, 3) := dk_154 0 18 (dk_at dksX2_findShares_1 2 rfl rfl)
theorem dX2_findShares_29 : decode cX2_findShares 29 = .ok (.aload_n 0, 1) := dk_42 (dk_at dksX2_findShares_1 5 rfl rfl)
theorem dX2_findShares_30 : decode cX2_findShares 30 = .ok (.iload_n 1, 1) := dk_27 (dk_at dksX2_findShares_1 6 rfl rfl)
theorem dX2_findShares_31 : decode cX2_findShares 31 = .ok (.invokevirtual 198, 3) := dk_182 0 198 (dk_at dksX2_findShares_1 7 rfl rfl)
theorem dX2_findShares_34 : decode cX2_findShares 34 = .ok (.aload_n 0, 1) := dk_42 (dk_at dksX2_findShares_1 10 rfl rfl)
theorem dX2_findShares_35 : decode cX2_findShares 35 = .ok (.iload_n 1, 1) := dk_27 (dk_at dksX2_findShares_1 11 rfl rfl)
theorem dX2_findShares_36 : decode cX2_findShares 36 = .ok (.invokevirtual 201, 3) := dk_182 0 201 (dk_at dksX2_findShares_1 12 rfl rfl)
theorem dX2_findShares_39 : decode cX2_findShares 39 = .ok (.idiv, 1) := dk_108 (dk_at dksX2_findShares_1 15 rfl rfl)
theorem dX2_findShares_40 : decode cX2_findShares 40 = .ok (.i2l, 1) := dk_133 (dk_at dksX2_findShares_1 16 rfl rfl)
theorem dX2_findShares_41 : decode cX2_findShares 41 = .ok (.goto 4, 3) := dk_167 0 4 (dk_at dksX2_findShares_1 17 rfl rfl)
theorem dX2_findShares_44 : decode cX2_findShares 44 = .ok (.lconst 1, 1) := dk_10 (dk_at dksX2_findShares_1 20 rfl rfl)
theorem dX2_findShares_45 : decode cX2_findShares 45 = .ok (.lmul, 1) := dk_105 (dk_at dksX2_findShares_1 21 rfl rfl)
theorem dX2_findShares_46 : decode cX2_findShares 46 = .ok (.putfield 194, 3) := dk_181 0 194 (dk_at dksX2_findShares_2 0 rfl rfl)
theorem dX2_findShares_49 : decode cX2_findShares 49 = .ok (.iinc 1 1, 3) := dk_132 1 1 (dk_at dksX2_findShares_2 3 rfl rfl)
theorem dX2_findShares_52 : decode cX2_findShares 52 = .ok (.goto (-45), 3) := dk_167 255 211 (dk_at dksX2_findShares_2 6 rfl rfl)
theorem dX2_findShares_55 : decode cX2_findShares 55 = .ok (.aload_n 0, 1) := dk_42 (dk_at dksX2_findShares_2 9 rfl rfl)
theorem dX2_findShares_56 : decode cX2_findShares 56 = .ok (.getfield 71, 3) := dk_180 0 71 (dk_at dksX2_findShares_2 10 rfl rfl)
theorem dX2_findShares_59 : decode cX2_findShares 59 = .ok (.iconst 0, 1) := dk_3 (dk_at dksX2_findShares_2 13 rfl rfl)
theorem dX2_findShares_60 : decode cX2_findShares 60 = .ok (.aload_n 0, 1) := dk_42 (dk_at dksX2_findShares_2 14 rfl rfl)
theorem dX2_findShares_61 : decode cX2_findShares 61 = .ok (.getfield 194, 3) := dk_180 0 194 (dk_at dksX2_findShares_2 15 rfl rfl)
theorem dX2_findShares_64 : decode cX2_findShares 64 = .ok (.lastore, 1) := dk_80 (dk_at dksX2_findShares_2 18 rfl rfl)
theorem dX2_findShares_65 : decode cX2_findShares 65 = .ok (.iconst 1, 1) := dk_4 (dk_at dksX2_findShares_2 19 rfl rfl)
theorem dX2_findShares_66 : decode cX2_findShares 66 = .ok (.istore_n 1, 1) := dk_60 (dk_at dksX2_findShares_2 20 rfl rfl)
theorem dX2_findShares_67 : decode cX2_findShares 67 = .ok (.iload_n 1, 1) := dk_27 (dk_at dksX2_findShares_2 21 rfl rfl)
theorem dX2_findShares_68 : decode cX2_findShares 68 = .ok (.aload_n 0, 1) := dk_42 (dk_at dksX2_findShares_2 22 rfl rfl)
theorem dX2_findShares_69 : decode cX2_findShares 69 = .ok (.getfield 46, 3) := dk_180 0 46 (dk_at dksX2_findShares_3 0 rfl rfl)
theorem dX2_findShares_72 : decode cX2_findShares 72 = .ok (.if_icmp .ge 61, 3) := dk_162 0 61 (dk_at dksX2_findShares_3 3 rfl rfl)
theorem dX2_findShares_75 : decode cX2_findShares 75 = .ok (.aload_n 0, 1) := dk_42 (dk_at dksX2_findShares_3 6 rfl rfl)
theorem dX2_findShares_76 : decode cX2_findShares 76 = .ok (.aload_n 0, 1) := dk_42 (dk_at dksX2_findShares_3 7 rfl rfl)
theorem dX2_findShares_77 : decode cX2_findShares 77 = .ok (.getfield 13, 3) := dk_180 0 13 (dk_at dksX2_findShares_3 8 rfl rfl)
theorem dX2_findShares_80 : decode cX2_findShares 80 = .ok (.iload_n 1, 1) := dk_27 (dk_at dksX2_findShares_3 11 rfl rfl)
theorem dX2_findShares_81 : decode cX2_findShares 81 = .ok (.iaload, 1) := dk_46 (dk_at dksX2_findShares_3 12 rfl rfl)
theorem dX2_findShares_82 : decode cX2_findShares 82 = .ok (.invokevirtual 201, 3) := dk_182 0 201 (dk_at dksX2_findShares_3 13 rfl rfl)
theorem dX2_findShares_85 : decode cX2_findShares 85 = .ok (.istore_n 2, 1) := dk_61 (dk_at dksX2_findShares_3 16 rfl rfl)
theorem dX2_findShares_86 : decode cX2_findShares 86 = .ok (.aload_n 0, 1) := dk_42 (dk_at dksX2_findShares_3 17 rfl rfl)
theorem dX2_findShares_87 : decode cX2_findShares 87 = .ok (.getfield 71, 3) := dk_180 0 71 (dk_at dksX2_findShares_3 18 rfl rfl)
theorem dX2_findShares_90 : decode cX2_findShares 90 = .ok (.iload_n 1, 1) := dk_27 (dk_at dksX2_findShares_3 21 rfl rfl)
theorem dX2_findShares_91 : decode cX2_findShares 91 = .ok (.aload_n 0, 1) := dk_42 (dk_at dksX2_findShares_3 22 rfl rfl)
theorem dX2_findShares_92 : decode cX2_findShares 92 = .ok (.getfield 71, 3) := dk_180 0 71 (dk_at dksX2_findShares_4 0 rfl rfl)
theorem dX2_findShares_95 : decode cX2_findShares 95 = .ok (.aload_n 0, 1) := dk_42 (dk_at dksX2_findShares_4 3 rfl rfl)
theorem dX2_findShares_96 : decode cX2_findShares 96 = .ok (.getfield 13, 3) := dk_180 0 13 (dk_at dksX2_findShares_4 4 rfl rfl)
theorem dX2_findShares_99 : decode cX2_findShares 99 = .ok (.iload_n 1, 1) := dk_27 (dk_at dksX2_findShares_4 7 rfl rfl)
theorem dX2_findShares_100 : decode cX2_findShares 100 = .ok (.iaload, 1) := dk_46 (dk_at dksX2_findShares_4 8 rfl rfl)
theorem dX2_findShares_101 : decode cX2_findShares 101 = .ok (.laload, 1) := dk_47 (dk_at dksX2_findShares_4 9 rfl rfl)
theorem dX2_findShares_102 : decode cX2_findShares 102 = .ok (.aload_n 0, 1) := dk_42 (dk_at dksX2_findShares_4 10 rfl rfl)
theorem dX2_findShares_103 : decode cX2_findShares 103 = .ok (.aload_n 0, 1) := dk_42 (dk_at dksX2_findShares_4 11 rfl rfl)
theorem dX2_findShares_104 : decode cX2_findShares 104 = .ok (.getfield 13, 3) := dk_180 0 13 (dk_at dksX2_findShares_4 12 rfl rfl)
theorem dX2_findShares_107 : decode cX2_findShares 107 = .ok (.iload_n 1, 1) := dk_27 (dk_at dksX2_findShares_4 15 rfl rfl)
theorem dX2_findShares_108 : decode cX2_findShares 108 = .ok (.iaload, 1) := dk_46 (dk_at dksX2_findShares_4 16 rfl rfl)
theorem dX2_findShares_109 : decode cX2_findShares 109 = .ok (.invokevirtual 198, 3) := dk_182 0 198 (dk_at dksX2_findShares_4 17 rfl rfl)
theorem dX2_findShares_112 : decode cX2_findShares 112 = .ok (.iload_n 2, 1) := dk_28 (dk_at dksX2_findShares_4 20 rfl rfl)
theorem dX2_findShares_113 : decode cX2_findShares 113 = .ok (.idiv, 1) := dk_108 (dk_at dksX2_findShares_4 21 rfl rfl)
theorem dX2_findShares_114 : decode cX2_findShares 114 = .ok (.i2l, 1) := dk_133 (dk_at dksX2_findShares_4 22 rfl rfl)
theorem dX2_findShares_115 : decode cX2_findShares 115 = .ok (.ldiv, 1) := dk_109 (dk_at dksX2_findShares_4 23 rfl rfl)
theorem dX2_findShares_116 : decode cX2_findShares 116 = .ok (.aload_n 0, 1) := dk_42 (dk_at dksX2_findShares_5 0 rfl rfl)
theorem dX2_findShares_117 : decode cX2_findShares 117 = .ok (.getfield 16, 3) := dk_180 0 16 (dk_at dksX2_findShares_5 1 rfl rfl)
theorem dX2_findShares_120 : decode cX2_findShares 120 = .ok (.iload_n 1, 1) := dk_27 (dk_at dksX2_findShares_5 4 rfl rfl)
theorem dX2_findShares_121 : decode cX2_findShares 121 = .ok (.iaload, 1) := dk_46 (dk_at dksX2_findShares_5 5 rfl rfl)
theorem dX2_findShares_122 : decode cX2_findShares 122 = .ok (.iload_n 2, 1) := dk_28 (dk_at dksX2_findShares_5 6 rfl rfl)
theorem dX2_findShares_123 : decode cX2_findShares 123 = .ok (.idiv, 1) := dk_108 (dk_at dksX2_findShares_5 7 rfl rfl)
theorem dX2_findShares_124 : decode cX2_findShares 124 = .ok (.i2l, 1) := dk_133 (dk_at dksX2_findShares_5 8 rfl rfl)
theorem dX2_findShares_125 : decode cX2_findShares 125 = .ok (.lmul, 1) := dk_105 (dk_at dksX2_findShares_5 9 rfl rfl)
theorem dX2_findShares_126 : decode cX2_findShares 126 = .ok (.lastore, 1) := dk_80 (dk_at dksX2_findShares_5 10 rfl rfl)
theorem dX2_findShares_127 : decode cX2_findShares 127 = .ok (.iinc 1 1, 3) := dk_132 1 1 (dk_at dksX2_findShares_5 11 rfl rfl)
theorem dX2_findShares_130 : decode cX2_findShares 130 = .ok (.goto (-63), 3) := dk_167 255 193 (dk_at dksX2_findShares_5 14 rfl rfl)
theorem dX2_findShares_133 : decode cX2_findShares 133 = .ok (.iconst 0, 1) := dk_3 (dk_at dksX2_findShares_5 17 rfl rfl)
theorem dX2_findShares_134 : decode cX2_findShares 134 = .ok (.istore_n 1, 1) := dk_60 (dk_at dksX2_findShares_5 18 rfl rfl)
theorem dX2_findShares_135 : decode cX2_findShares 135 = .ok (.iload_n 1, 1) := dk_27 (dk_at dksX2_findShares_5 19 rfl rfl)
theorem dX2_findShares_136 : decode cX2_findShares 136 = .ok (.bipush 10, 2) := dk_16 10 (dk_at dksX2_findShares_5 20 rfl rfl)
theorem dX2_findShares_138 : decode cX2_findShares 138 = .ok (.aload_n 0, 1) := dk_42 (dk_at dksX2_findShares_5 22 rfl rfl)
theorem dX2_findShares_139 : decode cX2_findShares 139 = .ok (.getfield 46, 3) := dk_180 0 46 (dk_at dksX2_findShares_6 0 rfl rfl)
theorem dX2_findShares_142 : decode cX2_findShares 142 = .ok (.imul, 1) := dk_104 (dk_at dksX2_findShares_6 3 rfl rfl)
theorem dX2_findShares_143 : decode cX2_findShares 143 = .ok (.if_icmp .ge 16, 3) := dk_162 0 16 (dk_at dksX2_findShares_6 4 rfl rfl)
theorem dX2_findShares_146 : decode cX2_findShares 146 = .ok (.aload_n 0, 1) := dk_42 (dk_at dksX2_findShares_6 7 rfl rfl)
theorem dX2_findShares_147 : decode cX2_findShares 147 = .ok (.getfield 75, 3) := dk_180 0 75 (dk_at dksX2_findShares_6 8 rfl rfl)
theorem dX2_findShares_150 : decode cX2_findShares 150 = .ok (.iload_n 1, 1) := dk_27 (dk_at dksX2_findShares_6 11 rfl rfl)
theorem dX2_findShares_151 : decode cX2_findShares 151 = .ok (.lconst 0, 1) := dk_9 (dk_at dksX2_findShares_6 12 rfl rfl)
theorem dX2_findShares_152 : decode cX2_findShares 152 = .ok (.lastore, 1) := dk_80 (dk_at dksX2_findShares_6 13 rfl rfl)
theorem dX2_findShares_153 : decode cX2_findShares 153 = .ok (.iinc 1 1, 3) := dk_132 1 1 (dk_at dksX2_findShares_6 14 rfl rfl)
theorem dX2_findShares_156 : decode cX2_findShares 156 = .ok (.goto (-21), 3) := dk_167 255 235 (dk_at dksX2_findShares_6 17 rfl rfl)
theorem dX2_findShares_159 : decode cX2_findShares 159 = .ok (.iconst 1, 1) := dk_4 (dk_at dksX2_findShares_6 20 rfl rfl)
theorem dX2_findShares_160 : decode cX2_findShares 160 = .ok (.istore_n 1, 1) := dk_60 (dk_at dksX2_findShares_6 21 rfl rfl)
theorem dX2_findShares_161 : decode cX2_findShares 161 = .ok (.iload_n 1, 1) := dk_27 (dk_at dksX2_findShares_6 22 rfl rfl)
theorem dX2_findShares_162 : decode cX2_findShares 162 = .ok (.aload_n 0, 1) := dk_42 (dk_at dksX2_findShares_6 23 rfl rfl)
theorem dX2_findShares_163 : decode cX2_findShares 163 = .ok (.getfield 46, 3) := dk_180 0 46 (dk_at dksX2_findShares_7 0 rfl rfl)
theorem dX2_findShares_166 : decode cX2_findShares 166 = .ok (.if_icmp .ge 82, 3) := dk_162 0 82 (dk_at dksX2_findShares_7 3 rfl rfl)
theorem dX2_findShares_169 : decode cX2_findShares 169 = .ok (.aload_n 0, 1) := dk_42 (dk_at dksX2_findShares_7 6 rfl rfl)
theorem dX2_findShares_170 : decode cX2_findShares 170 = .ok (.getfield 19, 3) := dk_180 0 19 (dk_at dksX2_findShares_7 7 rfl rfl)
theorem dX2_findShares_173 : decode cX2_findShares 173 = .ok (.iload_n 1, 1) := dk_27 (dk_at dksX2_findShares_7 10 rfl rfl)
theorem dX2_findShares_174 : decode cX2_findShares 174 = .ok (.iaload, 1) := dk_46 (dk_at dksX2_findShares_7 11 rfl rfl)
theorem dX2_findShares_175 : decode cX2_findShares 175 = .ok (.ifCond .ne 6, 3) := dk_154 0 6 (dk_at dksX2_findShares_7 12 rfl rfl)
theorem dX2_findShares_178 : decode cX2_findShares 178 = .ok (.goto 64, 3) := dk_167 0 64 (dk_at dksX2_findShares_7 15 rfl rfl)
theorem dX2_findShares_181 : decode cX2_findShares 181 = .ok (.iload_n 1, 1) := dk_27 (dk_at dksX2_findShares_7 18 rfl rfl)
theorem dX2_findShares_182 : decode cX2_findShares 182 = .ok (.istore_n 2, 1) := dk_61 (dk_at dksX2_findShares_7 19 rfl rfl)
theorem dX2_findShares_183 : decode cX2_findShares 183 = .ok (.iload_n 2, 1) := dk_28 (dk_at dksX2_findShares_7 20 rfl rfl)
theorem dX2_findShares_184 : decode cX2_findShares 184 = .ok (.ifCond .le 38, 3) := dk_158 0 38 (dk_at dksX2_findShares_7 21 rfl rfl)
theorem dX2_findShares_187 : decode cX2_findShares 187 = .ok (.aload_n 0, 1) := dk_42 (dk_at dksX2_findShares_8 0 rfl rfl)
theorem dX2_findShares_188 : decode cX2_findShares 188 = .ok (.getfield 75, 3) := dk_180 0 75 (dk_at dksX2_findShares_8 1 rfl rfl)
theorem dX2_findShares_191 : decode cX2_findShares 191 = .ok (.bipush 10, 2) := dk_16 10 (dk_at dksX2_findShares_8 4 rfl rfl)
theorem dX2_findShares_193 : decode cX2_findShares 193 = .ok (.iload_n 2, 1) := dk_28 (dk_at dksX2_findShares_8 6 rfl rfl)
theorem dX2_findShares_194 : decode cX2_findShares 194 = .ok (.imul, 1) := dk_104 (dk_at dksX2_findShares_8 7 rfl rfl)
theorem dX2_findShares_195 : decode cX2_findShares 195 = .ok (.aload_n 0, 1) := dk_42 (dk_at dksX2_findShares_8 8 rfl rfl)
theorem dX2_findShares_196 : decode cX2_findShares 196 = .ok (.getfield 19, 3) := dk_180 0 19 (dk_at dksX2_findShares_8 9 rfl rfl)
theorem dX2_findShares_199 : decode cX2_findShares 199 = .ok (.iload_n 1, 1) := dk_27 (dk_at dksX2_findShares_8 12 rfl rfl)
theorem dX2_findShares_200 : decode cX2_findShares 200 = .ok (.iaload, 1) := dk_46 (dk_at dksX2_findShares_8 13 rfl rfl)
theorem dX2_findShares_201 : decode cX2_findShares 201 = .ok (.iadd, 1) := dk_96 (dk_at dksX2_findShares_8 14 rfl rfl)
theorem dX2_findShares_202 : decode cX2_findShares 202 = .ok (.dup2, 1) := dk_92 (dk_at dksX2_findShares_8 15 rfl rfl)
theorem dX2_findShares_203 : decode cX2_findShares 203 = .ok (.laload, 1) := dk_47 (dk_at dksX2_findShares_8 16 rfl rfl)
theorem dX2_findShares_204 : decode cX2_findShares 204 = .ok (.aload_n 0, 1) := dk_42 (dk_at dksX2_findShares_8 17 rfl rfl)
theorem dX2_findShares_205 : decode cX2_findShares 205 = .ok (.getfield 71, 3) := dk_180 0 71 (dk_at dksX2_findShares_8 18 rfl rfl)
theorem dX2_findShares_208 : decode cX2_findShares 208 = .ok (.iload_n 1, 1) := dk_27 (dk_at dksX2_findShares_8 21 rfl rfl)
theorem dX2_findShares_209 : decode cX2_findShares 209 = .ok (.laload, 1) := dk_47 (dk_at dksX2_findShares_8 22 rfl rfl)
theorem dX2_findShares_210 : decode cX2_findShares 210 = .ok (.ladd, 1) := dk_97 (dk_at dksX2_findShares_8 23 rfl rfl)
theorem dX2_findShares_211 : decode cX2_findShares 211 = .ok (.lastore, 1) := dk_80 (dk_at dksX2_findShares_9 0 rfl rfl)
theorem dX2_findShares_212 : decode cX2_findShares 212 = .ok (.aload_n 0, 1) := dk_42 (dk_at dksX2_findShares_9 1 rfl rfl)
theorem dX2_findShares_213 : decode cX2_findShares 213 = .ok (.getfield 13, 3) := dk_180 0 13 (dk_at dksX2_findShares_9 2 rfl rfl)
theorem dX2_findShares_216 : decode cX2_findShares 216 = .ok (.iload_n 2, 1) := dk_28 (dk_at dksX2_findShares_9 5 rfl rfl)
theorem dX2_findShares_217 : decode cX2_findShares 217 = .ok (.iaload, 1) := dk_46 (dk_at dksX2_findShares_9 6 rfl rfl)
theorem dX2_findShares_218 : decode cX2_findShares 218 = .ok (.istore_n 2, 1) := dk_61 (dk_at dksX2_findShares_9 7 rfl rfl)
theorem dX2_findShares_219 : decode cX2_findShares 219 = .ok (.goto (-36), 3) := dk_167 255 220 (dk_at dksX2_findShares_9 8 rfl rfl)
theorem dX2_findShares_222 : decode cX2_findShares 222 = .ok (.aload_n 0, 1) := dk_42 (dk_at dksX2_findShares_9 11 rfl rfl)
theorem dX2_findShares_223 : decode cX2_findShares 223 = .ok (.getfield 75, 3) := dk_180 0 75 (dk_at dksX2_findShares_9 12 rfl rfl)
theorem dX2_findShares_226 : decode cX2_findShares 226 = .ok (.aload_n 0, 1) := dk_42 (dk_at dksX2_findShares_9 15 rfl rfl)
theorem dX2_findShares_227 : decode cX2_findShares 227 = .ok (.getfield 19, 3) := dk_180 0 19 (dk_at dksX2_findShares_9 16 rfl rfl)
theorem dX2_findShares_230 : decode cX2_findShares 230 = .ok (.iload_n 1, 1) := dk_27 (dk_at dksX2_findShares_9 19 rfl rfl)
theorem dX2_findShares_231 : decode cX2_findShares 231 = .ok (.iaload, 1) := dk_46 (dk_at dksX2_findShares_9 20 rfl rfl)
theorem dX2_findShares_232 : decode cX2_findShares 232 = .ok (.dup2, 1) := dk_92 (dk_at dksX2_findShares_9 21 rfl rfl)
theorem dX2_findShares_233 : decode cX2_findShares 233 = .ok (.laload, 1) := dk_47 (dk_at dksX2_findShares_9 22 rfl rfl)
theorem dX2_findShares_234 : decode cX2_findShares 234 = .ok (.aload_n 0, 1) := dk_42 (dk_at dksX2_findShares_9 23 rfl rfl)
theorem dX2_findShares_235 : decode cX2_findShares 235 = .ok (.getfield 71, 3) := dk_180 0 71 (dk_at dksX2_findShares_10 0 rfl rfl)
theorem dX2_findShares_238 : decode cX2_findShares 238 = .ok (.iload_n 1, 1) := dk_27 (dk_at dksX2_findShares_10 3 rfl rfl)
theorem dX2_findShares_239 : decode cX2_findShares 239 = .ok (.laload, 1) := dk_47 (dk_at dksX2_findShares_10 4 rfl rfl)
theorem dX2_findShares_240 : decode cX2_findShares 240 = .ok (.ladd, 1) := dk_97 (dk_at dksX2_findShares_10 5 rfl rfl)
theorem dX2_findShares_241 : decode cX2_findShares 241 = .ok (.lastore, 1) := dk_80 (dk_at dksX2_findShares_10 6 rfl rfl)
theorem dX2_findShares_242 : decode cX2_findShares 242 = .ok (.iinc 1 1, 3) := dk_132 1 1 (dk_at dksX2_findShares_10 7 rfl rfl)
theorem dX2_findShares_245 : decode cX2_findShares 245 = .ok (.goto (-84), 3) := dk_167 255 172 (dk_at dksX2_findShares_10 10 rfl rfl)
theorem dX2_findShares_248 : decode cX2_findShares 248 = .ok (.return_, 1) := dk_177 (dk_at dksX2_findShares_10 13 rfl rfl)
abbrev cX2_sumOf : ByteArray := prog_18_method_29_code
def yX2_sumOf : MethodName := ⟨RX2, "sumOf", "(I)I"⟩
def dkwX2_sumOf_1 : List UInt8 := [160, 0, 12, 42, 180, 0, 16, 29, 46, 167, 0, 4, 3, 96, 61, 132, 3, 1, 167, 255, 222, 28, 172]
abbrev dktX2_sumOf_1 : List UInt8 := dkwX2_sumOf_1 ++ []
def dkwX2_sumOf_0 : List UInt8 := [3, 61, 27, 4, 96, 62, 29, 42, 180, 0, 46, 162, 0, 32, 28, 42, 180, 0, 13, 29, 46, 27]
abbrev dktX2_sumOf_0 : List UInt8 := dkwX2_sumOf_0 ++ dktX2_sumOf_1
theorem dksX2_sumOf_0 : cX2_sumOf.data.toList.drop 0 = dktX2_sumOf_0 := by decide +kernel
theorem dksX2_sumOf_1 : cX2_sumOf.data.toList.drop 22 = dktX2_sumOf_1 := dk_seg dksX2_sumOf_0 22 rfl rfl
theorem dX2_sumOf_0 : decode cX2_sumOf 0 = .ok (.iconst 0, 1) := dk_3 (dk_at dksX2_sumOf_0 0 rfl rfl)
theorem dX2_sumOf_1 : decode cX2_sumOf 1 = .ok (.istore_n 2, 1) := dk_61 (dk_at dksX2_sumOf_0 1 rfl rfl)
theorem dX2_sumOf_2 : decode cX2_sumOf 2 = .ok (.iload_n 1, 1) := dk_27 (dk_at dksX2_sumOf_0 2 rfl rfl)
theorem dX2_sumOf_3 : decode cX2_sumOf 3 = .ok (.iconst 1, 1) := dk_4 (dk_at dksX2_sumOf_0 3 rfl rfl)
theorem dX2_sumOf_4 : decode cX2_sumOf 4 = .ok (.iadd, 1) := dk_96 (dk_at dksX2_sumOf_0 4 rfl rfl)
theorem dX2_sumOf_5 : decode cX2_sumOf 5 = .ok (.istore_n 3, 1) := dk_62 (dk_at dksX2_sumOf_0 5 rfl rfl)
theorem dX2_sumOf_6 : decode cX2_sumOf 6 = .ok (.iload_n 3, 1) := dk_29 (dk_at dksX2_sumOf_0 6 rfl rfl)
theorem dX2_sumOf_7 : decode cX2_sumOf 7 = .ok (.aload_n 0, 1) := dk_42 (dk_at dksX2_sumOf_0 7 rfl rfl)
theorem dX2_sumOf_8 : decode cX2_sumOf 8 = .ok (.getfield 46, 3) := dk_180 0 46 (dk_at dksX2_sumOf_0 8 rfl rfl)
theorem dX2_sumOf_11 : decode cX2_sumOf 11 = .ok (.if_icmp .ge 32, 3) := dk_162 0 32 (dk_at dksX2_sumOf_0 11 rfl rfl)
theorem dX2_sumOf_14 : decode cX2_sumOf 14 = .ok (.iload_n 2, 1) := dk_28 (dk_at dksX2_sumOf_0 14 rfl rfl)
theorem dX2_sumOf_15 : decode cX2_sumOf 15 = .ok (.aload_n 0, 1) := dk_42 (dk_at dksX2_sumOf_0 15 rfl rfl)
theorem dX2_sumOf_16 : decode cX2_sumOf 16 = .ok (.getfield 13, 3) := dk_180 0 13 (dk_at dksX2_sumOf_0 16 rfl rfl)
theorem dX2_sumOf_19 : decode cX2_sumOf 19 = .ok (.iload_n 3, 1) := dk_29 (dk_at dksX2_sumOf_0 19 rfl rfl)
theorem dX2_sumOf_20 : decode cX2_sumOf 20 = .ok (.iaload, 1) := dk_46 (dk_at dksX2_sumOf_0 20 rfl rfl)
theorem dX2_sumOf_21 : decode cX2_sumOf 21 = .ok (.iload_n 1, 1) := dk_27 (dk_at dksX2_sumOf_0 21 rfl rfl)
theorem dX2_sumOf_22 : decode cX2_sumOf 22 = .ok (.if_icmp .ne 12, 3) := dk_160 0 12 (dk_at dksX2_sumOf_1 0 rfl rfl)
theorem dX2_sumOf_25 : decode cX2_sumOf 25 = .ok (.aload_n 0, 1) := dk_42 (dk_at dksX2_sumOf_1 3 rfl rfl)
theorem dX2_sumOf_26 : decode cX2_sumOf 26 = .ok (.getfield 16, 3) := dk_180 0 16 (dk_at dksX2_sumOf_1 4 rfl rfl)
theorem dX2_sumOf_29 : decode cX2_sumOf 29 = .ok (.iload_n 3, 1) := dk_29 (dk_at dksX2_sumOf_1 7 rfl rfl)
theorem dX2_sumOf_30 : decode cX2_sumOf 30 = .ok (.iaload, 1) := dk_46 (dk_at dksX2_sumOf_1 8 rfl rfl)
theorem dX2_sumOf_31 : decode cX2_sumOf 31 = .ok (.goto 4, 3) := dk_167 0 4 (dk_at dksX2_sumOf_1 9 rfl rfl)
theorem dX2_sumOf_34 : decode cX2_sumOf 34 = .ok (.iconst 0, 1) := dk_3 (dk_at dksX2_sumOf_1 12 rfl rfl)
theorem dX2_sumOf_35 : decode cX2_sumOf 35 = .ok (.iadd, 1) := dk_96 (dk_at dksX2_sumOf_1 13 rfl rfl)
theorem dX2_sumOf_36 : decode cX2_sumOf 36 = .ok (.istore_n 2, 1) := dk_61 (dk_at dksX2_sumOf_1 14 rfl rfl)
theorem dX2_sumOf_37 : decode cX2_sumOf 37 = .ok (.iinc 3 1, 3) := dk_132 3 1 (dk_at dksX2_sumOf_1 15 rfl rfl)
theorem dX2_sumOf_40 : decode cX2_sumOf 40 = .ok (.goto (-34), 3) := dk_167 255 222 (dk_at dksX2_sumOf_1 18 rfl rfl)
theorem dX2_sumOf_43 : decode cX2_sumOf 43 = .ok (.iload_n 2, 1) := dk_28 (dk_at dksX2_sumOf_1 21 rfl rfl)
theorem dX2_sumOf_44 : decode cX2_sumOf 44 = .ok (.ireturn, 1) := dk_172 (dk_at dksX2_sumOf_1 22 rfl rfl)
abbrev cX2_commonOf : ByteArray := prog_18_method_30_code
def yX2_commonOf : MethodName := ⟨RX2, "commonOf", "(I)I"⟩
def dkwX2_commonOf_2 : List UInt8 := [28, 172]
abbrev dktX2_commonOf_2 : List UInt8 := dkwX2_commonOf_2 ++ []
def dkwX2_commonOf_1 : List UInt8 := [42, 180, 0, 16, 29, 46, 133, 28, 133, 184, 0, 190, 136, 167, 0, 4, 28, 61, 132, 3, 1, 167, 255, 217]
abbrev dktX2_commonOf_1 : List UInt8 := dkwX2_commonOf_1 ++ dktX2_commonOf_2
def dkwX2_commonOf_0 : List UInt8 := [3, 61, 27, 4, 96, 62, 29, 42, 180, 0, 46, 162, 0, 37, 42, 180, 0, 13, 29, 46, 27, 160, 0, 19]
abbrev dktX2_commonOf_0 : List UInt8 := dkwX2_commonOf_0 ++ dktX2_commonOf_1
theorem dksX2_commonOf_0 : cX2_commonOf.data.toList.drop 0 = dktX2_commonOf_0 := by decide +kernel
theorem dksX2_commonOf_1 : cX2_commonOf.data.toList.drop 24 = dktX2_commonOf_1 := dk_seg dksX2_commonOf_0 24 rfl rfl
theorem dksX2_commonOf_2 : cX2_commonOf.data.toList.drop 48 = dktX2_commonOf_2 := dk_seg dksX2_commonOf_1 24 rfl rfl
theorem dX2_commonOf_0 : decode cX2_commonOf 0 = .ok (.iconst 0, 1) := dk_3 (dk_at dksX2_commonOf_0 0 rfl rfl)
theorem dX2_commonOf_1 : decode cX2_commonOf 1 = .ok (.istore_n 2, 1) := dk_61 (dk_at dksX2_commonOf_0 1 rfl rfl)
theorem dX2_commonOf_2 : decode cX2_commonOf 2 = .ok (.iload_n 1, 1) := dk_27 (dk_at dksX2_commonOf_0 2 rfl rfl)
theorem dX2_commonOf_3 : decode cX2_commonOf 3 = .ok (.iconst 1, 1) := dk_4 (dk_at dksX2_commonOf_0 3 rfl rfl)
theorem dX2_commonOf_4 : decode cX2_commonOf 4 = .ok (.iadd, 1) := dk_96 (dk_at dksX2_commonOf_0 4 rfl rfl)
theorem dX2_commonOf_5 : decode cX2_commonOf 5 = .ok (.istore_n 3, 1) := dk_62 (dk_at dksX2_commonOf_0 5 rfl rfl)
theorem dX2_commonOf_6 : decode cX2_commonOf 6 = .ok (.iload_n 3, 1) := dk_29 (dk_at dksX2_commonOf_0 6 rfl rfl)
theorem dX2_commonOf_7 : decode cX2_commonOf 7 = .ok (.aload_n 0, 1) := dk_42 (dk_at dksX2_commonOf_0 7 rfl rfl)
theorem dX2_commonOf_8 : decode cX2_commonOf 8 = .ok (.getfield 46, 3) := dk_180 0 46 (dk_at dksX2_commonOf_0 8 rfl rfl)
theorem dX2_commonOf_11 : decode cX2_commonOf 11 = .ok (.if_icmp .ge 37, 3) := dk_162 0 37 (dk_at dksX2_commonOf_0 11 rfl rfl)
theorem dX2_commonOf_14 : decode cX2_commonOf 14 = .ok (.aload_n 0, 1) := dk_42 (dk_at dksX2_commonOf_0 14 rfl rfl)
theorem dX2_commonOf_15 : decode cX2_commonOf 15 = .ok (.getfield 13, 3) := dk_180 0 13 (dk_at dksX2_commonOf_0 15 rfl rfl)
theorem dX2_commonOf_18 : decode cX2_commonOf 18 = .ok (.iload_n 3, 1) := dk_29 (dk_at dksX2_commonOf_0 18 rfl rfl)
theorem dX2_commonOf_19 : decode cX2_commonOf 19 = .ok (.iaload, 1) := dk_46 (dk_at dksX2_commonOf_0 19 rfl rfl)
theorem dX2_commonOf_20 : decode cX2_commonOf 20 = .ok (.iload_n 1, 1) := dk_27 (dk_at dksX2_commonOf_0 20 rfl rfl)
theorem dX2_commonOf_21 : decode cX2_commonOf 21 = .ok (.if_icmp .ne 19, 3) := dk_160 0 19 (dk_at dksX2_commonOf_0 21 rfl rfl)
theorem dX2_commonOf_24 : decode cX2_commonOf 24 = .ok (.aload_n 0, 1) := dk_42 (dk_at dksX2_commonOf_1 0 rfl rfl)
theorem dX2_commonOf_25 : decode cX2_commonOf 25 = .ok (.getfield 16, 3) := dk_180 0 16 (dk_at dksX2_commonOf_1 1 rfl rfl)
theorem dX2_commonOf_28 : decode cX2_commonOf 28 = .ok (.iload_n 3, 1) := dk_29 (dk_at dksX2_commonOf_1 4 rfl rfl)
theorem dX2_commonOf_29 : decode cX2_commonOf 29 = .ok (.iaload, 1) := dk_46 (dk_at dksX2_commonOf_1 5 rfl rfl)
theorem dX2_commonOf_30 : decode cX2_commonOf 30 = .ok (.i2l, 1) := dk_133 (dk_at dksX2_commonOf_1 6 rfl rfl)
theorem dX2_commonOf_31 : decode cX2_commonOf 31 = .ok (.iload_n 2, 1) := dk_28 (dk_at dksX2_commonOf_1 7 rfl rfl)
theorem dX2_commonOf_32 : decode cX2_commonOf 32 = .ok (.i2l, 1) := dk_133 (dk_at dksX2_commonOf_1 8 rfl rfl)
theorem dX2_commonOf_33 : decode cX2_commonOf 33 = .ok (.invokestatic 190, 3) := dk_184 0 190 (dk_at dksX2_commonOf_1 9 rfl rfl)
theorem dX2_commonOf_36 : decode cX2_commonOf 36 = .ok (.l2i, 1) := dk_136 (dk_at dksX2_commonOf_1 12 rfl rfl)
theorem dX2_commonOf_37 : decode cX2_commonOf 37 = .ok (.goto 4, 3) := dk_167 0 4 (dk_at dksX2_commonOf_1 13 rfl rfl)
theorem dX2_commonOf_40 : decode cX2_commonOf 40 = .ok (.iload_n 2, 1) := dk_28 (dk_at dksX2_commonOf_1 16 rfl rfl)
theorem dX2_commonOf_41 : decode cX2_commonOf 41 = .ok (.istore_n 2, 1) := dk_61 (dk_at dksX2_commonOf_1 17 rfl rfl)
theorem dX2_commonOf_42 : decode cX2_commonOf 42 = .ok (.iinc 3 1, 3) := dk_132 3 1 (dk_at dksX2_commonOf_1 18 rfl rfl)
theorem dX2_commonOf_45 : decode cX2_commonOf 45 = .ok (.goto (-39), 3) := dk_167 255 217 (dk_at dksX2_commonOf_1 21 rfl rfl)
theorem dX2_commonOf_48 : decode cX2_commonOf 48 = .ok (.iload_n 2, 1) := dk_28 (dk_at dksX2_commonOf_2 0 rfl rfl)
theorem dX2_commonOf_49 : decode cX2_commonOf 49 = .ok (.ireturn, 1) := dk_172 (dk_at dksX2_commonOf_2 1 rfl rfl)
abbrev cX2_divisor : ByteArray := prog_18_method_28_code
def yX2_divisor : MethodName := ⟨RX2, "divisor", "(JJ)J"⟩
def dkwX2_divisor_1 : List UInt8 := [22, 8, 55, 6, 167, 255, 234, 22, 4, 173]
abbrev dktX2_divisor_1 : List UInt8 := dkwX2_divisor_1 ++ []
def dkwX2_divisor_0 : List UInt8 := [30, 55, 4, 32, 55, 6, 22, 6, 9, 148, 153, 0, 21, 22, 4, 22, 6, 113, 55, 8, 22, 6, 55, 4]
abbrev dktX2_divisor_0 : List UInt8 := dkwX2_divisor_0 ++ dktX2_divisor_1
theorem dksX2_divisor_0 : cX2_divisor.data.toList.drop 0 = dktX2_divisor_0 := by decide +kernel
theorem dksX2_divisor_1 : cX2_divisor.data.toList.drop 24 = dktX2_divisor_1 := dk_seg dksX2_divisor_0 24 rfl rfl
theorem dX2_divisor_0 : decode cX2_divisor 0 = .ok (.lload_n 0, 1) := dk_30 (dk_at dksX2_divisor_0 0 rfl rfl)
theorem dX2_divisor_1 : decode cX2_divisor 1 = .ok (.lstore 4, 2) := dk_55 4 (dk_at dksX2_divisor_0 1 rfl rfl)
theorem dX2_divisor_3 : decode cX2_divisor 3 = .ok (.lload_n 2, 1) := dk_32 (dk_at dksX2_divisor_0 3 rfl rfl)
theorem dX2_divisor_4 : decode cX2_divisor 4 = .ok (.lstore 6, 2) := dk_55 6 (dk_at dksX2_divisor_0 4 rfl rfl)
theorem dX2_divisor_6 : decode cX2_divisor 6 = .ok (.lload 6, 2) := dk_22 6 (dk_at dksX2_divisor_0 6 rfl rfl)
theorem dX2_divisor_8 : decode cX2_divisor 8 = .ok (.lconst 0, 1) := dk_9 (dk_at dksX2_divisor_0 8 rfl rfl)
theorem dX2_divisor_9 : decode cX2_divisor 9 = .ok (.lcmp, 1) := dk_148 (dk_at dksX2_divisor_0 9 rfl rfl)
theorem dX2_divisor_10 : decode cX2_divisor 10 = .ok (.ifCond .eq 21, 3) := dk_153 0 21 (dk_at dksX2_divisor_0 10 rfl rfl)
theorem dX2_divisor_13 : decode cX2_divisor 13 = .ok (.lload 4, 2) := dk_22 4 (dk_at dksX2_divisor_0 13 rfl rfl)
theorem dX2_divisor_15 : decode cX2_divisor 15 = .ok (.lload 6, 2) := dk_22 6 (dk_at dksX2_divisor_0 15 rfl rfl)
theorem dX2_divisor_17 : decode cX2_divisor 17 = .ok (.lrem, 1) := dk_113 (dk_at dksX2_divisor_0 17 rfl rfl)
theorem dX2_divisor_18 : decode cX2_divisor 18 = .ok (.lstore 8, 2) := dk_55 8 (dk_at dksX2_divisor_0 18 rfl rfl)
theorem dX2_divisor_20 : decode cX2_divisor 20 = .ok (.lload 6, 2) := dk_22 6 (dk_at dksX2_divisor_0 20 rfl rfl)
theorem dX2_divisor_22 : decode cX2_divisor 22 = .ok (.lstore 4, 2) := dk_55 4 (dk_at dksX2_divisor_0 22 rfl rfl)
theorem dX2_divisor_24 : decode cX2_divisor 24 = .ok (.lload 8, 2) := dk_22 8 (dk_at dksX2_divisor_1 0 rfl rfl)
theorem dX2_divisor_26 : decode cX2_divisor 26 = .ok (.lstore 6, 2) := dk_55 6 (dk_at dksX2_divisor_1 2 rfl rfl)
theorem dX2_divisor_28 : decode cX2_divisor 28 = .ok (.goto (-22), 3) := dk_167 255 234 (dk_at dksX2_divisor_1 4 rfl rfl)
theorem dX2_divisor_31 : decode cX2_divisor 31 = .ok (.lload 4, 2) := dk_22 4 (dk_at dksX2_divisor_1 7 rfl rfl)
theorem dX2_divisor_33 : decode cX2_divisor 33 = .ok (.lreturn, 1) := dk_173 (dk_at dksX2_divisor_1 9 rfl rfl)
abbrev cX2_inLeast : ByteArray := prog_18_method_41_code
def yX2_inLeast : MethodName := ⟨RX2, "inLeast", "(JJI)J"⟩
def dkwX2_inLeast_1 : List UInt8 := [167, 0, 4, 32, 22, 5, 109, 173]
abbrev dktX2_inLeast_1 : List UInt8 := dkwX2_inLeast_1 ++ []
def dkwX2_inLeast_0 : List UInt8 := [30, 9, 148, 156, 0, 8, 30, 117, 167, 0, 4, 30, 32, 184, 0, 190, 55, 5, 21, 4, 154, 0, 7, 30]
abbrev dktX2_inLeast_0 : List UInt8 := dkwX2_inLeast_0 ++ dktX2_inLeast_1
theorem dksX2_inLeast_0 : cX2_inLeast.data.toList.drop 0 = dktX2_inLeast_0 := by decide +kernel
theorem dksX2_inLeast_1 : cX2_inLeast.data.toList.drop 24 = dktX2_inLeast_1 := dk_seg dksX2_inLeast_0 24 rfl rfl
theorem dX2_inLeast_0 : decode cX2_inLeast 0 = .ok (.lload_n 0, 1) := dk_30 (dk_at dksX2_inLeast_0 0 rfl rfl)
theorem dX2_inLeast_1 : decode cX2_inLeast 1 = .ok (.lconst 0, 1) := dk_9 (dk_at dksX2_inLeast_0 1 rfl rfl)
theorem dX2_inLeast_2 : decode cX2_inLeast 2 = .ok (.lcmp, 1) := dk_148 (dk_at dksX2_inLeast_0 2 rfl rfl)
theorem dX2_inLeast_3 : decode cX2_inLeast 3 = .ok (.ifCond .ge 8, 3) := dk_156 0 8 (dk_at dksX2_inLeast_0 3 rfl rfl)
theorem dX2_inLeast_6 : decode cX2_inLeast 6 = .ok (.lload_n 0, 1) := dk_30 (dk_at dksX2_inLeast_0 6 rfl rfl)
theorem dX2_inLeast_7 : decode cX2_inLeast 7 = .ok (.lneg, 1) := dk_117 (dk_at dksX2_inLeast_0 7 rfl rfl)
theorem dX2_inLeast_8 : decode cX2_inLeast 8 = .ok (.goto 4, 3) := dk_167 0 4 (dk_at dksX2_inLeast_0 8 rfl rfl)
theorem dX2_inLeast_11 : decode cX2_inLeast 11 = .ok (.lload_n 0, 1) := dk_30 (dk_at dksX2_inLeast_0 11 rfl rfl)
theorem dX2_inLeast_12 : decode cX2_inLeast 12 = .ok (.lload_n 2, 1) := dk_32 (dk_at dksX2_inLeast_0 12 rfl rfl)
theorem dX2_inLeast_13 : decode cX2_inLeast 13 = .ok (.invokestatic 190, 3) := dk_184 0 190 (dk_at dksX2_inLeast_0 13 rfl rfl)
theorem dX2_inLeast_16 : decode cX2_inLeast 16 = .ok (.lstore 5, 2) := dk_55 5 (dk_at dksX2_inLeast_0 16 rfl rfl)
theorem dX2_inLeast_18 : decode cX2_inLeast 18 = .ok (.iload 4, 2) := dk_21 4 (dk_at dksX2_inLeast_0 18 rfl rfl)
theorem dX2_inLeast_20 : decode cX2_inLeast 20 = .ok (.ifCond .ne 7, 3) := dk_154 0 7 (dk_at dksX2_inLeast_0 20 rfl rfl)
theorem dX2_inLeast_23 : decode cX2_inLeast 23 = .ok (.lload_n 0, 1) := dk_30 (dk_at dksX2_inLeast_0 23 rfl rfl)
theorem dX2_inLeast_24 : decode cX2_inLeast 24 = .ok (.goto 4, 3) := dk_167 0 4 (dk_at dksX2_inLeast_1 0 rfl rfl)
theorem dX2_inLeast_27 : decode cX2_inLeast 27 = .ok (.lload_n 2, 1) := dk_32 (dk_at dksX2_inLeast_1 3 rfl rfl)
theorem dX2_inLeast_28 : decode cX2_inLeast 28 = .ok (.lload 5, 2) := dk_22 5 (dk_at dksX2_inLeast_1 4 rfl rfl)
theorem dX2_inLeast_30 : decode cX2_inLeast 30 = .ok (.ldiv, 1) := dk_109 (dk_at dksX2_inLeast_1 6 rfl rfl)
theorem dX2_inLeast_31 : decode cX2_inLeast 31 = .ok (.lreturn, 1) := dk_173 (dk_at dksX2_inLeast_1 7 rfl rfl)
abbrev cX2_guess : ByteArray := prog_18_method_43_code
def yX2_guess : MethodName := ⟨RX2, "guess", "(II)I"⟩
def dkwX2_guess_2 : List UInt8 := [28, 182, 0, 219, 172]
abbrev dktX2_guess_2 : List UInt8 := dkwX2_guess_2 ++ []
def dkwX2_guess_1 : List UInt8 := [182, 0, 183, 154, 0, 10, 42, 16, 253, 182, 0, 128, 172, 42, 182, 0, 233, 42, 42, 180, 0, 28, 27, 46]
abbrev dktX2_guess_1 : List UInt8 := dkwX2_guess_1 ++ dktX2_guess_2
def dkwX2_guess_0 : List UInt8 := [42, 27, 182, 0, 180, 153, 0, 11, 42, 28, 182, 0, 166, 154, 0, 9, 42, 2, 182, 0, 128, 172, 42]
abbrev dktX2_guess_0 : List UInt8 := dkwX2_guess_0 ++ dktX2_guess_1
theorem dksX2_guess_0 : cX2_guess.data.toList.drop 0 = dktX2_guess_0 := by decide +kernel
theorem dksX2_guess_1 : cX2_guess.data.toList.drop 23 = dktX2_guess_1 := dk_seg dksX2_guess_0 23 rfl rfl
theorem dksX2_guess_2 : cX2_guess.data.toList.drop 47 = dktX2_guess_2 := dk_seg dksX2_guess_1 24 rfl rfl
theorem dX2_guess_0 : decode cX2_guess 0 = .ok (.aload_n 0, 1) := dk_42 (dk_at dksX2_guess_0 0 rfl rfl)
theorem dX2_guess_1 : decode cX2_guess 1 = .ok (.iload_n 1, 1) := dk_27 (dk_at dksX2_guess_0 1 rfl rfl)
theorem dX2_guess_2 : decode cX2_guess 2 = .ok (.invokevirtual 180, 3) := dk_182 0 180 (dk_at dksX2_guess_0 2 rfl rfl)
theorem dX2_guess_5 : decode cX2_guess 5 = .ok (.ifCond .eq 11, 3) := dk_153 0 11 (dk_at dksX2_guess_0 5 rfl rfl)
theorem dX2_guess_8 : decode cX2_guess 8 = .ok (.aload_n 0, 1) := dk_42 (dk_at dksX2_guess_0 8 rfl rfl)
theorem dX2_guess_9 : decode cX2_guess 9 = .ok (.iload_n 2, 1) := dk_28 (dk_at dksX2_guess_0 9 rfl rfl)
theorem dX2_guess_10 : decode cX2_guess 10 = .ok (.invokevirtual 166, 3) := dk_182 0 166 (dk_at dksX2_guess_0 10 rfl rfl)
theorem dX2_guess_13 : decode cX2_guess 13 = .ok (.ifCond .ne 9, 3) := dk_154 0 9 (dk_at dksX2_guess_0 13 rfl rfl)
theorem dX2_guess_16 : decode cX2_guess 16 = .ok (.aload_n 0, 1) := dk_42 (dk_at dksX2_guess_0 16 rfl rfl)
theorem dX2_guess_17 : decode cX2_guess 17 = .ok (.iconst (-1), 1) := dk_2 (dk_at dksX2_guess_0 17 rfl rfl)
theorem dX2_guess_18 : decode cX2_guess 18 = .ok (.invokevirtual 128, 3) := dk_182 0 128 (dk_at dksX2_guess_0 18 rfl rfl)
theorem dX2_guess_21 : decode cX2_guess 21 = .ok (.ireturn, 1) := dk_172 (dk_at dksX2_guess_0 21 rfl rfl)
theorem dX2_guess_22 : decode cX2_guess 22 = .ok (.aload_n 0, 1) := dk_42 (dk_at dksX2_guess_0 22 rfl rfl)
theorem dX2_guess_23 : decode cX2_guess 23 = .ok (.invokevirtual 183, 3) := dk_182 0 183 (dk_at dksX2_guess_1 0 rfl rfl)
theorem dX2_guess_26 : decode cX2_guess 26 = .ok (.ifCond .ne 10, 3) := dk_154 0 10 (dk_at dksX2_guess_1 3 rfl rfl)
theorem dX2_guess_29 : decode cX2_guess 29 = .ok (.aload_n 0, 1) := dk_42 (dk_at dksX2_guess_1 6 rfl rfl)
theorem dX2_guess_30 : decode cX2_guess 30 = .ok (.bipush (-3), 2) := dk_16 253 (dk_at dksX2_guess_1 7 rfl rfl)
theorem dX2_guess_32 : decode cX2_guess 32 = .ok (.invokevirtual 128, 3) := dk_182 0 128 (dk_at dksX2_guess_1 9 rfl rfl)
theorem dX2_guess_35 : decode cX2_guess 35 = .ok (.ireturn, 1) := dk_172 (dk_at dksX2_guess_1 12 rfl rfl)
theorem dX2_guess_36 : decode cX2_guess 36 = .ok (.aload_n 0, 1) := dk_42 (dk_at dksX2_guess_1 13 rfl rfl)
theorem dX2_guess_37 : decode cX2_guess 37 = .ok (.invokevirtual 233, 3) := dk_182 0 233 (dk_at dksX2_guess_1 14 rfl rfl)
theorem dX2_guess_40 : decode cX2_guess 40 = .ok (.aload_n 0, 1) := dk_42 (dk_at dksX2_guess_1 17 rfl rfl)
theorem dX2_guess_41 : decode cX2_guess 41 = .ok (.aload_n 0, 1) := dk_42 (dk_at dksX2_guess_1 18 rfl rfl)
theorem dX2_guess_42 : decode cX2_guess 42 = .ok (.getfield 28, 3) := dk_180 0 28 (dk_at dksX2_guess_1 19 rfl rfl)
theorem dX2_guess_45 : decode cX2_guess 45 = .ok (.iload_n 1, 1) := dk_27 (dk_at dksX2_guess_1 22 rfl rfl)
theorem dX2_guess_46 : decode cX2_guess 46 = .ok (.iaload, 1) := dk_46 (dk_at dksX2_guess_1 23 rfl rfl)
theorem dX2_guess_47 : decode cX2_guess 47 = .ok (.iload_n 2, 1) := dk_28 (dk_at dksX2_guess_2 0 rfl rfl)
theorem dX2_guess_48 : decode cX2_guess 48 = .ok (.invokevirtual 219, 3) := dk_182 0 219 (dk_at dksX2_guess_2 1 rfl rfl)
theorem dX2_guess_51 : decode cX2_guess 51 = .ok (.ireturn, 1) := dk_172 (dk_at dksX2_guess_2 4 rfl rfl)
abbrev cX2_guessOf : ByteArray := prog_18_method_32_code
def yX2_guessOf : MethodName := ⟨RX2, "guessOf", "(II)I"⟩
def dkwX2_guessOf_2 : List UInt8 := [16, 10, 28, 104, 29, 96, 47, 148, 158, 0, 6, 21, 4, 62, 132, 4, 1, 167, 255, 198, 29, 172]
abbrev dktX2_guessOf_2 : List UInt8 := dkwX2_guessOf_2 ++ []
def dkwX2_guessOf_1 : List UInt8 := [180, 0, 75, 16, 10, 28, 104, 21, 4, 96, 47, 29, 154, 0, 7, 9, 167, 0, 14, 42, 180, 0, 75]
abbrev dktX2_guessOf_1 : List UInt8 := dkwX2_guessOf_1 ++ dktX2_guessOf_2
def dkwX2_guessOf_0 : List UInt8 := [3, 62, 4, 54, 4, 21, 4, 16, 10, 162, 0, 57, 27, 21, 4, 122, 4, 126, 4, 160, 0, 41, 42]
abbrev dktX2_guessOf_0 : List UInt8 := dkwX2_guessOf_0 ++ dktX2_guessOf_1
theorem dksX2_guessOf_0 : cX2_guessOf.data.toList.drop 0 = dktX2_guessOf_0 := by decide +kernel
theorem dksX2_guessOf_1 : cX2_guessOf.data.toList.drop 23 = dktX2_guessOf_1 := dk_seg dksX2_guessOf_0 23 rfl rfl
theorem dksX2_guessOf_2 : cX2_guessOf.data.toList.drop 46 = dktX2_guessOf_2 := dk_seg dksX2_guessOf_1 23 rfl rfl
theorem dX2_guessOf_0 : decode cX2_guessOf 0 = .ok (.iconst 0, 1) := dk_3 (dk_at dksX2_guessOf_0 0 rfl rfl)
theorem dX2_guessOf_1 : decode cX2_guessOf 1 = .ok (.istore_n 3, 1) := dk_62 (dk_at dksX2_guessOf_0 1 rfl rfl)
theorem dX2_guessOf_2 : decode cX2_guessOf 2 = .ok (.iconst 1, 1) := dk_4 (dk_at dksX2_guessOf_0 2 rfl rfl)
theorem dX2_guessOf_3 : decode cX2_guessOf 3 = .ok (.istore 4, 2) := dk_54 4 (dk_at dksX2_guessOf_0 3 rfl rfl)
theorem dX2_guessOf_5 : decode cX2_guessOf 5 = .ok (.iload 4, 2) := dk_21 4 (dk_at dksX2_guessOf_0 5 rfl rfl)
theorem dX2_guessOf_7 : decode cX2_guessOf 7 = .ok (.bipush 10, 2) := dk_16 10 (dk_at dksX2_guessOf_0 7 rfl rfl)
theorem dX2_guessOf_9 : decode cX2_guessOf 9 = .ok (.if_icmp .ge 57, 3) := dk_162 0 57 (dk_at dksX2_guessOf_0 9 rfl rfl)
theorem dX2_guessOf_12 : decode cX2_guessOf 12 = .ok (.iload_n 1, 1) := dk_27 (dk_at dksX2_guessOf_0 12 rfl rfl)
theorem dX2_guessOf_13 : decode cX2_guessOf 13 = .ok (.iload 4, 2) := dk_21 4 (dk_at dksX2_guessOf_0 13 rfl rfl)
theorem dX2_guessOf_15 : decode cX2_guessOf 15 = .ok (.ishr, 1) := dk_122 (dk_at dksX2_guessOf_0 15 rfl rfl)
theorem dX2_guessOf_16 : decode cX2_guessOf 16 = .ok (.iconst 1, 1) := dk_4 (dk_at dksX2_guessOf_0 16 rfl rfl)
theorem dX2_guessOf_17 : decode cX2_guessOf 17 = .ok (.iand, 1) := dk_126 (dk_at dksX2_guessOf_0 17 rfl rfl)
theorem dX2_guessOf_18 : decode cX2_guessOf 18 = .ok (.iconst 1, 1) := dk_4 (dk_at dksX2_guessOf_0 18 rfl rfl)
theorem dX2_guessOf_19 : decode cX2_guessOf 19 = .ok (.if_icmp .ne 41, 3) := dk_160 0 41 (dk_at dksX2_guessOf_0 19 rfl rfl)
theorem dX2_guessOf_22 : decode cX2_guessOf 22 = .ok (.aload_n 0, 1) := dk_42 (dk_at dksX2_guessOf_0 22 rfl rfl)
theorem dX2_guessOf_23 : decode cX2_guessOf 23 = .ok (.getfield 75, 3) := dk_180 0 75 (dk_at dksX2_guessOf_1 0 rfl rfl)
theorem dX2_guessOf_26 : decode cX2_guessOf 26 = .ok (.bipush 10, 2) := dk_16 10 (dk_at dksX2_guessOf_1 3 rfl rfl)
theorem dX2_guessOf_28 : decode cX2_guessOf 28 = .ok (.iload_n 2, 1) := dk_28 (dk_at dksX2_guessOf_1 5 rfl rfl)
theorem dX2_guessOf_29 : decode cX2_guessOf 29 = .ok (.imul, 1) := dk_104 (dk_at dksX2_guessOf_1 6 rfl rfl)
theorem dX2_guessOf_30 : decode cX2_guessOf 30 = .ok (.iload 4, 2) := dk_21 4 (dk_at dksX2_guessOf_1 7 rfl rfl)
theorem dX2_guessOf_32 : decode cX2_guessOf 32 = .ok (.iadd, 1) := dk_96 (dk_at dksX2_guessOf_1 9 rfl rfl)
theorem dX2_guessOf_33 : decode cX2_guessOf 33 = .ok (.laload, 1) := dk_47 (dk_at dksX2_guessOf_1 10 rfl rfl)
theorem dX2_guessOf_34 : decode cX2_guessOf 34 = .ok (.iload_n 3, 1) := dk_29 (dk_at dksX2_guessOf_1 11 rfl rfl)
theorem dX2_guessOf_35 : decode cX2_guessOf 35 = .ok (.ifCond .ne 7, 3) := dk_154 0 7 (dk_at dksX2_guessOf_1 12 rfl rfl)
theorem dX2_guessOf_38 : decode cX2_guessOf 38 = .ok (.lconst 0, 1) := dk_9 (dk_at dksX2_guessOf_1 15 rfl rfl)
theorem dX2_guessOf_39 : decode cX2_guessOf 39 = .ok (.goto 14, 3) := dk_167 0 14 (dk_at dksX2_guessOf_1 16 rfl rfl)
theorem dX2_guessOf_42 : decode cX2_guessOf 42 = .ok (.aload_n 0, 1) := dk_42 (dk_at dksX2_guessOf_1 19 rfl rfl)
theorem dX2_guessOf_43 : decode cX2_guessOf 43 = .ok (.getfield 75, 3) := dk_180 0 75 (dk_at dksX2_guessOf_1 20 rfl rfl)
theorem dX2_guessOf_46 : decode cX2_guessOf 46 = .ok (.bipush 10, 2) := dk_16 10 (dk_at dksX2_guessOf_2 0 rfl rfl)
theorem dX2_guessOf_48 : decode cX2_guessOf 48 = .ok (.iload_n 2, 1) := dk_28 (dk_at dksX2_guessOf_2 2 rfl rfl)
theorem dX2_guessOf_49 : decode cX2_guessOf 49 = .ok (.imul, 1) := dk_104 (dk_at dksX2_guessOf_2 3 rfl rfl)
theorem dX2_guessOf_50 : decode cX2_guessOf 50 = .ok (.iload_n 3, 1) := dk_29 (dk_at dksX2_guessOf_2 4 rfl rfl)
theorem dX2_guessOf_51 : decode cX2_guessOf 51 = .ok (.iadd, 1) := dk_96 (dk_at dksX2_guessOf_2 5 rfl rfl)
theorem dX2_guessOf_52 : decode cX2_guessOf 52 = .ok (.laload, 1) := dk_47 (dk_at dksX2_guessOf_2 6 rfl rfl)
theorem dX2_guessOf_53 : decode cX2_guessOf 53 = .ok (.lcmp, 1) := dk_148 (dk_at dksX2_guessOf_2 7 rfl rfl)
theorem dX2_guessOf_54 : decode cX2_guessOf 54 = .ok (.ifCond .le 6, 3) := dk_158 0 6 (dk_at dksX2_guessOf_2 8 rfl rfl)
theorem dX2_guessOf_57 : decode cX2_guessOf 57 = .ok (.iload 4, 2) := dk_21 4 (dk_at dksX2_guessOf_2 11 rfl rfl)
theorem dX2_guessOf_59 : decode cX2_guessOf 59 = .ok (.istore_n 3, 1) := dk_62 (dk_at dksX2_guessOf_2 13 rfl rfl)
theorem dX2_guessOf_60 : decode cX2_guessOf 60 = .ok (.iinc 4 1, 3) := dk_132 4 1 (dk_at dksX2_guessOf_2 14 rfl rfl)
theorem dX2_guessOf_63 : decode cX2_guessOf 63 = .ok (.goto (-58), 3) := dk_167 255 198 (dk_at dksX2_guessOf_2 17 rfl rfl)
theorem dX2_guessOf_66 : decode cX2_guessOf 66 = .ok (.iload_n 3, 1) := dk_29 (dk_at dksX2_guessOf_2 20 rfl rfl)
theorem dX2_guessOf_67 : decode cX2_guessOf 67 = .ok (.ireturn, 1) := dk_172 (dk_at dksX2_guessOf_2 21 rfl rfl)
abbrev cX2_points : ByteArray := prog_18_method_44_code
def yX2_points : MethodName := ⟨RX2, "points", "(II)I"⟩
def dkwX2_points_2 : List UInt8 := [180, 0, 40, 27, 28, 79, 21, 4, 172]
abbrev dktX2_points_2 : List UInt8 := dkwX2_points_2 ++ []
def dkwX2_points_1 : List UInt8 := [184, 0, 121, 62, 29, 153, 0, 9, 42, 29, 182, 0, 128, 172, 42, 180, 0, 40, 27, 46, 54, 4, 42]
abbrev dktX2_points_1 : List UInt8 := dkwX2_points_1 ++ dktX2_points_2
def dkwX2_points_0 : List UInt8 := [27, 3, 6, 184, 0, 140, 154, 0, 10, 42, 16, 254, 182, 0, 128, 172, 28, 3, 42, 180, 0, 43, 27, 46]
abbrev dktX2_points_0 : List UInt8 := dkwX2_points_0 ++ dktX2_points_1
theorem dksX2_points_0 : cX2_points.data.toList.drop 0 = dktX2_points_0 := by decide +kernel
theorem dksX2_points_1 : cX2_points.data.toList.drop 24 = dktX2_points_1 := dk_seg dksX2_points_0 24 rfl rfl
theorem dksX2_points_2 : cX2_points.data.toList.drop 47 = dktX2_points_2 := dk_seg dksX2_points_1 23 rfl rfl
theorem dX2_points_0 : decode cX2_points 0 = .ok (.iload_n 1, 1) := dk_27 (dk_at dksX2_points_0 0 rfl rfl)
theorem dX2_points_1 : decode cX2_points 1 = .ok (.iconst 0, 1) := dk_3 (dk_at dksX2_points_0 1 rfl rfl)
theorem dX2_points_2 : decode cX2_points 2 = .ok (.iconst 3, 1) := dk_6 (dk_at dksX2_points_0 2 rfl rfl)
theorem dX2_points_3 : decode cX2_points 3 = .ok (.invokestatic 140, 3) := dk_184 0 140 (dk_at dksX2_points_0 3 rfl rfl)
theorem dX2_points_6 : decode cX2_points 6 = .ok (.ifCond .ne 10, 3) := dk_154 0 10 (dk_at dksX2_points_0 6 rfl rfl)
theorem dX2_points_9 : decode cX2_points 9 = .ok (.aload_n 0, 1) := dk_42 (dk_at dksX2_points_0 9 rfl rfl)
theorem dX2_points_10 : decode cX2_points 10 = .ok (.bipush (-2), 2) := dk_16 254 (dk_at dksX2_points_0 10 rfl rfl)
theorem dX2_points_12 : decode cX2_points 12 = .ok (.invokevirtual 128, 3) := dk_182 0 128 (dk_at dksX2_points_0 12 rfl rfl)
theorem dX2_points_15 : decode cX2_points 15 = .ok (.ireturn, 1) := dk_172 (dk_at dksX2_points_0 15 rfl rfl)
theorem dX2_points_16 : decode cX2_points 16 = .ok (.iload_n 2, 1) := dk_28 (dk_at dksX2_points_0 16 rfl rfl)
theorem dX2_points_17 : decode cX2_points 17 = .ok (.iconst 0, 1) := dk_3 (dk_at dksX2_points_0 17 rfl rfl)
theorem dX2_points_18 : decode cX2_points 18 = .ok (.aload_n 0, 1) := dk_42 (dk_at dksX2_points_0 18 rfl rfl)
theorem dX2_points_19 : decode cX2_points 19 = .ok (.getfield 43, 3) := dk_180 0 43 (dk_at dksX2_points_0 19 rfl rfl)
theorem dX2_points_22 : decode cX2_points 22 = .ok (.iload_n 1, 1) := dk_27 (dk_at dksX2_points_0 22 rfl rfl)
theorem dX2_points_23 : decode cX2_points 23 = .ok (.iaload, 1) := dk_46 (dk_at dksX2_points_0 23 rfl rfl)
theorem dX2_points_24 : decode cX2_points 24 = .ok (.invokestatic 121, 3) := dk_184 0 121 (dk_at dksX2_points_1 0 rfl rfl)
theorem dX2_points_27 : decode cX2_points 27 = .ok (.istore_n 3, 1) := dk_62 (dk_at dksX2_points_1 3 rfl rfl)
theorem dX2_points_28 : decode cX2_points 28 = .ok (.iload_n 3, 1) := dk_29 (dk_at dksX2_points_1 4 rfl rfl)
theorem dX2_points_29 : decode cX2_points 29 = .ok (.ifCond .eq 9, 3) := dk_153 0 9 (dk_at dksX2_points_1 5 rfl rfl)
theorem dX2_points_32 : decode cX2_points 32 = .ok (.aload_n 0, 1) := dk_42 (dk_at dksX2_points_1 8 rfl rfl)
theorem dX2_points_33 : decode cX2_points 33 = .ok (.iload_n 3, 1) := dk_29 (dk_at dksX2_points_1 9 rfl rfl)
theorem dX2_points_34 : decode cX2_points 34 = .ok (.invokevirtual 128, 3) := dk_182 0 128 (dk_at dksX2_points_1 10 rfl rfl)
theorem dX2_points_37 : decode cX2_points 37 = .ok (.ireturn, 1) := dk_172 (dk_at dksX2_points_1 13 rfl rfl)
theorem dX2_points_38 : decode cX2_points 38 = .ok (.aload_n 0, 1) := dk_42 (dk_at dksX2_points_1 14 rfl rfl)
theorem dX2_points_39 : decode cX2_points 39 = .ok (.getfield 40, 3) := dk_180 0 40 (dk_at dksX2_points_1 15 rfl rfl)
theorem dX2_points_42 : decode cX2_points 42 = .ok (.iload_n 1, 1) := dk_27 (dk_at dksX2_points_1 18 rfl rfl)
theorem dX2_points_43 : decode cX2_points 43 = .ok (.iaload, 1) := dk_46 (dk_at dksX2_points_1 19 rfl rfl)
theorem dX2_points_44 : decode cX2_points 44 = .ok (.istore 4, 2) := dk_54 4 (dk_at dksX2_points_1 20 rfl rfl)
theorem dX2_points_46 : decode cX2_points 46 = .ok (.aload_n 0, 1) := dk_42 (dk_at dksX2_points_1 22 rfl rfl)
theorem dX2_points_47 : decode cX2_points 47 = .ok (.getfield 40, 3) := dk_180 0 40 (dk_at dksX2_points_2 0 rfl rfl)
theorem dX2_points_50 : decode cX2_points 50 = .ok (.iload_n 1, 1) := dk_27 (dk_at dksX2_points_2 3 rfl rfl)
theorem dX2_points_51 : decode cX2_points 51 = .ok (.iload_n 2, 1) := dk_28 (dk_at dksX2_points_2 4 rfl rfl)
theorem dX2_points_52 : decode cX2_points 52 = .ok (.iastore, 1) := dk_79 (dk_at dksX2_points_2 5 rfl rfl)
theorem dX2_points_53 : decode cX2_points 53 = .ok (.iload 4, 2) := dk_21 4 (dk_at dksX2_points_2 6 rfl rfl)
theorem dX2_points_55 : decode cX2_points 55 = .ok (.ireturn, 1) := dk_172 (dk_at dksX2_points_2 8 rfl rfl)
abbrev cX2_setOf : ByteArray := prog_18_method_45_code
def yX2_setOf : MethodName := ⟨RX2, "setOf", "(II)I"⟩
def dkwX2_setOf_2 : List UInt8 := [180, 0, 37, 27, 46, 62, 42, 180, 0, 37, 27, 28, 79, 29, 172]
abbrev dktX2_setOf_2 : List UInt8 := dkwX2_setOf_2 ++ []
def dkwX2_setOf_1 : List UInt8 := [182, 0, 128, 172, 42, 180, 0, 25, 27, 46, 7, 159, 0, 10, 42, 16, 254, 182, 0, 128, 172, 42]
abbrev dktX2_setOf_1 : List UInt8 := dkwX2_setOf_1 ++ dktX2_setOf_2
def dkwX2_setOf_0 : List UInt8 := [42, 27, 182, 0, 180, 153, 0, 16, 28, 155, 0, 12, 28, 42, 180, 0, 46, 122, 153, 0, 9, 42, 2]
abbrev dktX2_setOf_0 : List UInt8 := dkwX2_setOf_0 ++ dktX2_setOf_1
theorem dksX2_setOf_0 : cX2_setOf.data.toList.drop 0 = dktX2_setOf_0 := by decide +kernel
theorem dksX2_setOf_1 : cX2_setOf.data.toList.drop 23 = dktX2_setOf_1 := dk_seg dksX2_setOf_0 23 rfl rfl
theorem dksX2_setOf_2 : cX2_setOf.data.toList.drop 45 = dktX2_setOf_2 := dk_seg dksX2_setOf_1 22 rfl rfl
theorem dX2_setOf_0 : decode cX2_setOf 0 = .ok (.aload_n 0, 1) := dk_42 (dk_at dksX2_setOf_0 0 rfl rfl)
theorem dX2_setOf_1 : decode cX2_setOf 1 = .ok (.iload_n 1, 1) := dk_27 (dk_at dksX2_setOf_0 1 rfl rfl)
theorem dX2_setOf_2 : decode cX2_setOf 2 = .ok (.invokevirtual 180, 3) := dk_182 0 180 (dk_at dksX2_setOf_0 2 rfl rfl)
theorem dX2_setOf_5 : decode cX2_setOf 5 = .ok (.ifCond .eq 16, 3) := dk_153 0 16 (dk_at dksX2_setOf_0 5 rfl rfl)
theorem dX2_setOf_8 : decode cX2_setOf 8 = .ok (.iload_n 2, 1) := dk_28 (dk_at dksX2_setOf_0 8 rfl rfl)
theorem dX2_setOf_9 : decode cX2_setOf 9 = .ok (.ifCond .lt 12, 3) := dk_155 0 12 (dk_at dksX2_setOf_0 9 rfl rfl)
theorem dX2_setOf_12 : decode cX2_setOf 12 = .ok (.iload_n 2, 1) := dk_28 (dk_at dksX2_setOf_0 12 rfl rfl)
theorem dX2_setOf_13 : decode cX2_setOf 13 = .ok (.aload_n 0, 1) := dk_42 (dk_at dksX2_setOf_0 13 rfl rfl)
theorem dX2_setOf_14 : decode cX2_setOf 14 = .ok (.getfield 46, 3) := dk_180 0 46 (dk_at dksX2_setOf_0 14 rfl rfl)
theorem dX2_setOf_17 : decode cX2_setOf 17 = .ok (.ishr, 1) := dk_122 (dk_at dksX2_setOf_0 17 rfl rfl)
theorem dX2_setOf_18 : decode cX2_setOf 18 = .ok (.ifCond .eq 9, 3) := dk_153 0 9 (dk_at dksX2_setOf_0 18 rfl rfl)
theorem dX2_setOf_21 : decode cX2_setOf 21 = .ok (.aload_n 0, 1) := dk_42 (dk_at dksX2_setOf_0 21 rfl rfl)
theorem dX2_setOf_22 : decode cX2_setOf 22 = .ok (.iconst (-1), 1) := dk_2 (dk_at dksX2_setOf_0 22 rfl rfl)
theorem dX2_setOf_23 : decode cX2_setOf 23 = .ok (.invokevirtual 128, 3) := dk_182 0 128 (dk_at dksX2_setOf_1 0 rfl rfl)
theorem dX2_setOf_26 : decode cX2_setOf 26 = .ok (.ireturn, 1) := dk_172 (dk_at dksX2_setOf_1 3 rfl rfl)
theorem dX2_setOf_27 : decode cX2_setOf 27 = .ok (.aload_n 0, 1) := dk_42 (dk_at dksX2_setOf_1 4 rfl rfl)
theorem dX2_setOf_28 : decode cX2_setOf 28 = .ok (.getfield 25, 3) := dk_180 0 25 (dk_at dksX2_setOf_1 5 rfl rfl)
theorem dX2_setOf_31 : decode cX2_setOf 31 = .ok (.iload_n 1, 1) := dk_27 (dk_at dksX2_setOf_1 8 rfl rfl)
theorem dX2_setOf_32 : decode cX2_setOf 32 = .ok (.iaload, 1) := dk_46 (dk_at dksX2_setOf_1 9 rfl rfl)
theorem dX2_setOf_33 : decode cX2_setOf 33 = .ok (.iconst 4, 1) := dk_7 (dk_at dksX2_setOf_1 10 rfl rfl)
theorem dX2_setOf_34 : decode cX2_setOf 34 = .ok (.if_icmp .eq 10, 3) := dk_159 0 10 (dk_at dksX2_setOf_1 11 rfl rfl)
theorem dX2_setOf_37 : decode cX2_setOf 37 = .ok (.aload_n 0, 1) := dk_42 (dk_at dksX2_setOf_1 14 rfl rfl)
theorem dX2_setOf_38 : decode cX2_setOf 38 = .ok (.bipush (-2), 2) := dk_16 254 (dk_at dksX2_setOf_1 15 rfl rfl)
theorem dX2_setOf_40 : decode cX2_setOf 40 = .ok (.invokevirtual 128, 3) := dk_182 0 128 (dk_at dksX2_setOf_1 17 rfl rfl)
theorem dX2_setOf_43 : decode cX2_setOf 43 = .ok (.ireturn, 1) := dk_172 (dk_at dksX2_setOf_1 20 rfl rfl)
theorem dX2_setOf_44 : decode cX2_setOf 44 = .ok (.aload_n 0, 1) := dk_42 (dk_at dksX2_setOf_1 21 rfl rfl)
theorem dX2_setOf_45 : decode cX2_setOf 45 = .ok (.getfield 37, 3) := dk_180 0 37 (dk_at dksX2_setOf_2 0 rfl rfl)
theorem dX2_setOf_48 : decode cX2_setOf 48 = .ok (.iload_n 1, 1) := dk_27 (dk_at dksX2_setOf_2 3 rfl rfl)
theorem dX2_setOf_49 : decode cX2_setOf 49 = .ok (.iaload, 1) := dk_46 (dk_at dksX2_setOf_2 4 rfl rfl)
theorem dX2_setOf_50 : decode cX2_setOf 50 = .ok (.istore_n 3, 1) := dk_62 (dk_at dksX2_setOf_2 5 rfl rfl)
theorem dX2_setOf_51 : decode cX2_setOf 51 = .ok (.aload_n 0, 1) := dk_42 (dk_at dksX2_setOf_2 6 rfl rfl)
theorem dX2_setOf_52 : decode cX2_setOf 52 = .ok (.getfield 37, 3) := dk_180 0 37 (dk_at dksX2_setOf_2 7 rfl rfl)
theorem dX2_setOf_55 : decode cX2_setOf 55 = .ok (.iload_n 1, 1) := dk_27 (dk_at dksX2_setOf_2 10 rfl rfl)
theorem dX2_setOf_56 : decode cX2_setOf 56 = .ok (.iload_n 2, 1) := dk_28 (dk_at dksX2_setOf_2 11 rfl rfl)
theorem dX2_setOf_57 : decode cX2_setOf 57 = .ok (.iastore, 1) := dk_79 (dk_at dksX2_setOf_2 12 rfl rfl)
theorem dX2_setOf_58 : decode cX2_setOf 58 = .ok (.iload_n 3, 1) := dk_29 (dk_at dksX2_setOf_2 13 rfl rfl)
theorem dX2_setOf_59 : decode cX2_setOf 59 = .ok (.ireturn, 1) := dk_172 (dk_at dksX2_setOf_2 14 rfl rfl)
abbrev cX2_presses : ByteArray := prog_18_method_46_code
def yX2_presses : MethodName := ⟨RX2, "presses", "(II)I"⟩
def dkwX2_presses_2 : List UInt8 := [122, 4, 126, 172]
abbrev dktX2_presses_2 : List UInt8 := dkwX2_presses_2 ++ []
def dkwX2_presses_1 : List UInt8 := [182, 0, 183, 154, 0, 10, 42, 16, 253, 182, 0, 128, 172, 42, 182, 0, 247, 42, 180, 0, 81, 27, 46, 28]
abbrev dktX2_presses_1 : List UInt8 := dkwX2_presses_1 ++ dktX2_presses_2
def dkwX2_presses_0 : List UInt8 := [42, 27, 182, 0, 180, 153, 0, 11, 42, 28, 182, 0, 166, 154, 0, 9, 42, 2, 182, 0, 128, 172, 42]
abbrev dktX2_presses_0 : List UInt8 := dkwX2_presses_0 ++ dktX2_presses_1
theorem dksX2_presses_0 : cX2_presses.data.toList.drop 0 = dktX2_presses_0 := by decide +kernel
theorem dksX2_presses_1 : cX2_presses.data.toList.drop 23 = dktX2_presses_1 := dk_seg dksX2_presses_0 23 rfl rfl
theorem dksX2_presses_2 : cX2_presses.data.toList.drop 47 = dktX2_presses_2 := dk_seg dksX2_presses_1 24 rfl rfl
theorem dX2_presses_0 : decode cX2_presses 0 = .ok (.aload_n 0, 1) := dk_42 (dk_at dksX2_presses_0 0 rfl rfl)
theorem dX2_presses_1 : decode cX2_presses 1 = .ok (.iload_n 1, 1) := dk_27 (dk_at dksX2_presses_0 1 rfl rfl)
theorem dX2_presses_2 : decode cX2_presses 2 = .ok (.invokevirtual 180, 3) := dk_182 0 180 (dk_at dksX2_presses_0 2 rfl rfl)
theorem dX2_presses_5 : decode cX2_presses 5 = .ok (.ifCond .eq 11, 3) := dk_153 0 11 (dk_at dksX2_presses_0 5 rfl rfl)
theorem dX2_presses_8 : decode cX2_presses 8 = .ok (.aload_n 0, 1) := dk_42 (dk_at dksX2_presses_0 8 rfl rfl)
theorem dX2_presses_9 : decode cX2_presses 9 = .ok (.iload_n 2, 1) := dk_28 (dk_at dksX2_presses_0 9 rfl rfl)
theorem dX2_presses_10 : decode cX2_presses 10 = .ok (.invokevirtual 166, 3) := dk_182 0 166 (dk_at dksX2_presses_0 10 rfl rfl)
theorem dX2_presses_13 : decode cX2_presses 13 = .ok (.ifCond .ne 9, 3) := dk_154 0 9 (dk_at dksX2_presses_0 13 rfl rfl)
theorem dX2_presses_16 : decode cX2_presses 16 = .ok (.aload_n 0, 1) := dk_42 (dk_at dksX2_presses_0 16 rfl rfl)
theorem dX2_presses_17 : decode cX2_presses 17 = .ok (.iconst (-1), 1) := dk_2 (dk_at dksX2_presses_0 17 rfl rfl)
theorem dX2_presses_18 : decode cX2_presses 18 = .ok (.invokevirtual 128, 3) := dk_182 0 128 (dk_at dksX2_presses_0 18 rfl rfl)
theorem dX2_presses_21 : decode cX2_presses 21 = .ok (.ireturn, 1) := dk_172 (dk_at dksX2_presses_0 21 rfl rfl)
theorem dX2_presses_22 : decode cX2_presses 22 = .ok (.aload_n 0, 1) := dk_42 (dk_at dksX2_presses_0 22 rfl rfl)
theorem dX2_presses_23 : decode cX2_presses 23 = .ok (.invokevirtual 183, 3) := dk_182 0 183 (dk_at dksX2_presses_1 0 rfl rfl)
theorem dX2_presses_26 : decode cX2_presses 26 = .ok (.ifCond .ne 10, 3) := dk_154 0 10 (dk_at dksX2_presses_1 3 rfl rfl)
theorem dX2_presses_29 : decode cX2_presses 29 = .ok (.aload_n 0, 1) := dk_42 (dk_at dksX2_presses_1 6 rfl rfl)
theorem dX2_presses_30 : decode cX2_presses 30 = .ok (.bipush (-3), 2) := dk_16 253 (dk_at dksX2_presses_1 7 rfl rfl)
theorem dX2_presses_32 : decode cX2_presses 32 = .ok (.invokevirtual 128, 3) := dk_182 0 128 (dk_at dksX2_presses_1 9 rfl rfl)
theorem dX2_presses_35 : decode cX2_presses 35 = .ok (.ireturn, 1) := dk_172 (dk_at dksX2_presses_1 12 rfl rfl)
theorem dX2_presses_36 : decode cX2_presses 36 = .ok (.aload_n 0, 1) := dk_42 (dk_at dksX2_presses_1 13 rfl rfl)
theorem dX2_presses_37 : decode cX2_presses 37 = .ok (.invokevirtual 247, 3) := dk_182 0 247 (dk_at dksX2_presses_1 14 rfl rfl)
theorem dX2_presses_40 : decode cX2_presses 40 = .ok (.aload_n 0, 1) := dk_42 (dk_at dksX2_presses_1 17 rfl rfl)
theorem dX2_presses_41 : decode cX2_presses 41 = .ok (.getfield 81, 3) := dk_180 0 81 (dk_at dksX2_presses_1 18 rfl rfl)
theorem dX2_presses_44 : decode cX2_presses 44 = .ok (.iload_n 1, 1) := dk_27 (dk_at dksX2_presses_1 21 rfl rfl)
theorem dX2_presses_45 : decode cX2_presses 45 = .ok (.iaload, 1) := dk_46 (dk_at dksX2_presses_1 22 rfl rfl)
theorem dX2_presses_46 : decode cX2_presses 46 = .ok (.iload_n 2, 1) := dk_28 (dk_at dksX2_presses_1 23 rfl rfl)
theorem dX2_presses_47 : decode cX2_presses 47 = .ok (.ishr, 1) := dk_122 (dk_at dksX2_presses_2 0 rfl rfl)
theorem dX2_presses_48 : decode cX2_presses 48 = .ok (.iconst 1, 1) := dk_4 (dk_at dksX2_presses_2 1 rfl rfl)
theorem dX2_presses_49 : decode cX2_presses 49 = .ok (.iand, 1) := dk_126 (dk_at dksX2_presses_2 2 rfl rfl)
theorem dX2_presses_50 : decode cX2_presses 50 = .ok (.ireturn, 1) := dk_172 (dk_at dksX2_presses_2 3 rfl rfl)
abbrev cX2_finds : ByteArray := prog_18_method_40_code
def yX2_finds : MethodName := ⟨RX2, "finds", "()V"⟩
def dkwX2_finds_0 : List UInt8 := [42, 182, 0, 233, 42, 182, 0, 236, 177]
abbrev dktX2_finds_0 : List UInt8 := dkwX2_finds_0 ++ []
theorem dksX2_finds_0 : cX2_finds.data.toList.drop 0 = dktX2_finds_0 := by decide +kernel
theorem dX2_finds_0 : decode cX2_finds 0 = .ok (.aload_n 0, 1) := dk_42 (dk_at dksX2_finds_0 0 rfl rfl)
theorem dX2_finds_1 : decode cX2_finds 1 = .ok (.invokevirtual 233, 3) := dk_182 0 233 (dk_at dksX2_finds_0 1 rfl rfl)
theorem dX2_finds_4 : decode cX2_finds 4 = .ok (.aload_n 0, 1) := dk_42 (dk_at dksX2_finds_0 4 rfl rfl)
theorem dX2_finds_5 : decode cX2_finds 5 = .ok (.invokevirtual 236, 3) := dk_182 0 236 (dk_at dksX2_finds_0 5 rfl rfl)
theorem dX2_finds_8 : decode cX2_finds 8 = .ok (.return_, 1) := dk_177 (dk_at dksX2_finds_0 8 rfl rfl)
abbrev cX2_findPresses : ByteArray := prog_18_method_39_code
def yX2_findPresses : MethodName := ⟨RX2, "findPresses", "()V"⟩
def dkwX2_findPresses_5 : List UInt8 := [167, 0, 9, 42, 180, 0, 81, 27, 46, 79, 132, 1, 1, 167, 255, 125, 177]
abbrev dktX2_findPresses_5 : List UInt8 := dkwX2_findPresses_5 ++ []
def dkwX2_findPresses_4 : List UInt8 := [27, 42, 180, 0, 25, 27, 46, 6, 160, 0, 19, 42, 27, 42, 180, 0, 34, 27, 46, 5, 108, 182, 0, 230]
abbrev dktX2_findPresses_4 : List UInt8 := dkwX2_findPresses_4 ++ dktX2_findPresses_5
def dkwX2_findPresses_3 : List UInt8 := [79, 167, 0, 19, 42, 180, 0, 81, 27, 42, 27, 42, 27, 182, 0, 227, 182, 0, 230, 79, 42, 180, 0, 84]
abbrev dktX2_findPresses_3 : List UInt8 := dkwX2_findPresses_3 ++ dktX2_findPresses_4
def dkwX2_findPresses_2 : List UInt8 := [42, 180, 0, 25, 27, 46, 8, 160, 0, 21, 42, 27, 182, 0, 223, 42, 180, 0, 81, 27, 42, 180, 0, 212]
abbrev dktX2_findPresses_2 : List UInt8 := dkwX2_findPresses_2 ++ dktX2_findPresses_3
def dkwX2_findPresses_1 : List UInt8 := [16, 24, 27, 104, 28, 96, 42, 42, 180, 0, 28, 27, 46, 28, 182, 0, 219, 79, 132, 2, 1, 167, 255, 223]
abbrev dktX2_findPresses_1 : List UInt8 := dkwX2_findPresses_1 ++ dktX2_findPresses_2
def dkwX2_findPresses_0 : List UInt8 := [3, 60, 27, 42, 180, 0, 114, 162, 0, 129, 3, 61, 28, 42, 180, 0, 46, 162, 0, 31, 42, 180, 0, 78]
abbrev dktX2_findPresses_0 : List UInt8 := dkwX2_findPresses_0 ++ dktX2_findPresses_1
theorem dksX2_findPresses_0 : cX2_findPresses.data.toList.drop 0 = dktX2_findPresses_0 := by decide +kernel
theorem dksX2_findPresses_1 : cX2_findPresses.data.toList.drop 24 = dktX2_findPresses_1 := dk_seg dksX2_findPresses_0 24 rfl rfl
theorem dksX2_findPresses_2 : cX2_findPresses.data.toList.drop 48 = dktX2_findPresses_2 := dk_seg dksX2_findPresses_1 24 rfl rfl
theorem dksX2_findPresses_3 : cX2_findPresses.data.toList.drop 72 = dktX2_findPresses_3 := dk_seg dksX2_findPresses_2 24 rfl rfl
theorem dksX2_findPresses_4 : cX2_findPresses.data.toList.drop 96 = dktX2_findPresses_4 := dk_seg dksX2_findPresses_3 24 rfl rfl
theorem dksX2_findPresses_5 : cX2_findPresses.data.toList.drop 120 = dktX2_findPresses_5 := dk_seg dksX2_findPresses_4 24 rfl rfl
theorem dX2_findPresses_0 : decode cX2_findPresses 0 = .ok (.iconst 0, 1) := dk_3 (dk_at dksX2_findPresses_0 0 rfl rfl)
theorem dX2_findPresses_1 : decode cX2_findPresses 1 = .ok (.istore_n 1, 1) := dk_60 (dk_at dksX2_findPresses_0 1 rfl rfl)
theorem dX2_findPresses_2 : decode cX2_findPresses 2 = .ok (.iload_n 1, 1) := dk_27 (dk_at dksX2_findPresses_0 2 rfl rfl)
theorem dX2_findPresses_3 : decode cX2_findPresses 3 = .ok (.aload_n 0, 1) := dk_42 (dk_at dksX2_findPresses_0 3 rfl rfl)
theorem dX2_findPresses_4 : decode cX2_findPresses 4 = .ok (.getfield 114, 3) := dk_180 0 114 (dk_at dksX2_findPresses_0 4 rfl rfl)
theorem dX2_findPresses_7 : decode cX2_findPresses 7 = .ok (.if_icmp .ge 129, 3) := dk_162 0 129 (dk_at dksX2_findPresses_0 7 rfl rfl)
theorem dX2_findPresses_10 : decode cX2_findPresses 10 = .ok (.iconst 0, 1) := dk_3 (dk_at dksX2_findPresses_0 10 rfl rfl)
theorem dX2_findPresses_11 : decode cX2_findPresses 11 = .ok (.istore_n 2, 1) := dk_61 (dk_at dksX2_findPresses_0 11 rfl rfl)
theorem dX2_findPresses_12 : decode cX2_findPresses 12 = .ok (.iload_n 2, 1) := dk_28 (dk_at dksX2_findPresses_0 12 rfl rfl)
theorem dX2_findPresses_13 : decode cX2_findPresses 13 = .ok (.aload_n 0, 1) := dk_42 (dk_at dksX2_findPresses_0 13 rfl rfl)
theorem dX2_findPresses_14 : decode cX2_findPresses 14 = .ok (.getfield 46, 3) := dk_180 0 46 (dk_at dksX2_findPresses_0 14 rfl rfl)
theorem dX2_findPresses_17 : decode cX2_findPresses 17 = .ok (.if_icmp .ge 31, 3) := dk_162 0 31 (dk_at dksX2_findPresses_0 17 rfl rfl)
theorem dX2_findPresses_20 : decode cX2_findPresses 20 = .ok (.aload_n 0, 1) := dk_42 (dk_at dksX2_findPresses_0 20 rfl rfl)
theorem dX2_findPresses_21 : decode cX2_findPresses 21 = .ok (.getfield 78, 3) := dk_180 0 78 (dk_at dksX2_findPresses_0 21 rfl rfl)
theorem dX2_findPresses_24 : decode cX2_findPresses 24 = .ok (.bipush 24, 2) := dk_16 24 (dk_at dksX2_findPresses_1 0 rfl rfl)
theorem dX2_findPresses_26 : decode cX2_findPresses 26 = .ok (.iload_n 1, 1) := dk_27 (dk_at dksX2_findPresses_1 2 rfl rfl)
theorem dX2_findPresses_27 : decode cX2_findPresses 27 = .ok (.imul, 1) := dk_104 (dk_at dksX2_findPresses_1 3 rfl rfl)
theorem dX2_findPresses_28 : decode cX2_findPresses 28 = .ok (.iload_n 2, 1) := dk_28 (dk_at dksX2_findPresses_1 4 rfl rfl)
theorem dX2_findPresses_29 : decode cX2_findPresses 29 = .ok (.iadd, 1) := dk_96 (dk_at dksX2_findPresses_1 5 rfl rfl)
theorem dX2_findPresses_30 : decode cX2_findPresses 30 = .ok (.aload_n 0, 1) := dk_42 (dk_at dksX2_findPresses_1 6 rfl rfl)
theorem dX2_findPresses_31 : decode cX2_findPresses 31 = .ok (.aload_n 0, 1) := dk_42 (dk_at dksX2_findPresses_1 7 rfl rfl)
theorem dX2_findPresses_32 : decode cX2_findPresses 32 = .ok (.getfield 28, 3) := dk_180 0 28 (dk_at dksX2_findPresses_1 8 rfl rfl)
theorem dX2_findPresses_35 : decode cX2_findPresses 35 = .ok (.iload_n 1, 1) := dk_27 (dk_at dksX2_findPresses_1 11 rfl rfl)
theorem dX2_findPresses_36 : decode cX2_findPresses 36 = .ok (.iaload, 1) := dk_46 (dk_at dksX2_findPresses_1 12 rfl rfl)
theorem dX2_findPresses_37 : decode cX2_findPresses 37 = .ok (.iload_n 2, 1) := dk_28 (dk_at dksX2_findPresses_1 13 rfl rfl)
theorem dX2_findPresses_38 : decode cX2_findPresses 38 = .ok (.invokevirtual 219, 3) := dk_182 0 219 (dk_at dksX2_findPresses_1 14 rfl rfl)
theorem dX2_findPresses_41 : decode cX2_findPresses 41 = .ok (.iastore, 1) := dk_79 (dk_at dksX2_findPresses_1 17 rfl rfl)
theorem dX2_findPresses_42 : decode cX2_findPresses 42 = .ok (.iinc 2 1, 3) := dk_132 2 1 (dk_at dksX2_findPresses_1 18 rfl rfl)
theorem dX2_findPresses_45 : decode cX2_findPresses 45 = .ok (.goto (-33), 3) := dk_167 255 223 (dk_at dksX2_findPresses_1 21 rfl rfl)
theorem dX2_findPresses_48 : decode cX2_findPresses 48 = .ok (.aload_n 0, 1) := dk_42 (dk_at dksX2_findPresses_2 0 rfl rfl)
theorem dX2_findPresses_49 : decode cX2_findPresses 49 = .ok (.getfield 25, 3) := dk_180 0 25 (dk_at dksX2_findPresses_2 1 rfl rfl)
theorem dX2_findPresses_52 : decode cX2_findPresses 52 = .ok (.iload_n 1, 1) := dk_27 (dk_at dksX2_findPresses_2 4 rfl rfl)
theorem dX2_findPresses_53 : decode cX2_findPresses 53 = .ok (.iaload, 1) := dk_46 (dk_at dksX2_findPresses_2 5 rfl rfl)
theorem dX2_findPresses_54 : decode cX2_findPresses 54 = .ok (.iconst 5, 1) := dk_8 (dk_at dksX2_findPresses_2 6 rfl rfl)
theorem dX2_findPresses_55 : decode cX2_findPresses 55 = .ok (.if_icmp .ne 21, 3) := dk_160 0 21 (dk_at dksX2_findPresses_2 7 rfl rfl)
theorem dX2_findPresses_58 : decode cX2_findPresses 58 = .ok (.aload_n 0, 1) := dk_42 (dk_at dksX2_findPresses_2 10 rfl rfl)
theorem dX2_findPresses_59 : decode cX2_findPresses 59 = .ok (.iload_n 1, 1) := dk_27 (dk_at dksX2_findPresses_2 11 rfl rfl)
theorem dX2_findPresses_60 : decode cX2_findPresses 60 = .ok (.invokevirtual 223, 3) := dk_182 0 223 (dk_at dksX2_findPresses_2 12 rfl rfl)
theorem dX2_findPresses_63 : decode cX2_findPresses 63 = .ok (.aload_n 0, 1) := dk_42 (dk_at dksX2_findPresses_2 15 rfl rfl)
theorem dX2_findPresses_64 : decode cX2_findPresses 64 = .ok (.getfield 81, 3) := dk_180 0 81 (dk_at dksX2_findPresses_2 16 rfl rfl)
theorem dX2_findPresses_67 : decode cX2_findPresses 67 = .ok (.iload_n 1, 1) := dk_27 (dk_at dksX2_findPresses_2 19 rfl rfl)
theorem dX2_findPresses_68 : decode cX2_findPresses 68 = .ok (.aload_n 0, 1) := dk_42 (dk_at dksX2_findPresses_2 20 rfl rfl)
theorem dX2_findPresses_69 : decode cX2_findPresses 69 = .ok (.getfield 212, 3) := dk_180 0 212 (dk_at dksX2_findPresses_2 21 rfl rfl)
theorem dX2_findPresses_72 : decode cX2_findPresses 72 = .ok (.iastore, 1) := dk_79 (dk_at dksX2_findPresses_3 0 rfl rfl)
theorem dX2_findPresses_73 : decode cX2_findPresses 73 = .ok (.goto 19, 3) := dk_167 0 19 (dk_at dksX2_findPresses_3 1 rfl rfl)
theorem dX2_findPresses_76 : decode cX2_findPresses 76 = .ok (.aload_n 0, 1) := dk_42 (dk_at dksX2_findPresses_3 4 rfl rfl)
theorem dX2_findPresses_77 : decode cX2_findPresses 77 = .ok (.getfield 81, 3) := dk_180 0 81 (dk_at dksX2_findPresses_3 5 rfl rfl)
theorem dX2_findPresses_80 : decode cX2_findPresses 80 = .ok (.iload_n 1, 1) := dk_27 (dk_at dksX2_findPresses_3 8 rfl rfl)
theorem dX2_findPresses_81 : decode cX2_findPresses 81 = .ok (.aload_n 0, 1) := dk_42 (dk_at dksX2_findPresses_3 9 rfl rfl)
theorem dX2_findPresses_82 : decode cX2_findPresses 82 = .ok (.iload_n 1, 1) := dk_27 (dk_at dksX2_findPresses_3 10 rfl rfl)
theorem dX2_findPresses_83 : decode cX2_findPresses 83 = .ok (.aload_n 0, 1) := dk_42 (dk_at dksX2_findPresses_3 11 rfl rfl)
theorem dX2_findPresses_84 : decode cX2_findPresses 84 = .ok (.iload_n 1, 1) := dk_27 (dk_at dksX2_findPresses_3 12 rfl rfl)
theorem dX2_findPresses_85 : decode cX2_findPresses 85 = .ok (.invokevirtual 227, 3) := dk_182 0 227 (dk_at dksX2_findPresses_3 13 rfl rfl)
theorem dX2_findPresses_88 : decode cX2_findPresses 88 = .ok (.invokevirtual 230, 3) := dk_182 0 230 (dk_at dksX2_findPresses_3 16 rfl rfl)
theorem dX2_findPresses_91 : decode cX2_findPresses 91 = .ok (.iastore, 1) := dk_79 (dk_at dksX2_findPresses_3 19 rfl rfl)
theorem dX2_findPresses_92 : decode cX2_findPresses 92 = .ok (.aload_n 0, 1) := dk_42 (dk_at dksX2_findPresses_3 20 rfl rfl)
theorem dX2_findPresses_93 : decode cX2_findPresses 93 = .ok (.getfield 84, 3) := dk_180 0 84 (dk_at dksX2_findPresses_3 21 rfl rfl)
theorem dX2_findPresses_96 : decode cX2_findPresses 96 = .ok (.iload_n 1, 1) := dk_27 (dk_at dksX2_findPresses_4 0 rfl rfl)
theorem dX2_findPresses_97 : decode cX2_findPresses 97 = .ok (.aload_n 0, 1) := dk_42 (dk_at dksX2_findPresses_4 1 rfl rfl)
theorem dX2_findPresses_98 : decode cX2_findPresses 98 = .ok (.getfield 25, 3) := dk_180 0 25 (dk_at dksX2_findPresses_4 2 rfl rfl)
theorem dX2_findPresses_101 : decode cX2_findPresses 101 = .ok (.iload_n 1, 1) := dk_27 (dk_at dksX2_findPresses_4 5 rfl rfl)
theorem dX2_findPresses_102 : decode cX2_findPresses 102 = .ok (.iaload, 1) := dk_46 (dk_at dksX2_findPresses_4 6 rfl rfl)
theorem dX2_findPresses_103 : decode cX2_findPresses 103 = .ok (.iconst 3, 1) := dk_6 (dk_at dksX2_findPresses_4 7 rfl rfl)
theorem dX2_findPresses_104 : decode cX2_findPresses 104 = .ok (.if_icmp .ne 19, 3) := dk_160 0 19 (dk_at dksX2_findPresses_4 8 rfl rfl)
theorem dX2_findPresses_107 : decode cX2_findPresses 107 = .ok (.aload_n 0, 1) := dk_42 (dk_at dksX2_findPresses_4 11 rfl rfl)
theorem dX2_findPresses_108 : decode cX2_findPresses 108 = .ok (.iload_n 1, 1) := dk_27 (dk_at dksX2_findPresses_4 12 rfl rfl)
theorem dX2_findPresses_109 : decode cX2_findPresses 109 = .ok (.aload_n 0, 1) := dk_42 (dk_at dksX2_findPresses_4 13 rfl rfl)
theorem dX2_findPresses_110 : decode cX2_findPresses 110 = .ok (.getfield 34, 3) := dk_180 0 34 (dk_at dksX2_findPresses_4 14 rfl rfl)
theorem dX2_findPresses_113 : decode cX2_findPresses 113 = .ok (.iload_n 1, 1) := dk_27 (dk_at dksX2_findPresses_4 17 rfl rfl)
theorem dX2_findPresses_114 : decode cX2_findPresses 114 = .ok (.iaload, 1) := dk_46 (dk_at dksX2_findPresses_4 18 rfl rfl)
theorem dX2_findPresses_115 : decode cX2_findPresses 115 = .ok (.iconst 2, 1) := dk_5 (dk_at dksX2_findPresses_4 19 rfl rfl)
theorem dX2_findPresses_116 : decode cX2_findPresses 116 = .ok (.idiv, 1) := dk_108 (dk_at dksX2_findPresses_4 20 rfl rfl)
theorem dX2_findPresses_117 : decode cX2_findPresses 117 = .ok (.invokevirtual 230, 3) := dk_182 0 230 (dk_at dksX2_findPresses_4 21 rfl rfl)
theorem dX2_findPresses_120 : decode cX2_findPresses 120 = .ok (.goto 9, 3) := dk_167 0 9 (dk_at dksX2_findPresses_5 0 rfl rfl)
theorem dX2_findPresses_123 : decode cX2_findPresses 123 = .ok (.aload_n 0, 1) := dk_42 (dk_at dksX2_findPresses_5 3 rfl rfl)
theorem dX2_findPresses_124 : decode cX2_findPresses 124 = .ok (.getfield 81, 3) := dk_180 0 81 (dk_at dksX2_findPresses_5 4 rfl rfl)
theorem dX2_findPresses_127 : decode cX2_findPresses 127 = .ok (.iload_n 1, 1) := dk_27 (dk_at dksX2_findPresses_5 7 rfl rfl)
theorem dX2_findPresses_128 : decode cX2_findPresses 128 = .ok (.iaload, 1) := dk_46 (dk_at dksX2_findPresses_5 8 rfl rfl)
theorem dX2_findPresses_129 : decode cX2_findPresses 129 = .ok (.iastore, 1) := dk_79 (dk_at dksX2_findPresses_5 9 rfl rfl)
theorem dX2_findPresses_130 : decode cX2_findPresses 130 = .ok (.iinc 1 1, 3) := dk_132 1 1 (dk_at dksX2_findPresses_5 10 rfl rfl)
theorem dX2_findPresses_133 : decode cX2_findPresses 133 = .ok (.goto (-131), 3) := dk_167 255 125 (dk_at dksX2_findPresses_5 13 rfl rfl)
theorem dX2_findPresses_136 : decode cX2_findPresses 136 = .ok (.return_, 1) := dk_177 (dk_at dksX2_findPresses_5 16 rfl rfl)
abbrev cX2_findAlone : ByteArray := prog_18_method_38_code
def yX2_findAlone : MethodName := ⟨RX2, "findAlone", "(I)V"⟩
def dkwX2_findAlone_5 : List UInt8 := [28, 47, 97, 80, 132, 2, 255, 167, 255, 170, 177]
abbrev dktX2_findAlone_5 : List UInt8 := dkwX2_findAlone_5 ++ []
def dkwX2_findAlone_4 : List UInt8 := [128, 181, 0, 212, 28, 158, 0, 23, 42, 180, 0, 87, 42, 180, 0, 13, 28, 46, 92, 47, 42, 180, 0, 87]
abbrev dktX2_findAlone_4 : List UInt8 := dkwX2_findAlone_4 ++ dktX2_findAlone_5
def dkwX2_findAlone_3 : List UInt8 := [180, 0, 87, 28, 47, 148, 155, 0, 22, 42, 180, 0, 87, 28, 33, 80, 42, 89, 180, 0, 212, 4, 28, 120]
abbrev dktX2_findAlone_3 : List UInt8 := dkwX2_findAlone_3 ++ dktX2_findAlone_4
def dkwX2_findAlone_2 : List UInt8 := [180, 0, 78, 16, 24, 27, 104, 28, 96, 46, 153, 0, 40, 42, 27, 28, 182, 0, 215, 66, 33, 42]
abbrev dktX2_findAlone_2 : List UInt8 := dkwX2_findAlone_2 ++ dktX2_findAlone_3
def dkwX2_findAlone_1 : List UInt8 := [132, 2, 1, 167, 255, 238, 42, 180, 0, 46, 4, 100, 61, 28, 155, 0, 88, 28, 158, 0, 54, 42]
abbrev dktX2_findAlone_1 : List UInt8 := dkwX2_findAlone_1 ++ dktX2_findAlone_2
def dkwX2_findAlone_0 : List UInt8 := [42, 3, 181, 0, 212, 3, 61, 28, 42, 180, 0, 46, 162, 0, 16, 42, 180, 0, 87, 28, 9, 80]
abbrev dktX2_findAlone_0 : List UInt8 := dkwX2_findAlone_0 ++ dktX2_findAlone_1
theorem dksX2_findAlone_0 : cX2_findAlone.data.toList.drop 0 = dktX2_findAlone_0 := by decide +kernel
theorem dksX2_findAlone_1 : cX2_findAlone.data.toList.drop 22 = dktX2_findAlone_1 := dk_seg dksX2_findAlone_0 22 rfl rfl
theorem dksX2_findAlone_2 : cX2_findAlone.data.toList.drop 44 = dktX2_findAlone_2 := dk_seg dksX2_findAlone_1 22 rfl rfl
theorem dksX2_findAlone_3 : cX2_findAlone.data.toList.drop 66 = dktX2_findAlone_3 := dk_seg dksX2_findAlone_2 22 rfl rfl
theorem dksX2_findAlone_4 : cX2_findAlone.data.toList.drop 90 = dktX2_findAlone_4 := dk_seg dksX2_findAlone_3 24 rfl rfl
theorem dksX2_findAlone_5 : cX2_findAlone.data.toList.drop 114 = dktX2_findAlone_5 := dk_seg dksX2_findAlone_4 24 rfl rfl
theorem dX2_findAlone_0 : decode cX2_findAlone 0 = .ok (.aload_n 0, 1) := dk_42 (dk_at dksX2_findAlone_0 0 rfl rfl)
theorem dX2_findAlone_1 : decode cX2_findAlone 1 = .ok (.iconst 0, 1) := dk_3 (dk_at dksX2_findAlone_0 1 rfl rfl)
theorem dX2_findAlone_2 : decode cX2_findAlone 2 = .ok (.putfield 212, 3) := dk_181 0 212 (dk_at dksX2_findAlone_0 2 rfl rfl)
theorem dX2_findAlone_5 : decode cX2_findAlone 5 = .ok (.iconst 0, 1) := dk_3 (dk_at dksX2_findAlone_0 5 rfl rfl)
theorem dX2_findAlone_6 : decode cX2_findAlone 6 = .ok (.istore_n 2, 1) := dk_61 (dk_at dksX2_findAlone_0 6 rfl rfl)
theorem dX2_findAlone_7 : decode cX2_findAlone 7 = .ok (.iload_n 2, 1) := dk_28 (dk_at dksX2_findAlone_0 7 rfl rfl)
theorem dX2_findAlone_8 : decode cX2_findAlone 8 = .ok (.aload_n 0, 1) := dk_42 (dk_at dksX2_findAlone_0 8 rfl rfl)
theorem dX2_findAlone_9 : decode cX2_findAlone 9 = .ok (.getfield 46, 3) := dk_180 0 46 (dk_at dksX2_findAlone_0 9 rfl rfl)
theorem dX2_findAlone_12 : decode cX2_findAlone 12 = .ok (.if_icmp .ge 16, 3) := dk_162 0 16 (dk_at dksX2_findAlone_0 12 rfl rfl)
theorem dX2_findAlone_15 : decode cX2_findAlone 15 = .ok (.aload_n 0, 1) := dk_42 (dk_at dksX2_findAlone_0 15 rfl rfl)
theorem dX2_findAlone_16 : decode cX2_findAlone 16 = .ok (.getfield 87, 3) := dk_180 0 87 (dk_at dksX2_findAlone_0 16 rfl rfl)
theorem dX2_findAlone_19 : decode cX2_findAlone 19 = .ok (.iload_n 2, 1) := dk_28 (dk_at dksX2_findAlone_0 19 rfl rfl)
theorem dX2_findAlone_20 : decode cX2_findAlone 20 = .ok (.lconst 0, 1) := dk_9 (dk_at dksX2_findAlone_0 20 rfl rfl)
theorem dX2_findAlone_21 : decode cX2_findAlone 21 = .ok (.lastore, 1) := dk_80 (dk_at dksX2_findAlone_0 21 rfl rfl)
theorem dX2_findAlone_22 : decode cX2_findAlone 22 = .ok (.iinc 2 1, 3) := dk_132 2 1 (dk_at dksX2_findAlone_1 0 rfl rfl)
theorem dX2_findAlone_25 : decode cX2_findAlone 25 = .ok (.goto (-18), 3) := dk_167 255 238 (dk_at dksX2_findAlone_1 3 rfl rfl)
theorem dX2_findAlone_28 : decode cX2_findAlone 28 = .ok (.aload_n 0, 1) := dk_42 (dk_at dksX2_findAlone_1 6 rfl rfl)
theorem dX2_findAlone_29 : decode cX2_findAlone 29 = .ok (.getfield 46, 3) := dk_180 0 46 (dk_at dksX2_findAlone_1 7 rfl rfl)
theorem dX2_findAlone_32 : decode cX2_findAlone 32 = .ok (.iconst 1, 1) := dk_4 (dk_at dksX2_findAlone_1 10 rfl rfl)
theorem dX2_findAlone_33 : decode cX2_findAlone 33 = .ok (.isub, 1) := dk_100 (dk_at dksX2_findAlone_1 11 rfl rfl)
theorem dX2_findAlone_34 : decode cX2_findAlone 34 = .ok (.istore_n 2, 1) := dk_61 (dk_at dksX2_findAlone_1 12 rfl rfl)
theorem dX2_findAlone_35 : decode cX2_findAlone 35 = .ok (.iload_n 2, 1) := dk_28 (dk_at dksX2_findAlone_1 13 rfl rfl)
theorem dX2_findAlone_36 : decode cX2_findAlone 36 = .ok (.ifCond .lt 88, 3) := dk_155 0 88 (dk_at dksX2_findAlone_1 14 rfl rfl)
theorem dX2_findAlone_39 : decode cX2_findAlone 39 = .ok (.iload_n 2, 1) := dk_28 (dk_at dksX2_findAlone_1 17 rfl rfl)
theorem dX2_findAlone_40 : decode cX2_findAlone 40 = .ok (.ifCond .le 54, 3) := dk_158 0 54 (dk_at dksX2_findAlone_1 18 rfl rfl)
theorem dX2_findAlone_43 : decode cX2_findAlone 43 = .ok (.aload_n 0, 1) := dk_42 (dk_at dksX2_findAlone_1 21 rfl rfl)
theorem dX2_findAlone_44 : decode cX2_findAlone 44 = .ok (.getfield 78, 3) := dk_180 0 78 (dk_at dksX2_findAlone_2 0 rfl rfl)
theorem dX2_findAlone_47 : decode cX2_findAlone 47 = .ok (.bipush 24, 2) := dk_16 24 (dk_at dksX2_findAlone_2 3 rfl rfl)
theorem dX2_findAlone_49 : decode cX2_findAlone 49 = .ok (.iload_n 1, 1) := dk_27 (dk_at dksX2_findAlone_2 5 rfl rfl)
theorem dX2_findAlone_50 : decode cX2_findAlone 50 = .ok (.imul, 1) := dk_104 (dk_at dksX2_findAlone_2 6 rfl rfl)
theorem dX2_findAlone_51 : decode cX2_findAlone 51 = .ok (.iload_n 2, 1) := dk_28 (dk_at dksX2_findAlone_2 7 rfl rfl)
theorem dX2_findAlone_52 : decode cX2_findAlone 52 = .ok (.iadd, 1) := dk_96 (dk_at dksX2_findAlone_2 8 rfl rfl)
theorem dX2_findAlone_53 : decode cX2_findAlone 53 = .ok (.iaload, 1) := dk_46 (dk_at dksX2_findAlone_2 9 rfl rfl)
theorem dX2_findAlone_54 : decode cX2_findAlone 54 = .ok (.ifCond .eq 40, 3) := dk_153 0 40 (dk_at dksX2_findAlone_2 10 rfl rfl)
theorem dX2_findAlone_57 : decode cX2_findAlone 57 = .ok (.aload_n 0, 1) := dk_42 (dk_at dksX2_findAlone_2 13 rfl rfl)
theorem dX2_findAlone_58 : decode cX2_findAlone 58 = .ok (.iload_n 1, 1) := dk_27 (dk_at dksX2_findAlone_2 14 rfl rfl)
theorem dX2_findAlone_59 : decode cX2_findAlone 59 = .ok (.iload_n 2, 1) := dk_28 (dk_at dksX2_findAlone_2 15 rfl rfl)
theorem dX2_findAlone_60 : decode cX2_findAlone 60 = .ok (.invokevirtual 215, 3) := dk_182 0 215 (dk_at dksX2_findAlone_2 16 rfl rfl)
theorem dX2_findAlone_63 : decode cX2_findAlone 63 = .ok (.lstore_n 3, 1) := dk_66 (dk_at dksX2_findAlone_2 19 rfl rfl)
theorem dX2_findAlone_64 : decode cX2_findAlone 64 = .ok (.lload_n 3, 1) := dk_33 (dk_at dksX2_findAlone_2 20 rfl rfl)
theorem dX2_findAlone_65 : decode cX2_findAlone 65 = .ok (.aload_n 0, 1) := dk_42 (dk_at dksX2_findAlone_2 21 rfl rfl)
theorem dX2_findAlone_66 : decode cX2_findAlone 66 = .ok (.getfield 87, 3) := dk_180 0 87 (dk_at dksX2_findAlone_3 0 rfl rfl)
theorem dX2_findAlone_69 : decode cX2_findAlone 69 = .ok (.iload_n 2, 1) := dk_28 (dk_at dksX2_findAlone_3 3 rfl rfl)
theorem dX2_findAlone_70 : decode cX2_findAlone 70 = .ok (.laload, 1) := dk_47 (dk_at dksX2_findAlone_3 4 rfl rfl)
theorem dX2_findAlone_71 : decode cX2_findAlone 71 = .ok (.lcmp, 1) := dk_148 (dk_at dksX2_findAlone_3 5 rfl rfl)
theorem dX2_findAlone_72 : decode cX2_findAlone 72 = .ok (.ifCond .lt 22, 3) := dk_155 0 22 (dk_at dksX2_findAlone_3 6 rfl rfl)
theorem dX2_findAlone_75 : decode cX2_findAlone 75 = .ok (.aload_n 0, 1) := dk_42 (dk_at dksX2_findAlone_3 9 rfl rfl)
theorem dX2_findAlone_76 : decode cX2_findAlone 76 = .ok (.getfield 87, 3) := dk_180 0 87 (dk_at dksX2_findAlone_3 10 rfl rfl)
theorem dX2_findAlone_79 : decode cX2_findAlone 79 = .ok (.iload_n 2, 1) := dk_28 (dk_at dksX2_findAlone_3 13 rfl rfl)
theorem dX2_findAlone_80 : decode cX2_findAlone 80 = .ok (.lload_n 3, 1) := dk_33 (dk_at dksX2_findAlone_3 14 rfl rfl)
theorem dX2_findAlone_81 : decode cX2_findAlone 81 = .ok (.lastore, 1) := dk_80 (dk_at dksX2_findAlone_3 15 rfl rfl)
theorem dX2_findAlone_82 : decode cX2_findAlone 82 = .ok (.aload_n 0, 1) := dk_42 (dk_at dksX2_findAlone_3 16 rfl rfl)
theorem dX2_findAlone_83 : decode cX2_findAlone 83 = .ok (.dup, 1) := dk_89 (dk_at dksX2_findAlone_3 17 rfl rfl)
theorem dX2_findAlone_84 : decode cX2_findAlone 84 = .ok (.getfield 212, 3) := dk_180 0 212 (dk_at dksX2_findAlone_3 18 rfl rfl)
theorem dX2_findAlone_87 : decode cX2_findAlone 87 = .ok (.iconst 1, 1) := dk_4 (dk_at dksX2_findAlone_3 21 rfl rfl)
theorem dX2_findAlone_88 : decode cX2_findAlone 88 = .ok (.iload_n 2, 1) := dk_28 (dk_at dksX2_findAlone_3 22 rfl rfl)
theorem dX2_findAlone_89 : decode cX2_findAlone 89 = .ok (.ishl, 1) := dk_120 (dk_at dksX2_findAlone_3 23 rfl rfl)
theorem dX2_findAlone_90 : decode cX2_findAlone 90 = .ok (.ior, 1) := dk_128 (dk_at dksX2_findAlone_4 0 rfl rfl)
theorem dX2_findAlone_91 : decode cX2_findAlone 91 = .ok (.putfield 212, 3) := dk_181 0 212 (dk_at dksX2_findAlone_4 1 rfl rfl)
theorem dX2_findAlone_94 : decode cX2_findAlone 94 = .ok (.iload_n 2, 1) := dk_28 (dk_at dksX2_findAlone_4 4 rfl rfl)
theorem dX2_findAlone_95 : decode cX2_findAlone 95 = .ok (.ifCond .le 23, 3) := dk_158 0 23 (dk_at dksX2_findAlone_4 5 rfl rfl)
theorem dX2_findAlone_98 : decode cX2_findAlone 98 = .ok (.aload_n 0, 1) := dk_42 (dk_at dksX2_findAlone_4 8 rfl rfl)
theorem dX2_findAlone_99 : decode cX2_findAlone 99 = .ok (.getfield 87, 3) := dk_180 0 87 (dk_at dksX2_findAlone_4 9 rfl rfl)
theorem dX2_findAlone_102 : decode cX2_findAlone 102 = .ok (.aload_n 0, 1) := dk_42 (dk_at dksX2_findAlone_4 12 rfl rfl)
theorem dX2_findAlone_103 : decode cX2_findAlone 103 = .ok (.getfield 13, 3) := dk_180 0 13 (dk_at dksX2_findAlone_4 13 rfl rfl)
theorem dX2_findAlone_106 : decode cX2_findAlone 106 = .ok (.iload_n 2, 1) := dk_28 (dk_at dksX2_findAlone_4 16 rfl rfl)
theorem dX2_findAlone_107 : decode cX2_findAlone 107 = .ok (.iaload, 1) := dk_46 (dk_at dksX2_findAlone_4 17 rfl rfl)
theorem dX2_findAlone_108 : decode cX2_findAlone 108 = .ok (.dup2, 1) := dk_92 (dk_at dksX2_findAlone_4 18 rfl rfl)
theorem dX2_findAlone_109 : decode cX2_findAlone 109 = .ok (.laload, 1) := dk_47 (dk_at dksX2_findAlone_4 19 rfl rfl)
theorem dX2_findAlone_110 : decode cX2_findAlone 110 = .ok (.aload_n 0, 1) := dk_42 (dk_at dksX2_findAlone_4 20 rfl rfl)
theorem dX2_findAlone_111 : decode cX2_findAlone 111 = .ok (.getfield 87, 3) := dk_180 0 87 (dk_at dksX2_findAlone_4 21 rfl rfl)
theorem dX2_findAlone_114 : decode cX2_findAlone 114 = .ok (.iload_n 2, 1) := dk_28 (dk_at dksX2_findAlone_5 0 rfl rfl)
theorem dX2_findAlone_115 : decode cX2_findAlone 115 = .ok (.laload, 1) := dk_47 (dk_at dksX2_findAlone_5 1 rfl rfl)
theorem dX2_findAlone_116 : decode cX2_findAlone 116 = .ok (.ladd, 1) := dk_97 (dk_at dksX2_findAlone_5 2 rfl rfl)
theorem dX2_findAlone_117 : decode cX2_findAlone 117 = .ok (.lastore, 1) := dk_80 (dk_at dksX2_findAlone_5 3 rfl rfl)
theorem dX2_findAlone_118 : decode cX2_findAlone 118 = .ok (.iinc 2 (-1), 3) := dk_132 2 255 (dk_at dksX2_findAlone_5 4 rfl rfl)
theorem dX2_findAlone_121 : decode cX2_findAlone 121 = .ok (.goto (-86), 3) := dk_167 255 170 (dk_at dksX2_findAlone_5 7 rfl rfl)
theorem dX2_findAlone_124 : decode cX2_findAlone 124 = .ok (.return_, 1) := dk_177 (dk_at dksX2_findAlone_5 10 rfl rfl)
abbrev cX2_pressWorth : ByteArray := prog_18_method_37_code
def yX2_pressWorth : MethodName := ⟨RX2, "pressWorth", "(II)J"⟩
def dkwX2_pressWorth_5 : List UInt8 := [22, 4, 173]
abbrev dktX2_pressWorth_5 : List UInt8 := dkwX2_pressWorth_5 ++ []
def dkwX2_pressWorth_4 : List UInt8 := [100, 104, 96, 167, 0, 10, 42, 180, 0, 40, 4, 46, 116, 133, 105, 97, 55, 4, 132, 6, 1, 167, 255, 158]
abbrev dktX2_pressWorth_4 : List UInt8 := dkwX2_pressWorth_4 ++ dktX2_pressWorth_5
def dkwX2_pressWorth_3 : List UInt8 := [180, 0, 40, 3, 46, 42, 180, 0, 40, 5, 46, 42, 180, 0, 22, 21, 6, 46, 42, 180, 0, 22, 28, 46]
abbrev dktX2_pressWorth_3 : List UInt8 := dkwX2_pressWorth_3 ++ dktX2_pressWorth_4
def dkwX2_pressWorth_2 : List UInt8 := [167, 0, 66, 22, 4, 42, 180, 0, 71, 21, 6, 47, 42, 180, 0, 19, 21, 6, 46, 29, 160, 0, 34, 42]
abbrev dktX2_pressWorth_2 : List UInt8 := dkwX2_pressWorth_2 ++ dktX2_pressWorth_3
def dkwX2_pressWorth_1 : List UInt8 := [162, 0, 95, 42, 180, 0, 19, 21, 6, 46, 153, 0, 79, 42, 21, 6, 28, 182, 0, 186, 154, 0, 6]
abbrev dktX2_pressWorth_1 : List UInt8 := dkwX2_pressWorth_1 ++ dktX2_pressWorth_2
def dkwX2_pressWorth_0 : List UInt8 := [42, 180, 0, 78, 16, 24, 27, 104, 28, 96, 46, 62, 9, 55, 4, 28, 54, 6, 21, 6, 42, 180, 0, 46]
abbrev dktX2_pressWorth_0 : List UInt8 := dkwX2_pressWorth_0 ++ dktX2_pressWorth_1
theorem dksX2_pressWorth_0 : cX2_pressWorth.data.toList.drop 0 = dktX2_pressWorth_0 := by decide +kernel
theorem dksX2_pressWorth_1 : cX2_pressWorth.data.toList.drop 24 = dktX2_pressWorth_1 := dk_seg dksX2_pressWorth_0 24 rfl rfl
theorem dksX2_pressWorth_2 : cX2_pressWorth.data.toList.drop 47 = dktX2_pressWorth_2 := dk_seg dksX2_pressWorth_1 23 rfl rfl
theorem dksX2_pressWorth_3 : cX2_pressWorth.data.toList.drop 71 = dktX2_pressWorth_3 := dk_seg dksX2_pressWorth_2 24 rfl rfl
theorem dksX2_pressWorth_4 : cX2_pressWorth.data.toList.drop 95 = dktX2_pressWorth_4 := dk_seg dksX2_pressWorth_3 24 rfl rfl
theorem dksX2_pressWorth_5 : cX2_pressWorth.data.toList.drop 119 = dktX2_pressWorth_5 := dk_seg dksX2_pressWorth_4 24 rfl rfl
theorem dX2_pressWorth_0 : decode cX2_pressWorth 0 = .ok (.aload_n 0, 1) := dk_42 (dk_at dksX2_pressWorth_0 0 rfl rfl)
theorem dX2_pressWorth_1 : decode cX2_pressWorth 1 = .ok (.getfield 78, 3) := dk_180 0 78 (dk_at dksX2_pressWorth_0 1 rfl rfl)
theorem dX2_pressWorth_4 : decode cX2_pressWorth 4 = .ok (.bipush 24, 2) := dk_16 24 (dk_at dksX2_pressWorth_0 4 rfl rfl)
theorem dX2_pressWorth_6 : decode cX2_pressWorth 6 = .ok (.iload_n 1, 1) := dk_27 (dk_at dksX2_pressWorth_0 6 rfl rfl)
theorem dX2_pressWorth_7 : decode cX2_pressWorth 7 = .ok (.imul, 1) := dk_104 (dk_at dksX2_pressWorth_0 7 rfl rfl)
theorem dX2_pressWorth_8 : decode cX2_pressWorth 8 = .ok (.iload_n 2, 1) := dk_28 (dk_at dksX2_pressWorth_0 8 rfl rfl)
theorem dX2_pressWorth_9 : decode cX2_pressWorth 9 = .ok (.iadd, 1) := dk_96 (dk_at dksX2_pressWorth_0 9 rfl rfl)
theorem dX2_pressWorth_10 : decode cX2_pressWorth 10 = .ok (.iaload, 1) := dk_46 (dk_at dksX2_pressWorth_0 10 rfl rfl)
theorem dX2_pressWorth_11 : decode cX2_pressWorth 11 = .ok (.istore_n 3, 1) := dk_62 (dk_at dksX2_pressWorth_0 11 rfl rfl)
theorem dX2_pressWorth_12 : decode cX2_pressWorth 12 = .ok (.lconst 0, 1) := dk_9 (dk_at dksX2_pressWorth_0 12 rfl rfl)
theorem dX2_pressWorth_13 : decode cX2_pressWorth 13 = .ok (.lstore 4, 2) := dk_55 4 (dk_at dksX2_pressWorth_0 13 rfl rfl)
theorem dX2_pressWorth_15 : decode cX2_pressWorth 15 = .ok (.iload_n 2, 1) := dk_28 (dk_at dksX2_pressWorth_0 15 rfl rfl)
theorem dX2_pressWorth_16 : decode cX2_pressWorth 16 = .ok (.istore 6, 2) := dk_54 6 (dk_at dksX2_pressWorth_0 16 rfl rfl)
theorem dX2_pressWorth_18 : decode cX2_pressWorth 18 = .ok (.iload 6, 2) := dk_21 6 (dk_at dksX2_pressWorth_0 18 rfl rfl)
theorem dX2_pressWorth_20 : decode cX2_pressWorth 20 = .ok (.aload_n 0, 1) := dk_42 (dk_at dksX2_pressWorth_0 20 rfl rfl)
theorem dX2_pressWorth_21 : decode cX2_pressWorth 21 = .ok (.getfield 46, 3) := dk_180 0 46 (dk_at dksX2_pressWorth_0 21 rfl rfl)
theorem dX2_pressWorth_24 : decode cX2_pressWorth 24 = .ok (.if_icmp .ge 95, 3) := dk_162 0 95 (dk_at dksX2_pressWorth_1 0 rfl rfl)
theorem dX2_pressWorth_27 : decode cX2_pressWorth 27 = .ok (.aload_n 0, 1) := dk_42 (dk_at dksX2_pressWorth_1 3 rfl rfl)
theorem dX2_pressWorth_28 : decode cX2_pressWorth 28 = .ok (.getfield 19, 3) := dk_180 0 19 (dk_at dksX2_pressWorth_1 4 rfl rfl)
theorem dX2_pressWorth_31 : decode cX2_pressWorth 31 = .ok (.iload 6, 2) := dk_21 6 (dk_at dksX2_pressWorth_1 7 rfl rfl)
theorem dX2_pressWorth_33 : decode cX2_pressWorth 33 = .ok (.iaload, 1) := dk_46 (dk_at dksX2_pressWorth_1 9 rfl rfl)
theorem dX2_pressWorth_34 : decode cX2_pressWorth 34 = .ok (.ifCond .eq 79, 3) := dk_153 0 79 (dk_at dksX2_pressWorth_1 10 rfl rfl)
theorem dX2_pressWorth_37 : decode cX2_pressWorth 37 = .ok (.aload_n 0, 1) := dk_42 (dk_at dksX2_pressWorth_1 13 rfl rfl)
theorem dX2_pressWorth_38 : decode cX2_pressWorth 38 = .ok (.iload 6, 2) := dk_21 6 (dk_at dksX2_pressWorth_1 14 rfl rfl)
theorem dX2_pressWorth_40 : decode cX2_pressWorth 40 = .ok (.iload_n 2, 1) := dk_28 (dk_at dksX2_pressWorth_1 16 rfl rfl)
theorem dX2_pressWorth_41 : decode cX2_pressWorth 41 = .ok (.invokevirtual 186, 3) := dk_182 0 186 (dk_at dksX2_pressWorth_1 17 rfl rfl)
theorem dX2_pressWorth_44 : decode cX2_pressWorth 44 = .ok (.ifCond .ne 6, 3) := dk_154 0 6 (dk_at dksX2_pressWorth_1 20 rfl rfl)
theorem dX2_pressWorth_47 : decode cX2_pressWorth 47 = .ok (.goto 66, 3) := dk_167 0 66 (dk_at dksX2_pressWorth_2 0 rfl rfl)
theorem dX2_pressWorth_50 : decode cX2_pressWorth 50 = .ok (.lload 4, 2) := dk_22 4 (dk_at dksX2_pressWorth_2 3 rfl rfl)
theorem dX2_pressWorth_52 : decode cX2_pressWorth 52 = .ok (.aload_n 0, 1) := dk_42 (dk_at dksX2_pressWorth_2 5 rfl rfl)
theorem dX2_pressWorth_53 : decode cX2_pressWorth 53 = .ok (.getfield 71, 3) := dk_180 0 71 (dk_at dksX2_pressWorth_2 6 rfl rfl)
theorem dX2_pressWorth_56 : decode cX2_pressWorth 56 = .ok (.iload 6, 2) := dk_21 6 (dk_at dksX2_pressWorth_2 9 rfl rfl)
theorem dX2_pressWorth_58 : decode cX2_pressWorth 58 = .ok (.laload, 1) := dk_47 (dk_at dksX2_pressWorth_2 11 rfl rfl)
theorem dX2_pressWorth_59 : decode cX2_pressWorth 59 = .ok (.aload_n 0, 1) := dk_42 (dk_at dksX2_pressWorth_2 12 rfl rfl)
theorem dX2_pressWorth_60 : decode cX2_pressWorth 60 = .ok (.getfield 19, 3) := dk_180 0 19 (dk_at dksX2_pressWorth_2 13 rfl rfl)
theorem dX2_pressWorth_63 : decode cX2_pressWorth 63 = .ok (.iload 6, 2) := dk_21 6 (dk_at dksX2_pressWorth_2 16 rfl rfl)
theorem dX2_pressWorth_65 : decode cX2_pressWorth 65 = .ok (.iaload, 1) := dk_46 (dk_at dksX2_pressWorth_2 18 rfl rfl)
theorem dX2_pressWorth_66 : decode cX2_pressWorth 66 = .ok (.iload_n 3, 1) := dk_29 (dk_at dksX2_pressWorth_2 19 rfl rfl)
theorem dX2_pressWorth_67 : decode cX2_pressWorth 67 = .ok (.if_icmp .ne 34, 3) := dk_160 0 34 (dk_at dksX2_pressWorth_2 20 rfl rfl)
theorem dX2_pressWorth_70 : decode cX2_pressWorth 70 = .ok (.aload_n 0, 1) := dk_42 (dk_at dksX2_pressWorth_2 23 rfl rfl)
theorem dX2_pressWorth_71 : decode cX2_pressWorth 71 = .ok (.getfield 40, 3) := dk_180 0 40 (dk_at dksX2_pressWorth_3 0 rfl rfl)
theorem dX2_pressWorth_74 : decode cX2_pressWorth 74 = .ok (.iconst 0, 1) := dk_3 (dk_at dksX2_pressWorth_3 3 rfl rfl)
theorem dX2_pressWorth_75 : decode cX2_pressWorth 75 = .ok (.iaload, 1) := dk_46 (dk_at dksX2_pressWorth_3 4 rfl rfl)
theorem dX2_pressWorth_76 : decode cX2_pressWorth 76 = .ok (.aload_n 0, 1) := dk_42 (dk_at dksX2_pressWorth_3 5 rfl rfl)
theorem dX2_pressWorth_77 : decode cX2_pressWorth 77 = .ok (.getfield 40, 3) := dk_180 0 40 (dk_at dksX2_pressWorth_3 6 rfl rfl)
theorem dX2_pressWorth_80 : decode cX2_pressWorth 80 = .ok (.iconst 2, 1) := dk_5 (dk_at dksX2_pressWorth_3 9 rfl rfl)
theorem dX2_pressWorth_81 : decode cX2_pressWorth 81 = .ok (.iaload, 1) := dk_46 (dk_at dksX2_pressWorth_3 10 rfl rfl)
theorem dX2_pressWorth_82 : decode cX2_pressWorth 82 = .ok (.aload_n 0, 1) := dk_42 (dk_at dksX2_pressWorth_3 11 rfl rfl)
theorem dX2_pressWorth_83 : decode cX2_pressWorth 83 = .ok (.getfield 22, 3) := dk_180 0 22 (dk_at dksX2_pressWorth_3 12 rfl rfl)
theorem dX2_pressWorth_86 : decode cX2_pressWorth 86 = .ok (.iload 6, 2) := dk_21 6 (dk_at dksX2_pressWorth_3 15 rfl rfl)
theorem dX2_pressWorth_88 : decode cX2_pressWorth 88 = .ok (.iaload, 1) := dk_46 (dk_at dksX2_pressWorth_3 17 rfl rfl)
theorem dX2_pressWorth_89 : decode cX2_pressWorth 89 = .ok (.aload_n 0, 1) := dk_42 (dk_at dksX2_pressWorth_3 18 rfl rfl)
theorem dX2_pressWorth_90 : decode cX2_pressWorth 90 = .ok (.getfield 22, 3) := dk_180 0 22 (dk_at dksX2_pressWorth_3 19 rfl rfl)
theorem dX2_pressWorth_93 : decode cX2_pressWorth 93 = .ok (.iload_n 2, 1) := dk_28 (dk_at dksX2_pressWorth_3 22 rfl rfl)
theorem dX2_pressWorth_94 : decode cX2_pressWorth 94 = .ok (.iaload, 1) := dk_46 (dk_at dksX2_pressWorth_3 23 rfl rfl)
theorem dX2_pressWorth_95 : decode cX2_pressWorth 95 = .ok (.isub, 1) := dk_100 (dk_at dksX2_pressWorth_4 0 rfl rfl)
theorem dX2_pressWorth_96 : decode cX2_pressWorth 96 = .ok (.imul, 1) := dk_104 (dk_at dksX2_pressWorth_4 1 rfl rfl)
theorem dX2_pressWorth_97 : decode cX2_pressWorth 97 = .ok (.iadd, 1) := dk_96 (dk_at dksX2_pressWorth_4 2 rfl rfl)
theorem dX2_pressWorth_98 : decode cX2_pressWorth 98 = .ok (.goto 10, 3) := dk_167 0 10 (dk_at dksX2_pressWorth_4 3 rfl rfl)
theorem dX2_pressWorth_101 : decode cX2_pressWorth 101 = .ok (.aload_n 0, 1) := dk_42 (dk_at dksX2_pressWorth_4 6 rfl rfl)
theorem dX2_pressWorth_102 : decode cX2_pressWorth 102 = .ok (.getfield 40, 3) := dk_180 0 40 (dk_at dksX2_pressWorth_4 7 rfl rfl)
theorem dX2_pressWorth_105 : decode cX2_pressWorth 105 = .ok (.iconst 1, 1) := dk_4 (dk_at dksX2_pressWorth_4 10 rfl rfl)
theorem dX2_pressWorth_106 : decode cX2_pressWorth 106 = .ok (.iaload, 1) := dk_46 (dk_at dksX2_pressWorth_4 11 rfl rfl)
theorem dX2_pressWorth_107 : decode cX2_pressWorth 107 = .ok (.ineg, 1) := dk_116 (dk_at dksX2_pressWorth_4 12 rfl rfl)
theorem dX2_pressWorth_108 : decode cX2_pressWorth 108 = .ok (.i2l, 1) := dk_133 (dk_at dksX2_pressWorth_4 13 rfl rfl)
theorem dX2_pressWorth_109 : decode cX2_pressWorth 109 = .ok (.lmul, 1) := dk_105 (dk_at dksX2_pressWorth_4 14 rfl rfl)
theorem dX2_pressWorth_110 : decode cX2_pressWorth 110 = .ok (.ladd, 1) := dk_97 (dk_at dksX2_pressWorth_4 15 rfl rfl)
theorem dX2_pressWorth_111 : decode cX2_pressWorth 111 = .ok (.lstore 4, 2) := dk_55 4 (dk_at dksX2_pressWorth_4 16 rfl rfl)
theorem dX2_pressWorth_113 : decode cX2_pressWorth 113 = .ok (.iinc 6 1, 3) := dk_132 6 1 (dk_at dksX2_pressWorth_4 18 rfl rfl)
theorem dX2_pressWorth_116 : decode cX2_pressWorth 116 = .ok (.goto (-98), 3) := dk_167 255 158 (dk_at dksX2_pressWorth_4 21 rfl rfl)
theorem dX2_pressWorth_119 : decode cX2_pressWorth 119 = .ok (.lload 4, 2) := dk_22 4 (dk_at dksX2_pressWorth_5 0 rfl rfl)
theorem dX2_pressWorth_121 : decode cX2_pressWorth 121 = .ok (.lreturn, 1) := dk_173 (dk_at dksX2_pressWorth_5 2 rfl rfl)
abbrev cX2_sureOf : ByteArray := prog_18_method_35_code
def yX2_sureOf : MethodName := ⟨RX2, "sureOf", "(I)I"⟩
def dkwX2_sureOf_1 : List UInt8 := [46, 16, 20, 162, 0, 7, 3, 167, 0, 12, 42, 180, 0, 34, 27, 46, 16, 20, 100, 172]
abbrev dktX2_sureOf_1 : List UInt8 := dkwX2_sureOf_1 ++ []
def dkwX2_sureOf_0 : List UInt8 := [42, 180, 0, 25, 27, 46, 5, 159, 0, 12, 42, 180, 0, 34, 27, 46, 167, 0, 27, 42, 180, 0, 34, 27]
abbrev dktX2_sureOf_0 : List UInt8 := dkwX2_sureOf_0 ++ dktX2_sureOf_1
theorem dksX2_sureOf_0 : cX2_sureOf.data.toList.drop 0 = dktX2_sureOf_0 := by decide +kernel
theorem dksX2_sureOf_1 : cX2_sureOf.data.toList.drop 24 = dktX2_sureOf_1 := dk_seg dksX2_sureOf_0 24 rfl rfl
theorem dX2_sureOf_0 : decode cX2_sureOf 0 = .ok (.aload_n 0, 1) := dk_42 (dk_at dksX2_sureOf_0 0 rfl rfl)
theorem dX2_sureOf_1 : decode cX2_sureOf 1 = .ok (.getfield 25, 3) := dk_180 0 25 (dk_at dksX2_sureOf_0 1 rfl rfl)
theorem dX2_sureOf_4 : decode cX2_sureOf 4 = .ok (.iload_n 1, 1) := dk_27 (dk_at dksX2_sureOf_0 4 rfl rfl)
theorem dX2_sureOf_5 : decode cX2_sureOf 5 = .ok (.iaload, 1) := dk_46 (dk_at dksX2_sureOf_0 5 rfl rfl)
theorem dX2_sureOf_6 : decode cX2_sureOf 6 = .ok (.iconst 2, 1) := dk_5 (dk_at dksX2_sureOf_0 6 rfl rfl)
theorem dX2_sureOf_7 : decode cX2_sureOf 7 = .ok (.if_icmp .eq 12, 3) := dk_159 0 12 (dk_at dksX2_sureOf_0 7 rfl rfl)
theorem dX2_sureOf_10 : decode cX2_sureOf 10 = .ok (.aload_n 0, 1) := dk_42 (dk_at dksX2_sureOf_0 10 rfl rfl)
theorem dX2_sureOf_11 : decode cX2_sureOf 11 = .ok (.getfield 34, 3) := dk_180 0 34 (dk_at dksX2_sureOf_0 11 rfl rfl)
theorem dX2_sureOf_14 : decode cX2_sureOf 14 = .ok (.iload_n 1, 1) := dk_27 (dk_at dksX2_sureOf_0 14 rfl rfl)
theorem dX2_sureOf_15 : decode cX2_sureOf 15 = .ok (.iaload, 1) := dk_46 (dk_at dksX2_sureOf_0 15 rfl rfl)
theorem dX2_sureOf_16 : decode cX2_sureOf 16 = .ok (.goto 27, 3) := dk_167 0 27 (dk_at dksX2_sureOf_0 16 rfl rfl)
theorem dX2_sureOf_19 : decode cX2_sureOf 19 = .ok (.aload_n 0, 1) := dk_42 (dk_at dksX2_sureOf_0 19 rfl rfl)
theorem dX2_sureOf_20 : decode cX2_sureOf 20 = .ok (.getfield 34, 3) := dk_180 0 34 (dk_at dksX2_sureOf_0 20 rfl rfl)
theorem dX2_sureOf_23 : decode cX2_sureOf 23 = .ok (.iload_n 1, 1) := dk_27 (dk_at dksX2_sureOf_0 23 rfl rfl)
theorem dX2_sureOf_24 : decode cX2_sureOf 24 = .ok (.iaload, 1) := dk_46 (dk_at dksX2_sureOf_1 0 rfl rfl)
theorem dX2_sureOf_25 : decode cX2_sureOf 25 = .ok (.bipush 20, 2) := dk_16 20 (dk_at dksX2_sureOf_1 1 rfl rfl)
theorem dX2_sureOf_27 : decode cX2_sureOf 27 = .ok (.if_icmp .ge 7, 3) := dk_162 0 7 (dk_at dksX2_sureOf_1 3 rfl rfl)
theorem dX2_sureOf_30 : decode cX2_sureOf 30 = .ok (.iconst 0, 1) := dk_3 (dk_at dksX2_sureOf_1 6 rfl rfl)
theorem dX2_sureOf_31 : decode cX2_sureOf 31 = .ok (.goto 12, 3) := dk_167 0 12 (dk_at dksX2_sureOf_1 7 rfl rfl)
theorem dX2_sureOf_34 : decode cX2_sureOf 34 = .ok (.aload_n 0, 1) := dk_42 (dk_at dksX2_sureOf_1 10 rfl rfl)
theorem dX2_sureOf_35 : decode cX2_sureOf 35 = .ok (.getfield 34, 3) := dk_180 0 34 (dk_at dksX2_sureOf_1 11 rfl rfl)
theorem dX2_sureOf_38 : decode cX2_sureOf 38 = .ok (.iload_n 1, 1) := dk_27 (dk_at dksX2_sureOf_1 14 rfl rfl)
theorem dX2_sureOf_39 : decode cX2_sureOf 39 = .ok (.iaload, 1) := dk_46 (dk_at dksX2_sureOf_1 15 rfl rfl)
theorem dX2_sureOf_40 : decode cX2_sureOf 40 = .ok (.bipush 20, 2) := dk_16 20 (dk_at dksX2_sureOf_1 16 rfl rfl)
theorem dX2_sureOf_42 : decode cX2_sureOf 42 = .ok (.isub, 1) := dk_100 (dk_at dksX2_sureOf_1 18 rfl rfl)
theorem dX2_sureOf_43 : decode cX2_sureOf 43 = .ok (.ireturn, 1) := dk_172 (dk_at dksX2_sureOf_1 19 rfl rfl)
abbrev cX2_pressing : ByteArray := prog_18_method_36_code
def yX2_pressing : MethodName := ⟨RX2, "pressing", "(II)I"⟩
def dkwX2_pressing_2 : List UInt8 := [167, 0, 4, 3, 128, 62, 132, 4, 1, 167, 255, 207, 29, 172]
abbrev dktX2_pressing_2 : List UInt8 := dkwX2_pressing_2 ++ []
def dkwX2_pressing_1 : List UInt8 := [21, 4, 96, 46, 153, 0, 21, 42, 27, 21, 4, 28, 182, 0, 209, 153, 0, 10, 4, 21, 4, 120]
abbrev dktX2_pressing_1 : List UInt8 := dkwX2_pressing_1 ++ dktX2_pressing_2
def dkwX2_pressing_0 : List UInt8 := [3, 62, 4, 54, 4, 21, 4, 42, 180, 0, 46, 162, 0, 46, 29, 42, 180, 0, 78, 16, 24, 27, 104]
abbrev dktX2_pressing_0 : List UInt8 := dkwX2_pressing_0 ++ dktX2_pressing_1
theorem dksX2_pressing_0 : cX2_pressing.data.toList.drop 0 = dktX2_pressing_0 := by decide +kernel
theorem dksX2_pressing_1 : cX2_pressing.data.toList.drop 23 = dktX2_pressing_1 := dk_seg dksX2_pressing_0 23 rfl rfl
theorem dksX2_pressing_2 : cX2_pressing.data.toList.drop 45 = dktX2_pressing_2 := dk_seg dksX2_pressing_1 22 rfl rfl
theorem dX2_pressing_0 : decode cX2_pressing 0 = .ok (.iconst 0, 1) := dk_3 (dk_at dksX2_pressing_0 0 rfl rfl)
theorem dX2_pressing_1 : decode cX2_pressing 1 = .ok (.istore_n 3, 1) := dk_62 (dk_at dksX2_pressing_0 1 rfl rfl)
theorem dX2_pressing_2 : decode cX2_pressing 2 = .ok (.iconst 1, 1) := dk_4 (dk_at dksX2_pressing_0 2 rfl rfl)
theorem dX2_pressing_3 : decode cX2_pressing 3 = .ok (.istore 4, 2) := dk_54 4 (dk_at dksX2_pressing_0 3 rfl rfl)
theorem dX2_pressing_5 : decode cX2_pressing 5 = .ok (.iload 4, 2) := dk_21 4 (dk_at dksX2_pressing_0 5 rfl rfl)
theorem dX2_pressing_7 : decode cX2_pressing 7 = .ok (.aload_n 0, 1) := dk_42 (dk_at dksX2_pressing_0 7 rfl rfl)
theorem dX2_pressing_8 : decode cX2_pressing 8 = .ok (.getfield 46, 3) := dk_180 0 46 (dk_at dksX2_pressing_0 8 rfl rfl)
theorem dX2_pressing_11 : decode cX2_pressing 11 = .ok (.if_icmp .ge 46, 3) := dk_162 0 46 (dk_at dksX2_pressing_0 11 rfl rfl)
theorem dX2_pressing_14 : decode cX2_pressing 14 = .ok (.iload_n 3, 1) := dk_29 (dk_at dksX2_pressing_0 14 rfl rfl)
theorem dX2_pressing_15 : decode cX2_pressing 15 = .ok (.aload_n 0, 1) := dk_42 (dk_at dksX2_pressing_0 15 rfl rfl)
theorem dX2_pressing_16 : decode cX2_pressing 16 = .ok (.getfield 78, 3) := dk_180 0 78 (dk_at dksX2_pressing_0 16 rfl rfl)
theorem dX2_pressing_19 : decode cX2_pressing 19 = .ok (.bipush 24, 2) := dk_16 24 (dk_at dksX2_pressing_0 19 rfl rfl)
theorem dX2_pressing_21 : decode cX2_pressing 21 = .ok (.iload_n 1, 1) := dk_27 (dk_at dksX2_pressing_0 21 rfl rfl)
theorem dX2_pressing_22 : decode cX2_pressing 22 = .ok (.imul, 1) := dk_104 (dk_at dksX2_pressing_0 22 rfl rfl)
theorem dX2_pressing_23 : decode cX2_pressing 23 = .ok (.iload 4, 2) := dk_21 4 (dk_at dksX2_pressing_1 0 rfl rfl)
theorem dX2_pressing_25 : decode cX2_pressing 25 = .ok (.iadd, 1) := dk_96 (dk_at dksX2_pressing_1 2 rfl rfl)
theorem dX2_pressing_26 : decode cX2_pressing 26 = .ok (.iaload, 1) := dk_46 (dk_at dksX2_pressing_1 3 rfl rfl)
theorem dX2_pressing_27 : decode cX2_pressing 27 = .ok (.ifCond .eq 21, 3) := dk_153 0 21 (dk_at dksX2_pressing_1 4 rfl rfl)
theorem dX2_pressing_30 : decode cX2_pressing 30 = .ok (.aload_n 0, 1) := dk_42 (dk_at dksX2_pressing_1 7 rfl rfl)
theorem dX2_pressing_31 : decode cX2_pressing 31 = .ok (.iload_n 1, 1) := dk_27 (dk_at dksX2_pressing_1 8 rfl rfl)
theorem dX2_pressing_32 : decode cX2_pressing 32 = .ok (.iload 4, 2) := dk_21 4 (dk_at dksX2_pressing_1 9 rfl rfl)
theorem dX2_pressing_34 : decode cX2_pressing 34 = .ok (.iload_n 2, 1) := dk_28 (dk_at dksX2_pressing_1 11 rfl rfl)
theorem dX2_pressing_35 : decode cX2_pressing 35 = .ok (.invokevirtual 209, 3) := dk_182 0 209 (dk_at dksX2_pressing_1 12 rfl rfl)
theorem dX2_pressing_38 : decode cX2_pressing 38 = .ok (.ifCond .eq 10, 3) := dk_153 0 10 (dk_at dksX2_pressing_1 15 rfl rfl)
theorem dX2_pressing_41 : decode cX2_pressing 41 = .ok (.iconst 1, 1) := dk_4 (dk_at dksX2_pressing_1 18 rfl rfl)
theorem dX2_pressing_42 : decode cX2_pressing 42 = .ok (.iload 4, 2) := dk_21 4 (dk_at dksX2_pressing_1 19 rfl rfl)
theorem dX2_pressing_44 : decode cX2_pressing 44 = .ok (.ishl, 1) := dk_120 (dk_at dksX2_pressing_1 21 rfl rfl)
theorem dX2_pressing_45 : decode cX2_pressing 45 = .ok (.goto 4, 3) := dk_167 0 4 (dk_at dksX2_pressing_2 0 rfl rfl)
theorem dX2_pressing_48 : decode cX2_pressing 48 = .ok (.iconst 0, 1) := dk_3 (dk_at dksX2_pressing_2 3 rfl rfl)
theorem dX2_pressing_49 : decode cX2_pressing 49 = .ok (.ior, 1) := dk_128 (dk_at dksX2_pressing_2 4 rfl rfl)
theorem dX2_pressing_50 : decode cX2_pressing 50 = .ok (.istore_n 3, 1) := dk_62 (dk_at dksX2_pressing_2 5 rfl rfl)
theorem dX2_pressing_51 : decode cX2_pressing 51 = .ok (.iinc 4 1, 3) := dk_132 4 1 (dk_at dksX2_pressing_2 6 rfl rfl)
theorem dX2_pressing_54 : decode cX2_pressing 54 = .ok (.goto (-49), 3) := dk_167 255 207 (dk_at dksX2_pressing_2 9 rfl rfl)
theorem dX2_pressing_57 : decode cX2_pressing 57 = .ok (.iload_n 3, 1) := dk_29 (dk_at dksX2_pressing_2 12 rfl rfl)
theorem dX2_pressing_58 : decode cX2_pressing 58 = .ok (.ireturn, 1) := dk_172 (dk_at dksX2_pressing_2 13 rfl rfl)
abbrev cX2_mayPress : ByteArray := prog_18_method_34_code
def yX2_mayPress : MethodName := ⟨RX2, "mayPress", "(III)Z"⟩
def dkwX2_mayPress_4 : List UInt8 := [29, 182, 0, 206, 172]
abbrev dktX2_mayPress_4 : List UInt8 := dkwX2_mayPress_4 ++ []
def dkwX2_mayPress_3 : List UInt8 := [126, 4, 160, 0, 7, 4, 167, 0, 4, 3, 172, 42, 28, 42, 180, 0, 78, 16, 24, 27, 104, 28, 96, 46]
abbrev dktX2_mayPress_3 : List UInt8 := dkwX2_mayPress_3 ++ dktX2_mayPress_4
def dkwX2_mayPress_2 : List UInt8 := [42, 180, 0, 19, 28, 46, 153, 0, 7, 4, 167, 0, 4, 3, 172, 42, 180, 0, 37, 27, 46, 28, 122, 4]
abbrev dktX2_mayPress_2 : List UInt8 := dkwX2_mayPress_2 ++ dktX2_mayPress_3
def dkwX2_mayPress_1 : List UInt8 := [171, 0, 0, 0, 0, 61, 0, 0, 0, 2, 0, 0, 0, 0, 0, 0, 0, 26, 0, 0, 0, 4, 0, 0, 0, 41]
abbrev dktX2_mayPress_1 : List UInt8 := dkwX2_mayPress_1 ++ dktX2_mayPress_2
def dkwX2_mayPress_0 : List UInt8 := [42, 180, 0, 25, 27, 46]
abbrev dktX2_mayPress_0 : List UInt8 := dkwX2_mayPress_0 ++ dktX2_mayPress_1
theorem dksX2_mayPress_0 : cX2_mayPress.data.toList.drop 0 = dktX2_mayPress_0 := by decide +kernel
theorem dksX2_mayPress_1 : cX2_mayPress.data.toList.drop 6 = dktX2_mayPress_1 := dk_seg dksX2_mayPress_0 6 rfl rfl
theorem dksX2_mayPress_2 : cX2_mayPress.data.toList.drop 32 = dktX2_mayPress_2 := dk_seg dksX2_mayPress_1 26 rfl rfl
theorem dksX2_mayPress_3 : cX2_mayPress.data.toList.drop 56 = dktX2_mayPress_3 := dk_seg dksX2_mayPress_2 24 rfl rfl
theorem dksX2_mayPress_4 : cX2_mayPress.data.toList.drop 80 = dktX2_mayPress_4 := dk_seg dksX2_mayPress_3 24 rfl rfl
theorem dX2_mayPress_0 : decode cX2_mayPress 0 = .ok (.aload_n 0, 1) := dk_42 (dk_at dksX2_mayPress_0 0 rfl rfl)
theorem dX2_mayPress_1 : decode cX2_mayPress 1 = .ok (.getfield 25, 3) := dk_180 0 25 (dk_at dksX2_mayPress_0 1 rfl rfl)
theorem dX2_mayPress_4 : decode cX2_mayPress 4 = .ok (.iload_n 1, 1) := dk_27 (dk_at dksX2_mayPress_0 4 rfl rfl)
theorem dX2_mayPress_5 : decode cX2_mayPress 5 = .ok (.iaload, 1) := dk_46 (dk_at dksX2_mayPress_0 5 rfl rfl)
theorem dX2_mayPress_6 : decode cX2_mayPress 6 = .ok (.lookupswitch 61 #[(0, 26), (4, 41)], 26) := by decide +kernel
theorem dX2_mayPress_32 : decode cX2_mayPress 32 = .ok (.aload_n 0, 1) := dk_42 (dk_at dksX2_mayPress_2 0 rfl rfl)
theorem dX2_mayPress_33 : decode cX2_mayPress 33 = .ok (.getfield 19, 3) := dk_180 0 19 (dk_at dksX2_mayPress_2 1 rfl rfl)
theorem dX2_mayPress_36 : decode cX2_mayPress 36 = .ok (.iload_n 2, 1) := dk_28 (dk_at dksX2_mayPress_2 4 rfl rfl)
theorem dX2_mayPress_37 : decode cX2_mayPress 37 = .ok (.iaload, 1) := dk_46 (dk_at dksX2_mayPress_2 5 rfl rfl)
theorem dX2_mayPress_38 : decode cX2_mayPress 38 = .ok (.ifCond .eq 7, 3) := dk_153 0 7 (dk_at dksX2_mayPress_2 6 rfl rfl)
theorem dX2_mayPress_41 : decode cX2_mayPress 41 = .ok (.iconst 1, 1) := dk_4 (dk_at dksX2_mayPress_2 9 rfl rfl)
theorem dX2_mayPress_42 : decode cX2_mayPress 42 = .ok (.goto 4, 3) := dk_167 0 4 (dk_at dksX2_mayPress_2 10 rfl rfl)
theorem dX2_mayPress_45 : decode cX2_mayPress 45 = .ok (.iconst 0, 1) := dk_3 (dk_at dksX2_mayPress_2 13 rfl rfl)
theorem dX2_mayPress_46 : decode cX2_mayPress 46 = .ok (.ireturn, 1) := dk_172 (dk_at dksX2_mayPress_2 14 rfl rfl)
theorem dX2_mayPress_47 : decode cX2_mayPress 47 = .ok (.aload_n 0, 1) := dk_42 (dk_at dksX2_mayPress_2 15 rfl rfl)
theorem dX2_mayPress_48 : decode cX2_mayPress 48 = .ok (.getfield 37, 3) := dk_180 0 37 (dk_at dksX2_mayPress_2 16 rfl rfl)
theorem dX2_mayPress_51 : decode cX2_mayPress 51 = .ok (.iload_n 1, 1) := dk_27 (dk_at dksX2_mayPress_2 19 rfl rfl)
theorem dX2_mayPress_52 : decode cX2_mayPress 52 = .ok (.iaload, 1) := dk_46 (dk_at dksX2_mayPress_2 20 rfl rfl)
theorem dX2_mayPress_53 : decode cX2_mayPress 53 = .ok (.iload_n 2, 1) := dk_28 (dk_at dksX2_mayPress_2 21 rfl rfl)
theorem dX2_mayPress_54 : decode cX2_mayPress 54 = .ok (.ishr, 1) := dk_122 (dk_at dksX2_mayPress_2 22 rfl rfl)
theorem dX2_mayPress_55 : decode cX2_mayPress 55 = .ok (.iconst 1, 1) := dk_4 (dk_at dksX2_mayPress_2 23 rfl rfl)
theorem dX2_mayPress_56 : decode cX2_mayPress 56 = .ok (.iand, 1) := dk_126 (dk_at dksX2_mayPress_3 0 rfl rfl)
theorem dX2_mayPress_57 : decode cX2_mayPress 57 = .ok (.iconst 1, 1) := dk_4 (dk_at dksX2_mayPress_3 1 rfl rfl)
theorem dX2_mayPress_58 : decode cX2_mayPress 58 = .ok (.if_icmp .ne 7, 3) := dk_160 0 7 (dk_at dksX2_mayPress_3 2 rfl rfl)
theorem dX2_mayPress_61 : decode cX2_mayPress 61 = .ok (.iconst 1, 1) := dk_4 (dk_at dksX2_mayPress_3 5 rfl rfl)
theorem dX2_mayPress_62 : decode cX2_mayPress 62 = .ok (.goto 4, 3) := dk_167 0 4 (dk_at dksX2_mayPress_3 6 rfl rfl)
theorem dX2_mayPress_65 : decode cX2_mayPress 65 = .ok (.iconst 0, 1) := dk_3 (dk_at dksX2_mayPress_3 9 rfl rfl)
theorem dX2_mayPress_66 : decode cX2_mayPress 66 = .ok (.ireturn, 1) := dk_172 (dk_at dksX2_mayPress_3 10 rfl rfl)
theorem dX2_mayPress_67 : decode cX2_mayPress 67 = .ok (.aload_n 0, 1) := dk_42 (dk_at dksX2_mayPress_3 11 rfl rfl)
theorem dX2_mayPress_68 : decode cX2_mayPress 68 = .ok (.iload_n 2, 1) := dk_28 (dk_at dksX2_mayPress_3 12 rfl rfl)
theorem dX2_mayPress_69 : decode cX2_mayPress 69 = .ok (.aload_n 0, 1) := dk_42 (dk_at dksX2_mayPress_3 13 rfl rfl)
theorem dX2_mayPress_70 : decode cX2_mayPress 70 = .ok (.getfield 78, 3) := dk_180 0 78 (dk_at dksX2_mayPress_3 14 rfl rfl)
theorem dX2_mayPress_73 : decode cX2_mayPress 73 = .ok (.bipush 24, 2) := dk_16 24 (dk_at dksX2_mayPress_3 17 rfl rfl)
theorem dX2_mayPress_75 : decode cX2_mayPress 75 = .ok (.iload_n 1, 1) := dk_27 (dk_at dksX2_mayPress_3 19 rfl rfl)
theorem dX2_mayPress_76 : decode cX2_mayPress 76 = .ok (.imul, 1) := dk_104 (dk_at dksX2_mayPress_3 20 rfl rfl)
theorem dX2_mayPress_77 : decode cX2_mayPress 77 = .ok (.iload_n 2, 1) := dk_28 (dk_at dksX2_mayPress_3 21 rfl rfl)
theorem dX2_mayPress_78 : decode cX2_mayPress 78 = .ok (.iadd, 1) := dk_96 (dk_at dksX2_mayPress_3 22 rfl rfl)
theorem dX2_mayPress_79 : decode cX2_mayPress 79 = .ok (.iaload, 1) := dk_46 (dk_at dksX2_mayPress_3 23 rfl rfl)
theorem dX2_mayPress_80 : decode cX2_mayPress 80 = .ok (.iload_n 3, 1) := dk_29 (dk_at dksX2_mayPress_4 0 rfl rfl)
theorem dX2_mayPress_81 : decode cX2_mayPress 81 = .ok (.invokevirtual 206, 3) := dk_182 0 206 (dk_at dksX2_mayPress_4 1 rfl rfl)
theorem dX2_mayPress_84 : decode cX2_mayPress 84 = .ok (.ireturn, 1) := dk_172 (dk_at dksX2_mayPress_4 4 rfl rfl)
abbrev cX2_isSure : ByteArray := prog_18_method_33_code
def yX2_isSure : MethodName := ⟨RX2, "isSure", "(III)Z"⟩
def dkwX2_isSure_1 : List UInt8 := [29, 133, 42, 180, 0, 71, 27, 47, 105, 148, 155, 0, 7, 4, 167, 0, 4, 3, 172]
abbrev dktX2_isSure_1 : List UInt8 := dkwX2_isSure_1 ++ []
def dkwX2_isSure_0 : List UInt8 := [42, 180, 0, 19, 27, 46, 154, 0, 31, 20, 0, 204, 42, 180, 0, 75, 16, 10, 27, 104, 28, 96, 47, 105]
abbrev dktX2_isSure_0 : List UInt8 := dkwX2_isSure_0 ++ dktX2_isSure_1
theorem dksX2_isSure_0 : cX2_isSure.data.toList.drop 0 = dktX2_isSure_0 := by decide +kernel
theorem dksX2_isSure_1 : cX2_isSure.data.toList.drop 24 = dktX2_isSure_1 := dk_seg dksX2_isSure_0 24 rfl rfl
theorem dX2_isSure_0 : decode cX2_isSure 0 = .ok (.aload_n 0, 1) := dk_42 (dk_at dksX2_isSure_0 0 rfl rfl)
theorem dX2_isSure_1 : decode cX2_isSure 1 = .ok (.getfield 19, 3) := dk_180 0 19 (dk_at dksX2_isSure_0 1 rfl rfl)
theorem dX2_isSure_4 : decode cX2_isSure 4 = .ok (.iload_n 1, 1) := dk_27 (dk_at dksX2_isSure_0 4 rfl rfl)
theorem dX2_isSure_5 : decode cX2_isSure 5 = .ok (.iaload, 1) := dk_46 (dk_at dksX2_isSure_0 5 rfl rfl)
theorem dX2_isSure_6 : decode cX2_isSure 6 = .ok (.ifCond .ne 31, 3) := dk_154 0 31 (dk_at dksX2_isSure_0 6 rfl rfl)
theorem dX2_isSure_9 : decode cX2_isSure 9 = .ok (.ldc2_w 204, 3) := dk_20 0 204 (dk_at dksX2_isSure_0 9 rfl rfl)
theorem dX2_isSure_12 : decode cX2_isSure 12 = .ok (.aload_n 0, 1) := dk_42 (dk_at dksX2_isSure_0 12 rfl rfl)
theorem dX2_isSure_13 : decode cX2_isSure 13 = .ok (.getfield 75, 3) := dk_180 0 75 (dk_at dksX2_isSure_0 13 rfl rfl)
theorem dX2_isSure_16 : decode cX2_isSure 16 = .ok (.bipush 10, 2) := dk_16 10 (dk_at dksX2_isSure_0 16 rfl rfl)
theorem dX2_isSure_18 : decode cX2_isSure 18 = .ok (.iload_n 1, 1) := dk_27 (dk_at dksX2_isSure_0 18 rfl rfl)
theorem dX2_isSure_19 : decode cX2_isSure 19 = .ok (.imul, 1) := dk_104 (dk_at dksX2_isSure_0 19 rfl rfl)
theorem dX2_isSure_20 : decode cX2_isSure 20 = .ok (.iload_n 2, 1) := dk_28 (dk_at dksX2_isSure_0 20 rfl rfl)
theorem dX2_isSure_21 : decode cX2_isSure 21 = .ok (.iadd, 1) := dk_96 (dk_at dksX2_isSure_0 21 rfl rfl)
theorem dX2_isSure_22 : decode cX2_isSure 22 = .ok (.laload, 1) := dk_47 (dk_at dksX2_isSure_0 22 rfl rfl)
theorem dX2_isSure_23 : decode cX2_isSure 23 = .ok (.lmul, 1) := dk_105 (dk_at dksX2_isSure_0 23 rfl rfl)
theorem dX2_isSure_24 : decode cX2_isSure 24 = .ok (.iload_n 3, 1) := dk_29 (dk_at dksX2_isSure_1 0 rfl rfl)
theorem dX2_isSure_25 : decode cX2_isSure 25 = .ok (.i2l, 1) := dk_133 (dk_at dksX2_isSure_1 1 rfl rfl)
theorem dX2_isSure_26 : decode cX2_isSure 26 = .ok (.aload_n 0, 1) := dk_42 (dk_at dksX2_isSure_1 2 rfl rfl)
theorem dX2_isSure_27 : decode cX2_isSure 27 = .ok (.getfield 71, 3) := dk_180 0 71 (dk_at dksX2_isSure_1 3 rfl rfl)
theorem dX2_isSure_30 : decode cX2_isSure 30 = .ok (.iload_n 1, 1) := dk_27 (dk_at dksX2_isSure_1 6 rfl rfl)
theorem dX2_isSure_31 : decode cX2_isSure 31 = .ok (.laload, 1) := dk_47 (dk_at dksX2_isSure_1 7 rfl rfl)
theorem dX2_isSure_32 : decode cX2_isSure 32 = .ok (.lmul, 1) := dk_105 (dk_at dksX2_isSure_1 8 rfl rfl)
theorem dX2_isSure_33 : decode cX2_isSure 33 = .ok (.lcmp, 1) := dk_148 (dk_at dksX2_isSure_1 9 rfl rfl)
theorem dX2_isSure_34 : decode cX2_isSure 34 = .ok (.ifCond .lt 7, 3) := dk_155 0 7 (dk_at dksX2_isSure_1 10 rfl rfl)
theorem dX2_isSure_37 : decode cX2_isSure 37 = .ok (.iconst 1, 1) := dk_4 (dk_at dksX2_isSure_1 13 rfl rfl)
theorem dX2_isSure_38 : decode cX2_isSure 38 = .ok (.goto 4, 3) := dk_167 0 4 (dk_at dksX2_isSure_1 14 rfl rfl)
theorem dX2_isSure_41 : decode cX2_isSure 41 = .ok (.iconst 0, 1) := dk_3 (dk_at dksX2_isSure_1 17 rfl rfl)
theorem dX2_isSure_42 : decode cX2_isSure 42 = .ok (.ireturn, 1) := dk_172 (dk_at dksX2_isSure_1 18 rfl rfl)
abbrev cX2_run : ByteArray := prog_18_method_50_code
def yX2_run : MethodName := ⟨RX2, "run", "(II)I"⟩
def dkwX2_run_3 : List UInt8 := [167, 0, 19, 28, 4, 160, 0, 10, 42, 180, 1, 3, 167, 0, 7, 42, 180, 0, 250, 172]
abbrev dktX2_run_3 : List UInt8 := dkwX2_run_3 ++ []
def dkwX2_run_2 : List UInt8 := [16, 253, 182, 0, 128, 172, 42, 182, 0, 247, 42, 27, 182, 1, 15, 28, 154, 0, 10, 42, 180, 1, 6]
abbrev dktX2_run_2 : List UInt8 := dkwX2_run_2 ++ dktX2_run_3
def dkwX2_run_1 : List UInt8 := [3, 5, 184, 0, 140, 154, 0, 10, 42, 16, 254, 182, 0, 128, 172, 42, 182, 0, 183, 154, 0, 10, 42]
abbrev dktX2_run_1 : List UInt8 := dkwX2_run_1 ++ dktX2_run_2
def dkwX2_run_0 : List UInt8 := [42, 27, 182, 0, 166, 153, 0, 12, 42, 180, 0, 19, 27, 46, 154, 0, 9, 42, 2, 182, 0, 128, 172, 28]
abbrev dktX2_run_0 : List UInt8 := dkwX2_run_0 ++ dktX2_run_1
theorem dksX2_run_0 : cX2_run.data.toList.drop 0 = dktX2_run_0 := by decide +kernel
theorem dksX2_run_1 : cX2_run.data.toList.drop 24 = dktX2_run_1 := dk_seg dksX2_run_0 24 rfl rfl
theorem dksX2_run_2 : cX2_run.data.toList.drop 47 = dktX2_run_2 := dk_seg dksX2_run_1 23 rfl rfl
theorem dksX2_run_3 : cX2_run.data.toList.drop 70 = dktX2_run_3 := dk_seg dksX2_run_2 23 rfl rfl
theorem dX2_run_0 : decode cX2_run 0 = .ok (.aload_n 0, 1) := dk_42 (dk_at dksX2_run_0 0 rfl rfl)
theorem dX2_run_1 : decode cX2_run 1 = .ok (.iload_n 1, 1) := dk_27 (dk_at dksX2_run_0 1 rfl rfl)
theorem dX2_run_2 : decode cX2_run 2 = .ok (.invokevirtual 166, 3) := dk_182 0 166 (dk_at dksX2_run_0 2 rfl rfl)
theorem dX2_run_5 : decode cX2_run 5 = .ok (.ifCond .eq 12, 3) := dk_153 0 12 (dk_at dksX2_run_0 5 rfl rfl)
theorem dX2_run_8 : decode cX2_run 8 = .ok (.aload_n 0, 1) := dk_42 (dk_at dksX2_run_0 8 rfl rfl)
theorem dX2_run_9 : decode cX2_run 9 = .ok (.getfield 19, 3) := dk_180 0 19 (dk_at dksX2_run_0 9 rfl rfl)
theorem dX2_run_12 : decode cX2_run 12 = .ok (.iload_n 1, 1) := dk_27 (dk_at dksX2_run_0 12 rfl rfl)
theorem dX2_run_13 : decode cX2_run 13 = .ok (.iaload, 1) := dk_46 (dk_at dksX2_run_0 13 rfl rfl)
theorem dX2_run_14 : decode cX2_run 14 = .ok (.ifCond .ne 9, 3) := dk_154 0 9 (dk_at dksX2_run_0 14 rfl rfl)
theorem dX2_run_17 : decode cX2_run 17 = .ok (.aload_n 0, 1) := dk_42 (dk_at dksX2_run_0 17 rfl rfl)
theorem dX2_run_18 : decode cX2_run 18 = .ok (.iconst (-1), 1) := dk_2 (dk_at dksX2_run_0 18 rfl rfl)
theorem dX2_run_19 : decode cX2_run 19 = .ok (.invokevirtual 128, 3) := dk_182 0 128 (dk_at dksX2_run_0 19 rfl rfl)
theorem dX2_run_22 : decode cX2_run 22 = .ok (.ireturn, 1) := dk_172 (dk_at dksX2_run_0 22 rfl rfl)
theorem dX2_run_23 : decode cX2_run 23 = .ok (.iload_n 2, 1) := dk_28 (dk_at dksX2_run_0 23 rfl rfl)
theorem dX2_run_24 : decode cX2_run 24 = .ok (.iconst 0, 1) := dk_3 (dk_at dksX2_run_1 0 rfl rfl)
theorem dX2_run_25 : decode cX2_run 25 = .ok (.iconst 2, 1) := dk_5 (dk_at dksX2_run_1 1 rfl rfl)
theorem dX2_run_26 : decode cX2_run 26 = .ok (.invokestatic 140, 3) := dk_184 0 140 (dk_at dksX2_run_1 2 rfl rfl)
theorem dX2_run_29 : decode cX2_run 29 = .ok (.ifCond .ne 10, 3) := dk_154 0 10 (dk_at dksX2_run_1 5 rfl rfl)
theorem dX2_run_32 : decode cX2_run 32 = .ok (.aload_n 0, 1) := dk_42 (dk_at dksX2_run_1 8 rfl rfl)
theorem dX2_run_33 : decode cX2_run 33 = .ok (.bipush (-2), 2) := dk_16 254 (dk_at dksX2_run_1 9 rfl rfl)
theorem dX2_run_35 : decode cX2_run 35 = .ok (.invokevirtual 128, 3) := dk_182 0 128 (dk_at dksX2_run_1 11 rfl rfl)
theorem dX2_run_38 : decode cX2_run 38 = .ok (.ireturn, 1) := dk_172 (dk_at dksX2_run_1 14 rfl rfl)
theorem dX2_run_39 : decode cX2_run 39 = .ok (.aload_n 0, 1) := dk_42 (dk_at dksX2_run_1 15 rfl rfl)
theorem dX2_run_40 : decode cX2_run 40 = .ok (.invokevirtual 183, 3) := dk_182 0 183 (dk_at dksX2_run_1 16 rfl rfl)
theorem dX2_run_43 : decode cX2_run 43 = .ok (.ifCond .ne 10, 3) := dk_154 0 10 (dk_at dksX2_run_1 19 rfl rfl)
theorem dX2_run_46 : decode cX2_run 46 = .ok (.aload_n 0, 1) := dk_42 (dk_at dksX2_run_1 22 rfl rfl)
theorem dX2_run_47 : decode cX2_run 47 = .ok (.bipush (-3), 2) := dk_16 253 (dk_at dksX2_run_2 0 rfl rfl)
theorem dX2_run_49 : decode cX2_run 49 = .ok (.invokevirtual 128, 3) := dk_182 0 128 (dk_at dksX2_run_2 2 rfl rfl)
theorem dX2_run_52 : decode cX2_run 52 = .ok (.ireturn, 1) := dk_172 (dk_at dksX2_run_2 5 rfl rfl)
theorem dX2_run_53 : decode cX2_run 53 = .ok (.aload_n 0, 1) := dk_42 (dk_at dksX2_run_2 6 rfl rfl)
theorem dX2_run_54 : decode cX2_run 54 = .ok (.invokevirtual 247, 3) := dk_182 0 247 (dk_at dksX2_run_2 7 rfl rfl)
theorem dX2_run_57 : decode cX2_run 57 = .ok (.aload_n 0, 1) := dk_42 (dk_at dksX2_run_2 10 rfl rfl)
theorem dX2_run_58 : decode cX2_run 58 = .ok (.iload_n 1, 1) := dk_27 (dk_at dksX2_run_2 11 rfl rfl)
theorem dX2_run_59 : decode cX2_run 59 = .ok (.invokevirtual 271, 3) := dk_182 1 15 (dk_at dksX2_run_2 12 rfl rfl)
theorem dX2_run_62 : decode cX2_run 62 = .ok (.iload_n 2, 1) := dk_28 (dk_at dksX2_run_2 15 rfl rfl)
theorem dX2_run_63 : decode cX2_run 63 = .ok (.ifCond .ne 10, 3) := dk_154 0 10 (dk_at dksX2_run_2 16 rfl rfl)
theorem dX2_run_66 : decode cX2_run 66 = .ok (.aload_n 0, 1) := dk_42 (dk_at dksX2_run_2 19 rfl rfl)
theorem dX2_run_67 : decode cX2_run 67 = .ok (.getfield 262, 3) := dk_180 1 6 (dk_at dksX2_run_2 20 rfl rfl)
theorem dX2_run_70 : decode cX2_run 70 = .ok (.goto 19, 3) := dk_167 0 19 (dk_at dksX2_run_3 0 rfl rfl)
theorem dX2_run_73 : decode cX2_run 73 = .ok (.iload_n 2, 1) := dk_28 (dk_at dksX2_run_3 3 rfl rfl)
theorem dX2_run_74 : decode cX2_run 74 = .ok (.iconst 1, 1) := dk_4 (dk_at dksX2_run_3 4 rfl rfl)
theorem dX2_run_75 : decode cX2_run 75 = .ok (.if_icmp .ne 10, 3) := dk_160 0 10 (dk_at dksX2_run_3 5 rfl rfl)
theorem dX2_run_78 : decode cX2_run 78 = .ok (.aload_n 0, 1) := dk_42 (dk_at dksX2_run_3 8 rfl rfl)
theorem dX2_run_79 : decode cX2_run 79 = .ok (.getfield 259, 3) := dk_180 1 3 (dk_at dksX2_run_3 9 rfl rfl)
theorem dX2_run_82 : decode cX2_run 82 = .ok (.goto 7, 3) := dk_167 0 7 (dk_at dksX2_run_3 12 rfl rfl)
theorem dX2_run_85 : decode cX2_run 85 = .ok (.aload_n 0, 1) := dk_42 (dk_at dksX2_run_3 15 rfl rfl)
theorem dX2_run_86 : decode cX2_run 86 = .ok (.getfield 250, 3) := dk_180 0 250 (dk_at dksX2_run_3 16 rfl rfl)
theorem dX2_run_89 : decode cX2_run 89 = .ok (.ireturn, 1) := dk_172 (dk_at dksX2_run_3 19 rfl rfl)
abbrev cX2_runs : ByteArray := prog_18_method_49_code
def yX2_runs : MethodName := ⟨RX2, "runs", "(I)V"⟩
def dkwX2_runs_6 : List UInt8 := [182, 1, 12, 153, 0, 4, 177, 42, 27, 182, 1, 9, 62, 167, 255, 235, 177]
abbrev dktX2_runs_6 : List UInt8 := dkwX2_runs_6 ++ []
def dkwX2_runs_5 : List UInt8 := [153, 0, 4, 177, 132, 3, 1, 167, 255, 209, 42, 27, 182, 1, 9, 62, 29, 155, 0, 23, 42, 29, 27, 27]
abbrev dktX2_runs_5 : List UInt8 := dkwX2_runs_5 ++ dktX2_runs_6
def dkwX2_runs_4 : List UInt8 := [182, 1, 9, 54, 4, 21, 4, 155, 0, 20, 42, 21, 4, 42, 180, 0, 90, 29, 46, 27, 182, 1, 12]
abbrev dktX2_runs_4 : List UInt8 := dkwX2_runs_4 ++ dktX2_runs_5
def dkwX2_runs_3 : List UInt8 := [167, 255, 233, 4, 62, 29, 42, 180, 0, 22, 27, 46, 163, 0, 43, 42, 42, 180, 0, 90, 29, 46]
abbrev dktX2_runs_3 : List UInt8 := dkwX2_runs_3 ++ dktX2_runs_4
def dkwX2_runs_2 : List UInt8 := [61, 28, 158, 0, 25, 42, 180, 0, 90, 42, 180, 0, 22, 28, 46, 28, 79, 42, 180, 0, 13, 28, 46, 61]
abbrev dktX2_runs_2 : List UInt8 := dkwX2_runs_2 ++ dktX2_runs_3
def dkwX2_runs_1 : List UInt8 := [181, 0, 253, 3, 61, 28, 7, 162, 0, 16, 42, 180, 0, 93, 28, 3, 79, 132, 2, 1, 167, 255, 241, 27]
abbrev dktX2_runs_1 : List UInt8 := dkwX2_runs_1 ++ dktX2_runs_2
def dkwX2_runs_0 : List UInt8 := [42, 16, 247, 181, 1, 6, 42, 16, 247, 181, 1, 3, 42, 2, 181, 1, 0, 42, 3, 181, 0, 250, 42, 3]
abbrev dktX2_runs_0 : List UInt8 := dkwX2_runs_0 ++ dktX2_runs_1
theorem dksX2_runs_0 : cX2_runs.data.toList.drop 0 = dktX2_runs_0 := by decide +kernel
theorem dksX2_runs_1 : cX2_runs.data.toList.drop 24 = dktX2_runs_1 := dk_seg dksX2_runs_0 24 rfl rfl
theorem dksX2_runs_2 : cX2_runs.data.toList.drop 48 = dktX2_runs_2 := dk_seg dksX2_runs_1 24 rfl rfl
theorem dksX2_runs_3 : cX2_runs.data.toList.drop 72 = dktX2_runs_3 := dk_seg dksX2_runs_2 24 rfl rfl
theorem dksX2_runs_4 : cX2_runs.data.toList.drop 94 = dktX2_runs_4 := dk_seg dksX2_runs_3 22 rfl rfl
theorem dksX2_runs_5 : cX2_runs.data.toList.drop 117 = dktX2_runs_5 := dk_seg dksX2_runs_4 23 rfl rfl
theorem dksX2_runs_6 : cX2_runs.data.toList.drop 141 = dktX2_runs_6 := dk_seg dksX2_runs_5 24 rfl rfl
theorem dX2_runs_0 : decode cX2_runs 0 = .ok (.aload_n 0, 1) := dk_42 (dk_at dksX2_runs_0 0 rfl rfl)
theorem dX2_runs_1 : decode cX2_runs 1 = .ok (.bipush (-9), 2) := dk_16 247 (dk_at dksX2_runs_0 1 rfl rfl)
theorem dX2_runs_3 : decode cX2_runs 3 = .ok (.putfield 262, 3) := dk_181 1 6 (dk_at dksX2_runs_0 3 rfl rfl)
theorem dX2_runs_6 : decode cX2_runs 6 = .ok (.aload_n 0, 1) := dk_42 (dk_at dksX2_runs_0 6 rfl rfl)
theorem dX2_runs_7 : decode cX2_runs 7 = .ok (.bipush (-9), 2) := dk_16 247 (dk_at dksX2_runs_0 7 rfl rfl)
theorem dX2_runs_9 : decode cX2_runs 9 = .ok (.putfield 259, 3) := dk_181 1 3 (dk_at dksX2_runs_0 9 rfl rfl)
theorem dX2_runs_12 : decode cX2_runs 12 = .ok (.aload_n 0, 1) := dk_42 (dk_at dksX2_runs_0 12 rfl rfl)
theorem dX2_runs_13 : decode cX2_runs 13 = .ok (.iconst (-1), 1) := dk_2 (dk_at dksX2_runs_0 13 rfl rfl)
theorem dX2_runs_14 : decode cX2_runs 14 = .ok (.putfield 256, 3) := dk_181 1 0 (dk_at dksX2_runs_0 14 rfl rfl)
theorem dX2_runs_17 : decode cX2_runs 17 = .ok (.aload_n 0, 1) := dk_42 (dk_at dksX2_runs_0 17 rfl rfl)
theorem dX2_runs_18 : decode cX2_runs 18 = .ok (.iconst 0, 1) := dk_3 (dk_at dksX2_runs_0 18 rfl rfl)
theorem dX2_runs_19 : decode cX2_runs 19 = .ok (.putfield 250, 3) := dk_181 0 250 (dk_at dksX2_runs_0 19 rfl rfl)
theorem dX2_runs_22 : decode cX2_runs 22 = .ok (.aload_n 0, 1) := dk_42 (dk_at dksX2_runs_0 22 rfl rfl)
theorem dX2_runs_23 : decode cX2_runs 23 = .ok (.iconst 0, 1) := dk_3 (dk_at dksX2_runs_0 23 rfl rfl)
theorem dX2_runs_24 : decode cX2_runs 24 = .ok (.putfield 253, 3) := dk_181 0 253 (dk_at dksX2_runs_1 0 rfl rfl)
theorem dX2_runs_27 : decode cX2_runs 27 = .ok (.iconst 0, 1) := dk_3 (dk_at dksX2_runs_1 3 rfl rfl)
theorem dX2_runs_28 : decode cX2_runs 28 = .ok (.istore_n 2, 1) := dk_61 (dk_at dksX2_runs_1 4 rfl rfl)
theorem dX2_runs_29 : decode cX2_runs 29 = .ok (.iload_n 2, 1) := dk_28 (dk_at dksX2_runs_1 5 rfl rfl)
theorem dX2_runs_30 : decode cX2_runs 30 = .ok (.iconst 4, 1) := dk_7 (dk_at dksX2_runs_1 6 rfl rfl)
theorem dX2_runs_31 : decode cX2_runs 31 = .ok (.if_icmp .ge 16, 3) := dk_162 0 16 (dk_at dksX2_runs_1 7 rfl rfl)
theorem dX2_runs_34 : decode cX2_runs 34 = .ok (.aload_n 0, 1) := dk_42 (dk_at dksX2_runs_1 10 rfl rfl)
theorem dX2_runs_35 : decode cX2_runs 35 = .ok (.getfield 93, 3) := dk_180 0 93 (dk_at dksX2_runs_1 11 rfl rfl)
theorem dX2_runs_38 : decode cX2_runs 38 = .ok (.iload_n 2, 1) := dk_28 (dk_at dksX2_runs_1 14 rfl rfl)
theorem dX2_runs_39 : decode cX2_runs 39 = .ok (.iconst 0, 1) := dk_3 (dk_at dksX2_runs_1 15 rfl rfl)
theorem dX2_runs_40 : decode cX2_runs 40 = .ok (.iastore, 1) := dk_79 (dk_at dksX2_runs_1 16 rfl rfl)
theorem dX2_runs_41 : decode cX2_runs 41 = .ok (.iinc 2 1, 3) := dk_132 2 1 (dk_at dksX2_runs_1 17 rfl rfl)
theorem dX2_runs_44 : decode cX2_runs 44 = .ok (.goto (-15), 3) := dk_167 255 241 (dk_at dksX2_runs_1 20 rfl rfl)
theorem dX2_runs_47 : decode cX2_runs 47 = .ok (.iload_n 1, 1) := dk_27 (dk_at dksX2_runs_1 23 rfl rfl)
theorem dX2_runs_48 : decode cX2_runs 48 = .ok (.istore_n 2, 1) := dk_61 (dk_at dksX2_runs_2 0 rfl rfl)
theorem dX2_runs_49 : decode cX2_runs 49 = .ok (.iload_n 2, 1) := dk_28 (dk_at dksX2_runs_2 1 rfl rfl)
theorem dX2_runs_50 : decode cX2_runs 50 = .ok (.ifCond .le 25, 3) := dk_158 0 25 (dk_at dksX2_runs_2 2 rfl rfl)
theorem dX2_runs_53 : decode cX2_runs 53 = .ok (.aload_n 0, 1) := dk_42 (dk_at dksX2_runs_2 5 rfl rfl)
theorem dX2_runs_54 : decode cX2_runs 54 = .ok (.getfield 90, 3) := dk_180 0 90 (dk_at dksX2_runs_2 6 rfl rfl)
theorem dX2_runs_57 : decode cX2_runs 57 = .ok (.aload_n 0, 1) := dk_42 (dk_at dksX2_runs_2 9 rfl rfl)
theorem dX2_runs_58 : decode cX2_runs 58 = .ok (.getfield 22, 3) := dk_180 0 22 (dk_at dksX2_runs_2 10 rfl rfl)
theorem dX2_runs_61 : decode cX2_runs 61 = .ok (.iload_n 2, 1) := dk_28 (dk_at dksX2_runs_2 13 rfl rfl)
theorem dX2_runs_62 : decode cX2_runs 62 = .ok (.iaload, 1) := dk_46 (dk_at dksX2_runs_2 14 rfl rfl)
theorem dX2_runs_63 : decode cX2_runs 63 = .ok (.iload_n 2, 1) := dk_28 (dk_at dksX2_runs_2 15 rfl rfl)
theorem dX2_runs_64 : decode cX2_runs 64 = .ok (.iastore, 1) := dk_79 (dk_at dksX2_runs_2 16 rfl rfl)
theorem dX2_runs_65 : decode cX2_runs 65 = .ok (.aload_n 0, 1) := dk_42 (dk_at dksX2_runs_2 17 rfl rfl)
theorem dX2_runs_66 : decode cX2_runs 66 = .ok (.getfield 13, 3) := dk_180 0 13 (dk_at dksX2_runs_2 18 rfl rfl)
theorem dX2_runs_69 : decode cX2_runs 69 = .ok (.iload_n 2, 1) := dk_28 (dk_at dksX2_runs_2 21 rfl rfl)
theorem dX2_runs_70 : decode cX2_runs 70 = .ok (.iaload, 1) := dk_46 (dk_at dksX2_runs_2 22 rfl rfl)
theorem dX2_runs_71 : decode cX2_runs 71 = .ok (.istore_n 2, 1) := dk_61 (dk_at dksX2_runs_2 23 rfl rfl)
theorem dX2_runs_72 : decode cX2_runs 72 = .ok (.goto (-23), 3) := dk_167 255 233 (dk_at dksX2_runs_3 0 rfl rfl)
theorem dX2_runs_75 : decode cX2_runs 75 = .ok (.iconst 1, 1) := dk_4 (dk_at dksX2_runs_3 3 rfl rfl)
theorem dX2_runs_76 : decode cX2_runs 76 = .ok (.istore_n 3, 1) := dk_62 (dk_at dksX2_runs_3 4 rfl rfl)
theorem dX2_runs_77 : decode cX2_runs 77 = .ok (.iload_n 3, 1) := dk_29 (dk_at dksX2_runs_3 5 rfl rfl)
theorem dX2_runs_78 : decode cX2_runs 78 = .ok (.aload_n 0, 1) := dk_42 (dk_at dksX2_runs_3 6 rfl rfl)
theorem dX2_runs_79 : decode cX2_runs 79 = .ok (.getfield 22, 3) := dk_180 0 22 (dk_at dksX2_runs_3 7 rfl rfl)
theorem dX2_runs_82 : decode cX2_runs 82 = .ok (.iload_n 1, 1) := dk_27 (dk_at dksX2_runs_3 10 rfl rfl)
theorem dX2_runs_83 : decode cX2_runs 83 = .ok (.iaload, 1) := dk_46 (dk_at dksX2_runs_3 11 rfl rfl)
theorem dX2_runs_84 : decode cX2_runs 84 = .ok (.if_icmp .gt 43, 3) := dk_163 0 43 (dk_at dksX2_runs_3 12 rfl rfl)
theorem dX2_runs_87 : decode cX2_runs 87 = .ok (.aload_n 0, 1) := dk_42 (dk_at dksX2_runs_3 15 rfl rfl)
theorem dX2_runs_88 : decode cX2_runs 88 = .ok (.aload_n 0, 1) := dk_42 (dk_at dksX2_runs_3 16 rfl rfl)
theorem dX2_runs_89 : decode cX2_runs 89 = .ok (.getfield 90, 3) := dk_180 0 90 (dk_at dksX2_runs_3 17 rfl rfl)
theorem dX2_runs_92 : decode cX2_runs 92 = .ok (.iload_n 3, 1) := dk_29 (dk_at dksX2_runs_3 20 rfl rfl)
theorem dX2_runs_93 : decode cX2_runs 93 = .ok (.iaload, 1) := dk_46 (dk_at dksX2_runs_3 21 rfl rfl)
theorem dX2_runs_94 : decode cX2_runs 94 = .ok (.invokevirtual 265, 3) := dk_182 1 9 (dk_at dksX2_runs_4 0 rfl rfl)
theorem dX2_runs_97 : decode cX2_runs 97 = .ok (.istore 4, 2) := dk_54 4 (dk_at dksX2_runs_4 3 rfl rfl)
theorem dX2_runs_99 : decode cX2_runs 99 = .ok (.iload 4, 2) := dk_21 4 (dk_at dksX2_runs_4 5 rfl rfl)
theorem dX2_runs_101 : decode cX2_runs 101 = .ok (.ifCond .lt 20, 3) := dk_155 0 20 (dk_at dksX2_runs_4 7 rfl rfl)
theorem dX2_runs_104 : decode cX2_runs 104 = .ok (.aload_n 0, 1) := dk_42 (dk_at dksX2_runs_4 10 rfl rfl)
theorem dX2_runs_105 : decode cX2_runs 105 = .ok (.iload 4, 2) := dk_21 4 (dk_at dksX2_runs_4 11 rfl rfl)
theorem dX2_runs_107 : decode cX2_runs 107 = .ok (.aload_n 0, 1) := dk_42 (dk_at dksX2_runs_4 13 rfl rfl)
theorem dX2_runs_108 : decode cX2_runs 108 = .ok (.getfield 90, 3) := dk_180 0 90 (dk_at dksX2_runs_4 14 rfl rfl)
theorem dX2_runs_111 : decode cX2_runs 111 = .ok (.iload_n 3, 1) := dk_29 (dk_at dksX2_runs_4 17 rfl rfl)
theorem dX2_runs_112 : decode cX2_runs 112 = .ok (.iaload, 1) := dk_46 (dk_at dksX2_runs_4 18 rfl rfl)
theorem dX2_runs_113 : decode cX2_runs 113 = .ok (.iload_n 1, 1) := dk_27 (dk_at dksX2_runs_4 19 rfl rfl)
theorem dX2_runs_114 : decode cX2_runs 114 = .ok (.invokevirtual 268, 3) := dk_182 1 12 (dk_at dksX2_runs_4 20 rfl rfl)
theorem dX2_runs_117 : decode cX2_runs 117 = .ok (.ifCond .eq 4, 3) := dk_153 0 4 (dk_at dksX2_runs_5 0 rfl rfl)
theorem dX2_runs_120 : decode cX2_runs 120 = .ok (.return_, 1) := dk_177 (dk_at dksX2_runs_5 3 rfl rfl)
theorem dX2_runs_121 : decode cX2_runs 121 = .ok (.iinc 3 1, 3) := dk_132 3 1 (dk_at dksX2_runs_5 4 rfl rfl)
theorem dX2_runs_124 : decode cX2_runs 124 = .ok (.goto (-47), 3) := dk_167 255 209 (dk_at dksX2_runs_5 7 rfl rfl)
theorem dX2_runs_127 : decode cX2_runs 127 = .ok (.aload_n 0, 1) := dk_42 (dk_at dksX2_runs_5 10 rfl rfl)
theorem dX2_runs_128 : decode cX2_runs 128 = .ok (.iload_n 1, 1) := dk_27 (dk_at dksX2_runs_5 11 rfl rfl)
theorem dX2_runs_129 : decode cX2_runs 129 = .ok (.invokevirtual 265, 3) := dk_182 1 9 (dk_at dksX2_runs_5 12 rfl rfl)
theorem dX2_runs_132 : decode cX2_runs 132 = .ok (.istore_n 3, 1) := dk_62 (dk_at dksX2_runs_5 15 rfl rfl)
theorem dX2_runs_133 : decode cX2_runs 133 = .ok (.iload_n 3, 1) := dk_29 (dk_at dksX2_runs_5 16 rfl rfl)
theorem dX2_runs_134 : decode cX2_runs 134 = .ok (.ifCond .lt 23, 3) := dk_155 0 23 (dk_at dksX2_runs_5 17 rfl rfl)
theorem dX2_runs_137 : decode cX2_runs 137 = .ok (.aload_n 0, 1) := dk_42 (dk_at dksX2_runs_5 20 rfl rfl)
theorem dX2_runs_138 : decode cX2_runs 138 = .ok (.iload_n 3, 1) := dk_29 (dk_at dksX2_runs_5 21 rfl rfl)
theorem dX2_runs_139 : decode cX2_runs 139 = .ok (.iload_n 1, 1) := dk_27 (dk_at dksX2_runs_5 22 rfl rfl)
theorem dX2_runs_140 : decode cX2_runs 140 = .ok (.iload_n 1, 1) := dk_27 (dk_at dksX2_runs_5 23 rfl rfl)
theorem dX2_runs_141 : decode cX2_runs 141 = .ok (.invokevirtual 268, 3) := dk_182 1 12 (dk_at dksX2_runs_6 0 rfl rfl)
theorem dX2_runs_144 : decode cX2_runs 144 = .ok (.ifCond .eq 4, 3) := dk_153 0 4 (dk_at dksX2_runs_6 3 rfl rfl)
theorem dX2_runs_147 : decode cX2_runs 147 = .ok (.return_, 1) := dk_177 (dk_at dksX2_runs_6 6 rfl rfl)
theorem dX2_runs_148 : decode cX2_runs 148 = .ok (.aload_n 0, 1) := dk_42 (dk_at dksX2_runs_6 7 rfl rfl)
theorem dX2_runs_149 : decode cX2_runs 149 = .ok (.iload_n 1, 1) := dk_27 (dk_at dksX2_runs_6 8 rfl rfl)
theorem dX2_runs_150 : decode cX2_runs 150 = .ok (.invokevirtual 265, 3) := dk_182 1 9 (dk_at dksX2_runs_6 9 rfl rfl)
theorem dX2_runs_153 : decode cX2_runs 153 = .ok (.istore_n 3, 1) := dk_62 (dk_at dksX2_runs_6 12 rfl rfl)
theorem dX2_runs_154 : decode cX2_runs 154 = .ok (.goto (-21), 3) := dk_167 255 235 (dk_at dksX2_runs_6 13 rfl rfl)
theorem dX2_runs_157 : decode cX2_runs 157 = .ok (.return_, 1) := dk_177 (dk_at dksX2_runs_6 16 rfl rfl)
abbrev cX2_answers : ByteArray := prog_18_method_47_code
def yX2_answers : MethodName := ⟨RX2, "answers", "(I)I"⟩
def dkwX2_answers_3 : List UInt8 := [28, 46, 162, 0, 5, 29, 61, 132, 3, 1, 167, 255, 179, 28, 172]
abbrev dktX2_answers_3 : List UInt8 := dkwX2_answers_3 ++ []
def dkwX2_answers_2 : List UInt8 := [21, 4, 27, 122, 4, 126, 4, 160, 0, 24, 28, 155, 0, 18, 42, 180, 0, 31, 29, 46, 42, 180, 0, 31]
abbrev dktX2_answers_2 : List UInt8 := dkwX2_answers_2 ++ dktX2_answers_3
def dkwX2_answers_1 : List UInt8 := [46, 167, 0, 9, 42, 180, 0, 81, 29, 46, 54, 4, 42, 180, 0, 253, 29, 122, 4, 126, 154, 0, 34]
abbrev dktX2_answers_1 : List UInt8 := dkwX2_answers_1 ++ dktX2_answers_2
def dkwX2_answers_0 : List UInt8 := [2, 61, 3, 62, 29, 42, 180, 0, 114, 162, 0, 75, 42, 180, 0, 250, 158, 0, 12, 42, 180, 0, 84, 29]
abbrev dktX2_answers_0 : List UInt8 := dkwX2_answers_0 ++ dktX2_answers_1
theorem dksX2_answers_0 : cX2_answers.data.toList.drop 0 = dktX2_answers_0 := by decide +kernel
theorem dksX2_answers_1 : cX2_answers.data.toList.drop 24 = dktX2_answers_1 := dk_seg dksX2_answers_0 24 rfl rfl
theorem dksX2_answers_2 : cX2_answers.data.toList.drop 47 = dktX2_answers_2 := dk_seg dksX2_answers_1 23 rfl rfl
theorem dksX2_answers_3 : cX2_answers.data.toList.drop 71 = dktX2_answers_3 := dk_seg dksX2_answers_2 24 rfl rfl
theorem dX2_answers_0 : decode cX2_answers 0 = .ok (.iconst (-1), 1) := dk_2 (dk_at dksX2_answers_0 0 rfl rfl)
theorem dX2_answers_1 : decode cX2_answers 1 = .ok (.istore_n 2, 1) := dk_61 (dk_at dksX2_answers_0 1 rfl rfl)
theorem dX2_answers_2 : decode cX2_answers 2 = .ok (.iconst 0, 1) := dk_3 (dk_at dksX2_answers_0 2 rfl rfl)
theorem dX2_answers_3 : decode cX2_answers 3 = .ok (.istore_n 3, 1) := dk_62 (dk_at dksX2_answers_0 3 rfl rfl)
theorem dX2_answers_4 : decode cX2_answers 4 = .ok (.iload_n 3, 1) := dk_29 (dk_at dksX2_answers_0 4 rfl rfl)
theorem dX2_answers_5 : decode cX2_answers 5 = .ok (.aload_n 0, 1) := dk_42 (dk_at dksX2_answers_0 5 rfl rfl)
theorem dX2_answers_6 : decode cX2_answers 6 = .ok (.getfield 114, 3) := dk_180 0 114 (dk_at dksX2_answers_0 6 rfl rfl)
theorem dX2_answers_9 : decode cX2_answers 9 = .ok (.if_icmp .ge 75, 3) := dk_162 0 75 (dk_at dksX2_answers_0 9 rfl rfl)
theorem dX2_answers_12 : decode cX2_answers 12 = .ok (.aload_n 0, 1) := dk_42 (dk_at dksX2_answers_0 12 rfl rfl)
theorem dX2_answers_13 : decode cX2_answers 13 = .ok (.getfield 250, 3) := dk_180 0 250 (dk_at dksX2_answers_0 13 rfl rfl)
theorem dX2_answers_16 : decode cX2_answers 16 = .ok (.ifCond .le 12, 3) := dk_158 0 12 (dk_at dksX2_answers_0 16 rfl rfl)
theorem dX2_answers_19 : decode cX2_answers 19 = .ok (.aload_n 0, 1) := dk_42 (dk_at dksX2_answers_0 19 rfl rfl)
theorem dX2_answers_20 : decode cX2_answers 20 = .ok (.getfield 84, 3) := dk_180 0 84 (dk_at dksX2_answers_0 20 rfl rfl)
theorem dX2_answers_23 : decode cX2_answers 23 = .ok (.iload_n 3, 1) := dk_29 (dk_at dksX2_answers_0 23 rfl rfl)
theorem dX2_answers_24 : decode cX2_answers 24 = .ok (.iaload, 1) := dk_46 (dk_at dksX2_answers_1 0 rfl rfl)
theorem dX2_answers_25 : decode cX2_answers 25 = .ok (.goto 9, 3) := dk_167 0 9 (dk_at dksX2_answers_1 1 rfl rfl)
theorem dX2_answers_28 : decode cX2_answers 28 = .ok (.aload_n 0, 1) := dk_42 (dk_at dksX2_answers_1 4 rfl rfl)
theorem dX2_answers_29 : decode cX2_answers 29 = .ok (.getfield 81, 3) := dk_180 0 81 (dk_at dksX2_answers_1 5 rfl rfl)
theorem dX2_answers_32 : decode cX2_answers 32 = .ok (.iload_n 3, 1) := dk_29 (dk_at dksX2_answers_1 8 rfl rfl)
theorem dX2_answers_33 : decode cX2_answers 33 = .ok (.iaload, 1) := dk_46 (dk_at dksX2_answers_1 9 rfl rfl)
theorem dX2_answers_34 : decode cX2_answers 34 = .ok (.istore 4, 2) := dk_54 4 (dk_at dksX2_answers_1 10 rfl rfl)
theorem dX2_answers_36 : decode cX2_answers 36 = .ok (.aload_n 0, 1) := dk_42 (dk_at dksX2_answers_1 12 rfl rfl)
theorem dX2_answers_37 : decode cX2_answers 37 = .ok (.getfield 253, 3) := dk_180 0 253 (dk_at dksX2_answers_1 13 rfl rfl)
theorem dX2_answers_40 : decode cX2_answers 40 = .ok (.iload_n 3, 1) := dk_29 (dk_at dksX2_answers_1 16 rfl rfl)
theorem dX2_answers_41 : decode cX2_answers 41 = .ok (.ishr, 1) := dk_122 (dk_at dksX2_answers_1 17 rfl rfl)
theorem dX2_answers_42 : decode cX2_answers 42 = .ok (.iconst 1, 1) := dk_4 (dk_at dksX2_answers_1 18 rfl rfl)
theorem dX2_answers_43 : decode cX2_answers 43 = .ok (.iand, 1) := dk_126 (dk_at dksX2_answers_1 19 rfl rfl)
theorem dX2_answers_44 : decode cX2_answers 44 = .ok (.ifCond .ne 34, 3) := dk_154 0 34 (dk_at dksX2_answers_1 20 rfl rfl)
theorem dX2_answers_47 : decode cX2_answers 47 = .ok (.iload 4, 2) := dk_21 4 (dk_at dksX2_answers_2 0 rfl rfl)
theorem dX2_answers_49 : decode cX2_answers 49 = .ok (.iload_n 1, 1) := dk_27 (dk_at dksX2_answers_2 2 rfl rfl)
theorem dX2_answers_50 : decode cX2_answers 50 = .ok (.ishr, 1) := dk_122 (dk_at dksX2_answers_2 3 rfl rfl)
theorem dX2_answers_51 : decode cX2_answers 51 = .ok (.iconst 1, 1) := dk_4 (dk_at dksX2_answers_2 4 rfl rfl)
theorem dX2_answers_52 : decode cX2_answers 52 = .ok (.iand, 1) := dk_126 (dk_at dksX2_answers_2 5 rfl rfl)
theorem dX2_answers_53 : decode cX2_answers 53 = .ok (.iconst 1, 1) := dk_4 (dk_at dksX2_answers_2 6 rfl rfl)
theorem dX2_answers_54 : decode cX2_answers 54 = .ok (.if_icmp .ne 24, 3) := dk_160 0 24 (dk_at dksX2_answers_2 7 rfl rfl)
theorem dX2_answers_57 : decode cX2_answers 57 = .ok (.iload_n 2, 1) := dk_28 (dk_at dksX2_answers_2 10 rfl rfl)
theorem dX2_answers_58 : decode cX2_answers 58 = .ok (.ifCond .lt 18, 3) := dk_155 0 18 (dk_at dksX2_answers_2 11 rfl rfl)
theorem dX2_answers_61 : decode cX2_answers 61 = .ok (.aload_n 0, 1) := dk_42 (dk_at dksX2_answers_2 14 rfl rfl)
theorem dX2_answers_62 : decode cX2_answers 62 = .ok (.getfield 31, 3) := dk_180 0 31 (dk_at dksX2_answers_2 15 rfl rfl)
theorem dX2_answers_65 : decode cX2_answers 65 = .ok (.iload_n 3, 1) := dk_29 (dk_at dksX2_answers_2 18 rfl rfl)
theorem dX2_answers_66 : decode cX2_answers 66 = .ok (.iaload, 1) := dk_46 (dk_at dksX2_answers_2 19 rfl rfl)
theorem dX2_answers_67 : decode cX2_answers 67 = .ok (.aload_n 0, 1) := dk_42 (dk_at dksX2_answers_2 20 rfl rfl)
theorem dX2_answers_68 : decode cX2_answers 68 = .ok (.getfield 31, 3) := dk_180 0 31 (dk_at dksX2_answers_2 21 rfl rfl)
theorem dX2_answers_71 : decode cX2_answers 71 = .ok (.iload_n 2, 1) := dk_28 (dk_at dksX2_answers_3 0 rfl rfl)
theorem dX2_answers_72 : decode cX2_answers 72 = .ok (.iaload, 1) := dk_46 (dk_at dksX2_answers_3 1 rfl rfl)
theorem dX2_answers_73 : decode cX2_answers 73 = .ok (.if_icmp .ge 5, 3) := dk_162 0 5 (dk_at dksX2_answers_3 2 rfl rfl)
theorem dX2_answers_76 : decode cX2_answers 76 = .ok (.iload_n 3, 1) := dk_29 (dk_at dksX2_answers_3 5 rfl rfl)
theorem dX2_answers_77 : decode cX2_answers 77 = .ok (.istore_n 2, 1) := dk_61 (dk_at dksX2_answers_3 6 rfl rfl)
theorem dX2_answers_78 : decode cX2_answers 78 = .ok (.iinc 3 1, 3) := dk_132 3 1 (dk_at dksX2_answers_3 7 rfl rfl)
theorem dX2_answers_81 : decode cX2_answers 81 = .ok (.goto (-77), 3) := dk_167 255 179 (dk_at dksX2_answers_3 10 rfl rfl)
theorem dX2_answers_84 : decode cX2_answers 84 = .ok (.iload_n 2, 1) := dk_28 (dk_at dksX2_answers_3 13 rfl rfl)
theorem dX2_answers_85 : decode cX2_answers 85 = .ok (.ireturn, 1) := dk_172 (dk_at dksX2_answers_3 14 rfl rfl)
abbrev cX2_isOver : ByteArray := prog_18_method_48_code
def yX2_isOver : MethodName := ⟨RX2, "isOver", "(III)Z"⟩
def dkwX2_isOver_5 : List UInt8 := [180, 0, 40, 6, 46, 154, 0, 7, 4, 167, 0, 4, 3, 172]
abbrev dktX2_isOver_5 : List UInt8 := dkwX2_isOver_5 ++ []
def dkwX2_isOver_4 : List UInt8 := [89, 180, 0, 253, 4, 27, 120, 128, 181, 0, 253, 42, 89, 180, 0, 250, 4, 96, 181, 0, 250, 42]
abbrev dktX2_isOver_4 : List UInt8 := dkwX2_isOver_4 ++ dktX2_isOver_5
def dkwX2_isOver_3 : List UInt8 := [46, 100, 104, 96, 96, 79, 4, 172, 42, 180, 0, 93, 27, 92, 46, 42, 180, 0, 40, 4, 46, 100, 79, 42]
abbrev dktX2_isOver_3 : List UInt8 := dkwX2_isOver_3 ++ dktX2_isOver_4
def dkwX2_isOver_2 : List UInt8 := [46, 42, 180, 0, 40, 3, 46, 42, 180, 0, 40, 5, 46, 42, 180, 0, 22, 29, 46, 42, 180, 0, 22, 28]
abbrev dktX2_isOver_2 : List UInt8 := dkwX2_isOver_2 ++ dktX2_isOver_3
def dkwX2_isOver_1 : List UInt8 := [104, 28, 96, 46, 42, 180, 0, 19, 29, 46, 160, 0, 46, 42, 27, 181, 1, 6, 42, 180, 0, 93, 27, 92]
abbrev dktX2_isOver_1 : List UInt8 := dkwX2_isOver_1 ++ dktX2_isOver_2
def dkwX2_isOver_0 : List UInt8 := [42, 180, 1, 0, 156, 0, 13, 42, 27, 181, 1, 0, 42, 28, 181, 1, 3, 42, 180, 0, 78, 16, 24, 27]
abbrev dktX2_isOver_0 : List UInt8 := dkwX2_isOver_0 ++ dktX2_isOver_1
theorem dksX2_isOver_0 : cX2_isOver.data.toList.drop 0 = dktX2_isOver_0 := by decide +kernel
theorem dksX2_isOver_1 : cX2_isOver.data.toList.drop 24 = dktX2_isOver_1 := dk_seg dksX2_isOver_0 24 rfl rfl
theorem dksX2_isOver_2 : cX2_isOver.data.toList.drop 48 = dktX2_isOver_2 := dk_seg dksX2_isOver_1 24 rfl rfl
theorem dksX2_isOver_3 : cX2_isOver.data.toList.drop 72 = dktX2_isOver_3 := dk_seg dksX2_isOver_2 24 rfl rfl
theorem dksX2_isOver_4 : cX2_isOver.data.toList.drop 96 = dktX2_isOver_4 := dk_seg dksX2_isOver_3 24 rfl rfl
theorem dksX2_isOver_5 : cX2_isOver.data.toList.drop 118 = dktX2_isOver_5 := dk_seg dksX2_isOver_4 22 rfl rfl
theorem dX2_isOver_0 : decode cX2_isOver 0 = .ok (.aload_n 0, 1) := dk_42 (dk_at dksX2_isOver_0 0 rfl rfl)
theorem dX2_isOver_1 : decode cX2_isOver 1 = .ok (.getfield 256, 3) := dk_180 1 0 (dk_at dksX2_isOver_0 1 rfl rfl)
theorem dX2_isOver_4 : decode cX2_isOver 4 = .ok (.ifCond .ge 13, 3) := dk_156 0 13 (dk_at dksX2_isOver_0 4 rfl rfl)
theorem dX2_isOver_7 : decode cX2_isOver 7 = .ok (.aload_n 0, 1) := dk_42 (dk_at dksX2_isOver_0 7 rfl rfl)
theorem dX2_isOver_8 : decode cX2_isOver 8 = .ok (.iload_n 1, 1) := dk_27 (dk_at dksX2_isOver_0 8 rfl rfl)
theorem dX2_isOver_9 : decode cX2_isOver 9 = .ok (.putfield 256, 3) := dk_181 1 0 (dk_at dksX2_isOver_0 9 rfl rfl)
theorem dX2_isOver_12 : decode cX2_isOver 12 = .ok (.aload_n 0, 1) := dk_42 (dk_at dksX2_isOver_0 12 rfl rfl)
theorem dX2_isOver_13 : decode cX2_isOver 13 = .ok (.iload_n 2, 1) := dk_28 (dk_at dksX2_isOver_0 13 rfl rfl)
theorem dX2_isOver_14 : decode cX2_isOver 14 = .ok (.putfield 259, 3) := dk_181 1 3 (dk_at dksX2_isOver_0 14 rfl rfl)
theorem dX2_isOver_17 : decode cX2_isOver 17 = .ok (.aload_n 0, 1) := dk_42 (dk_at dksX2_isOver_0 17 rfl rfl)
theorem dX2_isOver_18 : decode cX2_isOver 18 = .ok (.getfield 78, 3) := dk_180 0 78 (dk_at dksX2_isOver_0 18 rfl rfl)
theorem dX2_isOver_21 : decode cX2_isOver 21 = .ok (.bipush 24, 2) := dk_16 24 (dk_at dksX2_isOver_0 21 rfl rfl)
theorem dX2_isOver_23 : decode cX2_isOver 23 = .ok (.iload_n 1, 1) := dk_27 (dk_at dksX2_isOver_0 23 rfl rfl)
theorem dX2_isOver_24 : decode cX2_isOver 24 = .ok (.imul, 1) := dk_104 (dk_at dksX2_isOver_1 0 rfl rfl)
theorem dX2_isOver_25 : decode cX2_isOver 25 = .ok (.iload_n 2, 1) := dk_28 (dk_at dksX2_isOver_1 1 rfl rfl)
theorem dX2_isOver_26 : decode cX2_isOver 26 = .ok (.iadd, 1) := dk_96 (dk_at dksX2_isOver_1 2 rfl rfl)
theorem dX2_isOver_27 : decode cX2_isOver 27 = .ok (.iaload, 1) := dk_46 (dk_at dksX2_isOver_1 3 rfl rfl)
theorem dX2_isOver_28 : decode cX2_isOver 28 = .ok (.aload_n 0, 1) := dk_42 (dk_at dksX2_isOver_1 4 rfl rfl)
theorem dX2_isOver_29 : decode cX2_isOver 29 = .ok (.getfield 19, 3) := dk_180 0 19 (dk_at dksX2_isOver_1 5 rfl rfl)
theorem dX2_isOver_32 : decode cX2_isOver 32 = .ok (.iload_n 3, 1) := dk_29 (dk_at dksX2_isOver_1 8 rfl rfl)
theorem dX2_isOver_33 : decode cX2_isOver 33 = .ok (.iaload, 1) := dk_46 (dk_at dksX2_isOver_1 9 rfl rfl)
theorem dX2_isOver_34 : decode cX2_isOver 34 = .ok (.if_icmp .ne 46, 3) := dk_160 0 46 (dk_at dksX2_isOver_1 10 rfl rfl)
theorem dX2_isOver_37 : decode cX2_isOver 37 = .ok (.aload_n 0, 1) := dk_42 (dk_at dksX2_isOver_1 13 rfl rfl)
theorem dX2_isOver_38 : decode cX2_isOver 38 = .ok (.iload_n 1, 1) := dk_27 (dk_at dksX2_isOver_1 14 rfl rfl)
theorem dX2_isOver_39 : decode cX2_isOver 39 = .ok (.putfield 262, 3) := dk_181 1 6 (dk_at dksX2_isOver_1 15 rfl rfl)
theorem dX2_isOver_42 : decode cX2_isOver 42 = .ok (.aload_n 0, 1) := dk_42 (dk_at dksX2_isOver_1 18 rfl rfl)
theorem dX2_isOver_43 : decode cX2_isOver 43 = .ok (.getfield 93, 3) := dk_180 0 93 (dk_at dksX2_isOver_1 19 rfl rfl)
theorem dX2_isOver_46 : decode cX2_isOver 46 = .ok (.iload_n 1, 1) := dk_27 (dk_at dksX2_isOver_1 22 rfl rfl)
theorem dX2_isOver_47 : decode cX2_isOver 47 = .ok (.dup2, 1) := dk_92 (dk_at dksX2_isOver_1 23 rfl rfl)
theorem dX2_isOver_48 : decode cX2_isOver 48 = .ok (.iaload, 1) := dk_46 (dk_at dksX2_isOver_2 0 rfl rfl)
theorem dX2_isOver_49 : decode cX2_isOver 49 = .ok (.aload_n 0, 1) := dk_42 (dk_at dksX2_isOver_2 1 rfl rfl)
theorem dX2_isOver_50 : decode cX2_isOver 50 = .ok (.getfield 40, 3) := dk_180 0 40 (dk_at dksX2_isOver_2 2 rfl rfl)
theorem dX2_isOver_53 : decode cX2_isOver 53 = .ok (.iconst 0, 1) := dk_3 (dk_at dksX2_isOver_2 5 rfl rfl)
theorem dX2_isOver_54 : decode cX2_isOver 54 = .ok (.iaload, 1) := dk_46 (dk_at dksX2_isOver_2 6 rfl rfl)
theorem dX2_isOver_55 : decode cX2_isOver 55 = .ok (.aload_n 0, 1) := dk_42 (dk_at dksX2_isOver_2 7 rfl rfl)
theorem dX2_isOver_56 : decode cX2_isOver 56 = .ok (.getfield 40, 3) := dk_180 0 40 (dk_at dksX2_isOver_2 8 rfl rfl)
theorem dX2_isOver_59 : decode cX2_isOver 59 = .ok (.iconst 2, 1) := dk_5 (dk_at dksX2_isOver_2 11 rfl rfl)
theorem dX2_isOver_60 : decode cX2_isOver 60 = .ok (.iaload, 1) := dk_46 (dk_at dksX2_isOver_2 12 rfl rfl)
theorem dX2_isOver_61 : decode cX2_isOver 61 = .ok (.aload_n 0, 1) := dk_42 (dk_at dksX2_isOver_2 13 rfl rfl)
theorem dX2_isOver_62 : decode cX2_isOver 62 = .ok (.getfield 22, 3) := dk_180 0 22 (dk_at dksX2_isOver_2 14 rfl rfl)
theorem dX2_isOver_65 : decode cX2_isOver 65 = .ok (.iload_n 3, 1) := dk_29 (dk_at dksX2_isOver_2 17 rfl rfl)
theorem dX2_isOver_66 : decode cX2_isOver 66 = .ok (.iaload, 1) := dk_46 (dk_at dksX2_isOver_2 18 rfl rfl)
theorem dX2_isOver_67 : decode cX2_isOver 67 = .ok (.aload_n 0, 1) := dk_42 (dk_at dksX2_isOver_2 19 rfl rfl)
theorem dX2_isOver_68 : decode cX2_isOver 68 = .ok (.getfield 22, 3) := dk_180 0 22 (dk_at dksX2_isOver_2 20 rfl rfl)
theorem dX2_isOver_71 : decode cX2_isOver 71 = .ok (.iload_n 2, 1) := dk_28 (dk_at dksX2_isOver_2 23 rfl rfl)
theorem dX2_isOver_72 : decode cX2_isOver 72 = .ok (.iaload, 1) := dk_46 (dk_at dksX2_isOver_3 0 rfl rfl)
theorem dX2_isOver_73 : decode cX2_isOver 73 = .ok (.isub, 1) := dk_100 (dk_at dksX2_isOver_3 1 rfl rfl)
theorem dX2_isOver_74 : decode cX2_isOver 74 = .ok (.imul, 1) := dk_104 (dk_at dksX2_isOver_3 2 rfl rfl)
theorem dX2_isOver_75 : decode cX2_isOver 75 = .ok (.iadd, 1) := dk_96 (dk_at dksX2_isOver_3 3 rfl rfl)
theorem dX2_isOver_76 : decode cX2_isOver 76 = .ok (.iadd, 1) := dk_96 (dk_at dksX2_isOver_3 4 rfl rfl)
theorem dX2_isOver_77 : decode cX2_isOver 77 = .ok (.iastore, 1) := dk_79 (dk_at dksX2_isOver_3 5 rfl rfl)
theorem dX2_isOver_78 : decode cX2_isOver 78 = .ok (.iconst 1, 1) := dk_4 (dk_at dksX2_isOver_3 6 rfl rfl)
theorem dX2_isOver_79 : decode cX2_isOver 79 = .ok (.ireturn, 1) := dk_172 (dk_at dksX2_isOver_3 7 rfl rfl)
theorem dX2_isOver_80 : decode cX2_isOver 80 = .ok (.aload_n 0, 1) := dk_42 (dk_at dksX2_isOver_3 8 rfl rfl)
theorem dX2_isOver_81 : decode cX2_isOver 81 = .ok (.getfield 93, 3) := dk_180 0 93 (dk_at dksX2_isOver_3 9 rfl rfl)
theorem dX2_isOver_84 : decode cX2_isOver 84 = .ok (.iload_n 1, 1) := dk_27 (dk_at dksX2_isOver_3 12 rfl rfl)
theorem dX2_isOver_85 : decode cX2_isOver 85 = .ok (.dup2, 1) := dk_92 (dk_at dksX2_isOver_3 13 rfl rfl)
theorem dX2_isOver_86 : decode cX2_isOver 86 = .ok (.iaload, 1) := dk_46 (dk_at dksX2_isOver_3 14 rfl rfl)
theorem dX2_isOver_87 : decode cX2_isOver 87 = .ok (.aload_n 0, 1) := dk_42 (dk_at dksX2_isOver_3 15 rfl rfl)
theorem dX2_isOver_88 : decode cX2_isOver 88 = .ok (.getfield 40, 3) := dk_180 0 40 (dk_at dksX2_isOver_3 16 rfl rfl)
theorem dX2_isOver_91 : decode cX2_isOver 91 = .ok (.iconst 1, 1) := dk_4 (dk_at dksX2_isOver_3 19 rfl rfl)
theorem dX2_isOver_92 : decode cX2_isOver 92 = .ok (.iaload, 1) := dk_46 (dk_at dksX2_isOver_3 20 rfl rfl)
theorem dX2_isOver_93 : decode cX2_isOver 93 = .ok (.isub, 1) := dk_100 (dk_at dksX2_isOver_3 21 rfl rfl)
theorem dX2_isOver_94 : decode cX2_isOver 94 = .ok (.iastore, 1) := dk_79 (dk_at dksX2_isOver_3 22 rfl rfl)
theorem dX2_isOver_95 : decode cX2_isOver 95 = .ok (.aload_n 0, 1) := dk_42 (dk_at dksX2_isOver_3 23 rfl rfl)
theorem dX2_isOver_96 : decode cX2_isOver 96 = .ok (.dup, 1) := dk_89 (dk_at dksX2_isOver_4 0 rfl rfl)
theorem dX2_isOver_97 : decode cX2_isOver 97 = .ok (.getfield 253, 3) := dk_180 0 253 (dk_at dksX2_isOver_4 1 rfl rfl)
theorem dX2_isOver_100 : decode cX2_isOver 100 = .ok (.iconst 1, 1) := dk_4 (dk_at dksX2_isOver_4 4 rfl rfl)
theorem dX2_isOver_101 : decode cX2_isOver 101 = .ok (.iload_n 1, 1) := dk_27 (dk_at dksX2_isOver_4 5 rfl rfl)
theorem dX2_isOver_102 : decode cX2_isOver 102 = .ok (.ishl, 1) := dk_120 (dk_at dksX2_isOver_4 6 rfl rfl)
theorem dX2_isOver_103 : decode cX2_isOver 103 = .ok (.ior, 1) := dk_128 (dk_at dksX2_isOver_4 7 rfl rfl)
theorem dX2_isOver_104 : decode cX2_isOver 104 = .ok (.putfield 253, 3) := dk_181 0 253 (dk_at dksX2_isOver_4 8 rfl rfl)
theorem dX2_isOver_107 : decode cX2_isOver 107 = .ok (.aload_n 0, 1) := dk_42 (dk_at dksX2_isOver_4 11 rfl rfl)
theorem dX2_isOver_108 : decode cX2_isOver 108 = .ok (.dup, 1) := dk_89 (dk_at dksX2_isOver_4 12 rfl rfl)
theorem dX2_isOver_109 : decode cX2_isOver 109 = .ok (.getfield 250, 3) := dk_180 0 250 (dk_at dksX2_isOver_4 13 rfl rfl)
theorem dX2_isOver_112 : decode cX2_isOver 112 = .ok (.iconst 1, 1) := dk_4 (dk_at dksX2_isOver_4 16 rfl rfl)
theorem dX2_isOver_113 : decode cX2_isOver 113 = .ok (.iadd, 1) := dk_96 (dk_at dksX2_isOver_4 17 rfl rfl)
theorem dX2_isOver_114 : decode cX2_isOver 114 = .ok (.putfield 250, 3) := dk_181 0 250 (dk_at dksX2_isOver_4 18 rfl rfl)
theorem dX2_isOver_117 : decode cX2_isOver 117 = .ok (.aload_n 0, 1) := dk_42 (dk_at dksX2_isOver_4 21 rfl rfl)
theorem dX2_isOver_118 : decode cX2_isOver 118 = .ok (.getfield 40, 3) := dk_180 0 40 (dk_at dksX2_isOver_5 0 rfl rfl)
theorem dX2_isOver_121 : decode cX2_isOver 121 = .ok (.iconst 3, 1) := dk_6 (dk_at dksX2_isOver_5 3 rfl rfl)
theorem dX2_isOver_122 : decode cX2_isOver 122 = .ok (.iaload, 1) := dk_46 (dk_at dksX2_isOver_5 4 rfl rfl)
theorem dX2_isOver_123 : decode cX2_isOver 123 = .ok (.ifCond .ne 7, 3) := dk_154 0 7 (dk_at dksX2_isOver_5 5 rfl rfl)
theorem dX2_isOver_126 : decode cX2_isOver 126 = .ok (.iconst 1, 1) := dk_4 (dk_at dksX2_isOver_5 8 rfl rfl)
theorem dX2_isOver_127 : decode cX2_isOver 127 = .ok (.goto 4, 3) := dk_167 0 4 (dk_at dksX2_isOver_5 9 rfl rfl)
theorem dX2_isOver_130 : decode cX2_isOver 130 = .ok (.iconst 0, 1) := dk_3 (dk_at dksX2_isOver_5 12 rfl rfl)
theorem dX2_isOver_131 : decode cX2_isOver 131 = .ok (.ireturn, 1) := dk_172 (dk_at dksX2_isOver_5 13 rfl rfl)
abbrev cX2_wins : ByteArray := prog_18_method_53_code
def yX2_wins : MethodName := ⟨RX2, "wins", "(II)J"⟩
def dkwX2_wins_0 : List UInt8 := [42, 3, 27, 28, 182, 1, 21, 173]
abbrev dktX2_wins_0 : List UInt8 := dkwX2_wins_0 ++ []
theorem dksX2_wins_0 : cX2_wins.data.toList.drop 0 = dktX2_wins_0 := by decide +kernel
theorem dX2_wins_0 : decode cX2_wins 0 = .ok (.aload_n 0, 1) := dk_42 (dk_at dksX2_wins_0 0 rfl rfl)
theorem dX2_wins_1 : decode cX2_wins 1 = .ok (.iconst 0, 1) := dk_3 (dk_at dksX2_wins_0 1 rfl rfl)
theorem dX2_wins_2 : decode cX2_wins 2 = .ok (.iload_n 1, 1) := dk_27 (dk_at dksX2_wins_0 2 rfl rfl)
theorem dX2_wins_3 : decode cX2_wins 3 = .ok (.iload_n 2, 1) := dk_28 (dk_at dksX2_wins_0 3 rfl rfl)
theorem dX2_wins_4 : decode cX2_wins 4 = .ok (.invokevirtual 277, 3) := dk_182 1 21 (dk_at dksX2_wins_0 4 rfl rfl)
theorem dX2_wins_7 : decode cX2_wins 7 = .ok (.lreturn, 1) := dk_173 (dk_at dksX2_wins_0 7 rfl rfl)
abbrev cX2_inAll : ByteArray := prog_18_method_52_code
def yX2_inAll : MethodName := ⟨RX2, "inAll", "(III)J"⟩
def dkwX2_inAll_2 : List UInt8 := [182, 0, 239, 173, 42, 182, 0, 247, 42, 27, 28, 182, 1, 18, 42, 180, 0, 194, 29, 184, 0, 243, 173]
abbrev dktX2_inAll_2 : List UInt8 := dkwX2_inAll_2 ++ []
def dkwX2_inAll_1 : List UInt8 := [184, 0, 140, 154, 0, 10, 42, 16, 254, 182, 0, 239, 173, 42, 182, 0, 183, 154, 0, 10, 42, 16, 253]
abbrev dktX2_inAll_1 : List UInt8 := dkwX2_inAll_1 ++ dktX2_inAll_2
def dkwX2_inAll_0 : List UInt8 := [27, 5, 162, 0, 17, 42, 28, 182, 0, 180, 154, 0, 9, 42, 2, 182, 0, 239, 173, 29, 3, 4]
abbrev dktX2_inAll_0 : List UInt8 := dkwX2_inAll_0 ++ dktX2_inAll_1
theorem dksX2_inAll_0 : cX2_inAll.data.toList.drop 0 = dktX2_inAll_0 := by decide +kernel
theorem dksX2_inAll_1 : cX2_inAll.data.toList.drop 22 = dktX2_inAll_1 := dk_seg dksX2_inAll_0 22 rfl rfl
theorem dksX2_inAll_2 : cX2_inAll.data.toList.drop 45 = dktX2_inAll_2 := dk_seg dksX2_inAll_1 23 rfl rfl
theorem dX2_inAll_0 : decode cX2_inAll 0 = .ok (.iload_n 1, 1) := dk_27 (dk_at dksX2_inAll_0 0 rfl rfl)
theorem dX2_inAll_1 : decode cX2_inAll 1 = .ok (.iconst 2, 1) := dk_5 (dk_at dksX2_inAll_0 1 rfl rfl)
theorem dX2_inAll_2 : decode cX2_inAll 2 = .ok (.if_icmp .ge 17, 3) := dk_162 0 17 (dk_at dksX2_inAll_0 2 rfl rfl)
theorem dX2_inAll_5 : decode cX2_inAll 5 = .ok (.aload_n 0, 1) := dk_42 (dk_at dksX2_inAll_0 5 rfl rfl)
theorem dX2_inAll_6 : decode cX2_inAll 6 = .ok (.iload_n 2, 1) := dk_28 (dk_at dksX2_inAll_0 6 rfl rfl)
theorem dX2_inAll_7 : decode cX2_inAll 7 = .ok (.invokevirtual 180, 3) := dk_182 0 180 (dk_at dksX2_inAll_0 7 rfl rfl)
theorem dX2_inAll_10 : decode cX2_inAll 10 = .ok (.ifCond .ne 9, 3) := dk_154 0 9 (dk_at dksX2_inAll_0 10 rfl rfl)
theorem dX2_inAll_13 : decode cX2_inAll 13 = .ok (.aload_n 0, 1) := dk_42 (dk_at dksX2_inAll_0 13 rfl rfl)
theorem dX2_inAll_14 : decode cX2_inAll 14 = .ok (.iconst (-1), 1) := dk_2 (dk_at dksX2_inAll_0 14 rfl rfl)
theorem dX2_inAll_15 : decode cX2_inAll 15 = .ok (.invokevirtual 239, 3) := dk_182 0 239 (dk_at dksX2_inAll_0 15 rfl rfl)
theorem dX2_inAll_18 : decode cX2_inAll 18 = .ok (.lreturn, 1) := dk_173 (dk_at dksX2_inAll_0 18 rfl rfl)
theorem dX2_inAll_19 : decode cX2_inAll 19 = .ok (.iload_n 3, 1) := dk_29 (dk_at dksX2_inAll_0 19 rfl rfl)
theorem dX2_inAll_20 : decode cX2_inAll 20 = .ok (.iconst 0, 1) := dk_3 (dk_at dksX2_inAll_0 20 rfl rfl)
theorem dX2_inAll_21 : decode cX2_inAll 21 = .ok (.iconst 1, 1) := dk_4 (dk_at dksX2_inAll_0 21 rfl rfl)
theorem dX2_inAll_22 : decode cX2_inAll 22 = .ok (.invokestatic 140, 3) := dk_184 0 140 (dk_at dksX2_inAll_1 0 rfl rfl)
theorem dX2_inAll_25 : decode cX2_inAll 25 = .ok (.ifCond .ne 10, 3) := dk_154 0 10 (dk_at dksX2_inAll_1 3 rfl rfl)
theorem dX2_inAll_28 : decode cX2_inAll 28 = .ok (.aload_n 0, 1) := dk_42 (dk_at dksX2_inAll_1 6 rfl rfl)
theorem dX2_inAll_29 : decode cX2_inAll 29 = .ok (.bipush (-2), 2) := dk_16 254 (dk_at dksX2_inAll_1 7 rfl rfl)
theorem dX2_inAll_31 : decode cX2_inAll 31 = .ok (.invokevirtual 239, 3) := dk_182 0 239 (dk_at dksX2_inAll_1 9 rfl rfl)
theorem dX2_inAll_34 : decode cX2_inAll 34 = .ok (.lreturn, 1) := dk_173 (dk_at dksX2_inAll_1 12 rfl rfl)
theorem dX2_inAll_35 : decode cX2_inAll 35 = .ok (.aload_n 0, 1) := dk_42 (dk_at dksX2_inAll_1 13 rfl rfl)
theorem dX2_inAll_36 : decode cX2_inAll 36 = .ok (.invokevirtual 183, 3) := dk_182 0 183 (dk_at dksX2_inAll_1 14 rfl rfl)
theorem dX2_inAll_39 : decode cX2_inAll 39 = .ok (.ifCond .ne 10, 3) := dk_154 0 10 (dk_at dksX2_inAll_1 17 rfl rfl)
theorem dX2_inAll_42 : decode cX2_inAll 42 = .ok (.aload_n 0, 1) := dk_42 (dk_at dksX2_inAll_1 20 rfl rfl)
theorem dX2_inAll_43 : decode cX2_inAll 43 = .ok (.bipush (-3), 2) := dk_16 253 (dk_at dksX2_inAll_1 21 rfl rfl)
theorem dX2_inAll_45 : decode cX2_inAll 45 = .ok (.invokevirtual 239, 3) := dk_182 0 239 (dk_at dksX2_inAll_2 0 rfl rfl)
theorem dX2_inAll_48 : decode cX2_inAll 48 = .ok (.lreturn, 1) := dk_173 (dk_at dksX2_inAll_2 3 rfl rfl)
theorem dX2_inAll_49 : decode cX2_inAll 49 = .ok (.aload_n 0, 1) := dk_42 (dk_at dksX2_inAll_2 4 rfl rfl)
theorem dX2_inAll_50 : decode cX2_inAll 50 = .ok (.invokevirtual 247, 3) := dk_182 0 247 (dk_at dksX2_inAll_2 5 rfl rfl)
theorem dX2_inAll_53 : decode cX2_inAll 53 = .ok (.aload_n 0, 1) := dk_42 (dk_at dksX2_inAll_2 8 rfl rfl)
theorem dX2_inAll_54 : decode cX2_inAll 54 = .ok (.iload_n 1, 1) := dk_27 (dk_at dksX2_inAll_2 9 rfl rfl)
theorem dX2_inAll_55 : decode cX2_inAll 55 = .ok (.iload_n 2, 1) := dk_28 (dk_at dksX2_inAll_2 10 rfl rfl)
theorem dX2_inAll_56 : decode cX2_inAll 56 = .ok (.invokevirtual 274, 3) := dk_182 1 18 (dk_at dksX2_inAll_2 11 rfl rfl)
theorem dX2_inAll_59 : decode cX2_inAll 59 = .ok (.aload_n 0, 1) := dk_42 (dk_at dksX2_inAll_2 14 rfl rfl)
theorem dX2_inAll_60 : decode cX2_inAll 60 = .ok (.getfield 194, 3) := dk_180 0 194 (dk_at dksX2_inAll_2 15 rfl rfl)
theorem dX2_inAll_63 : decode cX2_inAll 63 = .ok (.iload_n 3, 1) := dk_29 (dk_at dksX2_inAll_2 18 rfl rfl)
theorem dX2_inAll_64 : decode cX2_inAll 64 = .ok (.invokestatic 243, 3) := dk_184 0 243 (dk_at dksX2_inAll_2 19 rfl rfl)
theorem dX2_inAll_67 : decode cX2_inAll 67 = .ok (.lreturn, 1) := dk_173 (dk_at dksX2_inAll_2 22 rfl rfl)
abbrev cX2_sumOver : ByteArray := prog_18_method_51_code
def yX2_sumOver : MethodName := ⟨RX2, "sumOver", "(II)J"⟩
def dkwX2_sumOver_6 : List UInt8 := [66, 132, 5, 1, 167, 255, 115, 33, 173]
abbrev dktX2_sumOver_6 : List UInt8 := dkwX2_sumOver_6 ++ []
def dkwX2_sumOver_5 : List UInt8 := [155, 0, 12, 42, 180, 1, 3, 21, 5, 160, 0, 13, 42, 180, 0, 71, 21, 5, 47, 167, 0, 4, 9, 97]
abbrev dktX2_sumOver_5 : List UInt8 := dkwX2_sumOver_5 ++ dktX2_sumOver_6
def dkwX2_sumOver_4 : List UInt8 := [42, 180, 0, 71, 21, 5, 47, 167, 0, 4, 9, 97, 66, 27, 6, 160, 0, 33, 33, 42, 180, 1, 3]
abbrev dktX2_sumOver_4 : List UInt8 := dkwX2_sumOver_4 ++ dktX2_sumOver_5
def dkwX2_sumOver_3 : List UInt8 := [47, 42, 180, 0, 93, 28, 46, 133, 105, 97, 66, 27, 5, 160, 0, 24, 33, 42, 180, 1, 6, 156, 0, 13]
abbrev dktX2_sumOver_3 : List UInt8 := dkwX2_sumOver_3 ++ dktX2_sumOver_4
def dkwX2_sumOver_2 : List UInt8 := [180, 0, 71, 21, 5, 47, 167, 0, 4, 9, 97, 66, 27, 4, 160, 0, 21, 33, 42, 180, 0, 71, 21, 5]
abbrev dktX2_sumOver_2 : List UInt8 := dkwX2_sumOver_2 ++ dktX2_sumOver_3
def dkwX2_sumOver_1 : List UInt8 := [167, 0, 119, 42, 21, 5, 182, 1, 15, 27, 154, 0, 25, 33, 42, 180, 1, 6, 28, 160, 0, 13, 42]
abbrev dktX2_sumOver_1 : List UInt8 := dkwX2_sumOver_1 ++ dktX2_sumOver_2
def dkwX2_sumOver_0 : List UInt8 := [9, 66, 4, 54, 5, 21, 5, 42, 180, 0, 46, 162, 0, 138, 42, 180, 0, 19, 21, 5, 46, 154, 0, 6]
abbrev dktX2_sumOver_0 : List UInt8 := dkwX2_sumOver_0 ++ dktX2_sumOver_1
theorem dksX2_sumOver_0 : cX2_sumOver.data.toList.drop 0 = dktX2_sumOver_0 := by decide +kernel
theorem dksX2_sumOver_1 : cX2_sumOver.data.toList.drop 24 = dktX2_sumOver_1 := dk_seg dksX2_sumOver_0 24 rfl rfl
theorem dksX2_sumOver_2 : cX2_sumOver.data.toList.drop 47 = dktX2_sumOver_2 := dk_seg dksX2_sumOver_1 23 rfl rfl
theorem dksX2_sumOver_3 : cX2_sumOver.data.toList.drop 71 = dktX2_sumOver_3 := dk_seg dksX2_sumOver_2 24 rfl rfl
theorem dksX2_sumOver_4 : cX2_sumOver.data.toList.drop 95 = dktX2_sumOver_4 := dk_seg dksX2_sumOver_3 24 rfl rfl
theorem dksX2_sumOver_5 : cX2_sumOver.data.toList.drop 118 = dktX2_sumOver_5 := dk_seg dksX2_sumOver_4 23 rfl rfl
theorem dksX2_sumOver_6 : cX2_sumOver.data.toList.drop 142 = dktX2_sumOver_6 := dk_seg dksX2_sumOver_5 24 rfl rfl
theorem dX2_sumOver_0 : decode cX2_sumOver 0 = .ok (.lconst 0, 1) := dk_9 (dk_at dksX2_sumOver_0 0 rfl rfl)
theorem dX2_sumOver_1 : decode cX2_sumOver 1 = .ok (.lstore_n 3, 1) := dk_66 (dk_at dksX2_sumOver_0 1 rfl rfl)
theorem dX2_sumOver_2 : decode cX2_sumOver 2 = .ok (.iconst 1, 1) := dk_4 (dk_at dksX2_sumOver_0 2 rfl rfl)
theorem dX2_sumOver_3 : decode cX2_sumOver 3 = .ok (.istore 5, 2) := dk_54 5 (dk_at dksX2_sumOver_0 3 rfl rfl)
theorem dX2_sumOver_5 : decode cX2_sumOver 5 = .ok (.iload 5, 2) := dk_21 5 (dk_at dksX2_sumOver_0 5 rfl rfl)
theorem dX2_sumOver_7 : decode cX2_sumOver 7 = .ok (.aload_n 0, 1) := dk_42 (dk_at dksX2_sumOver_0 7 rfl rfl)
theorem dX2_sumOver_8 : decode cX2_sumOver 8 = .ok (.getfield 46, 3) := dk_180 0 46 (dk_at dksX2_sumOver_0 8 rfl rfl)
theorem dX2_sumOver_11 : decode cX2_sumOver 11 = .ok (.if_icmp .ge 138, 3) := dk_162 0 138 (dk_at dksX2_sumOver_0 11 rfl rfl)
theorem dX2_sumOver_14 : decode cX2_sumOver 14 = .ok (.aload_n 0, 1) := dk_42 (dk_at dksX2_sumOver_0 14 rfl rfl)
theorem dX2_sumOver_15 : decode cX2_sumOver 15 = .ok (.getfield 19, 3) := dk_180 0 19 (dk_at dksX2_sumOver_0 15 rfl rfl)
theorem dX2_sumOver_18 : decode cX2_sumOver 18 = .ok (.iload 5, 2) := dk_21 5 (dk_at dksX2_sumOver_0 18 rfl rfl)
theorem dX2_sumOver_20 : decode cX2_sumOver 20 = .ok (.iaload, 1) := dk_46 (dk_at dksX2_sumOver_0 20 rfl rfl)
theorem dX2_sumOver_21 : decode cX2_sumOver 21 = .ok (.ifCond .ne 6, 3) := dk_154 0 6 (dk_at dksX2_sumOver_0 21 rfl rfl)
theorem dX2_sumOver_24 : decode cX2_sumOver 24 = .ok (.goto 119, 3) := dk_167 0 119 (dk_at dksX2_sumOver_1 0 rfl rfl)
theorem dX2_sumOver_27 : decode cX2_sumOver 27 = .ok (.aload_n 0, 1) := dk_42 (dk_at dksX2_sumOver_1 3 rfl rfl)
theorem dX2_sumOver_28 : decode cX2_sumOver 28 = .ok (.iload 5, 2) := dk_21 5 (dk_at dksX2_sumOver_1 4 rfl rfl)
theorem dX2_sumOver_30 : decode cX2_sumOver 30 = .ok (.invokevirtual 271, 3) := dk_182 1 15 (dk_at dksX2_sumOver_1 6 rfl rfl)
theorem dX2_sumOver_33 : decode cX2_sumOver 33 = .ok (.iload_n 1, 1) := dk_27 (dk_at dksX2_sumOver_1 9 rfl rfl)
theorem dX2_sumOver_34 : decode cX2_sumOver 34 = .ok (.ifCond .ne 25, 3) := dk_154 0 25 (dk_at dksX2_sumOver_1 10 rfl rfl)
theorem dX2_sumOver_37 : decode cX2_sumOver 37 = .ok (.lload_n 3, 1) := dk_33 (dk_at dksX2_sumOver_1 13 rfl rfl)
theorem dX2_sumOver_38 : decode cX2_sumOver 38 = .ok (.aload_n 0, 1) := dk_42 (dk_at dksX2_sumOver_1 14 rfl rfl)
theorem dX2_sumOver_39 : decode cX2_sumOver 39 = .ok (.getfield 262, 3) := dk_180 1 6 (dk_at dksX2_sumOver_1 15 rfl rfl)
theorem dX2_sumOver_42 : decode cX2_sumOver 42 = .ok (.iload_n 2, 1) := dk_28 (dk_at dksX2_sumOver_1 18 rfl rfl)
theorem dX2_sumOver_43 : decode cX2_sumOver 43 = .ok (.if_icmp .ne 13, 3) := dk_160 0 13 (dk_at dksX2_sumOver_1 19 rfl rfl)
theorem dX2_sumOver_46 : decode cX2_sumOver 46 = .ok (.aload_n 0, 1) := dk_42 (dk_at dksX2_sumOver_1 22 rfl rfl)
theorem dX2_sumOver_47 : decode cX2_sumOver 47 = .ok (.getfield 71, 3) := dk_180 0 71 (dk_at dksX2_sumOver_2 0 rfl rfl)
theorem dX2_sumOver_50 : decode cX2_sumOver 50 = .ok (.iload 5, 2) := dk_21 5 (dk_at dksX2_sumOver_2 3 rfl rfl)
theorem dX2_sumOver_52 : decode cX2_sumOver 52 = .ok (.laload, 1) := dk_47 (dk_at dksX2_sumOver_2 5 rfl rfl)
theorem dX2_sumOver_53 : decode cX2_sumOver 53 = .ok (.goto 4, 3) := dk_167 0 4 (dk_at dksX2_sumOver_2 6 rfl rfl)
theorem dX2_sumOver_56 : decode cX2_sumOver 56 = .ok (.lconst 0, 1) := dk_9 (dk_at dksX2_sumOver_2 9 rfl rfl)
theorem dX2_sumOver_57 : decode cX2_sumOver 57 = .ok (.ladd, 1) := dk_97 (dk_at dksX2_sumOver_2 10 rfl rfl)
theorem dX2_sumOver_58 : decode cX2_sumOver 58 = .ok (.lstore_n 3, 1) := dk_66 (dk_at dksX2_sumOver_2 11 rfl rfl)
theorem dX2_sumOver_59 : decode cX2_sumOver 59 = .ok (.iload_n 1, 1) := dk_27 (dk_at dksX2_sumOver_2 12 rfl rfl)
theorem dX2_sumOver_60 : decode cX2_sumOver 60 = .ok (.iconst 1, 1) := dk_4 (dk_at dksX2_sumOver_2 13 rfl rfl)
theorem dX2_sumOver_61 : decode cX2_sumOver 61 = .ok (.if_icmp .ne 21, 3) := dk_160 0 21 (dk_at dksX2_sumOver_2 14 rfl rfl)
theorem dX2_sumOver_64 : decode cX2_sumOver 64 = .ok (.lload_n 3, 1) := dk_33 (dk_at dksX2_sumOver_2 17 rfl rfl)
theorem dX2_sumOver_65 : decode cX2_sumOver 65 = .ok (.aload_n 0, 1) := dk_42 (dk_at dksX2_sumOver_2 18 rfl rfl)
theorem dX2_sumOver_66 : decode cX2_sumOver 66 = .ok (.getfield 71, 3) := dk_180 0 71 (dk_at dksX2_sumOver_2 19 rfl rfl)
theorem dX2_sumOver_69 : decode cX2_sumOver 69 = .ok (.iload 5, 2) := dk_21 5 (dk_at dksX2_sumOver_2 22 rfl rfl)
theorem dX2_sumOver_71 : decode cX2_sumOver 71 = .ok (.laload, 1) := dk_47 (dk_at dksX2_sumOver_3 0 rfl rfl)
theorem dX2_sumOver_72 : decode cX2_sumOver 72 = .ok (.aload_n 0, 1) := dk_42 (dk_at dksX2_sumOver_3 1 rfl rfl)
theorem dX2_sumOver_73 : decode cX2_sumOver 73 = .ok (.getfield 93, 3) := dk_180 0 93 (dk_at dksX2_sumOver_3 2 rfl rfl)
theorem dX2_sumOver_76 : decode cX2_sumOver 76 = .ok (.iload_n 2, 1) := dk_28 (dk_at dksX2_sumOver_3 5 rfl rfl)
theorem dX2_sumOver_77 : decode cX2_sumOver 77 = .ok (.iaload, 1) := dk_46 (dk_at dksX2_sumOver_3 6 rfl rfl)
theorem dX2_sumOver_78 : decode cX2_sumOver 78 = .ok (.i2l, 1) := dk_133 (dk_at dksX2_sumOver_3 7 rfl rfl)
theorem dX2_sumOver_79 : decode cX2_sumOver 79 = .ok (.lmul, 1) := dk_105 (dk_at dksX2_sumOver_3 8 rfl rfl)
theorem dX2_sumOver_80 : decode cX2_sumOver 80 = .ok (.ladd, 1) := dk_97 (dk_at dksX2_sumOver_3 9 rfl rfl)
theorem dX2_sumOver_81 : decode cX2_sumOver 81 = .ok (.lstore_n 3, 1) := dk_66 (dk_at dksX2_sumOver_3 10 rfl rfl)
theorem dX2_sumOver_82 : decode cX2_sumOver 82 = .ok (.iload_n 1, 1) := dk_27 (dk_at dksX2_sumOver_3 11 rfl rfl)
theorem dX2_sumOver_83 : decode cX2_sumOver 83 = .ok (.iconst 2, 1) := dk_5 (dk_at dksX2_sumOver_3 12 rfl rfl)
theorem dX2_sumOver_84 : decode cX2_sumOver 84 = .ok (.if_icmp .ne 24, 3) := dk_160 0 24 (dk_at dksX2_sumOver_3 13 rfl rfl)
theorem dX2_sumOver_87 : decode cX2_sumOver 87 = .ok (.lload_n 3, 1) := dk_33 (dk_at dksX2_sumOver_3 16 rfl rfl)
theorem dX2_sumOver_88 : decode cX2_sumOver 88 = .ok (.aload_n 0, 1) := dk_42 (dk_at dksX2_sumOver_3 17 rfl rfl)
theorem dX2_sumOver_89 : decode cX2_sumOver 89 = .ok (.getfield 262, 3) := dk_180 1 6 (dk_at dksX2_sumOver_3 18 rfl rfl)
theorem dX2_sumOver_92 : decode cX2_sumOver 92 = .ok (.ifCond .ge 13, 3) := dk_156 0 13 (dk_at dksX2_sumOver_3 21 rfl rfl)
theorem dX2_sumOver_95 : decode cX2_sumOver 95 = .ok (.aload_n 0, 1) := dk_42 (dk_at dksX2_sumOver_4 0 rfl rfl)
theorem dX2_sumOver_96 : decode cX2_sumOver 96 = .ok (.getfield 71, 3) := dk_180 0 71 (dk_at dksX2_sumOver_4 1 rfl rfl)
theorem dX2_sumOver_99 : decode cX2_sumOver 99 = .ok (.iload 5, 2) := dk_21 5 (dk_at dksX2_sumOver_4 4 rfl rfl)
theorem dX2_sumOver_101 : decode cX2_sumOver 101 = .ok (.laload, 1) := dk_47 (dk_at dksX2_sumOver_4 6 rfl rfl)
theorem dX2_sumOver_102 : decode cX2_sumOver 102 = .ok (.goto 4, 3) := dk_167 0 4 (dk_at dksX2_sumOver_4 7 rfl rfl)
theorem dX2_sumOver_105 : decode cX2_sumOver 105 = .ok (.lconst 0, 1) := dk_9 (dk_at dksX2_sumOver_4 10 rfl rfl)
theorem dX2_sumOver_106 : decode cX2_sumOver 106 = .ok (.ladd, 1) := dk_97 (dk_at dksX2_sumOver_4 11 rfl rfl)
theorem dX2_sumOver_107 : decode cX2_sumOver 107 = .ok (.lstore_n 3, 1) := dk_66 (dk_at dksX2_sumOver_4 12 rfl rfl)
theorem dX2_sumOver_108 : decode cX2_sumOver 108 = .ok (.iload_n 1, 1) := dk_27 (dk_at dksX2_sumOver_4 13 rfl rfl)
theorem dX2_sumOver_109 : decode cX2_sumOver 109 = .ok (.iconst 3, 1) := dk_6 (dk_at dksX2_sumOver_4 14 rfl rfl)
theorem dX2_sumOver_110 : decode cX2_sumOver 110 = .ok (.if_icmp .ne 33, 3) := dk_160 0 33 (dk_at dksX2_sumOver_4 15 rfl rfl)
theorem dX2_sumOver_113 : decode cX2_sumOver 113 = .ok (.lload_n 3, 1) := dk_33 (dk_at dksX2_sumOver_4 18 rfl rfl)
theorem dX2_sumOver_114 : decode cX2_sumOver 114 = .ok (.aload_n 0, 1) := dk_42 (dk_at dksX2_sumOver_4 19 rfl rfl)
theorem dX2_sumOver_115 : decode cX2_sumOver 115 = .ok (.getfield 259, 3) := dk_180 1 3 (dk_at dksX2_sumOver_4 20 rfl rfl)
theorem dX2_sumOver_118 : decode cX2_sumOver 118 = .ok (.ifCond .lt 12, 3) := dk_155 0 12 (dk_at dksX2_sumOver_5 0 rfl rfl)
theorem dX2_sumOver_121 : decode cX2_sumOver 121 = .ok (.aload_n 0, 1) := dk_42 (dk_at dksX2_sumOver_5 3 rfl rfl)
theorem dX2_sumOver_122 : decode cX2_sumOver 122 = .ok (.getfield 259, 3) := dk_180 1 3 (dk_at dksX2_sumOver_5 4 rfl rfl)
theorem dX2_sumOver_125 : decode cX2_sumOver 125 = .ok (.iload 5, 2) := dk_21 5 (dk_at dksX2_sumOver_5 7 rfl rfl)
theorem dX2_sumOver_127 : decode cX2_sumOver 127 = .ok (.if_icmp .ne 13, 3) := dk_160 0 13 (dk_at dksX2_sumOver_5 9 rfl rfl)
theorem dX2_sumOver_130 : decode cX2_sumOver 130 = .ok (.aload_n 0, 1) := dk_42 (dk_at dksX2_sumOver_5 12 rfl rfl)
theorem dX2_sumOver_131 : decode cX2_sumOver 131 = .ok (.getfield 71, 3) := dk_180 0 71 (dk_at dksX2_sumOver_5 13 rfl rfl)
theorem dX2_sumOver_134 : decode cX2_sumOver 134 = .ok (.iload 5, 2) := dk_21 5 (dk_at dksX2_sumOver_5 16 rfl rfl)
theorem dX2_sumOver_136 : decode cX2_sumOver 136 = .ok (.laload, 1) := dk_47 (dk_at dksX2_sumOver_5 18 rfl rfl)
theorem dX2_sumOver_137 : decode cX2_sumOver 137 = .ok (.goto 4, 3) := dk_167 0 4 (dk_at dksX2_sumOver_5 19 rfl rfl)
theorem dX2_sumOver_140 : decode cX2_sumOver 140 = .ok (.lconst 0, 1) := dk_9 (dk_at dksX2_sumOver_5 22 rfl rfl)
theorem dX2_sumOver_141 : decode cX2_sumOver 141 = .ok (.ladd, 1) := dk_97 (dk_at dksX2_sumOver_5 23 rfl rfl)
theorem dX2_sumOver_142 : decode cX2_sumOver 142 = .ok (.lstore_n 3, 1) := dk_66 (dk_at dksX2_sumOver_6 0 rfl rfl)
theorem dX2_sumOver_143 : decode cX2_sumOver 143 = .ok (.iinc 5 1, 3) := dk_132 5 1 (dk_at dksX2_sumOver_6 1 rfl rfl)
theorem dX2_sumOver_146 : decode cX2_sumOver 146 = .ok (.goto (-141), 3) := dk_167 255 115 (dk_at dksX2_sumOver_6 4 rfl rfl)
theorem dX2_sumOver_149 : decode cX2_sumOver 149 = .ok (.lload_n 3, 1) := dk_33 (dk_at dksX2_sumOver_6 7 rfl rfl)
theorem dX2_sumOver_150 : decode cX2_sumOver 150 = .ok (.lreturn, 1) := dk_173 (dk_at dksX2_sumOver_6 8 rfl rfl)
abbrev cX2_worth : ByteArray := prog_18_method_54_code
def yX2_worth : MethodName := ⟨RX2, "worth", "(II)J"⟩
def dkwX2_worth_0 : List UInt8 := [42, 4, 27, 28, 182, 1, 21, 173]
abbrev dktX2_worth_0 : List UInt8 := dkwX2_worth_0 ++ []
theorem dksX2_worth_0 : cX2_worth.data.toList.drop 0 = dktX2_worth_0 := by decide +kernel
theorem dX2_worth_0 : decode cX2_worth 0 = .ok (.aload_n 0, 1) := dk_42 (dk_at dksX2_worth_0 0 rfl rfl)
theorem dX2_worth_1 : decode cX2_worth 1 = .ok (.iconst 1, 1) := dk_4 (dk_at dksX2_worth_0 1 rfl rfl)
theorem dX2_worth_2 : decode cX2_worth 2 = .ok (.iload_n 1, 1) := dk_27 (dk_at dksX2_worth_0 2 rfl rfl)
theorem dX2_worth_3 : decode cX2_worth 3 = .ok (.iload_n 2, 1) := dk_28 (dk_at dksX2_worth_0 3 rfl rfl)
theorem dX2_worth_4 : decode cX2_worth 4 = .ok (.invokevirtual 277, 3) := dk_182 1 21 (dk_at dksX2_worth_0 4 rfl rfl)
theorem dX2_worth_7 : decode cX2_worth 7 = .ok (.lreturn, 1) := dk_173 (dk_at dksX2_worth_0 7 rfl rfl)
abbrev cX2_nobody : ByteArray := prog_18_method_55_code
def yX2_nobody : MethodName := ⟨RX2, "nobody", "(I)J"⟩
def dkwX2_nobody_0 : List UInt8 := [42, 5, 3, 27, 182, 1, 21, 173]
abbrev dktX2_nobody_0 : List UInt8 := dkwX2_nobody_0 ++ []
theorem dksX2_nobody_0 : cX2_nobody.data.toList.drop 0 = dktX2_nobody_0 := by decide +kernel
theorem dX2_nobody_0 : decode cX2_nobody 0 = .ok (.aload_n 0, 1) := dk_42 (dk_at dksX2_nobody_0 0 rfl rfl)
theorem dX2_nobody_1 : decode cX2_nobody 1 = .ok (.iconst 2, 1) := dk_5 (dk_at dksX2_nobody_0 1 rfl rfl)
theorem dX2_nobody_2 : decode cX2_nobody 2 = .ok (.iconst 0, 1) := dk_3 (dk_at dksX2_nobody_0 2 rfl rfl)
theorem dX2_nobody_3 : decode cX2_nobody 3 = .ok (.iload_n 1, 1) := dk_27 (dk_at dksX2_nobody_0 3 rfl rfl)
theorem dX2_nobody_4 : decode cX2_nobody 4 = .ok (.invokevirtual 277, 3) := dk_182 1 21 (dk_at dksX2_nobody_0 4 rfl rfl)
theorem dX2_nobody_7 : decode cX2_nobody 7 = .ok (.lreturn, 1) := dk_173 (dk_at dksX2_nobody_0 7 rfl rfl)
abbrev cX2_dull : ByteArray := prog_18_method_56_code
def yX2_dull : MethodName := ⟨RX2, "dull", "(I)J"⟩
def dkwX2_dull_0 : List UInt8 := [42, 6, 3, 27, 182, 1, 21, 173]
abbrev dktX2_dull_0 : List UInt8 := dkwX2_dull_0 ++ []
theorem dksX2_dull_0 : cX2_dull.data.toList.drop 0 = dktX2_dull_0 := by decide +kernel
theorem dX2_dull_0 : decode cX2_dull 0 = .ok (.aload_n 0, 1) := dk_42 (dk_at dksX2_dull_0 0 rfl rfl)
theorem dX2_dull_1 : decode cX2_dull 1 = .ok (.iconst 3, 1) := dk_6 (dk_at dksX2_dull_0 1 rfl rfl)
theorem dX2_dull_2 : decode cX2_dull 2 = .ok (.iconst 0, 1) := dk_3 (dk_at dksX2_dull_0 2 rfl rfl)
theorem dX2_dull_3 : decode cX2_dull 3 = .ok (.iload_n 1, 1) := dk_27 (dk_at dksX2_dull_0 3 rfl rfl)
theorem dX2_dull_4 : decode cX2_dull 4 = .ok (.invokevirtual 277, 3) := dk_182 1 21 (dk_at dksX2_dull_0 4 rfl rfl)
theorem dX2_dull_7 : decode cX2_dull 7 = .ok (.lreturn, 1) := dk_173 (dk_at dksX2_dull_0 7 rfl rfl)
abbrev cX2_value : ByteArray := prog_18_method_57_code
def yX2_value : MethodName := ⟨RX2, "value", "(III)J"⟩
def dkwX2_value_3 : List UInt8 := [47, 29, 184, 0, 243, 173]
abbrev dktX2_value_3 : List UInt8 := dkwX2_value_3 ++ []
def dkwX2_value_2 : List UInt8 := [182, 0, 239, 173, 42, 182, 0, 247, 42, 27, 182, 0, 223, 42, 180, 0, 87, 28, 47, 42, 180, 0, 71, 28]
abbrev dktX2_value_2 : List UInt8 := dkwX2_value_2 ++ dktX2_value_3
def dkwX2_value_1 : List UInt8 := [4, 184, 0, 140, 154, 0, 10, 42, 16, 254, 182, 0, 239, 173, 42, 182, 0, 183, 154, 0, 10, 42, 16, 253]
abbrev dktX2_value_1 : List UInt8 := dkwX2_value_1 ++ dktX2_value_2
def dkwX2_value_0 : List UInt8 := [42, 27, 182, 0, 180, 153, 0, 11, 42, 28, 182, 0, 166, 154, 0, 9, 42, 2, 182, 0, 239, 173, 29, 3]
abbrev dktX2_value_0 : List UInt8 := dkwX2_value_0 ++ dktX2_value_1
theorem dksX2_value_0 : cX2_value.data.toList.drop 0 = dktX2_value_0 := by decide +kernel
theorem dksX2_value_1 : cX2_value.data.toList.drop 24 = dktX2_value_1 := dk_seg dksX2_value_0 24 rfl rfl
theorem dksX2_value_2 : cX2_value.data.toList.drop 48 = dktX2_value_2 := dk_seg dksX2_value_1 24 rfl rfl
theorem dksX2_value_3 : cX2_value.data.toList.drop 72 = dktX2_value_3 := dk_seg dksX2_value_2 24 rfl rfl
theorem dX2_value_0 : decode cX2_value 0 = .ok (.aload_n 0, 1) := dk_42 (dk_at dksX2_value_0 0 rfl rfl)
theorem dX2_value_1 : decode cX2_value 1 = .ok (.iload_n 1, 1) := dk_27 (dk_at dksX2_value_0 1 rfl rfl)
theorem dX2_value_2 : decode cX2_value 2 = .ok (.invokevirtual 180, 3) := dk_182 0 180 (dk_at dksX2_value_0 2 rfl rfl)
theorem dX2_value_5 : decode cX2_value 5 = .ok (.ifCond .eq 11, 3) := dk_153 0 11 (dk_at dksX2_value_0 5 rfl rfl)
theorem dX2_value_8 : decode cX2_value 8 = .ok (.aload_n 0, 1) := dk_42 (dk_at dksX2_value_0 8 rfl rfl)
theorem dX2_value_9 : decode cX2_value 9 = .ok (.iload_n 2, 1) := dk_28 (dk_at dksX2_value_0 9 rfl rfl)
theorem dX2_value_10 : decode cX2_value 10 = .ok (.invokevirtual 166, 3) := dk_182 0 166 (dk_at dksX2_value_0 10 rfl rfl)
theorem dX2_value_13 : decode cX2_value 13 = .ok (.ifCond .ne 9, 3) := dk_154 0 9 (dk_at dksX2_value_0 13 rfl rfl)
theorem dX2_value_16 : decode cX2_value 16 = .ok (.aload_n 0, 1) := dk_42 (dk_at dksX2_value_0 16 rfl rfl)
theorem dX2_value_17 : decode cX2_value 17 = .ok (.iconst (-1), 1) := dk_2 (dk_at dksX2_value_0 17 rfl rfl)
theorem dX2_value_18 : decode cX2_value 18 = .ok (.invokevirtual 239, 3) := dk_182 0 239 (dk_at dksX2_value_0 18 rfl rfl)
theorem dX2_value_21 : decode cX2_value 21 = .ok (.lreturn, 1) := dk_173 (dk_at dksX2_value_0 21 rfl rfl)
theorem dX2_value_22 : decode cX2_value 22 = .ok (.iload_n 3, 1) := dk_29 (dk_at dksX2_value_0 22 rfl rfl)
theorem dX2_value_23 : decode cX2_value 23 = .ok (.iconst 0, 1) := dk_3 (dk_at dksX2_value_0 23 rfl rfl)
theorem dX2_value_24 : decode cX2_value 24 = .ok (.iconst 1, 1) := dk_4 (dk_at dksX2_value_1 0 rfl rfl)
theorem dX2_value_25 : decode cX2_value 25 = .ok (.invokestatic 140, 3) := dk_184 0 140 (dk_at dksX2_value_1 1 rfl rfl)
theorem dX2_value_28 : decode cX2_value 28 = .ok (.ifCond .ne 10, 3) := dk_154 0 10 (dk_at dksX2_value_1 4 rfl rfl)
theorem dX2_value_31 : decode cX2_value 31 = .ok (.aload_n 0, 1) := dk_42 (dk_at dksX2_value_1 7 rfl rfl)
theorem dX2_value_32 : decode cX2_value 32 = .ok (.bipush (-2), 2) := dk_16 254 (dk_at dksX2_value_1 8 rfl rfl)
theorem dX2_value_34 : decode cX2_value 34 = .ok (.invokevirtual 239, 3) := dk_182 0 239 (dk_at dksX2_value_1 10 rfl rfl)
theorem dX2_value_37 : decode cX2_value 37 = .ok (.lreturn, 1) := dk_173 (dk_at dksX2_value_1 13 rfl rfl)
theorem dX2_value_38 : decode cX2_value 38 = .ok (.aload_n 0, 1) := dk_42 (dk_at dksX2_value_1 14 rfl rfl)
theorem dX2_value_39 : decode cX2_value 39 = .ok (.invokevirtual 183, 3) := dk_182 0 183 (dk_at dksX2_value_1 15 rfl rfl)
theorem dX2_value_42 : decode cX2_value 42 = .ok (.ifCond .ne 10, 3) := dk_154 0 10 (dk_at dksX2_value_1 18 rfl rfl)
theorem dX2_value_45 : decode cX2_value 45 = .ok (.aload_n 0, 1) := dk_42 (dk_at dksX2_value_1 21 rfl rfl)
theorem dX2_value_46 : decode cX2_value 46 = .ok (.bipush (-3), 2) := dk_16 253 (dk_at dksX2_value_1 22 rfl rfl)
theorem dX2_value_48 : decode cX2_value 48 = .ok (.invokevirtual 239, 3) := dk_182 0 239 (dk_at dksX2_value_2 0 rfl rfl)
theorem dX2_value_51 : decode cX2_value 51 = .ok (.lreturn, 1) := dk_173 (dk_at dksX2_value_2 3 rfl rfl)
theorem dX2_value_52 : decode cX2_value 52 = .ok (.aload_n 0, 1) := dk_42 (dk_at dksX2_value_2 4 rfl rfl)
theorem dX2_value_53 : decode cX2_value 53 = .ok (.invokevirtual 247, 3) := dk_182 0 247 (dk_at dksX2_value_2 5 rfl rfl)
theorem dX2_value_56 : decode cX2_value 56 = .ok (.aload_n 0, 1) := dk_42 (dk_at dksX2_value_2 8 rfl rfl)
theorem dX2_value_57 : decode cX2_value 57 = .ok (.iload_n 1, 1) := dk_27 (dk_at dksX2_value_2 9 rfl rfl)
theorem dX2_value_58 : decode cX2_value 58 = .ok (.invokevirtual 223, 3) := dk_182 0 223 (dk_at dksX2_value_2 10 rfl rfl)
theorem dX2_value_61 : decode cX2_value 61 = .ok (.aload_n 0, 1) := dk_42 (dk_at dksX2_value_2 13 rfl rfl)
theorem dX2_value_62 : decode cX2_value 62 = .ok (.getfield 87, 3) := dk_180 0 87 (dk_at dksX2_value_2 14 rfl rfl)
theorem dX2_value_65 : decode cX2_value 65 = .ok (.iload_n 2, 1) := dk_28 (dk_at dksX2_value_2 17 rfl rfl)
theorem dX2_value_66 : decode cX2_value 66 = .ok (.laload, 1) := dk_47 (dk_at dksX2_value_2 18 rfl rfl)
theorem dX2_value_67 : decode cX2_value 67 = .ok (.aload_n 0, 1) := dk_42 (dk_at dksX2_value_2 19 rfl rfl)
theorem dX2_value_68 : decode cX2_value 68 = .ok (.getfield 71, 3) := dk_180 0 71 (dk_at dksX2_value_2 20 rfl rfl)
theorem dX2_value_71 : decode cX2_value 71 = .ok (.iload_n 2, 1) := dk_28 (dk_at dksX2_value_2 23 rfl rfl)
theorem dX2_value_72 : decode cX2_value 72 = .ok (.laload, 1) := dk_47 (dk_at dksX2_value_3 0 rfl rfl)
theorem dX2_value_73 : decode cX2_value 73 = .ok (.iload_n 3, 1) := dk_29 (dk_at dksX2_value_3 1 rfl rfl)
theorem dX2_value_74 : decode cX2_value 74 = .ok (.invokestatic 243, 3) := dk_184 0 243 (dk_at dksX2_value_3 2 rfl rfl)
theorem dX2_value_77 : decode cX2_value 77 = .ok (.lreturn, 1) := dk_173 (dk_at dksX2_value_3 5 rfl rfl)
abbrev cX2_alone : ByteArray := prog_18_method_58_code
def yX2_alone : MethodName := ⟨RX2, "alone", "(I)I"⟩
def dkwX2_alone_1 : List UInt8 := [182, 0, 128, 172, 42, 182, 0, 247, 42, 27, 182, 0, 223, 42, 180, 0, 212, 172]
abbrev dktX2_alone_1 : List UInt8 := dkwX2_alone_1 ++ []
def dkwX2_alone_0 : List UInt8 := [42, 27, 182, 0, 180, 154, 0, 9, 42, 2, 182, 0, 128, 172, 42, 182, 0, 183, 154, 0, 10, 42, 16, 253]
abbrev dktX2_alone_0 : List UInt8 := dkwX2_alone_0 ++ dktX2_alone_1
theorem dksX2_alone_0 : cX2_alone.data.toList.drop 0 = dktX2_alone_0 := by decide +kernel
theorem dksX2_alone_1 : cX2_alone.data.toList.drop 24 = dktX2_alone_1 := dk_seg dksX2_alone_0 24 rfl rfl
theorem dX2_alone_0 : decode cX2_alone 0 = .ok (.aload_n 0, 1) := dk_42 (dk_at dksX2_alone_0 0 rfl rfl)
theorem dX2_alone_1 : decode cX2_alone 1 = .ok (.iload_n 1, 1) := dk_27 (dk_at dksX2_alone_0 1 rfl rfl)
theorem dX2_alone_2 : decode cX2_alone 2 = .ok (.invokevirtual 180, 3) := dk_182 0 180 (dk_at dksX2_alone_0 2 rfl rfl)
theorem dX2_alone_5 : decode cX2_alone 5 = .ok (.ifCond .ne 9, 3) := dk_154 0 9 (dk_at dksX2_alone_0 5 rfl rfl)
theorem dX2_alone_8 : decode cX2_alone 8 = .ok (.aload_n 0, 1) := dk_42 (dk_at dksX2_alone_0 8 rfl rfl)
theorem dX2_alone_9 : decode cX2_alone 9 = .ok (.iconst (-1), 1) := dk_2 (dk_at dksX2_alone_0 9 rfl rfl)
theorem dX2_alone_10 : decode cX2_alone 10 = .ok (.invokevirtual 128, 3) := dk_182 0 128 (dk_at dksX2_alone_0 10 rfl rfl)
theorem dX2_alone_13 : decode cX2_alone 13 = .ok (.ireturn, 1) := dk_172 (dk_at dksX2_alone_0 13 rfl rfl)
theorem dX2_alone_14 : decode cX2_alone 14 = .ok (.aload_n 0, 1) := dk_42 (dk_at dksX2_alone_0 14 rfl rfl)
theorem dX2_alone_15 : decode cX2_alone 15 = .ok (.invokevirtual 183, 3) := dk_182 0 183 (dk_at dksX2_alone_0 15 rfl rfl)
theorem dX2_alone_18 : decode cX2_alone 18 = .ok (.ifCond .ne 10, 3) := dk_154 0 10 (dk_at dksX2_alone_0 18 rfl rfl)
theorem dX2_alone_21 : decode cX2_alone 21 = .ok (.aload_n 0, 1) := dk_42 (dk_at dksX2_alone_0 21 rfl rfl)
theorem dX2_alone_22 : decode cX2_alone 22 = .ok (.bipush (-3), 2) := dk_16 253 (dk_at dksX2_alone_0 22 rfl rfl)
theorem dX2_alone_24 : decode cX2_alone 24 = .ok (.invokevirtual 128, 3) := dk_182 0 128 (dk_at dksX2_alone_1 0 rfl rfl)
theorem dX2_alone_27 : decode cX2_alone 27 = .ok (.ireturn, 1) := dk_172 (dk_at dksX2_alone_1 3 rfl rfl)
theorem dX2_alone_28 : decode cX2_alone 28 = .ok (.aload_n 0, 1) := dk_42 (dk_at dksX2_alone_1 4 rfl rfl)
theorem dX2_alone_29 : decode cX2_alone 29 = .ok (.invokevirtual 247, 3) := dk_182 0 247 (dk_at dksX2_alone_1 5 rfl rfl)
theorem dX2_alone_32 : decode cX2_alone 32 = .ok (.aload_n 0, 1) := dk_42 (dk_at dksX2_alone_1 8 rfl rfl)
theorem dX2_alone_33 : decode cX2_alone 33 = .ok (.iload_n 1, 1) := dk_27 (dk_at dksX2_alone_1 9 rfl rfl)
theorem dX2_alone_34 : decode cX2_alone 34 = .ok (.invokevirtual 223, 3) := dk_182 0 223 (dk_at dksX2_alone_1 10 rfl rfl)
theorem dX2_alone_37 : decode cX2_alone 37 = .ok (.aload_n 0, 1) := dk_42 (dk_at dksX2_alone_1 13 rfl rfl)
theorem dX2_alone_38 : decode cX2_alone 38 = .ok (.getfield 212, 3) := dk_180 0 212 (dk_at dksX2_alone_1 14 rfl rfl)
theorem dX2_alone_41 : decode cX2_alone 41 = .ok (.ireturn, 1) := dk_172 (dk_at dksX2_alone_1 17 rfl rfl)
abbrev cX2_reply : ByteArray := prog_18_method_61_code
def yX2_reply : MethodName := ⟨RX2, "reply", "(II)I"⟩
def dkwX2_reply_2 : List UInt8 := [182, 0, 247, 42, 27, 28, 182, 1, 35, 172]
abbrev dktX2_reply_2 : List UInt8 := dkwX2_reply_2 ++ []
def dkwX2_reply_1 : List UInt8 := [154, 0, 13, 42, 182, 0, 183, 154, 0, 6, 16, 253, 62, 29, 153, 0, 9, 42, 29, 182, 0, 128, 172, 42]
abbrev dktX2_reply_1 : List UInt8 := dkwX2_reply_1 ++ dktX2_reply_2
def dkwX2_reply_0 : List UInt8 := [42, 27, 182, 0, 180, 154, 0, 9, 42, 2, 182, 0, 128, 172, 28, 3, 5, 184, 0, 121, 62, 29]
abbrev dktX2_reply_0 : List UInt8 := dkwX2_reply_0 ++ dktX2_reply_1
theorem dksX2_reply_0 : cX2_reply.data.toList.drop 0 = dktX2_reply_0 := by decide +kernel
theorem dksX2_reply_1 : cX2_reply.data.toList.drop 22 = dktX2_reply_1 := dk_seg dksX2_reply_0 22 rfl rfl
theorem dksX2_reply_2 : cX2_reply.data.toList.drop 46 = dktX2_reply_2 := dk_seg dksX2_reply_1 24 rfl rfl
theorem dX2_reply_0 : decode cX2_reply 0 = .ok (.aload_n 0, 1) := dk_42 (dk_at dksX2_reply_0 0 rfl rfl)
theorem dX2_reply_1 : decode cX2_reply 1 = .ok (.iload_n 1, 1) := dk_27 (dk_at dksX2_reply_0 1 rfl rfl)
theorem dX2_reply_2 : decode cX2_reply 2 = .ok (.invokevirtual 180, 3) := dk_182 0 180 (dk_at dksX2_reply_0 2 rfl rfl)
theorem dX2_reply_5 : decode cX2_reply 5 = .ok (.ifCond .ne 9, 3) := dk_154 0 9 (dk_at dksX2_reply_0 5 rfl rfl)
theorem dX2_reply_8 : decode cX2_reply 8 = .ok (.aload_n 0, 1) := dk_42 (dk_at dksX2_reply_0 8 rfl rfl)
theorem dX2_reply_9 : decode cX2_reply 9 = .ok (.iconst (-1), 1) := dk_2 (dk_at dksX2_reply_0 9 rfl rfl)
theorem dX2_reply_10 : decode cX2_reply 10 = .ok (.invokevirtual 128, 3) := dk_182 0 128 (dk_at dksX2_reply_0 10 rfl rfl)
theorem dX2_reply_13 : decode cX2_reply 13 = .ok (.ireturn, 1) := dk_172 (dk_at dksX2_reply_0 13 rfl rfl)
theorem dX2_reply_14 : decode cX2_reply 14 = .ok (.iload_n 2, 1) := dk_28 (dk_at dksX2_reply_0 14 rfl rfl)
theorem dX2_reply_15 : decode cX2_reply 15 = .ok (.iconst 0, 1) := dk_3 (dk_at dksX2_reply_0 15 rfl rfl)
theorem dX2_reply_16 : decode cX2_reply 16 = .ok (.iconst 2, 1) := dk_5 (dk_at dksX2_reply_0 16 rfl rfl)
theorem dX2_reply_17 : decode cX2_reply 17 = .ok (.invokestatic 121, 3) := dk_184 0 121 (dk_at dksX2_reply_0 17 rfl rfl)
theorem dX2_reply_20 : decode cX2_reply 20 = .ok (.istore_n 3, 1) := dk_62 (dk_at dksX2_reply_0 20 rfl rfl)
theorem dX2_reply_21 : decode cX2_reply 21 = .ok (.iload_n 3, 1) := dk_29 (dk_at dksX2_reply_0 21 rfl rfl)
theorem dX2_reply_22 : decode cX2_reply 22 = .ok (.ifCond .ne 13, 3) := dk_154 0 13 (dk_at dksX2_reply_1 0 rfl rfl)
theorem dX2_reply_25 : decode cX2_reply 25 = .ok (.aload_n 0, 1) := dk_42 (dk_at dksX2_reply_1 3 rfl rfl)
theorem dX2_reply_26 : decode cX2_reply 26 = .ok (.invokevirtual 183, 3) := dk_182 0 183 (dk_at dksX2_reply_1 4 rfl rfl)
theorem dX2_reply_29 : decode cX2_reply 29 = .ok (.ifCond .ne 6, 3) := dk_154 0 6 (dk_at dksX2_reply_1 7 rfl rfl)
theorem dX2_reply_32 : decode cX2_reply 32 = .ok (.bipush (-3), 2) := dk_16 253 (dk_at dksX2_reply_1 10 rfl rfl)
theorem dX2_reply_34 : decode cX2_reply 34 = .ok (.istore_n 3, 1) := dk_62 (dk_at dksX2_reply_1 12 rfl rfl)
theorem dX2_reply_35 : decode cX2_reply 35 = .ok (.iload_n 3, 1) := dk_29 (dk_at dksX2_reply_1 13 rfl rfl)
theorem dX2_reply_36 : decode cX2_reply 36 = .ok (.ifCond .eq 9, 3) := dk_153 0 9 (dk_at dksX2_reply_1 14 rfl rfl)
theorem dX2_reply_39 : decode cX2_reply 39 = .ok (.aload_n 0, 1) := dk_42 (dk_at dksX2_reply_1 17 rfl rfl)
theorem dX2_reply_40 : decode cX2_reply 40 = .ok (.iload_n 3, 1) := dk_29 (dk_at dksX2_reply_1 18 rfl rfl)
theorem dX2_reply_41 : decode cX2_reply 41 = .ok (.invokevirtual 128, 3) := dk_182 0 128 (dk_at dksX2_reply_1 19 rfl rfl)
theorem dX2_reply_44 : decode cX2_reply 44 = .ok (.ireturn, 1) := dk_172 (dk_at dksX2_reply_1 22 rfl rfl)
theorem dX2_reply_45 : decode cX2_reply 45 = .ok (.aload_n 0, 1) := dk_42 (dk_at dksX2_reply_1 23 rfl rfl)
theorem dX2_reply_46 : decode cX2_reply 46 = .ok (.invokevirtual 247, 3) := dk_182 0 247 (dk_at dksX2_reply_2 0 rfl rfl)
theorem dX2_reply_49 : decode cX2_reply 49 = .ok (.aload_n 0, 1) := dk_42 (dk_at dksX2_reply_2 3 rfl rfl)
theorem dX2_reply_50 : decode cX2_reply 50 = .ok (.iload_n 1, 1) := dk_27 (dk_at dksX2_reply_2 4 rfl rfl)
theorem dX2_reply_51 : decode cX2_reply 51 = .ok (.iload_n 2, 1) := dk_28 (dk_at dksX2_reply_2 5 rfl rfl)
theorem dX2_reply_52 : decode cX2_reply 52 = .ok (.invokevirtual 291, 3) := dk_182 1 35 (dk_at dksX2_reply_2 6 rfl rfl)
theorem dX2_reply_55 : decode cX2_reply 55 = .ok (.ireturn, 1) := dk_172 (dk_at dksX2_reply_2 9 rfl rfl)
abbrev cX2_replyOf : ByteArray := prog_18_method_60_code
def yX2_replyOf : MethodName := ⟨RX2, "replyOf", "(II)I"⟩
def dkwX2_replyOf_3 : List UInt8 := [29, 120, 128, 182, 1, 31, 132, 4, 1, 167, 255, 234, 132, 3, 1, 167, 255, 212, 42, 180, 1, 25, 172]
abbrev dktX2_replyOf_3 : List UInt8 := dkwX2_replyOf_3 ++ []
def dkwX2_replyOf_2 : List UInt8 := [162, 0, 42, 28, 4, 164, 0, 37, 3, 54, 4, 21, 4, 29, 162, 0, 22, 42, 27, 4, 21, 4, 120, 4]
abbrev dktX2_replyOf_2 : List UInt8 := dkwX2_replyOf_2 ++ dktX2_replyOf_3
def dkwX2_replyOf_1 : List UInt8 := [158, 0, 17, 42, 27, 4, 29, 120, 182, 1, 31, 132, 3, 1, 167, 255, 233, 4, 62, 29, 42, 180, 0, 46]
abbrev dktX2_replyOf_1 : List UInt8 := dkwX2_replyOf_1 ++ dktX2_replyOf_2
def dkwX2_replyOf_0 : List UInt8 := [42, 2, 181, 1, 25, 42, 27, 3, 182, 1, 31, 3, 62, 29, 42, 180, 0, 46, 162, 0, 21, 28]
abbrev dktX2_replyOf_0 : List UInt8 := dkwX2_replyOf_0 ++ dktX2_replyOf_1
theorem dksX2_replyOf_0 : cX2_replyOf.data.toList.drop 0 = dktX2_replyOf_0 := by decide +kernel
theorem dksX2_replyOf_1 : cX2_replyOf.data.toList.drop 22 = dktX2_replyOf_1 := dk_seg dksX2_replyOf_0 22 rfl rfl
theorem dksX2_replyOf_2 : cX2_replyOf.data.toList.drop 46 = dktX2_replyOf_2 := dk_seg dksX2_replyOf_1 24 rfl rfl
theorem dksX2_replyOf_3 : cX2_replyOf.data.toList.drop 70 = dktX2_replyOf_3 := dk_seg dksX2_replyOf_2 24 rfl rfl
theorem dX2_replyOf_0 : decode cX2_replyOf 0 = .ok (.aload_n 0, 1) := dk_42 (dk_at dksX2_replyOf_0 0 rfl rfl)
theorem dX2_replyOf_1 : decode cX2_replyOf 1 = .ok (.iconst (-1), 1) := dk_2 (dk_at dksX2_replyOf_0 1 rfl rfl)
theorem dX2_replyOf_2 : decode cX2_replyOf 2 = .ok (.putfield 281, 3) := dk_181 1 25 (dk_at dksX2_replyOf_0 2 rfl rfl)
theorem dX2_replyOf_5 : decode cX2_replyOf 5 = .ok (.aload_n 0, 1) := dk_42 (dk_at dksX2_replyOf_0 5 rfl rfl)
theorem dX2_replyOf_6 : decode cX2_replyOf 6 = .ok (.iload_n 1, 1) := dk_27 (dk_at dksX2_replyOf_0 6 rfl rfl)
theorem dX2_replyOf_7 : decode cX2_replyOf 7 = .ok (.iconst 0, 1) := dk_3 (dk_at dksX2_replyOf_0 7 rfl rfl)
theorem dX2_replyOf_8 : decode cX2_replyOf 8 = .ok (.invokevirtual 287, 3) := dk_182 1 31 (dk_at dksX2_replyOf_0 8 rfl rfl)
theorem dX2_replyOf_11 : decode cX2_replyOf 11 = .ok (.iconst 0, 1) := dk_3 (dk_at dksX2_replyOf_0 11 rfl rfl)
theorem dX2_replyOf_12 : decode cX2_replyOf 12 = .ok (.istore_n 3, 1) := dk_62 (dk_at dksX2_replyOf_0 12 rfl rfl)
theorem dX2_replyOf_13 : decode cX2_replyOf 13 = .ok (.iload_n 3, 1) := dk_29 (dk_at dksX2_replyOf_0 13 rfl rfl)
theorem dX2_replyOf_14 : decode cX2_replyOf 14 = .ok (.aload_n 0, 1) := dk_42 (dk_at dksX2_replyOf_0 14 rfl rfl)
theorem dX2_replyOf_15 : decode cX2_replyOf 15 = .ok (.getfield 46, 3) := dk_180 0 46 (dk_at dksX2_replyOf_0 15 rfl rfl)
theorem dX2_replyOf_18 : decode cX2_replyOf 18 = .ok (.if_icmp .ge 21, 3) := dk_162 0 21 (dk_at dksX2_replyOf_0 18 rfl rfl)
theorem dX2_replyOf_21 : decode cX2_replyOf 21 = .ok (.iload_n 2, 1) := dk_28 (dk_at dksX2_replyOf_0 21 rfl rfl)
theorem dX2_replyOf_22 : decode cX2_replyOf 22 = .ok (.ifCond .le 17, 3) := dk_158 0 17 (dk_at dksX2_replyOf_1 0 rfl rfl)
theorem dX2_replyOf_25 : decode cX2_replyOf 25 = .ok (.aload_n 0, 1) := dk_42 (dk_at dksX2_replyOf_1 3 rfl rfl)
theorem dX2_replyOf_26 : decode cX2_replyOf 26 = .ok (.iload_n 1, 1) := dk_27 (dk_at dksX2_replyOf_1 4 rfl rfl)
theorem dX2_replyOf_27 : decode cX2_replyOf 27 = .ok (.iconst 1, 1) := dk_4 (dk_at dksX2_replyOf_1 5 rfl rfl)
theorem dX2_replyOf_28 : decode cX2_replyOf 28 = .ok (.iload_n 3, 1) := dk_29 (dk_at dksX2_replyOf_1 6 rfl rfl)
theorem dX2_replyOf_29 : decode cX2_replyOf 29 = .ok (.ishl, 1) := dk_120 (dk_at dksX2_replyOf_1 7 rfl rfl)
theorem dX2_replyOf_30 : decode cX2_replyOf 30 = .ok (.invokevirtual 287, 3) := dk_182 1 31 (dk_at dksX2_replyOf_1 8 rfl rfl)
theorem dX2_replyOf_33 : decode cX2_replyOf 33 = .ok (.iinc 3 1, 3) := dk_132 3 1 (dk_at dksX2_replyOf_1 11 rfl rfl)
theorem dX2_replyOf_36 : decode cX2_replyOf 36 = .ok (.goto (-23), 3) := dk_167 255 233 (dk_at dksX2_replyOf_1 14 rfl rfl)
theorem dX2_replyOf_39 : decode cX2_replyOf 39 = .ok (.iconst 1, 1) := dk_4 (dk_at dksX2_replyOf_1 17 rfl rfl)
theorem dX2_replyOf_40 : decode cX2_replyOf 40 = .ok (.istore_n 3, 1) := dk_62 (dk_at dksX2_replyOf_1 18 rfl rfl)
theorem dX2_replyOf_41 : decode cX2_replyOf 41 = .ok (.iload_n 3, 1) := dk_29 (dk_at dksX2_replyOf_1 19 rfl rfl)
theorem dX2_replyOf_42 : decode cX2_replyOf 42 = .ok (.aload_n 0, 1) := dk_42 (dk_at dksX2_replyOf_1 20 rfl rfl)
theorem dX2_replyOf_43 : decode cX2_replyOf 43 = .ok (.getfield 46, 3) := dk_180 0 46 (dk_at dksX2_replyOf_1 21 rfl rfl)
theorem dX2_replyOf_46 : decode cX2_replyOf 46 = .ok (.if_icmp .ge 42, 3) := dk_162 0 42 (dk_at dksX2_replyOf_2 0 rfl rfl)
theorem dX2_replyOf_49 : decode cX2_replyOf 49 = .ok (.iload_n 2, 1) := dk_28 (dk_at dksX2_replyOf_2 3 rfl rfl)
theorem dX2_replyOf_50 : decode cX2_replyOf 50 = .ok (.iconst 1, 1) := dk_4 (dk_at dksX2_replyOf_2 4 rfl rfl)
theorem dX2_replyOf_51 : decode cX2_replyOf 51 = .ok (.if_icmp .le 37, 3) := dk_164 0 37 (dk_at dksX2_replyOf_2 5 rfl rfl)
theorem dX2_replyOf_54 : decode cX2_replyOf 54 = .ok (.iconst 0, 1) := dk_3 (dk_at dksX2_replyOf_2 8 rfl rfl)
theorem dX2_replyOf_55 : decode cX2_replyOf 55 = .ok (.istore 4, 2) := dk_54 4 (dk_at dksX2_replyOf_2 9 rfl rfl)
theorem dX2_replyOf_57 : decode cX2_replyOf 57 = .ok (.iload 4, 2) := dk_21 4 (dk_at dksX2_replyOf_2 11 rfl rfl)
theorem dX2_replyOf_59 : decode cX2_replyOf 59 = .ok (.iload_n 3, 1) := dk_29 (dk_at dksX2_replyOf_2 13 rfl rfl)
theorem dX2_replyOf_60 : decode cX2_replyOf 60 = .ok (.if_icmp .ge 22, 3) := dk_162 0 22 (dk_at dksX2_replyOf_2 14 rfl rfl)
theorem dX2_replyOf_63 : decode cX2_replyOf 63 = .ok (.aload_n 0, 1) := dk_42 (dk_at dksX2_replyOf_2 17 rfl rfl)
theorem dX2_replyOf_64 : decode cX2_replyOf 64 = .ok (.iload_n 1, 1) := dk_27 (dk_at dksX2_replyOf_2 18 rfl rfl)
theorem dX2_replyOf_65 : decode cX2_replyOf 65 = .ok (.iconst 1, 1) := dk_4 (dk_at dksX2_replyOf_2 19 rfl rfl)
theorem dX2_replyOf_66 : decode cX2_replyOf 66 = .ok (.iload 4, 2) := dk_21 4 (dk_at dksX2_replyOf_2 20 rfl rfl)
theorem dX2_replyOf_68 : decode cX2_replyOf 68 = .ok (.ishl, 1) := dk_120 (dk_at dksX2_replyOf_2 22 rfl rfl)
theorem dX2_replyOf_69 : decode cX2_replyOf 69 = .ok (.iconst 1, 1) := dk_4 (dk_at dksX2_replyOf_2 23 rfl rfl)
theorem dX2_replyOf_70 : decode cX2_replyOf 70 = .ok (.iload_n 3, 1) := dk_29 (dk_at dksX2_replyOf_3 0 rfl rfl)
theorem dX2_replyOf_71 : decode cX2_replyOf 71 = .ok (.ishl, 1) := dk_120 (dk_at dksX2_replyOf_3 1 rfl rfl)
theorem dX2_replyOf_72 : decode cX2_replyOf 72 = .ok (.ior, 1) := dk_128 (dk_at dksX2_replyOf_3 2 rfl rfl)
theorem dX2_replyOf_73 : decode cX2_replyOf 73 = .ok (.invokevirtual 287, 3) := dk_182 1 31 (dk_at dksX2_replyOf_3 3 rfl rfl)
theorem dX2_replyOf_76 : decode cX2_replyOf 76 = .ok (.iinc 4 1, 3) := dk_132 4 1 (dk_at dksX2_replyOf_3 6 rfl rfl)
theorem dX2_replyOf_79 : decode cX2_replyOf 79 = .ok (.goto (-22), 3) := dk_167 255 234 (dk_at dksX2_replyOf_3 9 rfl rfl)
theorem dX2_replyOf_82 : decode cX2_replyOf 82 = .ok (.iinc 3 1, 3) := dk_132 3 1 (dk_at dksX2_replyOf_3 12 rfl rfl)
theorem dX2_replyOf_85 : decode cX2_replyOf 85 = .ok (.goto (-44), 3) := dk_167 255 212 (dk_at dksX2_replyOf_3 15 rfl rfl)
theorem dX2_replyOf_88 : decode cX2_replyOf 88 = .ok (.aload_n 0, 1) := dk_42 (dk_at dksX2_replyOf_3 18 rfl rfl)
theorem dX2_replyOf_89 : decode cX2_replyOf 89 = .ok (.getfield 281, 3) := dk_180 1 25 (dk_at dksX2_replyOf_3 19 rfl rfl)
theorem dX2_replyOf_92 : decode cX2_replyOf 92 = .ok (.ireturn, 1) := dk_172 (dk_at dksX2_replyOf_3 22 rfl rfl)
abbrev cX2_tries : ByteArray := prog_18_method_59_code
def yX2_tries : MethodName := ⟨RX2, "tries", "(II)V"⟩
def dkwX2_tries_4 : List UInt8 := [157, 0, 4, 177, 42, 22, 4, 181, 1, 28, 42, 28, 181, 1, 25, 177]
abbrev dktX2_tries_4 : List UInt8 := dkwX2_tries_4 ++ []
def dkwX2_tries_3 : List UInt8 := [29, 79, 42, 4, 27, 182, 1, 18, 55, 4, 42, 180, 1, 25, 155, 0, 14, 22, 4, 42, 180, 1, 28, 148]
abbrev dktX2_tries_3 : List UInt8 := dkwX2_tries_3 ++ dktX2_tries_4
def dkwX2_tries_2 : List UInt8 := [167, 0, 4, 3, 128, 62, 132, 4, 1, 167, 255, 208, 42, 180, 0, 81, 27, 29, 79, 42, 180, 0, 84, 27]
abbrev dktX2_tries_2 : List UInt8 := dkwX2_tries_2 ++ dktX2_tries_3
def dkwX2_tries_1 : List UInt8 := [160, 0, 25, 42, 180, 0, 78, 16, 24, 27, 104, 21, 4, 96, 46, 153, 0, 10, 4, 21, 4, 120]
abbrev dktX2_tries_1 : List UInt8 := dkwX2_tries_1 ++ dktX2_tries_2
def dkwX2_tries_0 : List UInt8 := [3, 62, 4, 54, 4, 21, 4, 42, 180, 0, 46, 162, 0, 45, 29, 28, 21, 4, 122, 4, 126, 4]
abbrev dktX2_tries_0 : List UInt8 := dkwX2_tries_0 ++ dktX2_tries_1
theorem dksX2_tries_0 : cX2_tries.data.toList.drop 0 = dktX2_tries_0 := by decide +kernel
theorem dksX2_tries_1 : cX2_tries.data.toList.drop 22 = dktX2_tries_1 := dk_seg dksX2_tries_0 22 rfl rfl
theorem dksX2_tries_2 : cX2_tries.data.toList.drop 44 = dktX2_tries_2 := dk_seg dksX2_tries_1 22 rfl rfl
theorem dksX2_tries_3 : cX2_tries.data.toList.drop 68 = dktX2_tries_3 := dk_seg dksX2_tries_2 24 rfl rfl
theorem dksX2_tries_4 : cX2_tries.data.toList.drop 92 = dktX2_tries_4 := dk_seg dksX2_tries_3 24 rfl rfl
theorem dX2_tries_0 : decode cX2_tries 0 = .ok (.iconst 0, 1) := dk_3 (dk_at dksX2_tries_0 0 rfl rfl)
theorem dX2_tries_1 : decode cX2_tries 1 = .ok (.istore_n 3, 1) := dk_62 (dk_at dksX2_tries_0 1 rfl rfl)
theorem dX2_tries_2 : decode cX2_tries 2 = .ok (.iconst 1, 1) := dk_4 (dk_at dksX2_tries_0 2 rfl rfl)
theorem dX2_tries_3 : decode cX2_tries 3 = .ok (.istore 4, 2) := dk_54 4 (dk_at dksX2_tries_0 3 rfl rfl)
theorem dX2_tries_5 : decode cX2_tries 5 = .ok (.iload 4, 2) := dk_21 4 (dk_at dksX2_tries_0 5 rfl rfl)
theorem dX2_tries_7 : decode cX2_tries 7 = .ok (.aload_n 0, 1) := dk_42 (dk_at dksX2_tries_0 7 rfl rfl)
theorem dX2_tries_8 : decode cX2_tries 8 = .ok (.getfield 46, 3) := dk_180 0 46 (dk_at dksX2_tries_0 8 rfl rfl)
theorem dX2_tries_11 : decode cX2_tries 11 = .ok (.if_icmp .ge 45, 3) := dk_162 0 45 (dk_at dksX2_tries_0 11 rfl rfl)
theorem dX2_tries_14 : decode cX2_tries 14 = .ok (.iload_n 3, 1) := dk_29 (dk_at dksX2_tries_0 14 rfl rfl)
theorem dX2_tries_15 : decode cX2_tries 15 = .ok (.iload_n 2, 1) := dk_28 (dk_at dksX2_tries_0 15 rfl rfl)
theorem dX2_tries_16 : decode cX2_tries 16 = .ok (.iload 4, 2) := dk_21 4 (dk_at dksX2_tries_0 16 rfl rfl)
theorem dX2_tries_18 : decode cX2_tries 18 = .ok (.ishr, 1) := dk_122 (dk_at dksX2_tries_0 18 rfl rfl)
theorem dX2_tries_19 : decode cX2_tries 19 = .ok (.iconst 1, 1) := dk_4 (dk_at dksX2_tries_0 19 rfl rfl)
theorem dX2_tries_20 : decode cX2_tries 20 = .ok (.iand, 1) := dk_126 (dk_at dksX2_tries_0 20 rfl rfl)
theorem dX2_tries_21 : decode cX2_tries 21 = .ok (.iconst 1, 1) := dk_4 (dk_at dksX2_tries_0 21 rfl rfl)
theorem dX2_tries_22 : decode cX2_tries 22 = .ok (.if_icmp .ne 25, 3) := dk_160 0 25 (dk_at dksX2_tries_1 0 rfl rfl)
theorem dX2_tries_25 : decode cX2_tries 25 = .ok (.aload_n 0, 1) := dk_42 (dk_at dksX2_tries_1 3 rfl rfl)
theorem dX2_tries_26 : decode cX2_tries 26 = .ok (.getfield 78, 3) := dk_180 0 78 (dk_at dksX2_tries_1 4 rfl rfl)
theorem dX2_tries_29 : decode cX2_tries 29 = .ok (.bipush 24, 2) := dk_16 24 (dk_at dksX2_tries_1 7 rfl rfl)
theorem dX2_tries_31 : decode cX2_tries 31 = .ok (.iload_n 1, 1) := dk_27 (dk_at dksX2_tries_1 9 rfl rfl)
theorem dX2_tries_32 : decode cX2_tries 32 = .ok (.imul, 1) := dk_104 (dk_at dksX2_tries_1 10 rfl rfl)
theorem dX2_tries_33 : decode cX2_tries 33 = .ok (.iload 4, 2) := dk_21 4 (dk_at dksX2_tries_1 11 rfl rfl)
theorem dX2_tries_35 : decode cX2_tries 35 = .ok (.iadd, 1) := dk_96 (dk_at dksX2_tries_1 13 rfl rfl)
theorem dX2_tries_36 : decode cX2_tries 36 = .ok (.iaload, 1) := dk_46 (dk_at dksX2_tries_1 14 rfl rfl)
theorem dX2_tries_37 : decode cX2_tries 37 = .ok (.ifCond .eq 10, 3) := dk_153 0 10 (dk_at dksX2_tries_1 15 rfl rfl)
theorem dX2_tries_40 : decode cX2_tries 40 = .ok (.iconst 1, 1) := dk_4 (dk_at dksX2_tries_1 18 rfl rfl)
theorem dX2_tries_41 : decode cX2_tries 41 = .ok (.iload 4, 2) := dk_21 4 (dk_at dksX2_tries_1 19 rfl rfl)
theorem dX2_tries_43 : decode cX2_tries 43 = .ok (.ishl, 1) := dk_120 (dk_at dksX2_tries_1 21 rfl rfl)
theorem dX2_tries_44 : decode cX2_tries 44 = .ok (.goto 4, 3) := dk_167 0 4 (dk_at dksX2_tries_2 0 rfl rfl)
theorem dX2_tries_47 : decode cX2_tries 47 = .ok (.iconst 0, 1) := dk_3 (dk_at dksX2_tries_2 3 rfl rfl)
theorem dX2_tries_48 : decode cX2_tries 48 = .ok (.ior, 1) := dk_128 (dk_at dksX2_tries_2 4 rfl rfl)
theorem dX2_tries_49 : decode cX2_tries 49 = .ok (.istore_n 3, 1) := dk_62 (dk_at dksX2_tries_2 5 rfl rfl)
theorem dX2_tries_50 : decode cX2_tries 50 = .ok (.iinc 4 1, 3) := dk_132 4 1 (dk_at dksX2_tries_2 6 rfl rfl)
theorem dX2_tries_53 : decode cX2_tries 53 = .ok (.goto (-48), 3) := dk_167 255 208 (dk_at dksX2_tries_2 9 rfl rfl)
theorem dX2_tries_56 : decode cX2_tries 56 = .ok (.aload_n 0, 1) := dk_42 (dk_at dksX2_tries_2 12 rfl rfl)
theorem dX2_tries_57 : decode cX2_tries 57 = .ok (.getfield 81, 3) := dk_180 0 81 (dk_at dksX2_tries_2 13 rfl rfl)
theorem dX2_tries_60 : decode cX2_tries 60 = .ok (.iload_n 1, 1) := dk_27 (dk_at dksX2_tries_2 16 rfl rfl)
theorem dX2_tries_61 : decode cX2_tries 61 = .ok (.iload_n 3, 1) := dk_29 (dk_at dksX2_tries_2 17 rfl rfl)
theorem dX2_tries_62 : decode cX2_tries 62 = .ok (.iastore, 1) := dk_79 (dk_at dksX2_tries_2 18 rfl rfl)
theorem dX2_tries_63 : decode cX2_tries 63 = .ok (.aload_n 0, 1) := dk_42 (dk_at dksX2_tries_2 19 rfl rfl)
theorem dX2_tries_64 : decode cX2_tries 64 = .ok (.getfield 84, 3) := dk_180 0 84 (dk_at dksX2_tries_2 20 rfl rfl)
theorem dX2_tries_67 : decode cX2_tries 67 = .ok (.iload_n 1, 1) := dk_27 (dk_at dksX2_tries_2 23 rfl rfl)
theorem dX2_tries_68 : decode cX2_tries 68 = .ok (.iload_n 3, 1) := dk_29 (dk_at dksX2_tries_3 0 rfl rfl)
theorem dX2_tries_69 : decode cX2_tries 69 = .ok (.iastore, 1) := dk_79 (dk_at dksX2_tries_3 1 rfl rfl)
theorem dX2_tries_70 : decode cX2_tries 70 = .ok (.aload_n 0, 1) := dk_42 (dk_at dksX2_tries_3 2 rfl rfl)
theorem dX2_tries_71 : decode cX2_tries 71 = .ok (.iconst 1, 1) := dk_4 (dk_at dksX2_tries_3 3 rfl rfl)
theorem dX2_tries_72 : decode cX2_tries 72 = .ok (.iload_n 1, 1) := dk_27 (dk_at dksX2_tries_3 4 rfl rfl)
theorem dX2_tries_73 : decode cX2_tries 73 = .ok (.invokevirtual 274, 3) := dk_182 1 18 (dk_at dksX2_tries_3 5 rfl rfl)
theorem dX2_tries_76 : decode cX2_tries 76 = .ok (.lstore 4, 2) := dk_55 4 (dk_at dksX2_tries_3 8 rfl rfl)
theorem dX2_tries_78 : decode cX2_tries 78 = .ok (.aload_n 0, 1) := dk_42 (dk_at dksX2_tries_3 10 rfl rfl)
theorem dX2_tries_79 : decode cX2_tries 79 = .ok (.getfield 281, 3) := dk_180 1 25 (dk_at dksX2_tries_3 11 rfl rfl)
theorem dX2_tries_82 : decode cX2_tries 82 = .ok (.ifCond .lt 14, 3) := dk_155 0 14 (dk_at dksX2_tries_3 14 rfl rfl)
theorem dX2_tries_85 : decode cX2_tries 85 = .ok (.lload 4, 2) := dk_22 4 (dk_at dksX2_tries_3 17 rfl rfl)
theorem dX2_tries_87 : decode cX2_tries 87 = .ok (.aload_n 0, 1) := dk_42 (dk_at dksX2_tries_3 19 rfl rfl)
theorem dX2_tries_88 : decode cX2_tries 88 = .ok (.getfield 284, 3) := dk_180 1 28 (dk_at dksX2_tries_3 20 rfl rfl)
theorem dX2_tries_91 : decode cX2_tries 91 = .ok (.lcmp, 1) := dk_148 (dk_at dksX2_tries_3 23 rfl rfl)
theorem dX2_tries_92 : decode cX2_tries 92 = .ok (.ifCond .gt 4, 3) := dk_157 0 4 (dk_at dksX2_tries_4 0 rfl rfl)
theorem dX2_tries_95 : decode cX2_tries 95 = .ok (.return_, 1) := dk_177 (dk_at dksX2_tries_4 3 rfl rfl)
theorem dX2_tries_96 : decode cX2_tries 96 = .ok (.aload_n 0, 1) := dk_42 (dk_at dksX2_tries_4 4 rfl rfl)
theorem dX2_tries_97 : decode cX2_tries 97 = .ok (.lload 4, 2) := dk_22 4 (dk_at dksX2_tries_4 5 rfl rfl)
theorem dX2_tries_99 : decode cX2_tries 99 = .ok (.putfield 284, 3) := dk_181 1 28 (dk_at dksX2_tries_4 7 rfl rfl)
theorem dX2_tries_102 : decode cX2_tries 102 = .ok (.aload_n 0, 1) := dk_42 (dk_at dksX2_tries_4 10 rfl rfl)
theorem dX2_tries_103 : decode cX2_tries 103 = .ok (.iload_n 2, 1) := dk_28 (dk_at dksX2_tries_4 11 rfl rfl)
theorem dX2_tries_104 : decode cX2_tries 104 = .ok (.putfield 281, 3) := dk_181 1 25 (dk_at dksX2_tries_4 12 rfl rfl)
theorem dX2_tries_107 : decode cX2_tries 107 = .ok (.return_, 1) := dk_177 (dk_at dksX2_tries_4 15 rfl rfl)
abbrev cX2_rest : ByteArray := prog_18_method_63_code
def yX2_rest : MethodName := ⟨RX2, "rest", "(II)I"⟩
def dkwX2_rest_4 : List UInt8 := [21, 5, 154, 0, 5, 29, 172, 132, 3, 1, 167, 255, 221, 16, 247, 172]
abbrev dktX2_rest_4 : List UInt8 := dkwX2_rest_4 ++ []
def dkwX2_rest_3 : List UInt8 := [16, 10, 163, 0, 35, 42, 27, 182, 1, 38, 54, 4, 42, 28, 182, 1, 38, 54, 5, 21, 4, 154, 0, 10]
abbrev dktX2_rest_3 : List UInt8 := dkwX2_rest_3 ++ dktX2_rest_4
def dkwX2_rest_2 : List UInt8 := [42, 16, 254, 182, 0, 128, 172, 42, 182, 0, 183, 154, 0, 10, 42, 16, 253, 182, 0, 128, 172, 4, 62, 29]
abbrev dktX2_rest_2 : List UInt8 := dkwX2_rest_2 ++ dktX2_rest_3
def dkwX2_rest_1 : List UInt8 := [182, 0, 128, 172, 42, 180, 0, 25, 27, 46, 7, 160, 0, 13, 42, 180, 0, 25, 28, 46, 7, 159, 0, 10]
abbrev dktX2_rest_1 : List UInt8 := dkwX2_rest_1 ++ dktX2_rest_2
def dkwX2_rest_0 : List UInt8 := [42, 27, 182, 0, 180, 153, 0, 16, 42, 28, 182, 0, 180, 153, 0, 8, 27, 28, 160, 0, 9, 42, 2]
abbrev dktX2_rest_0 : List UInt8 := dkwX2_rest_0 ++ dktX2_rest_1
theorem dksX2_rest_0 : cX2_rest.data.toList.drop 0 = dktX2_rest_0 := by decide +kernel
theorem dksX2_rest_1 : cX2_rest.data.toList.drop 23 = dktX2_rest_1 := dk_seg dksX2_rest_0 23 rfl rfl
theorem dksX2_rest_2 : cX2_rest.data.toList.drop 47 = dktX2_rest_2 := dk_seg dksX2_rest_1 24 rfl rfl
theorem dksX2_rest_3 : cX2_rest.data.toList.drop 71 = dktX2_rest_3 := dk_seg dksX2_rest_2 24 rfl rfl
theorem dksX2_rest_4 : cX2_rest.data.toList.drop 95 = dktX2_rest_4 := dk_seg dksX2_rest_3 24 rfl rfl
theorem dX2_rest_0 : decode cX2_rest 0 = .ok (.aload_n 0, 1) := dk_42 (dk_at dksX2_rest_0 0 rfl rfl)
theorem dX2_rest_1 : decode cX2_rest 1 = .ok (.iload_n 1, 1) := dk_27 (dk_at dksX2_rest_0 1 rfl rfl)
theorem dX2_rest_2 : decode cX2_rest 2 = .ok (.invokevirtual 180, 3) := dk_182 0 180 (dk_at dksX2_rest_0 2 rfl rfl)
theorem dX2_rest_5 : decode cX2_rest 5 = .ok (.ifCond .eq 16, 3) := dk_153 0 16 (dk_at dksX2_rest_0 5 rfl rfl)
theorem dX2_rest_8 : decode cX2_rest 8 = .ok (.aload_n 0, 1) := dk_42 (dk_at dksX2_rest_0 8 rfl rfl)
theorem dX2_rest_9 : decode cX2_rest 9 = .ok (.iload_n 2, 1) := dk_28 (dk_at dksX2_rest_0 9 rfl rfl)
theorem dX2_rest_10 : decode cX2_rest 10 = .ok (.invokevirtual 180, 3) := dk_182 0 180 (dk_at dksX2_rest_0 10 rfl rfl)
theorem dX2_rest_13 : decode cX2_rest 13 = .ok (.ifCond .eq 8, 3) := dk_153 0 8 (dk_at dksX2_rest_0 13 rfl rfl)
theorem dX2_rest_16 : decode cX2_rest 16 = .ok (.iload_n 1, 1) := dk_27 (dk_at dksX2_rest_0 16 rfl rfl)
theorem dX2_rest_17 : decode cX2_rest 17 = .ok (.iload_n 2, 1) := dk_28 (dk_at dksX2_rest_0 17 rfl rfl)
theorem dX2_rest_18 : decode cX2_rest 18 = .ok (.if_icmp .ne 9, 3) := dk_160 0 9 (dk_at dksX2_rest_0 18 rfl rfl)
theorem dX2_rest_21 : decode cX2_rest 21 = .ok (.aload_n 0, 1) := dk_42 (dk_at dksX2_rest_0 21 rfl rfl)
theorem dX2_rest_22 : decode cX2_rest 22 = .ok (.iconst (-1), 1) := dk_2 (dk_at dksX2_rest_0 22 rfl rfl)
theorem dX2_rest_23 : decode cX2_rest 23 = .ok (.invokevirtual 128, 3) := dk_182 0 128 (dk_at dksX2_rest_1 0 rfl rfl)
theorem dX2_rest_26 : decode cX2_rest 26 = .ok (.ireturn, 1) := dk_172 (dk_at dksX2_rest_1 3 rfl rfl)
theorem dX2_rest_27 : decode cX2_rest 27 = .ok (.aload_n 0, 1) := dk_42 (dk_at dksX2_rest_1 4 rfl rfl)
theorem dX2_rest_28 : decode cX2_rest 28 = .ok (.getfield 25, 3) := dk_180 0 25 (dk_at dksX2_rest_1 5 rfl rfl)
theorem dX2_rest_31 : decode cX2_rest 31 = .ok (.iload_n 1, 1) := dk_27 (dk_at dksX2_rest_1 8 rfl rfl)
theorem dX2_rest_32 : decode cX2_rest 32 = .ok (.iaload, 1) := dk_46 (dk_at dksX2_rest_1 9 rfl rfl)
theorem dX2_rest_33 : decode cX2_rest 33 = .ok (.iconst 4, 1) := dk_7 (dk_at dksX2_rest_1 10 rfl rfl)
theorem dX2_rest_34 : decode cX2_rest 34 = .ok (.if_icmp .ne 13, 3) := dk_160 0 13 (dk_at dksX2_rest_1 11 rfl rfl)
theorem dX2_rest_37 : decode cX2_rest 37 = .ok (.aload_n 0, 1) := dk_42 (dk_at dksX2_rest_1 14 rfl rfl)
theorem dX2_rest_38 : decode cX2_rest 38 = .ok (.getfield 25, 3) := dk_180 0 25 (dk_at dksX2_rest_1 15 rfl rfl)
theorem dX2_rest_41 : decode cX2_rest 41 = .ok (.iload_n 2, 1) := dk_28 (dk_at dksX2_rest_1 18 rfl rfl)
theorem dX2_rest_42 : decode cX2_rest 42 = .ok (.iaload, 1) := dk_46 (dk_at dksX2_rest_1 19 rfl rfl)
theorem dX2_rest_43 : decode cX2_rest 43 = .ok (.iconst 4, 1) := dk_7 (dk_at dksX2_rest_1 20 rfl rfl)
theorem dX2_rest_44 : decode cX2_rest 44 = .ok (.if_icmp .eq 10, 3) := dk_159 0 10 (dk_at dksX2_rest_1 21 rfl rfl)
theorem dX2_rest_47 : decode cX2_rest 47 = .ok (.aload_n 0, 1) := dk_42 (dk_at dksX2_rest_2 0 rfl rfl)
theorem dX2_rest_48 : decode cX2_rest 48 = .ok (.bipush (-2), 2) := dk_16 254 (dk_at dksX2_rest_2 1 rfl rfl)
theorem dX2_rest_50 : decode cX2_rest 50 = .ok (.invokevirtual 128, 3) := dk_182 0 128 (dk_at dksX2_rest_2 3 rfl rfl)
theorem dX2_rest_53 : decode cX2_rest 53 = .ok (.ireturn, 1) := dk_172 (dk_at dksX2_rest_2 6 rfl rfl)
theorem dX2_rest_54 : decode cX2_rest 54 = .ok (.aload_n 0, 1) := dk_42 (dk_at dksX2_rest_2 7 rfl rfl)
theorem dX2_rest_55 : decode cX2_rest 55 = .ok (.invokevirtual 183, 3) := dk_182 0 183 (dk_at dksX2_rest_2 8 rfl rfl)
theorem dX2_rest_58 : decode cX2_rest 58 = .ok (.ifCond .ne 10, 3) := dk_154 0 10 (dk_at dksX2_rest_2 11 rfl rfl)
theorem dX2_rest_61 : decode cX2_rest 61 = .ok (.aload_n 0, 1) := dk_42 (dk_at dksX2_rest_2 14 rfl rfl)
theorem dX2_rest_62 : decode cX2_rest 62 = .ok (.bipush (-3), 2) := dk_16 253 (dk_at dksX2_rest_2 15 rfl rfl)
theorem dX2_rest_64 : decode cX2_rest 64 = .ok (.invokevirtual 128, 3) := dk_182 0 128 (dk_at dksX2_rest_2 17 rfl rfl)
theorem dX2_rest_67 : decode cX2_rest 67 = .ok (.ireturn, 1) := dk_172 (dk_at dksX2_rest_2 20 rfl rfl)
theorem dX2_rest_68 : decode cX2_rest 68 = .ok (.iconst 1, 1) := dk_4 (dk_at dksX2_rest_2 21 rfl rfl)
theorem dX2_rest_69 : decode cX2_rest 69 = .ok (.istore_n 3, 1) := dk_62 (dk_at dksX2_rest_2 22 rfl rfl)
theorem dX2_rest_70 : decode cX2_rest 70 = .ok (.iload_n 3, 1) := dk_29 (dk_at dksX2_rest_2 23 rfl rfl)
theorem dX2_rest_71 : decode cX2_rest 71 = .ok (.bipush 10, 2) := dk_16 10 (dk_at dksX2_rest_3 0 rfl rfl)
theorem dX2_rest_73 : decode cX2_rest 73 = .ok (.if_icmp .gt 35, 3) := dk_163 0 35 (dk_at dksX2_rest_3 2 rfl rfl)
theorem dX2_rest_76 : decode cX2_rest 76 = .ok (.aload_n 0, 1) := dk_42 (dk_at dksX2_rest_3 5 rfl rfl)
theorem dX2_rest_77 : decode cX2_rest 77 = .ok (.iload_n 1, 1) := dk_27 (dk_at dksX2_rest_3 6 rfl rfl)
theorem dX2_rest_78 : decode cX2_rest 78 = .ok (.invokevirtual 294, 3) := dk_182 1 38 (dk_at dksX2_rest_3 7 rfl rfl)
theorem dX2_rest_81 : decode cX2_rest 81 = .ok (.istore 4, 2) := dk_54 4 (dk_at dksX2_rest_3 10 rfl rfl)
theorem dX2_rest_83 : decode cX2_rest 83 = .ok (.aload_n 0, 1) := dk_42 (dk_at dksX2_rest_3 12 rfl rfl)
theorem dX2_rest_84 : decode cX2_rest 84 = .ok (.iload_n 2, 1) := dk_28 (dk_at dksX2_rest_3 13 rfl rfl)
theorem dX2_rest_85 : decode cX2_rest 85 = .ok (.invokevirtual 294, 3) := dk_182 1 38 (dk_at dksX2_rest_3 14 rfl rfl)
theorem dX2_rest_88 : decode cX2_rest 88 = .ok (.istore 5, 2) := dk_54 5 (dk_at dksX2_rest_3 17 rfl rfl)
theorem dX2_rest_90 : decode cX2_rest 90 = .ok (.iload 4, 2) := dk_21 4 (dk_at dksX2_rest_3 19 rfl rfl)
theorem dX2_rest_92 : decode cX2_rest 92 = .ok (.ifCond .ne 10, 3) := dk_154 0 10 (dk_at dksX2_rest_3 21 rfl rfl)
theorem dX2_rest_95 : decode cX2_rest 95 = .ok (.iload 5, 2) := dk_21 5 (dk_at dksX2_rest_4 0 rfl rfl)
theorem dX2_rest_97 : decode cX2_rest 97 = .ok (.ifCond .ne 5, 3) := dk_154 0 5 (dk_at dksX2_rest_4 2 rfl rfl)
theorem dX2_rest_100 : decode cX2_rest 100 = .ok (.iload_n 3, 1) := dk_29 (dk_at dksX2_rest_4 5 rfl rfl)
theorem dX2_rest_101 : decode cX2_rest 101 = .ok (.ireturn, 1) := dk_172 (dk_at dksX2_rest_4 6 rfl rfl)
theorem dX2_rest_102 : decode cX2_rest 102 = .ok (.iinc 3 1, 3) := dk_132 3 1 (dk_at dksX2_rest_4 7 rfl rfl)
theorem dX2_rest_105 : decode cX2_rest 105 = .ok (.goto (-35), 3) := dk_167 255 221 (dk_at dksX2_rest_4 10 rfl rfl)
theorem dX2_rest_108 : decode cX2_rest 108 = .ok (.bipush (-9), 2) := dk_16 247 (dk_at dksX2_rest_4 13 rfl rfl)
theorem dX2_rest_110 : decode cX2_rest 110 = .ok (.ireturn, 1) := dk_172 (dk_at dksX2_rest_4 15 rfl rfl)
abbrev cX2_takesReply : ByteArray := prog_18_method_62_code
def yX2_takesReply : MethodName := ⟨RX2, "takesReply", "(I)Z"⟩
def dkwX2_takesReply_1 : List UInt8 := [167, 0, 4, 3, 62, 42, 180, 0, 37, 27, 28, 79, 29, 172]
abbrev dktX2_takesReply_1 : List UInt8 := dkwX2_takesReply_1 ++ []
def dkwX2_takesReply_0 : List UInt8 := [42, 182, 0, 247, 42, 27, 5, 182, 1, 35, 61, 28, 42, 180, 0, 37, 27, 46, 159, 0, 7, 4]
abbrev dktX2_takesReply_0 : List UInt8 := dkwX2_takesReply_0 ++ dktX2_takesReply_1
theorem dksX2_takesReply_0 : cX2_takesReply.data.toList.drop 0 = dktX2_takesReply_0 := by decide +kernel
theorem dksX2_takesReply_1 : cX2_takesReply.data.toList.drop 22 = dktX2_takesReply_1 := dk_seg dksX2_takesReply_0 22 rfl rfl
theorem dX2_takesReply_0 : decode cX2_takesReply 0 = .ok (.aload_n 0, 1) := dk_42 (dk_at dksX2_takesReply_0 0 rfl rfl)
theorem dX2_takesReply_1 : decode cX2_takesReply 1 = .ok (.invokevirtual 247, 3) := dk_182 0 247 (dk_at dksX2_takesReply_0 1 rfl rfl)
theorem dX2_takesReply_4 : decode cX2_takesReply 4 = .ok (.aload_n 0, 1) := dk_42 (dk_at dksX2_takesReply_0 4 rfl rfl)
theorem dX2_takesReply_5 : decode cX2_takesReply 5 = .ok (.iload_n 1, 1) := dk_27 (dk_at dksX2_takesReply_0 5 rfl rfl)
theorem dX2_takesReply_6 : decode cX2_takesReply 6 = .ok (.iconst 2, 1) := dk_5 (dk_at dksX2_takesReply_0 6 rfl rfl)
theorem dX2_takesReply_7 : decode cX2_takesReply 7 = .ok (.invokevirtual 291, 3) := dk_182 1 35 (dk_at dksX2_takesReply_0 7 rfl rfl)
theorem dX2_takesReply_10 : decode cX2_takesReply 10 = .ok (.istore_n 2, 1) := dk_61 (dk_at dksX2_takesReply_0 10 rfl rfl)
theorem dX2_takesReply_11 : decode cX2_takesReply 11 = .ok (.iload_n 2, 1) := dk_28 (dk_at dksX2_takesReply_0 11 rfl rfl)
theorem dX2_takesReply_12 : decode cX2_takesReply 12 = .ok (.aload_n 0, 1) := dk_42 (dk_at dksX2_takesReply_0 12 rfl rfl)
theorem dX2_takesReply_13 : decode cX2_takesReply 13 = .ok (.getfield 37, 3) := dk_180 0 37 (dk_at dksX2_takesReply_0 13 rfl rfl)
theorem dX2_takesReply_16 : decode cX2_takesReply 16 = .ok (.iload_n 1, 1) := dk_27 (dk_at dksX2_takesReply_0 16 rfl rfl)
theorem dX2_takesReply_17 : decode cX2_takesReply 17 = .ok (.iaload, 1) := dk_46 (dk_at dksX2_takesReply_0 17 rfl rfl)
theorem dX2_takesReply_18 : decode cX2_takesReply 18 = .ok (.if_icmp .eq 7, 3) := dk_159 0 7 (dk_at dksX2_takesReply_0 18 rfl rfl)
theorem dX2_takesReply_21 : decode cX2_takesReply 21 = .ok (.iconst 1, 1) := dk_4 (dk_at dksX2_takesReply_0 21 rfl rfl)
theorem dX2_takesReply_22 : decode cX2_takesReply 22 = .ok (.goto 4, 3) := dk_167 0 4 (dk_at dksX2_takesReply_1 0 rfl rfl)
theorem dX2_takesReply_25 : decode cX2_takesReply 25 = .ok (.iconst 0, 1) := dk_3 (dk_at dksX2_takesReply_1 3 rfl rfl)
theorem dX2_takesReply_26 : decode cX2_takesReply 26 = .ok (.istore_n 3, 1) := dk_62 (dk_at dksX2_takesReply_1 4 rfl rfl)
theorem dX2_takesReply_27 : decode cX2_takesReply 27 = .ok (.aload_n 0, 1) := dk_42 (dk_at dksX2_takesReply_1 5 rfl rfl)
theorem dX2_takesReply_28 : decode cX2_takesReply 28 = .ok (.getfield 37, 3) := dk_180 0 37 (dk_at dksX2_takesReply_1 6 rfl rfl)
theorem dX2_takesReply_31 : decode cX2_takesReply 31 = .ok (.iload_n 1, 1) := dk_27 (dk_at dksX2_takesReply_1 9 rfl rfl)
theorem dX2_takesReply_32 : decode cX2_takesReply 32 = .ok (.iload_n 2, 1) := dk_28 (dk_at dksX2_takesReply_1 10 rfl rfl)
theorem dX2_takesReply_33 : decode cX2_takesReply 33 = .ok (.iastore, 1) := dk_79 (dk_at dksX2_takesReply_1 11 rfl rfl)
theorem dX2_takesReply_34 : decode cX2_takesReply 34 = .ok (.iload_n 3, 1) := dk_29 (dk_at dksX2_takesReply_1 12 rfl rfl)
theorem dX2_takesReply_35 : decode cX2_takesReply 35 = .ok (.ireturn, 1) := dk_172 (dk_at dksX2_takesReply_1 13 rfl rfl)
abbrev cX2_law : ByteArray := prog_18_method_64_code
def yX2_law : MethodName := ⟨RX2, "law", "(I)I"⟩
def dkwX2_law_4 : List UInt8 := [54, 4, 132, 5, 1, 167, 255, 204, 42, 180, 0, 40, 4, 29, 79, 21, 4, 172]
abbrev dktX2_law_4 : List UInt8 := dkwX2_law_4 ++ []
def dkwX2_law_3 : List UInt8 := [20, 0, 204, 42, 6, 3, 182, 1, 18, 105, 27, 133, 42, 180, 0, 194, 105, 148, 155, 0, 7, 21, 5]
abbrev dktX2_law_3 : List UInt8 := dkwX2_law_3 ++ dktX2_law_4
def dkwX2_law_2 : List UInt8 := [21, 5, 16, 20, 163, 0, 51, 21, 4, 156, 0, 46, 42, 180, 0, 40, 4, 21, 5, 79, 42, 182, 0, 247]
abbrev dktX2_law_2 : List UInt8 := dkwX2_law_2 ++ dktX2_law_3
def dkwX2_law_1 : List UInt8 := [153, 0, 9, 42, 28, 182, 0, 128, 172, 42, 180, 0, 40, 4, 46, 62, 16, 247, 54, 4, 3, 54, 5]
abbrev dktX2_law_1 : List UInt8 := dkwX2_law_1 ++ dktX2_law_2
def dkwX2_law_0 : List UInt8 := [27, 3, 16, 100, 184, 0, 121, 61, 28, 154, 0, 13, 42, 182, 0, 183, 154, 0, 6, 16, 253, 61, 28]
abbrev dktX2_law_0 : List UInt8 := dkwX2_law_0 ++ dktX2_law_1
theorem dksX2_law_0 : cX2_law.data.toList.drop 0 = dktX2_law_0 := by decide +kernel
theorem dksX2_law_1 : cX2_law.data.toList.drop 23 = dktX2_law_1 := dk_seg dksX2_law_0 23 rfl rfl
theorem dksX2_law_2 : cX2_law.data.toList.drop 46 = dktX2_law_2 := dk_seg dksX2_law_1 23 rfl rfl
theorem dksX2_law_3 : cX2_law.data.toList.drop 70 = dktX2_law_3 := dk_seg dksX2_law_2 24 rfl rfl
theorem dksX2_law_4 : cX2_law.data.toList.drop 93 = dktX2_law_4 := dk_seg dksX2_law_3 23 rfl rfl
theorem dX2_law_0 : decode cX2_law 0 = .ok (.iload_n 1, 1) := dk_27 (dk_at dksX2_law_0 0 rfl rfl)
theorem dX2_law_1 : decode cX2_law 1 = .ok (.iconst 0, 1) := dk_3 (dk_at dksX2_law_0 1 rfl rfl)
theorem dX2_law_2 : decode cX2_law 2 = .ok (.bipush 100, 2) := dk_16 100 (dk_at dksX2_law_0 2 rfl rfl)
theorem dX2_law_4 : decode cX2_law 4 = .ok (.invokestatic 121, 3) := dk_184 0 121 (dk_at dksX2_law_0 4 rfl rfl)
theorem dX2_law_7 : decode cX2_law 7 = .ok (.istore_n 2, 1) := dk_61 (dk_at dksX2_law_0 7 rfl rfl)
theorem dX2_law_8 : decode cX2_law 8 = .ok (.iload_n 2, 1) := dk_28 (dk_at dksX2_law_0 8 rfl rfl)
theorem dX2_law_9 : decode cX2_law 9 = .ok (.ifCond .ne 13, 3) := dk_154 0 13 (dk_at dksX2_law_0 9 rfl rfl)
theorem dX2_law_12 : decode cX2_law 12 = .ok (.aload_n 0, 1) := dk_42 (dk_at dksX2_law_0 12 rfl rfl)
theorem dX2_law_13 : decode cX2_law 13 = .ok (.invokevirtual 183, 3) := dk_182 0 183 (dk_at dksX2_law_0 13 rfl rfl)
theorem dX2_law_16 : decode cX2_law 16 = .ok (.ifCond .ne 6, 3) := dk_154 0 6 (dk_at dksX2_law_0 16 rfl rfl)
theorem dX2_law_19 : decode cX2_law 19 = .ok (.bipush (-3), 2) := dk_16 253 (dk_at dksX2_law_0 19 rfl rfl)
theorem dX2_law_21 : decode cX2_law 21 = .ok (.istore_n 2, 1) := dk_61 (dk_at dksX2_law_0 21 rfl rfl)
theorem dX2_law_22 : decode cX2_law 22 = .ok (.iload_n 2, 1) := dk_28 (dk_at dksX2_law_0 22 rfl rfl)
theorem dX2_law_23 : decode cX2_law 23 = .ok (.ifCond .eq 9, 3) := dk_153 0 9 (dk_at dksX2_law_1 0 rfl rfl)
theorem dX2_law_26 : decode cX2_law 26 = .ok (.aload_n 0, 1) := dk_42 (dk_at dksX2_law_1 3 rfl rfl)
theorem dX2_law_27 : decode cX2_law 27 = .ok (.iload_n 2, 1) := dk_28 (dk_at dksX2_law_1 4 rfl rfl)
theorem dX2_law_28 : decode cX2_law 28 = .ok (.invokevirtual 128, 3) := dk_182 0 128 (dk_at dksX2_law_1 5 rfl rfl)
theorem dX2_law_31 : decode cX2_law 31 = .ok (.ireturn, 1) := dk_172 (dk_at dksX2_law_1 8 rfl rfl)
theorem dX2_law_32 : decode cX2_law 32 = .ok (.aload_n 0, 1) := dk_42 (dk_at dksX2_law_1 9 rfl rfl)
theorem dX2_law_33 : decode cX2_law 33 = .ok (.getfield 40, 3) := dk_180 0 40 (dk_at dksX2_law_1 10 rfl rfl)
theorem dX2_law_36 : decode cX2_law 36 = .ok (.iconst 1, 1) := dk_4 (dk_at dksX2_law_1 13 rfl rfl)
theorem dX2_law_37 : decode cX2_law 37 = .ok (.iaload, 1) := dk_46 (dk_at dksX2_law_1 14 rfl rfl)
theorem dX2_law_38 : decode cX2_law 38 = .ok (.istore_n 3, 1) := dk_62 (dk_at dksX2_law_1 15 rfl rfl)
theorem dX2_law_39 : decode cX2_law 39 = .ok (.bipush (-9), 2) := dk_16 247 (dk_at dksX2_law_1 16 rfl rfl)
theorem dX2_law_41 : decode cX2_law 41 = .ok (.istore 4, 2) := dk_54 4 (dk_at dksX2_law_1 18 rfl rfl)
theorem dX2_law_43 : decode cX2_law 43 = .ok (.iconst 0, 1) := dk_3 (dk_at dksX2_law_1 20 rfl rfl)
theorem dX2_law_44 : decode cX2_law 44 = .ok (.istore 5, 2) := dk_54 5 (dk_at dksX2_law_1 21 rfl rfl)
theorem dX2_law_46 : decode cX2_law 46 = .ok (.iload 5, 2) := dk_21 5 (dk_at dksX2_law_2 0 rfl rfl)
theorem dX2_law_48 : decode cX2_law 48 = .ok (.bipush 20, 2) := dk_16 20 (dk_at dksX2_law_2 2 rfl rfl)
theorem dX2_law_50 : decode cX2_law 50 = .ok (.if_icmp .gt 51, 3) := dk_163 0 51 (dk_at dksX2_law_2 4 rfl rfl)
theorem dX2_law_53 : decode cX2_law 53 = .ok (.iload 4, 2) := dk_21 4 (dk_at dksX2_law_2 7 rfl rfl)
theorem dX2_law_55 : decode cX2_law 55 = .ok (.ifCond .ge 46, 3) := dk_156 0 46 (dk_at dksX2_law_2 9 rfl rfl)
theorem dX2_law_58 : decode cX2_law 58 = .ok (.aload_n 0, 1) := dk_42 (dk_at dksX2_law_2 12 rfl rfl)
theorem dX2_law_59 : decode cX2_law 59 = .ok (.getfield 40, 3) := dk_180 0 40 (dk_at dksX2_law_2 13 rfl rfl)
theorem dX2_law_62 : decode cX2_law 62 = .ok (.iconst 1, 1) := dk_4 (dk_at dksX2_law_2 16 rfl rfl)
theorem dX2_law_63 : decode cX2_law 63 = .ok (.iload 5, 2) := dk_21 5 (dk_at dksX2_law_2 17 rfl rfl)
theorem dX2_law_65 : decode cX2_law 65 = .ok (.iastore, 1) := dk_79 (dk_at dksX2_law_2 19 rfl rfl)
theorem dX2_law_66 : decode cX2_law 66 = .ok (.aload_n 0, 1) := dk_42 (dk_at dksX2_law_2 20 rfl rfl)
theorem dX2_law_67 : decode cX2_law 67 = .ok (.invokevirtual 247, 3) := dk_182 0 247 (dk_at dksX2_law_2 21 rfl rfl)
theorem dX2_law_70 : decode cX2_law 70 = .ok (.ldc2_w 204, 3) := dk_20 0 204 (dk_at dksX2_law_3 0 rfl rfl)
theorem dX2_law_73 : decode cX2_law 73 = .ok (.aload_n 0, 1) := dk_42 (dk_at dksX2_law_3 3 rfl rfl)
theorem dX2_law_74 : decode cX2_law 74 = .ok (.iconst 3, 1) := dk_6 (dk_at dksX2_law_3 4 rfl rfl)
theorem dX2_law_75 : decode cX2_law 75 = .ok (.iconst 0, 1) := dk_3 (dk_at dksX2_law_3 5 rfl rfl)
theorem dX2_law_76 : decode cX2_law 76 = .ok (.invokevirtual 274, 3) := dk_182 1 18 (dk_at dksX2_law_3 6 rfl rfl)
theorem dX2_law_79 : decode cX2_law 79 = .ok (.lmul, 1) := dk_105 (dk_at dksX2_law_3 9 rfl rfl)
theorem dX2_law_80 : decode cX2_law 80 = .ok (.iload_n 1, 1) := dk_27 (dk_at dksX2_law_3 10 rfl rfl)
theorem dX2_law_81 : decode cX2_law 81 = .ok (.i2l, 1) := dk_133 (dk_at dksX2_law_3 11 rfl rfl)
theorem dX2_law_82 : decode cX2_law 82 = .ok (.aload_n 0, 1) := dk_42 (dk_at dksX2_law_3 12 rfl rfl)
theorem dX2_law_83 : decode cX2_law 83 = .ok (.getfield 194, 3) := dk_180 0 194 (dk_at dksX2_law_3 13 rfl rfl)
theorem dX2_law_86 : decode cX2_law 86 = .ok (.lmul, 1) := dk_105 (dk_at dksX2_law_3 16 rfl rfl)
theorem dX2_law_87 : decode cX2_law 87 = .ok (.lcmp, 1) := dk_148 (dk_at dksX2_law_3 17 rfl rfl)
theorem dX2_law_88 : decode cX2_law 88 = .ok (.ifCond .lt 7, 3) := dk_155 0 7 (dk_at dksX2_law_3 18 rfl rfl)
theorem dX2_law_91 : decode cX2_law 91 = .ok (.iload 5, 2) := dk_21 5 (dk_at dksX2_law_3 21 rfl rfl)
theorem dX2_law_93 : decode cX2_law 93 = .ok (.istore 4, 2) := dk_54 4 (dk_at dksX2_law_4 0 rfl rfl)
theorem dX2_law_95 : decode cX2_law 95 = .ok (.iinc 5 1, 3) := dk_132 5 1 (dk_at dksX2_law_4 2 rfl rfl)
theorem dX2_law_98 : decode cX2_law 98 = .ok (.goto (-52), 3) := dk_167 255 204 (dk_at dksX2_law_4 5 rfl rfl)
theorem dX2_law_101 : decode cX2_law 101 = .ok (.aload_n 0, 1) := dk_42 (dk_at dksX2_law_4 8 rfl rfl)
theorem dX2_law_102 : decode cX2_law 102 = .ok (.getfield 40, 3) := dk_180 0 40 (dk_at dksX2_law_4 9 rfl rfl)
theorem dX2_law_105 : decode cX2_law 105 = .ok (.iconst 1, 1) := dk_4 (dk_at dksX2_law_4 12 rfl rfl)
theorem dX2_law_106 : decode cX2_law 106 = .ok (.iload_n 3, 1) := dk_29 (dk_at dksX2_law_4 13 rfl rfl)
theorem dX2_law_107 : decode cX2_law 107 = .ok (.iastore, 1) := dk_79 (dk_at dksX2_law_4 14 rfl rfl)
theorem dX2_law_108 : decode cX2_law 108 = .ok (.iload 4, 2) := dk_21 4 (dk_at dksX2_law_4 15 rfl rfl)
theorem dX2_law_110 : decode cX2_law 110 = .ok (.ireturn, 1) := dk_172 (dk_at dksX2_law_4 17 rfl rfl)
abbrev cX2_mostEarly : ByteArray := prog_18_method_65_code
def yX2_mostEarly : MethodName := ⟨RX2, "mostEarly", "(I)I"⟩
def dkwX2_mostEarly_4 : List UInt8 := [42, 180, 0, 40, 5, 28, 79, 29, 172]
abbrev dktX2_mostEarly_4 : List UInt8 := dkwX2_mostEarly_4 ++ []
def dkwX2_mostEarly_3 : List UInt8 := [22, 7, 22, 4, 148, 157, 0, 6, 167, 0, 10, 22, 7, 55, 4, 21, 6, 62, 132, 6, 1, 167, 255, 209]
abbrev dktX2_mostEarly_3 : List UInt8 := dkwX2_mostEarly_3 ++ dktX2_mostEarly_4
def dkwX2_mostEarly_2 : List UInt8 := [163, 0, 47, 42, 180, 0, 40, 5, 21, 6, 79, 42, 182, 0, 247, 42, 3, 27, 182, 1, 18, 55, 7]
abbrev dktX2_mostEarly_2 : List UInt8 := dkwX2_mostEarly_2 ++ dktX2_mostEarly_3
def dkwX2_mostEarly_1 : List UInt8 := [182, 0, 128, 172, 42, 180, 0, 40, 5, 46, 61, 3, 62, 20, 1, 41, 55, 4, 3, 54, 6, 21, 6, 8]
abbrev dktX2_mostEarly_1 : List UInt8 := dkwX2_mostEarly_1 ++ dktX2_mostEarly_2
def dkwX2_mostEarly_0 : List UInt8 := [42, 27, 182, 0, 180, 154, 0, 9, 42, 2, 182, 0, 128, 172, 42, 182, 0, 183, 154, 0, 10, 42, 16, 253]
abbrev dktX2_mostEarly_0 : List UInt8 := dkwX2_mostEarly_0 ++ dktX2_mostEarly_1
theorem dksX2_mostEarly_0 : cX2_mostEarly.data.toList.drop 0 = dktX2_mostEarly_0 := by decide +kernel
theorem dksX2_mostEarly_1 : cX2_mostEarly.data.toList.drop 24 = dktX2_mostEarly_1 := dk_seg dksX2_mostEarly_0 24 rfl rfl
theorem dksX2_mostEarly_2 : cX2_mostEarly.data.toList.drop 48 = dktX2_mostEarly_2 := dk_seg dksX2_mostEarly_1 24 rfl rfl
theorem dksX2_mostEarly_3 : cX2_mostEarly.data.toList.drop 71 = dktX2_mostEarly_3 := dk_seg dksX2_mostEarly_2 23 rfl rfl
theorem dksX2_mostEarly_4 : cX2_mostEarly.data.toList.drop 95 = dktX2_mostEarly_4 := dk_seg dksX2_mostEarly_3 24 rfl rfl
theorem dX2_mostEarly_0 : decode cX2_mostEarly 0 = .ok (.aload_n 0, 1) := dk_42 (dk_at dksX2_mostEarly_0 0 rfl rfl)
theorem dX2_mostEarly_1 : decode cX2_mostEarly 1 = .ok (.iload_n 1, 1) := dk_27 (dk_at dksX2_mostEarly_0 1 rfl rfl)
theorem dX2_mostEarly_2 : decode cX2_mostEarly 2 = .ok (.invokevirtual 180, 3) := dk_182 0 180 (dk_at dksX2_mostEarly_0 2 rfl rfl)
theorem dX2_mostEarly_5 : decode cX2_mostEarly 5 = .ok (.ifCond .ne 9, 3) := dk_154 0 9 (dk_at dksX2_mostEarly_0 5 rfl rfl)
theorem dX2_mostEarly_8 : decode cX2_mostEarly 8 = .ok (.aload_n 0, 1) := dk_42 (dk_at dksX2_mostEarly_0 8 rfl rfl)
theorem dX2_mostEarly_9 : decode cX2_mostEarly 9 = .ok (.iconst (-1), 1) := dk_2 (dk_at dksX2_mostEarly_0 9 rfl rfl)
theorem dX2_mostEarly_10 : decode cX2_mostEarly 10 = .ok (.invokevirtual 128, 3) := dk_182 0 128 (dk_at dksX2_mostEarly_0 10 rfl rfl)
theorem dX2_mostEarly_13 : decode cX2_mostEarly 13 = .ok (.ireturn, 1) := dk_172 (dk_at dksX2_mostEarly_0 13 rfl rfl)
theorem dX2_mostEarly_14 : decode cX2_mostEarly 14 = .ok (.aload_n 0, 1) := dk_42 (dk_at dksX2_mostEarly_0 14 rfl rfl)
theorem dX2_mostEarly_15 : decode cX2_mostEarly 15 = .ok (.invokevirtual 183, 3) := dk_182 0 183 (dk_at dksX2_mostEarly_0 15 rfl rfl)
theorem dX2_mostEarly_18 : decode cX2_mostEarly 18 = .ok (.ifCond .ne 10, 3) := dk_154 0 10 (dk_at dksX2_mostEarly_0 18 rfl rfl)
theorem dX2_mostEarly_21 : decode cX2_mostEarly 21 = .ok (.aload_n 0, 1) := dk_42 (dk_at dksX2_mostEarly_0 21 rfl rfl)
theorem dX2_mostEarly_22 : decode cX2_mostEarly 22 = .ok (.bipush (-3), 2) := dk_16 253 (dk_at dksX2_mostEarly_0 22 rfl rfl)
theorem dX2_mostEarly_24 : decode cX2_mostEarly 24 = .ok (.invokevirtual 128, 3) := dk_182 0 128 (dk_at dksX2_mostEarly_1 0 rfl rfl)
theorem dX2_mostEarly_27 : decode cX2_mostEarly 27 = .ok (.ireturn, 1) := dk_172 (dk_at dksX2_mostEarly_1 3 rfl rfl)
theorem dX2_mostEarly_28 : decode cX2_mostEarly 28 = .ok (.aload_n 0, 1) := dk_42 (dk_at dksX2_mostEarly_1 4 rfl rfl)
theorem dX2_mostEarly_29 : decode cX2_mostEarly 29 = .ok (.getfield 40, 3) := dk_180 0 40 (dk_at dksX2_mostEarly_1 5 rfl rfl)
theorem dX2_mostEarly_32 : decode cX2_mostEarly 32 = .ok (.iconst 2, 1) := dk_5 (dk_at dksX2_mostEarly_1 8 rfl rfl)
theorem dX2_mostEarly_33 : decode cX2_mostEarly 33 = .ok (.iaload, 1) := dk_46 (dk_at dksX2_mostEarly_1 9 rfl rfl)
theorem dX2_mostEarly_34 : decode cX2_mostEarly 34 = .ok (.istore_n 2, 1) := dk_61 (dk_at dksX2_mostEarly_1 10 rfl rfl)
theorem dX2_mostEarly_35 : decode cX2_mostEarly 35 = .ok (.iconst 0, 1) := dk_3 (dk_at dksX2_mostEarly_1 11 rfl rfl)
theorem dX2_mostEarly_36 : decode cX2_mostEarly 36 = .ok (.istore_n 3, 1) := dk_62 (dk_at dksX2_mostEarly_1 12 rfl rfl)
theorem dX2_mostEarly_37 : decode cX2_mostEarly 37 = .ok (.ldc2_w 297, 3) := dk_20 1 41 (dk_at dksX2_mostEarly_1 13 rfl rfl)
theorem dX2_mostEarly_40 : decode cX2_mostEarly 40 = .ok (.lstore 4, 2) := dk_55 4 (dk_at dksX2_mostEarly_1 16 rfl rfl)
theorem dX2_mostEarly_42 : decode cX2_mostEarly 42 = .ok (.iconst 0, 1) := dk_3 (dk_at dksX2_mostEarly_1 18 rfl rfl)
theorem dX2_mostEarly_43 : decode cX2_mostEarly 43 = .ok (.istore 6, 2) := dk_54 6 (dk_at dksX2_mostEarly_1 19 rfl rfl)
theorem dX2_mostEarly_45 : decode cX2_mostEarly 45 = .ok (.iload 6, 2) := dk_21 6 (dk_at dksX2_mostEarly_1 21 rfl rfl)
theorem dX2_mostEarly_47 : decode cX2_mostEarly 47 = .ok (.iconst 5, 1) := dk_8 (dk_at dksX2_mostEarly_1 23 rfl rfl)
theorem dX2_mostEarly_48 : decode cX2_mostEarly 48 = .ok (.if_icmp .gt 47, 3) := dk_163 0 47 (dk_at dksX2_mostEarly_2 0 rfl rfl)
theorem dX2_mostEarly_51 : decode cX2_mostEarly 51 = .ok (.aload_n 0, 1) := dk_42 (dk_at dksX2_mostEarly_2 3 rfl rfl)
theorem dX2_mostEarly_52 : decode cX2_mostEarly 52 = .ok (.getfield 40, 3) := dk_180 0 40 (dk_at dksX2_mostEarly_2 4 rfl rfl)
theorem dX2_mostEarly_55 : decode cX2_mostEarly 55 = .ok (.iconst 2, 1) := dk_5 (dk_at dksX2_mostEarly_2 7 rfl rfl)
theorem dX2_mostEarly_56 : decode cX2_mostEarly 56 = .ok (.iload 6, 2) := dk_21 6 (dk_at dksX2_mostEarly_2 8 rfl rfl)
theorem dX2_mostEarly_58 : decode cX2_mostEarly 58 = .ok (.iastore, 1) := dk_79 (dk_at dksX2_mostEarly_2 10 rfl rfl)
theorem dX2_mostEarly_59 : decode cX2_mostEarly 59 = .ok (.aload_n 0, 1) := dk_42 (dk_at dksX2_mostEarly_2 11 rfl rfl)
theorem dX2_mostEarly_60 : decode cX2_mostEarly 60 = .ok (.invokevirtual 247, 3) := dk_182 0 247 (dk_at dksX2_mostEarly_2 12 rfl rfl)
theorem dX2_mostEarly_63 : decode cX2_mostEarly 63 = .ok (.aload_n 0, 1) := dk_42 (dk_at dksX2_mostEarly_2 15 rfl rfl)
theorem dX2_mostEarly_64 : decode cX2_mostEarly 64 = .ok (.iconst 0, 1) := dk_3 (dk_at dksX2_mostEarly_2 16 rfl rfl)
theorem dX2_mostEarly_65 : decode cX2_mostEarly 65 = .ok (.iload_n 1, 1) := dk_27 (dk_at dksX2_mostEarly_2 17 rfl rfl)
theorem dX2_mostEarly_66 : decode cX2_mostEarly 66 = .ok (.invokevirtual 274, 3) := dk_182 1 18 (dk_at dksX2_mostEarly_2 18 rfl rfl)
theorem dX2_mostEarly_69 : decode cX2_mostEarly 69 = .ok (.lstore 7, 2) := dk_55 7 (dk_at dksX2_mostEarly_2 21 rfl rfl)
theorem dX2_mostEarly_71 : decode cX2_mostEarly 71 = .ok (.lload 7, 2) := dk_22 7 (dk_at dksX2_mostEarly_3 0 rfl rfl)
theorem dX2_mostEarly_73 : decode cX2_mostEarly 73 = .ok (.lload 4, 2) := dk_22 4 (dk_at dksX2_mostEarly_3 2 rfl rfl)
theorem dX2_mostEarly_75 : decode cX2_mostEarly 75 = .ok (.lcmp, 1) := dk_148 (dk_at dksX2_mostEarly_3 4 rfl rfl)
theorem dX2_mostEarly_76 : decode cX2_mostEarly 76 = .ok (.ifCond .gt 6, 3) := dk_157 0 6 (dk_at dksX2_mostEarly_3 5 rfl rfl)
theorem dX2_mostEarly_79 : decode cX2_mostEarly 79 = .ok (.goto 10, 3) := dk_167 0 10 (dk_at dksX2_mostEarly_3 8 rfl rfl)
theorem dX2_mostEarly_82 : decode cX2_mostEarly 82 = .ok (.lload 7, 2) := dk_22 7 (dk_at dksX2_mostEarly_3 11 rfl rfl)
theorem dX2_mostEarly_84 : decode cX2_mostEarly 84 = .ok (.lstore 4, 2) := dk_55 4 (dk_at dksX2_mostEarly_3 13 rfl rfl)
theorem dX2_mostEarly_86 : decode cX2_mostEarly 86 = .ok (.iload 6, 2) := dk_21 6 (dk_at dksX2_mostEarly_3 15 rfl rfl)
theorem dX2_mostEarly_88 : decode cX2_mostEarly 88 = .ok (.istore_n 3, 1) := dk_62 (dk_at dksX2_mostEarly_3 17 rfl rfl)
theorem dX2_mostEarly_89 : decode cX2_mostEarly 89 = .ok (.iinc 6 1, 3) := dk_132 6 1 (dk_at dksX2_mostEarly_3 18 rfl rfl)
theorem dX2_mostEarly_92 : decode cX2_mostEarly 92 = .ok (.goto (-47), 3) := dk_167 255 209 (dk_at dksX2_mostEarly_3 21 rfl rfl)
theorem dX2_mostEarly_95 : decode cX2_mostEarly 95 = .ok (.aload_n 0, 1) := dk_42 (dk_at dksX2_mostEarly_4 0 rfl rfl)
theorem dX2_mostEarly_96 : decode cX2_mostEarly 96 = .ok (.getfield 40, 3) := dk_180 0 40 (dk_at dksX2_mostEarly_4 1 rfl rfl)
theorem dX2_mostEarly_99 : decode cX2_mostEarly 99 = .ok (.iconst 2, 1) := dk_5 (dk_at dksX2_mostEarly_4 4 rfl rfl)
theorem dX2_mostEarly_100 : decode cX2_mostEarly 100 = .ok (.iload_n 2, 1) := dk_28 (dk_at dksX2_mostEarly_4 5 rfl rfl)
theorem dX2_mostEarly_101 : decode cX2_mostEarly 101 = .ok (.iastore, 1) := dk_79 (dk_at dksX2_mostEarly_4 6 rfl rfl)
theorem dX2_mostEarly_102 : decode cX2_mostEarly 102 = .ok (.iload_n 3, 1) := dk_29 (dk_at dksX2_mostEarly_4 7 rfl rfl)
theorem dX2_mostEarly_103 : decode cX2_mostEarly 103 = .ok (.ireturn, 1) := dk_172 (dk_at dksX2_mostEarly_4 8 rfl rfl)
abbrev cX2_silent : ByteArray := prog_18_method_66_code
def yX2_silent : MethodName := ⟨RX2, "silent", "(II)I"⟩
def dkwX2_silent_6 : List UInt8 := [172]
abbrev dktX2_silent_6 : List UInt8 := dkwX2_silent_6 ++ []
def dkwX2_silent_5 : List UInt8 := [21, 4, 120, 128, 62, 42, 180, 0, 13, 21, 5, 46, 54, 5, 167, 255, 201, 132, 4, 1, 167, 255, 185, 29]
abbrev dktX2_silent_5 : List UInt8 := dkwX2_silent_5 ++ dktX2_silent_6
def dkwX2_silent_4 : List UInt8 := [9, 148, 158, 0, 26, 42, 21, 5, 21, 4, 42, 27, 182, 0, 227, 182, 0, 206, 153, 0, 10, 29, 4]
abbrev dktX2_silent_4 : List UInt8 := dkwX2_silent_4 ++ dktX2_silent_5
def dkwX2_silent_3 : List UInt8 := [162, 0, 70, 28, 54, 5, 21, 5, 158, 0, 56, 42, 180, 0, 75, 16, 10, 21, 5, 104, 21, 4, 96, 47]
abbrev dktX2_silent_3 : List UInt8 := dkwX2_silent_3 ++ dktX2_silent_4
def dkwX2_silent_2 : List UInt8 := [154, 0, 10, 42, 16, 253, 182, 0, 128, 172, 42, 182, 0, 233, 3, 62, 4, 54, 4, 21, 4, 16, 10]
abbrev dktX2_silent_2 : List UInt8 := dkwX2_silent_2 ++ dktX2_silent_3
def dkwX2_silent_1 : List UInt8 := [180, 0, 25, 27, 46, 4, 5, 184, 0, 140, 154, 0, 10, 42, 16, 254, 182, 0, 128, 172, 42, 182, 0, 183]
abbrev dktX2_silent_1 : List UInt8 := dkwX2_silent_1 ++ dktX2_silent_2
def dkwX2_silent_0 : List UInt8 := [42, 27, 182, 0, 180, 153, 0, 11, 42, 28, 182, 0, 166, 154, 0, 9, 42, 2, 182, 0, 128, 172, 42]
abbrev dktX2_silent_0 : List UInt8 := dkwX2_silent_0 ++ dktX2_silent_1
theorem dksX2_silent_0 : cX2_silent.data.toList.drop 0 = dktX2_silent_0 := by decide +kernel
theorem dksX2_silent_1 : cX2_silent.data.toList.drop 23 = dktX2_silent_1 := dk_seg dksX2_silent_0 23 rfl rfl
theorem dksX2_silent_2 : cX2_silent.data.toList.drop 47 = dktX2_silent_2 := dk_seg dksX2_silent_1 24 rfl rfl
theorem dksX2_silent_3 : cX2_silent.data.toList.drop 70 = dktX2_silent_3 := dk_seg dksX2_silent_2 23 rfl rfl
theorem dksX2_silent_4 : cX2_silent.data.toList.drop 94 = dktX2_silent_4 := dk_seg dksX2_silent_3 24 rfl rfl
theorem dksX2_silent_5 : cX2_silent.data.toList.drop 117 = dktX2_silent_5 := dk_seg dksX2_silent_4 23 rfl rfl
theorem dksX2_silent_6 : cX2_silent.data.toList.drop 141 = dktX2_silent_6 := dk_seg dksX2_silent_5 24 rfl rfl
theorem dX2_silent_0 : decode cX2_silent 0 = .ok (.aload_n 0, 1) := dk_42 (dk_at dksX2_silent_0 0 rfl rfl)
theorem dX2_silent_1 : decode cX2_silent 1 = .ok (.iload_n 1, 1) := dk_27 (dk_at dksX2_silent_0 1 rfl rfl)
theorem dX2_silent_2 : decode cX2_silent 2 = .ok (.invokevirtual 180, 3) := dk_182 0 180 (dk_at dksX2_silent_0 2 rfl rfl)
theorem dX2_silent_5 : decode cX2_silent 5 = .ok (.ifCond .eq 11, 3) := dk_153 0 11 (dk_at dksX2_silent_0 5 rfl rfl)
theorem dX2_silent_8 : decode cX2_silent 8 = .ok (.aload_n 0, 1) := dk_42 (dk_at dksX2_silent_0 8 rfl rfl)
theorem dX2_silent_9 : decode cX2_silent 9 = .ok (.iload_n 2, 1) := dk_28 (dk_at dksX2_silent_0 9 rfl rfl)
theorem dX2_silent_10 : decode cX2_silent 10 = .ok (.invokevirtual 166, 3) := dk_182 0 166 (dk_at dksX2_silent_0 10 rfl rfl)
theorem dX2_silent_13 : decode cX2_silent 13 = .ok (.ifCond .ne 9, 3) := dk_154 0 9 (dk_at dksX2_silent_0 13 rfl rfl)
theorem dX2_silent_16 : decode cX2_silent 16 = .ok (.aload_n 0, 1) := dk_42 (dk_at dksX2_silent_0 16 rfl rfl)
theorem dX2_silent_17 : decode cX2_silent 17 = .ok (.iconst (-1), 1) := dk_2 (dk_at dksX2_silent_0 17 rfl rfl)
theorem dX2_silent_18 : decode cX2_silent 18 = .ok (.invokevirtual 128, 3) := dk_182 0 128 (dk_at dksX2_silent_0 18 rfl rfl)
theorem dX2_silent_21 : decode cX2_silent 21 = .ok (.ireturn, 1) := dk_172 (dk_at dksX2_silent_0 21 rfl rfl)
theorem dX2_silent_22 : decode cX2_silent 22 = .ok (.aload_n 0, 1) := dk_42 (dk_at dksX2_silent_0 22 rfl rfl)
theorem dX2_silent_23 : decode cX2_silent 23 = .ok (.getfield 25, 3) := dk_180 0 25 (dk_at dksX2_silent_1 0 rfl rfl)
theorem dX2_silent_26 : decode cX2_silent 26 = .ok (.iload_n 1, 1) := dk_27 (dk_at dksX2_silent_1 3 rfl rfl)
theorem dX2_silent_27 : decode cX2_silent 27 = .ok (.iaload, 1) := dk_46 (dk_at dksX2_silent_1 4 rfl rfl)
theorem dX2_silent_28 : decode cX2_silent 28 = .ok (.iconst 1, 1) := dk_4 (dk_at dksX2_silent_1 5 rfl rfl)
theorem dX2_silent_29 : decode cX2_silent 29 = .ok (.iconst 2, 1) := dk_5 (dk_at dksX2_silent_1 6 rfl rfl)
theorem dX2_silent_30 : decode cX2_silent 30 = .ok (.invokestatic 140, 3) := dk_184 0 140 (dk_at dksX2_silent_1 7 rfl rfl)
theorem dX2_silent_33 : decode cX2_silent 33 = .ok (.ifCond .ne 10, 3) := dk_154 0 10 (dk_at dksX2_silent_1 10 rfl rfl)
theorem dX2_silent_36 : decode cX2_silent 36 = .ok (.aload_n 0, 1) := dk_42 (dk_at dksX2_silent_1 13 rfl rfl)
theorem dX2_silent_37 : decode cX2_silent 37 = .ok (.bipush (-2), 2) := dk_16 254 (dk_at dksX2_silent_1 14 rfl rfl)
theorem dX2_silent_39 : decode cX2_silent 39 = .ok (.invokevirtual 128, 3) := dk_182 0 128 (dk_at dksX2_silent_1 16 rfl rfl)
theorem dX2_silent_42 : decode cX2_silent 42 = .ok (.ireturn, 1) := dk_172 (dk_at dksX2_silent_1 19 rfl rfl)
theorem dX2_silent_43 : decode cX2_silent 43 = .ok (.aload_n 0, 1) := dk_42 (dk_at dksX2_silent_1 20 rfl rfl)
theorem dX2_silent_44 : decode cX2_silent 44 = .ok (.invokevirtual 183, 3) := dk_182 0 183 (dk_at dksX2_silent_1 21 rfl rfl)
theorem dX2_silent_47 : decode cX2_silent 47 = .ok (.ifCond .ne 10, 3) := dk_154 0 10 (dk_at dksX2_silent_2 0 rfl rfl)
theorem dX2_silent_50 : decode cX2_silent 50 = .ok (.aload_n 0, 1) := dk_42 (dk_at dksX2_silent_2 3 rfl rfl)
theorem dX2_silent_51 : decode cX2_silent 51 = .ok (.bipush (-3), 2) := dk_16 253 (dk_at dksX2_silent_2 4 rfl rfl)
theorem dX2_silent_53 : decode cX2_silent 53 = .ok (.invokevirtual 128, 3) := dk_182 0 128 (dk_at dksX2_silent_2 6 rfl rfl)
theorem dX2_silent_56 : decode cX2_silent 56 = .ok (.ireturn, 1) := dk_172 (dk_at dksX2_silent_2 9 rfl rfl)
theorem dX2_silent_57 : decode cX2_silent 57 = .ok (.aload_n 0, 1) := dk_42 (dk_at dksX2_silent_2 10 rfl rfl)
theorem dX2_silent_58 : decode cX2_silent 58 = .ok (.invokevirtual 233, 3) := dk_182 0 233 (dk_at dksX2_silent_2 11 rfl rfl)
theorem dX2_silent_61 : decode cX2_silent 61 = .ok (.iconst 0, 1) := dk_3 (dk_at dksX2_silent_2 14 rfl rfl)
theorem dX2_silent_62 : decode cX2_silent 62 = .ok (.istore_n 3, 1) := dk_62 (dk_at dksX2_silent_2 15 rfl rfl)
theorem dX2_silent_63 : decode cX2_silent 63 = .ok (.iconst 1, 1) := dk_4 (dk_at dksX2_silent_2 16 rfl rfl)
theorem dX2_silent_64 : decode cX2_silent 64 = .ok (.istore 4, 2) := dk_54 4 (dk_at dksX2_silent_2 17 rfl rfl)
theorem dX2_silent_66 : decode cX2_silent 66 = .ok (.iload 4, 2) := dk_21 4 (dk_at dksX2_silent_2 19 rfl rfl)
theorem dX2_silent_68 : decode cX2_silent 68 = .ok (.bipush 10, 2) := dk_16 10 (dk_at dksX2_silent_2 21 rfl rfl)
theorem dX2_silent_70 : decode cX2_silent 70 = .ok (.if_icmp .ge 70, 3) := dk_162 0 70 (dk_at dksX2_silent_3 0 rfl rfl)
theorem dX2_silent_73 : decode cX2_silent 73 = .ok (.iload_n 2, 1) := dk_28 (dk_at dksX2_silent_3 3 rfl rfl)
theorem dX2_silent_74 : decode cX2_silent 74 = .ok (.istore 5, 2) := dk_54 5 (dk_at dksX2_silent_3 4 rfl rfl)
theorem dX2_silent_76 : decode cX2_silent 76 = .ok (.iload 5, 2) := dk_21 5 (dk_at dksX2_silent_3 6 rfl rfl)
theorem dX2_silent_78 : decode cX2_silent 78 = .ok (.ifCond .le 56, 3) := dk_158 0 56 (dk_at dksX2_silent_3 8 rfl rfl)
theorem dX2_silent_81 : decode cX2_silent 81 = .ok (.aload_n 0, 1) := dk_42 (dk_at dksX2_silent_3 11 rfl rfl)
theorem dX2_silent_82 : decode cX2_silent 82 = .ok (.getfield 75, 3) := dk_180 0 75 (dk_at dksX2_silent_3 12 rfl rfl)
theorem dX2_silent_85 : decode cX2_silent 85 = .ok (.bipush 10, 2) := dk_16 10 (dk_at dksX2_silent_3 15 rfl rfl)
theorem dX2_silent_87 : decode cX2_silent 87 = .ok (.iload 5, 2) := dk_21 5 (dk_at dksX2_silent_3 17 rfl rfl)
theorem dX2_silent_89 : decode cX2_silent 89 = .ok (.imul, 1) := dk_104 (dk_at dksX2_silent_3 19 rfl rfl)
theorem dX2_silent_90 : decode cX2_silent 90 = .ok (.iload 4, 2) := dk_21 4 (dk_at dksX2_silent_3 20 rfl rfl)
theorem dX2_silent_92 : decode cX2_silent 92 = .ok (.iadd, 1) := dk_96 (dk_at dksX2_silent_3 22 rfl rfl)
theorem dX2_silent_93 : decode cX2_silent 93 = .ok (.laload, 1) := dk_47 (dk_at dksX2_silent_3 23 rfl rfl)
theorem dX2_silent_94 : decode cX2_silent 94 = .ok (.lconst 0, 1) := dk_9 (dk_at dksX2_silent_4 0 rfl rfl)
theorem dX2_silent_95 : decode cX2_silent 95 = .ok (.lcmp, 1) := dk_148 (dk_at dksX2_silent_4 1 rfl rfl)
theorem dX2_silent_96 : decode cX2_silent 96 = .ok (.ifCond .le 26, 3) := dk_158 0 26 (dk_at dksX2_silent_4 2 rfl rfl)
theorem dX2_silent_99 : decode cX2_silent 99 = .ok (.aload_n 0, 1) := dk_42 (dk_at dksX2_silent_4 5 rfl rfl)
theorem dX2_silent_100 : decode cX2_silent 100 = .ok (.iload 5, 2) := dk_21 5 (dk_at dksX2_silent_4 6 rfl rfl)
theorem dX2_silent_102 : decode cX2_silent 102 = .ok (.iload 4, 2) := dk_21 4 (dk_at dksX2_silent_4 8 rfl rfl)
theorem dX2_silent_104 : decode cX2_silent 104 = .ok (.aload_n 0, 1) := dk_42 (dk_at dksX2_silent_4 10 rfl rfl)
theorem dX2_silent_105 : decode cX2_silent 105 = .ok (.iload_n 1, 1) := dk_27 (dk_at dksX2_silent_4 11 rfl rfl)
theorem dX2_silent_106 : decode cX2_silent 106 = .ok (.invokevirtual 227, 3) := dk_182 0 227 (dk_at dksX2_silent_4 12 rfl rfl)
theorem dX2_silent_109 : decode cX2_silent 109 = .ok (.invokevirtual 206, 3) := dk_182 0 206 (dk_at dksX2_silent_4 15 rfl rfl)
theorem dX2_silent_112 : decode cX2_silent 112 = .ok (.ifCond .eq 10, 3) := dk_153 0 10 (dk_at dksX2_silent_4 18 rfl rfl)
theorem dX2_silent_115 : decode cX2_silent 115 = .ok (.iload_n 3, 1) := dk_29 (dk_at dksX2_silent_4 21 rfl rfl)
theorem dX2_silent_116 : decode cX2_silent 116 = .ok (.iconst 1, 1) := dk_4 (dk_at dksX2_silent_4 22 rfl rfl)
theorem dX2_silent_117 : decode cX2_silent 117 = .ok (.iload 4, 2) := dk_21 4 (dk_at dksX2_silent_5 0 rfl rfl)
theorem dX2_silent_119 : decode cX2_silent 119 = .ok (.ishl, 1) := dk_120 (dk_at dksX2_silent_5 2 rfl rfl)
theorem dX2_silent_120 : decode cX2_silent 120 = .ok (.ior, 1) := dk_128 (dk_at dksX2_silent_5 3 rfl rfl)
theorem dX2_silent_121 : decode cX2_silent 121 = .ok (.istore_n 3, 1) := dk_62 (dk_at dksX2_silent_5 4 rfl rfl)
theorem dX2_silent_122 : decode cX2_silent 122 = .ok (.aload_n 0, 1) := dk_42 (dk_at dksX2_silent_5 5 rfl rfl)
theorem dX2_silent_123 : decode cX2_silent 123 = .ok (.getfield 13, 3) := dk_180 0 13 (dk_at dksX2_silent_5 6 rfl rfl)
theorem dX2_silent_126 : decode cX2_silent 126 = .ok (.iload 5, 2) := dk_21 5 (dk_at dksX2_silent_5 9 rfl rfl)
theorem dX2_silent_128 : decode cX2_silent 128 = .ok (.iaload, 1) := dk_46 (dk_at dksX2_silent_5 11 rfl rfl)
theorem dX2_silent_129 : decode cX2_silent 129 = .ok (.istore 5, 2) := dk_54 5 (dk_at dksX2_silent_5 12 rfl rfl)
theorem dX2_silent_131 : decode cX2_silent 131 = .ok (.goto (-55), 3) := dk_167 255 201 (dk_at dksX2_silent_5 14 rfl rfl)
theorem dX2_silent_134 : decode cX2_silent 134 = .ok (.iinc 4 1, 3) := dk_132 4 1 (dk_at dksX2_silent_5 17 rfl rfl)
theorem dX2_silent_137 : decode cX2_silent 137 = .ok (.goto (-71), 3) := dk_167 255 185 (dk_at dksX2_silent_5 20 rfl rfl)
theorem dX2_silent_140 : decode cX2_silent 140 = .ok (.iload_n 3, 1) := dk_29 (dk_at dksX2_silent_5 23 rfl rfl)
theorem dX2_silent_141 : decode cX2_silent 141 = .ok (.ireturn, 1) := dk_172 (dk_at dksX2_silent_6 0 rfl rfl)
abbrev cX2_partners : ByteArray := prog_18_method_67_code
def yX2_partners : MethodName := ⟨RX2, "partners", "(III)I"⟩
def dkwX2_partners_6 : List UInt8 := [158, 0, 7, 28, 167, 0, 4, 27, 172]
abbrev dktX2_partners_6 : List UInt8 := dkwX2_partners_6 ++ []
def dkwX2_partners_5 : List UInt8 := [180, 0, 75, 16, 10, 29, 104, 21, 5, 96, 47, 42, 180, 0, 75, 16, 10, 29, 104, 21, 4, 96, 47, 148]
abbrev dktX2_partners_5 : List UInt8 := dkwX2_partners_5 ++ dktX2_partners_6
def dkwX2_partners_4 : List UInt8 := [21, 4, 153, 0, 8, 21, 5, 154, 0, 14, 21, 4, 154, 0, 7, 28, 167, 0, 4, 27, 172, 42]
abbrev dktX2_partners_4 : List UInt8 := dkwX2_partners_4 ++ dktX2_partners_5
def dkwX2_partners_3 : List UInt8 := [180, 0, 28, 28, 46, 29, 182, 0, 219, 54, 5, 21, 4, 154, 0, 11, 21, 5, 154, 0, 6, 16, 247, 172]
abbrev dktX2_partners_3 : List UInt8 := dkwX2_partners_3 ++ dktX2_partners_4
def dkwX2_partners_2 : List UInt8 := [182, 0, 128, 172, 42, 182, 0, 233, 42, 42, 180, 0, 28, 27, 46, 29, 182, 0, 219, 54, 4, 42, 42]
abbrev dktX2_partners_2 : List UInt8 := dkwX2_partners_2 ++ dktX2_partners_3
def dkwX2_partners_1 : List UInt8 := [182, 0, 166, 154, 0, 9, 42, 2, 182, 0, 128, 172, 42, 182, 0, 183, 154, 0, 10, 42, 16, 253]
abbrev dktX2_partners_1 : List UInt8 := dkwX2_partners_1 ++ dktX2_partners_2
def dkwX2_partners_0 : List UInt8 := [42, 27, 182, 0, 180, 153, 0, 24, 42, 28, 182, 0, 180, 153, 0, 16, 27, 28, 159, 0, 11, 42, 29]
abbrev dktX2_partners_0 : List UInt8 := dkwX2_partners_0 ++ dktX2_partners_1
theorem dksX2_partners_0 : cX2_partners.data.toList.drop 0 = dktX2_partners_0 := by decide +kernel
theorem dksX2_partners_1 : cX2_partners.data.toList.drop 23 = dktX2_partners_1 := dk_seg dksX2_partners_0 23 rfl rfl
theorem dksX2_partners_2 : cX2_partners.data.toList.drop 45 = dktX2_partners_2 := dk_seg dksX2_partners_1 22 rfl rfl
theorem dksX2_partners_3 : cX2_partners.data.toList.drop 68 = dktX2_partners_3 := dk_seg dksX2_partners_2 23 rfl rfl
theorem dksX2_partners_4 : cX2_partners.data.toList.drop 92 = dktX2_partners_4 := dk_seg dksX2_partners_3 24 rfl rfl
theorem dksX2_partners_5 : cX2_partners.data.toList.drop 114 = dktX2_partners_5 := dk_seg dksX2_partners_4 22 rfl rfl
theorem dksX2_partners_6 : cX2_partners.data.toList.drop 138 = dktX2_partners_6 := dk_seg dksX2_partners_5 24 rfl rfl
theorem dX2_partners_0 : decode cX2_partners 0 = .ok (.aload_n 0, 1) := dk_42 (dk_at dksX2_partners_0 0 rfl rfl)
theorem dX2_partners_1 : decode cX2_partners 1 = .ok (.iload_n 1, 1) := dk_27 (dk_at dksX2_partners_0 1 rfl rfl)
theorem dX2_partners_2 : decode cX2_partners 2 = .ok (.invokevirtual 180, 3) := dk_182 0 180 (dk_at dksX2_partners_0 2 rfl rfl)
theorem dX2_partners_5 : decode cX2_partners 5 = .ok (.ifCond .eq 24, 3) := dk_153 0 24 (dk_at dksX2_partners_0 5 rfl rfl)
theorem dX2_partners_8 : decode cX2_partners 8 = .ok (.aload_n 0, 1) := dk_42 (dk_at dksX2_partners_0 8 rfl rfl)
theorem dX2_partners_9 : decode cX2_partners 9 = .ok (.iload_n 2, 1) := dk_28 (dk_at dksX2_partners_0 9 rfl rfl)
theorem dX2_partners_10 : decode cX2_partners 10 = .ok (.invokevirtual 180, 3) := dk_182 0 180 (dk_at dksX2_partners_0 10 rfl rfl)
theorem dX2_partners_13 : decode cX2_partners 13 = .ok (.ifCond .eq 16, 3) := dk_153 0 16 (dk_at dksX2_partners_0 13 rfl rfl)
theorem dX2_partners_16 : decode cX2_partners 16 = .ok (.iload_n 1, 1) := dk_27 (dk_at dksX2_partners_0 16 rfl rfl)
theorem dX2_partners_17 : decode cX2_partners 17 = .ok (.iload_n 2, 1) := dk_28 (dk_at dksX2_partners_0 17 rfl rfl)
theorem dX2_partners_18 : decode cX2_partners 18 = .ok (.if_icmp .eq 11, 3) := dk_159 0 11 (dk_at dksX2_partners_0 18 rfl rfl)
theorem dX2_partners_21 : decode cX2_partners 21 = .ok (.aload_n 0, 1) := dk_42 (dk_at dksX2_partners_0 21 rfl rfl)
theorem dX2_partners_22 : decode cX2_partners 22 = .ok (.iload_n 3, 1) := dk_29 (dk_at dksX2_partners_0 22 rfl rfl)
theorem dX2_partners_23 : decode cX2_partners 23 = .ok (.invokevirtual 166, 3) := dk_182 0 166 (dk_at dksX2_partners_1 0 rfl rfl)
theorem dX2_partners_26 : decode cX2_partners 26 = .ok (.ifCond .ne 9, 3) := dk_154 0 9 (dk_at dksX2_partners_1 3 rfl rfl)
theorem dX2_partners_29 : decode cX2_partners 29 = .ok (.aload_n 0, 1) := dk_42 (dk_at dksX2_partners_1 6 rfl rfl)
theorem dX2_partners_30 : decode cX2_partners 30 = .ok (.iconst (-1), 1) := dk_2 (dk_at dksX2_partners_1 7 rfl rfl)
theorem dX2_partners_31 : decode cX2_partners 31 = .ok (.invokevirtual 128, 3) := dk_182 0 128 (dk_at dksX2_partners_1 8 rfl rfl)
theorem dX2_partners_34 : decode cX2_partners 34 = .ok (.ireturn, 1) := dk_172 (dk_at dksX2_partners_1 11 rfl rfl)
theorem dX2_partners_35 : decode cX2_partners 35 = .ok (.aload_n 0, 1) := dk_42 (dk_at dksX2_partners_1 12 rfl rfl)
theorem dX2_partners_36 : decode cX2_partners 36 = .ok (.invokevirtual 183, 3) := dk_182 0 183 (dk_at dksX2_partners_1 13 rfl rfl)
theorem dX2_partners_39 : decode cX2_partners 39 = .ok (.ifCond .ne 10, 3) := dk_154 0 10 (dk_at dksX2_partners_1 16 rfl rfl)
theorem dX2_partners_42 : decode cX2_partners 42 = .ok (.aload_n 0, 1) := dk_42 (dk_at dksX2_partners_1 19 rfl rfl)
theorem dX2_partners_43 : decode cX2_partners 43 = .ok (.bipush (-3), 2) := dk_16 253 (dk_at dksX2_partners_1 20 rfl rfl)
theorem dX2_partners_45 : decode cX2_partners 45 = .ok (.invokevirtual 128, 3) := dk_182 0 128 (dk_at dksX2_partners_2 0 rfl rfl)
theorem dX2_partners_48 : decode cX2_partners 48 = .ok (.ireturn, 1) := dk_172 (dk_at dksX2_partners_2 3 rfl rfl)
theorem dX2_partners_49 : decode cX2_partners 49 = .ok (.aload_n 0, 1) := dk_42 (dk_at dksX2_partners_2 4 rfl rfl)
theorem dX2_partners_50 : decode cX2_partners 50 = .ok (.invokevirtual 233, 3) := dk_182 0 233 (dk_at dksX2_partners_2 5 rfl rfl)
theorem dX2_partners_53 : decode cX2_partners 53 = .ok (.aload_n 0, 1) := dk_42 (dk_at dksX2_partners_2 8 rfl rfl)
theorem dX2_partners_54 : decode cX2_partners 54 = .ok (.aload_n 0, 1) := dk_42 (dk_at dksX2_partners_2 9 rfl rfl)
theorem dX2_partners_55 : decode cX2_partners 55 = .ok (.getfield 28, 3) := dk_180 0 28 (dk_at dksX2_partners_2 10 rfl rfl)
theorem dX2_partners_58 : decode cX2_partners 58 = .ok (.iload_n 1, 1) := dk_27 (dk_at dksX2_partners_2 13 rfl rfl)
theorem dX2_partners_59 : decode cX2_partners 59 = .ok (.iaload, 1) := dk_46 (dk_at dksX2_partners_2 14 rfl rfl)
theorem dX2_partners_60 : decode cX2_partners 60 = .ok (.iload_n 3, 1) := dk_29 (dk_at dksX2_partners_2 15 rfl rfl)
theorem dX2_partners_61 : decode cX2_partners 61 = .ok (.invokevirtual 219, 3) := dk_182 0 219 (dk_at dksX2_partners_2 16 rfl rfl)
theorem dX2_partners_64 : decode cX2_partners 64 = .ok (.istore 4, 2) := dk_54 4 (dk_at dksX2_partners_2 19 rfl rfl)
theorem dX2_partners_66 : decode cX2_partners 66 = .ok (.aload_n 0, 1) := dk_42 (dk_at dksX2_partners_2 21 rfl rfl)
theorem dX2_partners_67 : decode cX2_partners 67 = .ok (.aload_n 0, 1) := dk_42 (dk_at dksX2_partners_2 22 rfl rfl)
theorem dX2_partners_68 : decode cX2_partners 68 = .ok (.getfield 28, 3) := dk_180 0 28 (dk_at dksX2_partners_3 0 rfl rfl)
theorem dX2_partners_71 : decode cX2_partners 71 = .ok (.iload_n 2, 1) := dk_28 (dk_at dksX2_partners_3 3 rfl rfl)
theorem dX2_partners_72 : decode cX2_partners 72 = .ok (.iaload, 1) := dk_46 (dk_at dksX2_partners_3 4 rfl rfl)
theorem dX2_partners_73 : decode cX2_partners 73 = .ok (.iload_n 3, 1) := dk_29 (dk_at dksX2_partners_3 5 rfl rfl)
theorem dX2_partners_74 : decode cX2_partners 74 = .ok (.invokevirtual 219, 3) := dk_182 0 219 (dk_at dksX2_partners_3 6 rfl rfl)
theorem dX2_partners_77 : decode cX2_partners 77 = .ok (.istore 5, 2) := dk_54 5 (dk_at dksX2_partners_3 9 rfl rfl)
theorem dX2_partners_79 : decode cX2_partners 79 = .ok (.iload 4, 2) := dk_21 4 (dk_at dksX2_partners_3 11 rfl rfl)
theorem dX2_partners_81 : decode cX2_partners 81 = .ok (.ifCond .ne 11, 3) := dk_154 0 11 (dk_at dksX2_partners_3 13 rfl rfl)
theorem dX2_partners_84 : decode cX2_partners 84 = .ok (.iload 5, 2) := dk_21 5 (dk_at dksX2_partners_3 16 rfl rfl)
theorem dX2_partners_86 : decode cX2_partners 86 = .ok (.ifCond .ne 6, 3) := dk_154 0 6 (dk_at dksX2_partners_3 18 rfl rfl)
theorem dX2_partners_89 : decode cX2_partners 89 = .ok (.bipush (-9), 2) := dk_16 247 (dk_at dksX2_partners_3 21 rfl rfl)
theorem dX2_partners_91 : decode cX2_partners 91 = .ok (.ireturn, 1) := dk_172 (dk_at dksX2_partners_3 23 rfl rfl)
theorem dX2_partners_92 : decode cX2_partners 92 = .ok (.iload 4, 2) := dk_21 4 (dk_at dksX2_partners_4 0 rfl rfl)
theorem dX2_partners_94 : decode cX2_partners 94 = .ok (.ifCond .eq 8, 3) := dk_153 0 8 (dk_at dksX2_partners_4 2 rfl rfl)
theorem dX2_partners_97 : decode cX2_partners 97 = .ok (.iload 5, 2) := dk_21 5 (dk_at dksX2_partners_4 5 rfl rfl)
theorem dX2_partners_99 : decode cX2_partners 99 = .ok (.ifCond .ne 14, 3) := dk_154 0 14 (dk_at dksX2_partners_4 7 rfl rfl)
theorem dX2_partners_102 : decode cX2_partners 102 = .ok (.iload 4, 2) := dk_21 4 (dk_at dksX2_partners_4 10 rfl rfl)
theorem dX2_partners_104 : decode cX2_partners 104 = .ok (.ifCond .ne 7, 3) := dk_154 0 7 (dk_at dksX2_partners_4 12 rfl rfl)
theorem dX2_partners_107 : decode cX2_partners 107 = .ok (.iload_n 2, 1) := dk_28 (dk_at dksX2_partners_4 15 rfl rfl)
theorem dX2_partners_108 : decode cX2_partners 108 = .ok (.goto 4, 3) := dk_167 0 4 (dk_at dksX2_partners_4 16 rfl rfl)
theorem dX2_partners_111 : decode cX2_partners 111 = .ok (.iload_n 1, 1) := dk_27 (dk_at dksX2_partners_4 19 rfl rfl)
theorem dX2_partners_112 : decode cX2_partners 112 = .ok (.ireturn, 1) := dk_172 (dk_at dksX2_partners_4 20 rfl rfl)
theorem dX2_partners_113 : decode cX2_partners 113 = .ok (.aload_n 0, 1) := dk_42 (dk_at dksX2_partners_4 21 rfl rfl)
theorem dX2_partners_114 : decode cX2_partners 114 = .ok (.getfield 75, 3) := dk_180 0 75 (dk_at dksX2_partners_5 0 rfl rfl)
theorem dX2_partners_117 : decode cX2_partners 117 = .ok (.bipush 10, 2) := dk_16 10 (dk_at dksX2_partners_5 3 rfl rfl)
theorem dX2_partners_119 : decode cX2_partners 119 = .ok (.iload_n 3, 1) := dk_29 (dk_at dksX2_partners_5 5 rfl rfl)
theorem dX2_partners_120 : decode cX2_partners 120 = .ok (.imul, 1) := dk_104 (dk_at dksX2_partners_5 6 rfl rfl)
theorem dX2_partners_121 : decode cX2_partners 121 = .ok (.iload 5, 2) := dk_21 5 (dk_at dksX2_partners_5 7 rfl rfl)
theorem dX2_partners_123 : decode cX2_partners 123 = .ok (.iadd, 1) := dk_96 (dk_at dksX2_partners_5 9 rfl rfl)
theorem dX2_partners_124 : decode cX2_partners 124 = .ok (.laload, 1) := dk_47 (dk_at dksX2_partners_5 10 rfl rfl)
theorem dX2_partners_125 : decode cX2_partners 125 = .ok (.aload_n 0, 1) := dk_42 (dk_at dksX2_partners_5 11 rfl rfl)
theorem dX2_partners_126 : decode cX2_partners 126 = .ok (.getfield 75, 3) := dk_180 0 75 (dk_at dksX2_partners_5 12 rfl rfl)
theorem dX2_partners_129 : decode cX2_partners 129 = .ok (.bipush 10, 2) := dk_16 10 (dk_at dksX2_partners_5 15 rfl rfl)
theorem dX2_partners_131 : decode cX2_partners 131 = .ok (.iload_n 3, 1) := dk_29 (dk_at dksX2_partners_5 17 rfl rfl)
theorem dX2_partners_132 : decode cX2_partners 132 = .ok (.imul, 1) := dk_104 (dk_at dksX2_partners_5 18 rfl rfl)
theorem dX2_partners_133 : decode cX2_partners 133 = .ok (.iload 4, 2) := dk_21 4 (dk_at dksX2_partners_5 19 rfl rfl)
theorem dX2_partners_135 : decode cX2_partners 135 = .ok (.iadd, 1) := dk_96 (dk_at dksX2_partners_5 21 rfl rfl)
theorem dX2_partners_136 : decode cX2_partners 136 = .ok (.laload, 1) := dk_47 (dk_at dksX2_partners_5 22 rfl rfl)
theorem dX2_partners_137 : decode cX2_partners 137 = .ok (.lcmp, 1) := dk_148 (dk_at dksX2_partners_5 23 rfl rfl)
theorem dX2_partners_138 : decode cX2_partners 138 = .ok (.ifCond .le 7, 3) := dk_158 0 7 (dk_at dksX2_partners_6 0 rfl rfl)
theorem dX2_partners_141 : decode cX2_partners 141 = .ok (.iload_n 2, 1) := dk_28 (dk_at dksX2_partners_6 3 rfl rfl)
theorem dX2_partners_142 : decode cX2_partners 142 = .ok (.goto 4, 3) := dk_167 0 4 (dk_at dksX2_partners_6 4 rfl rfl)
theorem dX2_partners_145 : decode cX2_partners 145 = .ok (.iload_n 1, 1) := dk_27 (dk_at dksX2_partners_6 7 rfl rfl)
theorem dX2_partners_146 : decode cX2_partners 146 = .ok (.ireturn, 1) := dk_172 (dk_at dksX2_partners_6 8 rfl rfl)
abbrev cX2_fact : ByteArray := prog_18_method_68_code
def yX2_fact : MethodName := ⟨RX2, "fact", "(I)I"⟩
def dkwX2_fact_2 : List UInt8 := [42, 89, 180, 1, 43, 4, 96, 181, 1, 43, 42, 180, 1, 43, 4, 100, 172]
abbrev dktX2_fact_2 : List UInt8 := dkwX2_fact_2 ++ []
def dkwX2_fact_1 : List UInt8 := [180, 1, 43, 8, 160, 0, 10, 42, 16, 250, 182, 0, 128, 172, 42, 180, 0, 96, 42, 180, 1, 43, 27, 79]
abbrev dktX2_fact_1 : List UInt8 := dkwX2_fact_1 ++ dktX2_fact_2
def dkwX2_fact_0 : List UInt8 := [27, 3, 17, 3, 254, 184, 0, 140, 153, 0, 9, 27, 5, 112, 153, 0, 9, 42, 2, 182, 0, 128, 172, 42]
abbrev dktX2_fact_0 : List UInt8 := dkwX2_fact_0 ++ dktX2_fact_1
theorem dksX2_fact_0 : cX2_fact.data.toList.drop 0 = dktX2_fact_0 := by decide +kernel
theorem dksX2_fact_1 : cX2_fact.data.toList.drop 24 = dktX2_fact_1 := dk_seg dksX2_fact_0 24 rfl rfl
theorem dksX2_fact_2 : cX2_fact.data.toList.drop 48 = dktX2_fact_2 := dk_seg dksX2_fact_1 24 rfl rfl
theorem dX2_fact_0 : decode cX2_fact 0 = .ok (.iload_n 1, 1) := dk_27 (dk_at dksX2_fact_0 0 rfl rfl)
theorem dX2_fact_1 : decode cX2_fact 1 = .ok (.iconst 0, 1) := dk_3 (dk_at dksX2_fact_0 1 rfl rfl)
theorem dX2_fact_2 : decode cX2_fact 2 = .ok (.sipush 1022, 3) := dk_17 3 254 (dk_at dksX2_fact_0 2 rfl rfl)
theorem dX2_fact_5 : decode cX2_fact 5 = .ok (.invokestatic 140, 3) := dk_184 0 140 (dk_at dksX2_fact_0 5 rfl rfl)
theorem dX2_fact_8 : decode cX2_fact 8 = .ok (.ifCond .eq 9, 3) := dk_153 0 9 (dk_at dksX2_fact_0 8 rfl rfl)
theorem dX2_fact_11 : decode cX2_fact 11 = .ok (.iload_n 1, 1) := dk_27 (dk_at dksX2_fact_0 11 rfl rfl)
theorem dX2_fact_12 : decode cX2_fact 12 = .ok (.iconst 2, 1) := dk_5 (dk_at dksX2_fact_0 12 rfl rfl)
theorem dX2_fact_13 : decode cX2_fact 13 = .ok (.irem, 1) := dk_112 (dk_at dksX2_fact_0 13 rfl rfl)
theorem dX2_fact_14 : decode cX2_fact 14 = .ok (.ifCond .eq 9, 3) := dk_153 0 9 (dk_at dksX2_fact_0 14 rfl rfl)
theorem dX2_fact_17 : decode cX2_fact 17 = .ok (.aload_n 0, 1) := dk_42 (dk_at dksX2_fact_0 17 rfl rfl)
theorem dX2_fact_18 : decode cX2_fact 18 = .ok (.iconst (-1), 1) := dk_2 (dk_at dksX2_fact_0 18 rfl rfl)
theorem dX2_fact_19 : decode cX2_fact 19 = .ok (.invokevirtual 128, 3) := dk_182 0 128 (dk_at dksX2_fact_0 19 rfl rfl)
theorem dX2_fact_22 : decode cX2_fact 22 = .ok (.ireturn, 1) := dk_172 (dk_at dksX2_fact_0 22 rfl rfl)
theorem dX2_fact_23 : decode cX2_fact 23 = .ok (.aload_n 0, 1) := dk_42 (dk_at dksX2_fact_0 23 rfl rfl)
theorem dX2_fact_24 : decode cX2_fact 24 = .ok (.getfield 299, 3) := dk_180 1 43 (dk_at dksX2_fact_1 0 rfl rfl)
theorem dX2_fact_27 : decode cX2_fact 27 = .ok (.iconst 5, 1) := dk_8 (dk_at dksX2_fact_1 3 rfl rfl)
theorem dX2_fact_28 : decode cX2_fact 28 = .ok (.if_icmp .ne 10, 3) := dk_160 0 10 (dk_at dksX2_fact_1 4 rfl rfl)
theorem dX2_fact_31 : decode cX2_fact 31 = .ok (.aload_n 0, 1) := dk_42 (dk_at dksX2_fact_1 7 rfl rfl)
theorem dX2_fact_32 : decode cX2_fact 32 = .ok (.bipush (-6), 2) := dk_16 250 (dk_at dksX2_fact_1 8 rfl rfl)
theorem dX2_fact_34 : decode cX2_fact 34 = .ok (.invokevirtual 128, 3) := dk_182 0 128 (dk_at dksX2_fact_1 10 rfl rfl)
theorem dX2_fact_37 : decode cX2_fact 37 = .ok (.ireturn, 1) := dk_172 (dk_at dksX2_fact_1 13 rfl rfl)
theorem dX2_fact_38 : decode cX2_fact 38 = .ok (.aload_n 0, 1) := dk_42 (dk_at dksX2_fact_1 14 rfl rfl)
theorem dX2_fact_39 : decode cX2_fact 39 = .ok (.getfield 96, 3) := dk_180 0 96 (dk_at dksX2_fact_1 15 rfl rfl)
theorem dX2_fact_42 : decode cX2_fact 42 = .ok (.aload_n 0, 1) := dk_42 (dk_at dksX2_fact_1 18 rfl rfl)
theorem dX2_fact_43 : decode cX2_fact 43 = .ok (.getfield 299, 3) := dk_180 1 43 (dk_at dksX2_fact_1 19 rfl rfl)
theorem dX2_fact_46 : decode cX2_fact 46 = .ok (.iload_n 1, 1) := dk_27 (dk_at dksX2_fact_1 22 rfl rfl)
theorem dX2_fact_47 : decode cX2_fact 47 = .ok (.iastore, 1) := dk_79 (dk_at dksX2_fact_1 23 rfl rfl)
theorem dX2_fact_48 : decode cX2_fact 48 = .ok (.aload_n 0, 1) := dk_42 (dk_at dksX2_fact_2 0 rfl rfl)
theorem dX2_fact_49 : decode cX2_fact 49 = .ok (.dup, 1) := dk_89 (dk_at dksX2_fact_2 1 rfl rfl)
theorem dX2_fact_50 : decode cX2_fact 50 = .ok (.getfield 299, 3) := dk_180 1 43 (dk_at dksX2_fact_2 2 rfl rfl)
theorem dX2_fact_53 : decode cX2_fact 53 = .ok (.iconst 1, 1) := dk_4 (dk_at dksX2_fact_2 5 rfl rfl)
theorem dX2_fact_54 : decode cX2_fact 54 = .ok (.iadd, 1) := dk_96 (dk_at dksX2_fact_2 6 rfl rfl)
theorem dX2_fact_55 : decode cX2_fact 55 = .ok (.putfield 299, 3) := dk_181 1 43 (dk_at dksX2_fact_2 7 rfl rfl)
theorem dX2_fact_58 : decode cX2_fact 58 = .ok (.aload_n 0, 1) := dk_42 (dk_at dksX2_fact_2 10 rfl rfl)
theorem dX2_fact_59 : decode cX2_fact 59 = .ok (.getfield 299, 3) := dk_180 1 43 (dk_at dksX2_fact_2 11 rfl rfl)
theorem dX2_fact_62 : decode cX2_fact 62 = .ok (.iconst 1, 1) := dk_4 (dk_at dksX2_fact_2 14 rfl rfl)
theorem dX2_fact_63 : decode cX2_fact 63 = .ok (.isub, 1) := dk_100 (dk_at dksX2_fact_2 15 rfl rfl)
theorem dX2_fact_64 : decode cX2_fact 64 = .ok (.ireturn, 1) := dk_172 (dk_at dksX2_fact_2 16 rfl rfl)
abbrev cX2_had : ByteArray := prog_18_method_71_code
def yX2_had : MethodName := ⟨RX2, "had", "(II)I"⟩
def dkwX2_had_4 : List UInt8 := [21, 6, 21, 7, 79, 132, 6, 1, 167, 255, 189, 42, 27, 182, 1, 49, 172]
abbrev dktX2_had_4 : List UInt8 := dkwX2_had_4 ++ []
def dkwX2_had_3 : List UInt8 := [126, 4, 160, 0, 9, 42, 2, 182, 0, 128, 172, 21, 5, 4, 21, 7, 120, 128, 54, 5, 42, 180, 0, 99]
abbrev dktX2_had_3 : List UInt8 := dkwX2_had_3 ++ dktX2_had_4
def dkwX2_had_2 : List UInt8 := [54, 7, 21, 4, 16, 10, 108, 54, 4, 21, 7, 42, 180, 1, 43, 162, 0, 14, 21, 5, 21, 7, 122, 4]
abbrev dktX2_had_2 : List UInt8 := dkwX2_had_2 ++ dktX2_had_3
def dkwX2_had_1 : List UInt8 := [182, 0, 128, 172, 28, 54, 4, 3, 54, 5, 3, 54, 6, 21, 6, 27, 162, 0, 67, 21, 4, 16, 10, 112]
abbrev dktX2_had_1 : List UInt8 := dkwX2_had_1 ++ dktX2_had_2
def dkwX2_had_0 : List UInt8 := [27, 3, 8, 184, 0, 121, 62, 29, 153, 0, 9, 42, 29, 182, 0, 128, 172, 28, 156, 0, 9, 42, 2]
abbrev dktX2_had_0 : List UInt8 := dkwX2_had_0 ++ dktX2_had_1
theorem dksX2_had_0 : cX2_had.data.toList.drop 0 = dktX2_had_0 := by decide +kernel
theorem dksX2_had_1 : cX2_had.data.toList.drop 23 = dktX2_had_1 := dk_seg dksX2_had_0 23 rfl rfl
theorem dksX2_had_2 : cX2_had.data.toList.drop 47 = dktX2_had_2 := dk_seg dksX2_had_1 24 rfl rfl
theorem dksX2_had_3 : cX2_had.data.toList.drop 71 = dktX2_had_3 := dk_seg dksX2_had_2 24 rfl rfl
theorem dksX2_had_4 : cX2_had.data.toList.drop 95 = dktX2_had_4 := dk_seg dksX2_had_3 24 rfl rfl
theorem dX2_had_0 : decode cX2_had 0 = .ok (.iload_n 1, 1) := dk_27 (dk_at dksX2_had_0 0 rfl rfl)
theorem dX2_had_1 : decode cX2_had 1 = .ok (.iconst 0, 1) := dk_3 (dk_at dksX2_had_0 1 rfl rfl)
theorem dX2_had_2 : decode cX2_had 2 = .ok (.iconst 5, 1) := dk_8 (dk_at dksX2_had_0 2 rfl rfl)
theorem dX2_had_3 : decode cX2_had 3 = .ok (.invokestatic 121, 3) := dk_184 0 121 (dk_at dksX2_had_0 3 rfl rfl)
theorem dX2_had_6 : decode cX2_had 6 = .ok (.istore_n 3, 1) := dk_62 (dk_at dksX2_had_0 6 rfl rfl)
theorem dX2_had_7 : decode cX2_had 7 = .ok (.iload_n 3, 1) := dk_29 (dk_at dksX2_had_0 7 rfl rfl)
theorem dX2_had_8 : decode cX2_had 8 = .ok (.ifCond .eq 9, 3) := dk_153 0 9 (dk_at dksX2_had_0 8 rfl rfl)
theorem dX2_had_11 : decode cX2_had 11 = .ok (.aload_n 0, 1) := dk_42 (dk_at dksX2_had_0 11 rfl rfl)
theorem dX2_had_12 : decode cX2_had 12 = .ok (.iload_n 3, 1) := dk_29 (dk_at dksX2_had_0 12 rfl rfl)
theorem dX2_had_13 : decode cX2_had 13 = .ok (.invokevirtual 128, 3) := dk_182 0 128 (dk_at dksX2_had_0 13 rfl rfl)
theorem dX2_had_16 : decode cX2_had 16 = .ok (.ireturn, 1) := dk_172 (dk_at dksX2_had_0 16 rfl rfl)
theorem dX2_had_17 : decode cX2_had 17 = .ok (.iload_n 2, 1) := dk_28 (dk_at dksX2_had_0 17 rfl rfl)
theorem dX2_had_18 : decode cX2_had 18 = .ok (.ifCond .ge 9, 3) := dk_156 0 9 (dk_at dksX2_had_0 18 rfl rfl)
theorem dX2_had_21 : decode cX2_had 21 = .ok (.aload_n 0, 1) := dk_42 (dk_at dksX2_had_0 21 rfl rfl)
theorem dX2_had_22 : decode cX2_had 22 = .ok (.iconst (-1), 1) := dk_2 (dk_at dksX2_had_0 22 rfl rfl)
theorem dX2_had_23 : decode cX2_had 23 = .ok (.invokevirtual 128, 3) := dk_182 0 128 (dk_at dksX2_had_1 0 rfl rfl)
theorem dX2_had_26 : decode cX2_had 26 = .ok (.ireturn, 1) := dk_172 (dk_at dksX2_had_1 3 rfl rfl)
theorem dX2_had_27 : decode cX2_had 27 = .ok (.iload_n 2, 1) := dk_28 (dk_at dksX2_had_1 4 rfl rfl)
theorem dX2_had_28 : decode cX2_had 28 = .ok (.istore 4, 2) := dk_54 4 (dk_at dksX2_had_1 5 rfl rfl)
theorem dX2_had_30 : decode cX2_had 30 = .ok (.iconst 0, 1) := dk_3 (dk_at dksX2_had_1 7 rfl rfl)
theorem dX2_had_31 : decode cX2_had 31 = .ok (.istore 5, 2) := dk_54 5 (dk_at dksX2_had_1 8 rfl rfl)
theorem dX2_had_33 : decode cX2_had 33 = .ok (.iconst 0, 1) := dk_3 (dk_at dksX2_had_1 10 rfl rfl)
theorem dX2_had_34 : decode cX2_had 34 = .ok (.istore 6, 2) := dk_54 6 (dk_at dksX2_had_1 11 rfl rfl)
theorem dX2_had_36 : decode cX2_had 36 = .ok (.iload 6, 2) := dk_21 6 (dk_at dksX2_had_1 13 rfl rfl)
theorem dX2_had_38 : decode cX2_had 38 = .ok (.iload_n 1, 1) := dk_27 (dk_at dksX2_had_1 15 rfl rfl)
theorem dX2_had_39 : decode cX2_had 39 = .ok (.if_icmp .ge 67, 3) := dk_162 0 67 (dk_at dksX2_had_1 16 rfl rfl)
theorem dX2_had_42 : decode cX2_had 42 = .ok (.iload 4, 2) := dk_21 4 (dk_at dksX2_had_1 19 rfl rfl)
theorem dX2_had_44 : decode cX2_had 44 = .ok (.bipush 10, 2) := dk_16 10 (dk_at dksX2_had_1 21 rfl rfl)
theorem dX2_had_46 : decode cX2_had 46 = .ok (.irem, 1) := dk_112 (dk_at dksX2_had_1 23 rfl rfl)
theorem dX2_had_47 : decode cX2_had 47 = .ok (.istore 7, 2) := dk_54 7 (dk_at dksX2_had_2 0 rfl rfl)
theorem dX2_had_49 : decode cX2_had 49 = .ok (.iload 4, 2) := dk_21 4 (dk_at dksX2_had_2 2 rfl rfl)
theorem dX2_had_51 : decode cX2_had 51 = .ok (.bipush 10, 2) := dk_16 10 (dk_at dksX2_had_2 4 rfl rfl)
theorem dX2_had_53 : decode cX2_had 53 = .ok (.idiv, 1) := dk_108 (dk_at dksX2_had_2 6 rfl rfl)
theorem dX2_had_54 : decode cX2_had 54 = .ok (.istore 4, 2) := dk_54 4 (dk_at dksX2_had_2 7 rfl rfl)
theorem dX2_had_56 : decode cX2_had 56 = .ok (.iload 7, 2) := dk_21 7 (dk_at dksX2_had_2 9 rfl rfl)
theorem dX2_had_58 : decode cX2_had 58 = .ok (.aload_n 0, 1) := dk_42 (dk_at dksX2_had_2 11 rfl rfl)
theorem dX2_had_59 : decode cX2_had 59 = .ok (.getfield 299, 3) := dk_180 1 43 (dk_at dksX2_had_2 12 rfl rfl)
theorem dX2_had_62 : decode cX2_had 62 = .ok (.if_icmp .ge 14, 3) := dk_162 0 14 (dk_at dksX2_had_2 15 rfl rfl)
theorem dX2_had_65 : decode cX2_had 65 = .ok (.iload 5, 2) := dk_21 5 (dk_at dksX2_had_2 18 rfl rfl)
theorem dX2_had_67 : decode cX2_had 67 = .ok (.iload 7, 2) := dk_21 7 (dk_at dksX2_had_2 20 rfl rfl)
theorem dX2_had_69 : decode cX2_had 69 = .ok (.ishr, 1) := dk_122 (dk_at dksX2_had_2 22 rfl rfl)
theorem dX2_had_70 : decode cX2_had 70 = .ok (.iconst 1, 1) := dk_4 (dk_at dksX2_had_2 23 rfl rfl)
theorem dX2_had_71 : decode cX2_had 71 = .ok (.iand, 1) := dk_126 (dk_at dksX2_had_3 0 rfl rfl)
theorem dX2_had_72 : decode cX2_had 72 = .ok (.iconst 1, 1) := dk_4 (dk_at dksX2_had_3 1 rfl rfl)
theorem dX2_had_73 : decode cX2_had 73 = .ok (.if_icmp .ne 9, 3) := dk_160 0 9 (dk_at dksX2_had_3 2 rfl rfl)
theorem dX2_had_76 : decode cX2_had 76 = .ok (.aload_n 0, 1) := dk_42 (dk_at dksX2_had_3 5 rfl rfl)
theorem dX2_had_77 : decode cX2_had 77 = .ok (.iconst (-1), 1) := dk_2 (dk_at dksX2_had_3 6 rfl rfl)
theorem dX2_had_78 : decode cX2_had 78 = .ok (.invokevirtual 128, 3) := dk_182 0 128 (dk_at dksX2_had_3 7 rfl rfl)
theorem dX2_had_81 : decode cX2_had 81 = .ok (.ireturn, 1) := dk_172 (dk_at dksX2_had_3 10 rfl rfl)
theorem dX2_had_82 : decode cX2_had 82 = .ok (.iload 5, 2) := dk_21 5 (dk_at dksX2_had_3 11 rfl rfl)
theorem dX2_had_84 : decode cX2_had 84 = .ok (.iconst 1, 1) := dk_4 (dk_at dksX2_had_3 13 rfl rfl)
theorem dX2_had_85 : decode cX2_had 85 = .ok (.iload 7, 2) := dk_21 7 (dk_at dksX2_had_3 14 rfl rfl)
theorem dX2_had_87 : decode cX2_had 87 = .ok (.ishl, 1) := dk_120 (dk_at dksX2_had_3 16 rfl rfl)
theorem dX2_had_88 : decode cX2_had 88 = .ok (.ior, 1) := dk_128 (dk_at dksX2_had_3 17 rfl rfl)
theorem dX2_had_89 : decode cX2_had 89 = .ok (.istore 5, 2) := dk_54 5 (dk_at dksX2_had_3 18 rfl rfl)
theorem dX2_had_91 : decode cX2_had 91 = .ok (.aload_n 0, 1) := dk_42 (dk_at dksX2_had_3 20 rfl rfl)
theorem dX2_had_92 : decode cX2_had 92 = .ok (.getfield 99, 3) := dk_180 0 99 (dk_at dksX2_had_3 21 rfl rfl)
theorem dX2_had_95 : decode cX2_had 95 = .ok (.iload 6, 2) := dk_21 6 (dk_at dksX2_had_4 0 rfl rfl)
theorem dX2_had_97 : decode cX2_had 97 = .ok (.iload 7, 2) := dk_21 7 (dk_at dksX2_had_4 2 rfl rfl)
theorem dX2_had_99 : decode cX2_had 99 = .ok (.iastore, 1) := dk_79 (dk_at dksX2_had_4 4 rfl rfl)
theorem dX2_had_100 : decode cX2_had 100 = .ok (.iinc 6 1, 3) := dk_132 6 1 (dk_at dksX2_had_4 5 rfl rfl)
theorem dX2_had_103 : decode cX2_had 103 = .ok (.goto (-67), 3) := dk_167 255 189 (dk_at dksX2_had_4 8 rfl rfl)
theorem dX2_had_106 : decode cX2_had 106 = .ok (.aload_n 0, 1) := dk_42 (dk_at dksX2_had_4 11 rfl rfl)
theorem dX2_had_107 : decode cX2_had 107 = .ok (.iload_n 1, 1) := dk_27 (dk_at dksX2_had_4 12 rfl rfl)
theorem dX2_had_108 : decode cX2_had 108 = .ok (.invokevirtual 305, 3) := dk_182 1 49 (dk_at dksX2_had_4 13 rfl rfl)
theorem dX2_had_111 : decode cX2_had 111 = .ok (.ireturn, 1) := dk_172 (dk_at dksX2_had_4 16 rfl rfl)
abbrev cX2_hadOf : ByteArray := prog_18_method_70_code
def yX2_hadOf : MethodName := ⟨RX2, "hadOf", "(I)I"⟩
def dkwX2_hadOf_1 : List UInt8 := [61, 28, 184, 1, 46, 4, 160, 0, 7, 29, 4, 96, 172, 132, 3, 1, 167, 255, 222, 16, 6, 172]
abbrev dktX2_hadOf_1 : List UInt8 := dkwX2_hadOf_1 ++ []
def dkwX2_hadOf_0 : List UInt8 := [17, 3, 254, 61, 3, 62, 29, 27, 162, 0, 35, 28, 42, 180, 0, 96, 42, 180, 0, 99, 29, 46, 46, 126]
abbrev dktX2_hadOf_0 : List UInt8 := dkwX2_hadOf_0 ++ dktX2_hadOf_1
theorem dksX2_hadOf_0 : cX2_hadOf.data.toList.drop 0 = dktX2_hadOf_0 := by decide +kernel
theorem dksX2_hadOf_1 : cX2_hadOf.data.toList.drop 24 = dktX2_hadOf_1 := dk_seg dksX2_hadOf_0 24 rfl rfl
theorem dX2_hadOf_0 : decode cX2_hadOf 0 = .ok (.sipush 1022, 3) := dk_17 3 254 (dk_at dksX2_hadOf_0 0 rfl rfl)
theorem dX2_hadOf_3 : decode cX2_hadOf 3 = .ok (.istore_n 2, 1) := dk_61 (dk_at dksX2_hadOf_0 3 rfl rfl)
theorem dX2_hadOf_4 : decode cX2_hadOf 4 = .ok (.iconst 0, 1) := dk_3 (dk_at dksX2_hadOf_0 4 rfl rfl)
theorem dX2_hadOf_5 : decode cX2_hadOf 5 = .ok (.istore_n 3, 1) := dk_62 (dk_at dksX2_hadOf_0 5 rfl rfl)
theorem dX2_hadOf_6 : decode cX2_hadOf 6 = .ok (.iload_n 3, 1) := dk_29 (dk_at dksX2_hadOf_0 6 rfl rfl)
theorem dX2_hadOf_7 : decode cX2_hadOf 7 = .ok (.iload_n 1, 1) := dk_27 (dk_at dksX2_hadOf_0 7 rfl rfl)
theorem dX2_hadOf_8 : decode cX2_hadOf 8 = .ok (.if_icmp .ge 35, 3) := dk_162 0 35 (dk_at dksX2_hadOf_0 8 rfl rfl)
theorem dX2_hadOf_11 : decode cX2_hadOf 11 = .ok (.iload_n 2, 1) := dk_28 (dk_at dksX2_hadOf_0 11 rfl rfl)
theorem dX2_hadOf_12 : decode cX2_hadOf 12 = .ok (.aload_n 0, 1) := dk_42 (dk_at dksX2_hadOf_0 12 rfl rfl)
theorem dX2_hadOf_13 : decode cX2_hadOf 13 = .ok (.getfield 96, 3) := dk_180 0 96 (dk_at dksX2_hadOf_0 13 rfl rfl)
theorem dX2_hadOf_16 : decode cX2_hadOf 16 = .ok (.aload_n 0, 1) := dk_42 (dk_at dksX2_hadOf_0 16 rfl rfl)
theorem dX2_hadOf_17 : decode cX2_hadOf 17 = .ok (.getfield 99, 3) := dk_180 0 99 (dk_at dksX2_hadOf_0 17 rfl rfl)
theorem dX2_hadOf_20 : decode cX2_hadOf 20 = .ok (.iload_n 3, 1) := dk_29 (dk_at dksX2_hadOf_0 20 rfl rfl)
theorem dX2_hadOf_21 : decode cX2_hadOf 21 = .ok (.iaload, 1) := dk_46 (dk_at dksX2_hadOf_0 21 rfl rfl)
theorem dX2_hadOf_22 : decode cX2_hadOf 22 = .ok (.iaload, 1) := dk_46 (dk_at dksX2_hadOf_0 22 rfl rfl)
theorem dX2_hadOf_23 : decode cX2_hadOf 23 = .ok (.iand, 1) := dk_126 (dk_at dksX2_hadOf_0 23 rfl rfl)
theorem dX2_hadOf_24 : decode cX2_hadOf 24 = .ok (.istore_n 2, 1) := dk_61 (dk_at dksX2_hadOf_1 0 rfl rfl)
theorem dX2_hadOf_25 : decode cX2_hadOf 25 = .ok (.iload_n 2, 1) := dk_28 (dk_at dksX2_hadOf_1 1 rfl rfl)
theorem dX2_hadOf_26 : decode cX2_hadOf 26 = .ok (.invokestatic 302, 3) := dk_184 1 46 (dk_at dksX2_hadOf_1 2 rfl rfl)
theorem dX2_hadOf_29 : decode cX2_hadOf 29 = .ok (.iconst 1, 1) := dk_4 (dk_at dksX2_hadOf_1 5 rfl rfl)
theorem dX2_hadOf_30 : decode cX2_hadOf 30 = .ok (.if_icmp .ne 7, 3) := dk_160 0 7 (dk_at dksX2_hadOf_1 6 rfl rfl)
theorem dX2_hadOf_33 : decode cX2_hadOf 33 = .ok (.iload_n 3, 1) := dk_29 (dk_at dksX2_hadOf_1 9 rfl rfl)
theorem dX2_hadOf_34 : decode cX2_hadOf 34 = .ok (.iconst 1, 1) := dk_4 (dk_at dksX2_hadOf_1 10 rfl rfl)
theorem dX2_hadOf_35 : decode cX2_hadOf 35 = .ok (.iadd, 1) := dk_96 (dk_at dksX2_hadOf_1 11 rfl rfl)
theorem dX2_hadOf_36 : decode cX2_hadOf 36 = .ok (.ireturn, 1) := dk_172 (dk_at dksX2_hadOf_1 12 rfl rfl)
theorem dX2_hadOf_37 : decode cX2_hadOf 37 = .ok (.iinc 3 1, 3) := dk_132 3 1 (dk_at dksX2_hadOf_1 13 rfl rfl)
theorem dX2_hadOf_40 : decode cX2_hadOf 40 = .ok (.goto (-34), 3) := dk_167 255 222 (dk_at dksX2_hadOf_1 16 rfl rfl)
theorem dX2_hadOf_43 : decode cX2_hadOf 43 = .ok (.bipush 6, 2) := dk_16 6 (dk_at dksX2_hadOf_1 19 rfl rfl)
theorem dX2_hadOf_45 : decode cX2_hadOf 45 = .ok (.ireturn, 1) := dk_172 (dk_at dksX2_hadOf_1 21 rfl rfl)
abbrev cX2_bits : ByteArray := prog_18_method_69_code
def yX2_bits : MethodName := ⟨RX2, "bits", "(I)I"⟩
def dkwX2_bits_1 : List UInt8 := [27, 172]
abbrev dktX2_bits_1 : List UInt8 := dkwX2_bits_1 ++ []
def dkwX2_bits_0 : List UInt8 := [3, 60, 3, 61, 28, 16, 31, 162, 0, 17, 27, 26, 28, 122, 4, 126, 96, 60, 132, 2, 1, 167, 255, 239]
abbrev dktX2_bits_0 : List UInt8 := dkwX2_bits_0 ++ dktX2_bits_1
theorem dksX2_bits_0 : cX2_bits.data.toList.drop 0 = dktX2_bits_0 := by decide +kernel
theorem dksX2_bits_1 : cX2_bits.data.toList.drop 24 = dktX2_bits_1 := dk_seg dksX2_bits_0 24 rfl rfl
theorem dX2_bits_0 : decode cX2_bits 0 = .ok (.iconst 0, 1) := dk_3 (dk_at dksX2_bits_0 0 rfl rfl)
theorem dX2_bits_1 : decode cX2_bits 1 = .ok (.istore_n 1, 1) := dk_60 (dk_at dksX2_bits_0 1 rfl rfl)
theorem dX2_bits_2 : decode cX2_bits 2 = .ok (.iconst 0, 1) := dk_3 (dk_at dksX2_bits_0 2 rfl rfl)
theorem dX2_bits_3 : decode cX2_bits 3 = .ok (.istore_n 2, 1) := dk_61 (dk_at dksX2_bits_0 3 rfl rfl)
theorem dX2_bits_4 : decode cX2_bits 4 = .ok (.iload_n 2, 1) := dk_28 (dk_at dksX2_bits_0 4 rfl rfl)
theorem dX2_bits_5 : decode cX2_bits 5 = .ok (.bipush 31, 2) := dk_16 31 (dk_at dksX2_bits_0 5 rfl rfl)
theorem dX2_bits_7 : decode cX2_bits 7 = .ok (.if_icmp .ge 17, 3) := dk_162 0 17 (dk_at dksX2_bits_0 7 rfl rfl)
theorem dX2_bits_10 : decode cX2_bits 10 = .ok (.iload_n 1, 1) := dk_27 (dk_at dksX2_bits_0 10 rfl rfl)
theorem dX2_bits_11 : decode cX2_bits 11 = .ok (.iload_n 0, 1) := dk_26 (dk_at dksX2_bits_0 11 rfl rfl)
theorem dX2_bits_12 : decode cX2_bits 12 = .ok (.iload_n 2, 1) := dk_28 (dk_at dksX2_bits_0 12 rfl rfl)
theorem dX2_bits_13 : decode cX2_bits 13 = .ok (.ishr, 1) := dk_122 (dk_at dksX2_bits_0 13 rfl rfl)
theorem dX2_bits_14 : decode cX2_bits 14 = .ok (.iconst 1, 1) := dk_4 (dk_at dksX2_bits_0 14 rfl rfl)
theorem dX2_bits_15 : decode cX2_bits 15 = .ok (.iand, 1) := dk_126 (dk_at dksX2_bits_0 15 rfl rfl)
theorem dX2_bits_16 : decode cX2_bits 16 = .ok (.iadd, 1) := dk_96 (dk_at dksX2_bits_0 16 rfl rfl)
theorem dX2_bits_17 : decode cX2_bits 17 = .ok (.istore_n 1, 1) := dk_60 (dk_at dksX2_bits_0 17 rfl rfl)
theorem dX2_bits_18 : decode cX2_bits 18 = .ok (.iinc 2 1, 3) := dk_132 2 1 (dk_at dksX2_bits_0 18 rfl rfl)
theorem dX2_bits_21 : decode cX2_bits 21 = .ok (.goto (-17), 3) := dk_167 255 239 (dk_at dksX2_bits_0 21 rfl rfl)
theorem dX2_bits_24 : decode cX2_bits 24 = .ok (.iload_n 1, 1) := dk_27 (dk_at dksX2_bits_1 0 rfl rfl)
theorem dX2_bits_25 : decode cX2_bits 25 = .ok (.ireturn, 1) := dk_172 (dk_at dksX2_bits_1 1 rfl rfl)
abbrev cX2_late : ByteArray := prog_18_method_74_code
def yX2_late : MethodName := ⟨RX2, "late", "(I)I"⟩
def dkwX2_late_0 : List UInt8 := [42, 4, 27, 182, 1, 55, 172]
abbrev dktX2_late_0 : List UInt8 := dkwX2_late_0 ++ []
theorem dksX2_late_0 : cX2_late.data.toList.drop 0 = dktX2_late_0 := by decide +kernel
theorem dX2_late_0 : decode cX2_late 0 = .ok (.aload_n 0, 1) := dk_42 (dk_at dksX2_late_0 0 rfl rfl)
theorem dX2_late_1 : decode cX2_late 1 = .ok (.iconst 1, 1) := dk_4 (dk_at dksX2_late_0 1 rfl rfl)
theorem dX2_late_2 : decode cX2_late 2 = .ok (.iload_n 1, 1) := dk_27 (dk_at dksX2_late_0 2 rfl rfl)
theorem dX2_late_3 : decode cX2_late 3 = .ok (.invokevirtual 311, 3) := dk_182 1 55 (dk_at dksX2_late_0 3 rfl rfl)
theorem dX2_late_6 : decode cX2_late 6 = .ok (.ireturn, 1) := dk_172 (dk_at dksX2_late_0 6 rfl rfl)
abbrev cX2_best : ByteArray := prog_18_method_73_code
def yX2_best : MethodName := ⟨RX2, "best", "(ZI)I"⟩
def dkwX2_best_7 : List UInt8 := [172]
abbrev dktX2_best_7 : List UInt8 := dkwX2_best_7 ++ []
def dkwX2_best_6 : List UInt8 := [21, 4, 167, 0, 22, 28, 42, 180, 1, 43, 162, 0, 12, 42, 180, 0, 102, 28, 46, 167, 0, 5, 16, 247]
abbrev dktX2_best_6 : List UInt8 := dkwX2_best_6 ++ dktX2_best_7
def dkwX2_best_5 : List UInt8 := [180, 0, 99, 21, 7, 46, 79, 132, 7, 1, 167, 255, 230, 132, 5, 1, 167, 255, 166, 28, 2, 160, 0, 8]
abbrev dktX2_best_5 : List UInt8 := dkwX2_best_5 ++ dktX2_best_6
def dkwX2_best_4 : List UInt8 := [21, 6, 54, 4, 3, 54, 7, 21, 7, 42, 180, 1, 43, 162, 0, 23, 42, 180, 0, 102, 21, 7, 42]
abbrev dktX2_best_4 : List UInt8 := dkwX2_best_4 ++ dktX2_best_5
def dkwX2_best_3 : List UInt8 := [27, 153, 0, 13, 21, 6, 21, 4, 163, 0, 16, 167, 0, 49, 21, 6, 21, 4, 161, 0, 6, 167, 0, 39]
abbrev dktX2_best_3 : List UInt8 := dkwX2_best_3 ++ dktX2_best_4
def dkwX2_best_2 : List UInt8 := [162, 0, 90, 42, 21, 5, 182, 1, 52, 42, 42, 180, 1, 43, 182, 1, 49, 54, 6, 21, 5, 158, 0, 27]
abbrev dktX2_best_2 : List UInt8 := dkwX2_best_2 ++ dktX2_best_3
def dkwX2_best_1 : List UInt8 := [163, 0, 14, 29, 21, 4, 104, 62, 132, 4, 1, 167, 255, 239, 3, 54, 4, 3, 54, 5, 21, 5, 29]
abbrev dktX2_best_1 : List UInt8 := dkwX2_best_1 ++ dktX2_best_2
def dkwX2_best_0 : List UInt8 := [28, 2, 162, 0, 10, 42, 16, 252, 182, 0, 128, 172, 4, 62, 5, 54, 4, 21, 4, 42, 180, 1, 43]
abbrev dktX2_best_0 : List UInt8 := dkwX2_best_0 ++ dktX2_best_1
theorem dksX2_best_0 : cX2_best.data.toList.drop 0 = dktX2_best_0 := by decide +kernel
theorem dksX2_best_1 : cX2_best.data.toList.drop 23 = dktX2_best_1 := dk_seg dksX2_best_0 23 rfl rfl
theorem dksX2_best_2 : cX2_best.data.toList.drop 46 = dktX2_best_2 := dk_seg dksX2_best_1 23 rfl rfl
theorem dksX2_best_3 : cX2_best.data.toList.drop 70 = dktX2_best_3 := dk_seg dksX2_best_2 24 rfl rfl
theorem dksX2_best_4 : cX2_best.data.toList.drop 94 = dktX2_best_4 := dk_seg dksX2_best_3 24 rfl rfl
theorem dksX2_best_5 : cX2_best.data.toList.drop 117 = dktX2_best_5 := dk_seg dksX2_best_4 23 rfl rfl
theorem dksX2_best_6 : cX2_best.data.toList.drop 141 = dktX2_best_6 := dk_seg dksX2_best_5 24 rfl rfl
theorem dksX2_best_7 : cX2_best.data.toList.drop 165 = dktX2_best_7 := dk_seg dksX2_best_6 24 rfl rfl
theorem dX2_best_0 : decode cX2_best 0 = .ok (.iload_n 2, 1) := dk_28 (dk_at dksX2_best_0 0 rfl rfl)
theorem dX2_best_1 : decode cX2_best 1 = .ok (.iconst (-1), 1) := dk_2 (dk_at dksX2_best_0 1 rfl rfl)
theorem dX2_best_2 : decode cX2_best 2 = .ok (.if_icmp .ge 10, 3) := dk_162 0 10 (dk_at dksX2_best_0 2 rfl rfl)
theorem dX2_best_5 : decode cX2_best 5 = .ok (.aload_n 0, 1) := dk_42 (dk_at dksX2_best_0 5 rfl rfl)
theorem dX2_best_6 : decode cX2_best 6 = .ok (.bipush (-4), 2) := dk_16 252 (dk_at dksX2_best_0 6 rfl rfl)
theorem dX2_best_8 : decode cX2_best 8 = .ok (.invokevirtual 128, 3) := dk_182 0 128 (dk_at dksX2_best_0 8 rfl rfl)
theorem dX2_best_11 : decode cX2_best 11 = .ok (.ireturn, 1) := dk_172 (dk_at dksX2_best_0 11 rfl rfl)
theorem dX2_best_12 : decode cX2_best 12 = .ok (.iconst 1, 1) := dk_4 (dk_at dksX2_best_0 12 rfl rfl)
theorem dX2_best_13 : decode cX2_best 13 = .ok (.istore_n 3, 1) := dk_62 (dk_at dksX2_best_0 13 rfl rfl)
theorem dX2_best_14 : decode cX2_best 14 = .ok (.iconst 2, 1) := dk_5 (dk_at dksX2_best_0 14 rfl rfl)
theorem dX2_best_15 : decode cX2_best 15 = .ok (.istore 4, 2) := dk_54 4 (dk_at dksX2_best_0 15 rfl rfl)
theorem dX2_best_17 : decode cX2_best 17 = .ok (.iload 4, 2) := dk_21 4 (dk_at dksX2_best_0 17 rfl rfl)
theorem dX2_best_19 : decode cX2_best 19 = .ok (.aload_n 0, 1) := dk_42 (dk_at dksX2_best_0 19 rfl rfl)
theorem dX2_best_20 : decode cX2_best 20 = .ok (.getfield 299, 3) := dk_180 1 43 (dk_at dksX2_best_0 20 rfl rfl)
theorem dX2_best_23 : decode cX2_best 23 = .ok (.if_icmp .gt 14, 3) := dk_163 0 14 (dk_at dksX2_best_1 0 rfl rfl)
theorem dX2_best_26 : decode cX2_best 26 = .ok (.iload_n 3, 1) := dk_29 (dk_at dksX2_best_1 3 rfl rfl)
theorem dX2_best_27 : decode cX2_best 27 = .ok (.iload 4, 2) := dk_21 4 (dk_at dksX2_best_1 4 rfl rfl)
theorem dX2_best_29 : decode cX2_best 29 = .ok (.imul, 1) := dk_104 (dk_at dksX2_best_1 6 rfl rfl)
theorem dX2_best_30 : decode cX2_best 30 = .ok (.istore_n 3, 1) := dk_62 (dk_at dksX2_best_1 7 rfl rfl)
theorem dX2_best_31 : decode cX2_best 31 = .ok (.iinc 4 1, 3) := dk_132 4 1 (dk_at dksX2_best_1 8 rfl rfl)
theorem dX2_best_34 : decode cX2_best 34 = .ok (.goto (-17), 3) := dk_167 255 239 (dk_at dksX2_best_1 11 rfl rfl)
theorem dX2_best_37 : decode cX2_best 37 = .ok (.iconst 0, 1) := dk_3 (dk_at dksX2_best_1 14 rfl rfl)
theorem dX2_best_38 : decode cX2_best 38 = .ok (.istore 4, 2) := dk_54 4 (dk_at dksX2_best_1 15 rfl rfl)
theorem dX2_best_40 : decode cX2_best 40 = .ok (.iconst 0, 1) := dk_3 (dk_at dksX2_best_1 17 rfl rfl)
theorem dX2_best_41 : decode cX2_best 41 = .ok (.istore 5, 2) := dk_54 5 (dk_at dksX2_best_1 18 rfl rfl)
theorem dX2_best_43 : decode cX2_best 43 = .ok (.iload 5, 2) := dk_21 5 (dk_at dksX2_best_1 20 rfl rfl)
theorem dX2_best_45 : decode cX2_best 45 = .ok (.iload_n 3, 1) := dk_29 (dk_at dksX2_best_1 22 rfl rfl)
theorem dX2_best_46 : decode cX2_best 46 = .ok (.if_icmp .ge 90, 3) := dk_162 0 90 (dk_at dksX2_best_2 0 rfl rfl)
theorem dX2_best_49 : decode cX2_best 49 = .ok (.aload_n 0, 1) := dk_42 (dk_at dksX2_best_2 3 rfl rfl)
theorem dX2_best_50 : decode cX2_best 50 = .ok (.iload 5, 2) := dk_21 5 (dk_at dksX2_best_2 4 rfl rfl)
theorem dX2_best_52 : decode cX2_best 52 = .ok (.invokevirtual 308, 3) := dk_182 1 52 (dk_at dksX2_best_2 6 rfl rfl)
theorem dX2_best_55 : decode cX2_best 55 = .ok (.aload_n 0, 1) := dk_42 (dk_at dksX2_best_2 9 rfl rfl)
theorem dX2_best_56 : decode cX2_best 56 = .ok (.aload_n 0, 1) := dk_42 (dk_at dksX2_best_2 10 rfl rfl)
theorem dX2_best_57 : decode cX2_best 57 = .ok (.getfield 299, 3) := dk_180 1 43 (dk_at dksX2_best_2 11 rfl rfl)
theorem dX2_best_60 : decode cX2_best 60 = .ok (.invokevirtual 305, 3) := dk_182 1 49 (dk_at dksX2_best_2 14 rfl rfl)
theorem dX2_best_63 : decode cX2_best 63 = .ok (.istore 6, 2) := dk_54 6 (dk_at dksX2_best_2 17 rfl rfl)
theorem dX2_best_65 : decode cX2_best 65 = .ok (.iload 5, 2) := dk_21 5 (dk_at dksX2_best_2 19 rfl rfl)
theorem dX2_best_67 : decode cX2_best 67 = .ok (.ifCond .le 27, 3) := dk_158 0 27 (dk_at dksX2_best_2 21 rfl rfl)
theorem dX2_best_70 : decode cX2_best 70 = .ok (.iload_n 1, 1) := dk_27 (dk_at dksX2_best_3 0 rfl rfl)
theorem dX2_best_71 : decode cX2_best 71 = .ok (.ifCond .eq 13, 3) := dk_153 0 13 (dk_at dksX2_best_3 1 rfl rfl)
theorem dX2_best_74 : decode cX2_best 74 = .ok (.iload 6, 2) := dk_21 6 (dk_at dksX2_best_3 4 rfl rfl)
theorem dX2_best_76 : decode cX2_best 76 = .ok (.iload 4, 2) := dk_21 4 (dk_at dksX2_best_3 6 rfl rfl)
theorem dX2_best_78 : decode cX2_best 78 = .ok (.if_icmp .gt 16, 3) := dk_163 0 16 (dk_at dksX2_best_3 8 rfl rfl)
theorem dX2_best_81 : decode cX2_best 81 = .ok (.goto 49, 3) := dk_167 0 49 (dk_at dksX2_best_3 11 rfl rfl)
theorem dX2_best_84 : decode cX2_best 84 = .ok (.iload 6, 2) := dk_21 6 (dk_at dksX2_best_3 14 rfl rfl)
theorem dX2_best_86 : decode cX2_best 86 = .ok (.iload 4, 2) := dk_21 4 (dk_at dksX2_best_3 16 rfl rfl)
theorem dX2_best_88 : decode cX2_best 88 = .ok (.if_icmp .lt 6, 3) := dk_161 0 6 (dk_at dksX2_best_3 18 rfl rfl)
theorem dX2_best_91 : decode cX2_best 91 = .ok (.goto 39, 3) := dk_167 0 39 (dk_at dksX2_best_3 21 rfl rfl)
theorem dX2_best_94 : decode cX2_best 94 = .ok (.iload 6, 2) := dk_21 6 (dk_at dksX2_best_4 0 rfl rfl)
theorem dX2_best_96 : decode cX2_best 96 = .ok (.istore 4, 2) := dk_54 4 (dk_at dksX2_best_4 2 rfl rfl)
theorem dX2_best_98 : decode cX2_best 98 = .ok (.iconst 0, 1) := dk_3 (dk_at dksX2_best_4 4 rfl rfl)
theorem dX2_best_99 : decode cX2_best 99 = .ok (.istore 7, 2) := dk_54 7 (dk_at dksX2_best_4 5 rfl rfl)
theorem dX2_best_101 : decode cX2_best 101 = .ok (.iload 7, 2) := dk_21 7 (dk_at dksX2_best_4 7 rfl rfl)
theorem dX2_best_103 : decode cX2_best 103 = .ok (.aload_n 0, 1) := dk_42 (dk_at dksX2_best_4 9 rfl rfl)
theorem dX2_best_104 : decode cX2_best 104 = .ok (.getfield 299, 3) := dk_180 1 43 (dk_at dksX2_best_4 10 rfl rfl)
theorem dX2_best_107 : decode cX2_best 107 = .ok (.if_icmp .ge 23, 3) := dk_162 0 23 (dk_at dksX2_best_4 13 rfl rfl)
theorem dX2_best_110 : decode cX2_best 110 = .ok (.aload_n 0, 1) := dk_42 (dk_at dksX2_best_4 16 rfl rfl)
theorem dX2_best_111 : decode cX2_best 111 = .ok (.getfield 102, 3) := dk_180 0 102 (dk_at dksX2_best_4 17 rfl rfl)
theorem dX2_best_114 : decode cX2_best 114 = .ok (.iload 7, 2) := dk_21 7 (dk_at dksX2_best_4 20 rfl rfl)
theorem dX2_best_116 : decode cX2_best 116 = .ok (.aload_n 0, 1) := dk_42 (dk_at dksX2_best_4 22 rfl rfl)
theorem dX2_best_117 : decode cX2_best 117 = .ok (.getfield 99, 3) := dk_180 0 99 (dk_at dksX2_best_5 0 rfl rfl)
theorem dX2_best_120 : decode cX2_best 120 = .ok (.iload 7, 2) := dk_21 7 (dk_at dksX2_best_5 3 rfl rfl)
theorem dX2_best_122 : decode cX2_best 122 = .ok (.iaload, 1) := dk_46 (dk_at dksX2_best_5 5 rfl rfl)
theorem dX2_best_123 : decode cX2_best 123 = .ok (.iastore, 1) := dk_79 (dk_at dksX2_best_5 6 rfl rfl)
theorem dX2_best_124 : decode cX2_best 124 = .ok (.iinc 7 1, 3) := dk_132 7 1 (dk_at dksX2_best_5 7 rfl rfl)
theorem dX2_best_127 : decode cX2_best 127 = .ok (.goto (-26), 3) := dk_167 255 230 (dk_at dksX2_best_5 10 rfl rfl)
theorem dX2_best_130 : decode cX2_best 130 = .ok (.iinc 5 1, 3) := dk_132 5 1 (dk_at dksX2_best_5 13 rfl rfl)
theorem dX2_best_133 : decode cX2_best 133 = .ok (.goto (-90), 3) := dk_167 255 166 (dk_at dksX2_best_5 16 rfl rfl)
theorem dX2_best_136 : decode cX2_best 136 = .ok (.iload_n 2, 1) := dk_28 (dk_at dksX2_best_5 19 rfl rfl)
theorem dX2_best_137 : decode cX2_best 137 = .ok (.iconst (-1), 1) := dk_2 (dk_at dksX2_best_5 20 rfl rfl)
theorem dX2_best_138 : decode cX2_best 138 = .ok (.if_icmp .ne 8, 3) := dk_160 0 8 (dk_at dksX2_best_5 21 rfl rfl)
theorem dX2_best_141 : decode cX2_best 141 = .ok (.iload 4, 2) := dk_21 4 (dk_at dksX2_best_6 0 rfl rfl)
theorem dX2_best_143 : decode cX2_best 143 = .ok (.goto 22, 3) := dk_167 0 22 (dk_at dksX2_best_6 2 rfl rfl)
theorem dX2_best_146 : decode cX2_best 146 = .ok (.iload_n 2, 1) := dk_28 (dk_at dksX2_best_6 5 rfl rfl)
theorem dX2_best_147 : decode cX2_best 147 = .ok (.aload_n 0, 1) := dk_42 (dk_at dksX2_best_6 6 rfl rfl)
theorem dX2_best_148 : decode cX2_best 148 = .ok (.getfield 299, 3) := dk_180 1 43 (dk_at dksX2_best_6 7 rfl rfl)
theorem dX2_best_151 : decode cX2_best 151 = .ok (.if_icmp .ge 12, 3) := dk_162 0 12 (dk_at dksX2_best_6 10 rfl rfl)
theorem dX2_best_154 : decode cX2_best 154 = .ok (.aload_n 0, 1) := dk_42 (dk_at dksX2_best_6 13 rfl rfl)
theorem dX2_best_155 : decode cX2_best 155 = .ok (.getfield 102, 3) := dk_180 0 102 (dk_at dksX2_best_6 14 rfl rfl)
theorem dX2_best_158 : decode cX2_best 158 = .ok (.iload_n 2, 1) := dk_28 (dk_at dksX2_best_6 17 rfl rfl)
theorem dX2_best_159 : decode cX2_best 159 = .ok (.iaload, 1) := dk_46 (dk_at dksX2_best_6 18 rfl rfl)
theorem dX2_best_160 : decode cX2_best 160 = .ok (.goto 5, 3) := dk_167 0 5 (dk_at dksX2_best_6 19 rfl rfl)
theorem dX2_best_163 : decode cX2_best 163 = .ok (.bipush (-9), 2) := dk_16 247 (dk_at dksX2_best_6 22 rfl rfl)
theorem dX2_best_165 : decode cX2_best 165 = .ok (.ireturn, 1) := dk_172 (dk_at dksX2_best_7 0 rfl rfl)
abbrev cX2_ordered : ByteArray := prog_18_method_72_code
def yX2_ordered : MethodName := ⟨RX2, "ordered", "(I)V"⟩
def dkwX2_ordered_6 : List UInt8 := [54, 4, 132, 5, 1, 167, 255, 148, 177]
abbrev dktX2_ordered_6 : List UInt8 := dkwX2_ordered_6 ++ []
def dkwX2_ordered_5 : List UInt8 := [180, 1, 43, 4, 100, 21, 5, 100, 158, 0, 17, 21, 4, 42, 180, 1, 43, 4, 100, 21, 5, 100, 108]
abbrev dktX2_ordered_5 : List UInt8 := dkwX2_ordered_5 ++ dktX2_ordered_6
def dkwX2_ordered_4 : List UInt8 := [132, 7, 1, 167, 255, 219, 42, 180, 0, 99, 21, 5, 21, 7, 79, 28, 4, 21, 7, 120, 128, 61, 42]
abbrev dktX2_ordered_4 : List UInt8 := dkwX2_ordered_4 ++ dktX2_ordered_5
def dkwX2_ordered_3 : List UInt8 := [158, 0, 28, 21, 6, 28, 21, 7, 122, 4, 126, 154, 0, 7, 4, 167, 0, 4, 3, 100, 54, 6]
abbrev dktX2_ordered_3 : List UInt8 := dkwX2_ordered_3 ++ dktX2_ordered_4
def dkwX2_ordered_2 : List UInt8 := [54, 6, 29, 21, 4, 112, 62, 3, 54, 7, 28, 21, 7, 122, 4, 126, 4, 159, 0, 8, 21, 6]
abbrev dktX2_ordered_2 : List UInt8 := dkwX2_ordered_2 ++ dktX2_ordered_3
def dkwX2_ordered_1 : List UInt8 := [54, 4, 132, 5, 1, 167, 255, 237, 3, 54, 5, 21, 5, 42, 180, 1, 43, 162, 0, 105, 29, 21, 4, 108]
abbrev dktX2_ordered_1 : List UInt8 := dkwX2_ordered_1 ++ dktX2_ordered_2
def dkwX2_ordered_0 : List UInt8 := [3, 61, 27, 62, 4, 54, 4, 5, 54, 5, 21, 5, 42, 180, 1, 43, 162, 0, 16, 21, 4, 21, 5, 104]
abbrev dktX2_ordered_0 : List UInt8 := dkwX2_ordered_0 ++ dktX2_ordered_1
theorem dksX2_ordered_0 : cX2_ordered.data.toList.drop 0 = dktX2_ordered_0 := by decide +kernel
theorem dksX2_ordered_1 : cX2_ordered.data.toList.drop 24 = dktX2_ordered_1 := dk_seg dksX2_ordered_0 24 rfl rfl
theorem dksX2_ordered_2 : cX2_ordered.data.toList.drop 48 = dktX2_ordered_2 := dk_seg dksX2_ordered_1 24 rfl rfl
theorem dksX2_ordered_3 : cX2_ordered.data.toList.drop 70 = dktX2_ordered_3 := dk_seg dksX2_ordered_2 22 rfl rfl
theorem dksX2_ordered_4 : cX2_ordered.data.toList.drop 92 = dktX2_ordered_4 := dk_seg dksX2_ordered_3 22 rfl rfl
theorem dksX2_ordered_5 : cX2_ordered.data.toList.drop 115 = dktX2_ordered_5 := dk_seg dksX2_ordered_4 23 rfl rfl
theorem dksX2_ordered_6 : cX2_ordered.data.toList.drop 138 = dktX2_ordered_6 := dk_seg dksX2_ordered_5 23 rfl rfl
theorem dX2_ordered_0 : decode cX2_ordered 0 = .ok (.iconst 0, 1) := dk_3 (dk_at dksX2_ordered_0 0 rfl rfl)
theorem dX2_ordered_1 : decode cX2_ordered 1 = .ok (.istore_n 2, 1) := dk_61 (dk_at dksX2_ordered_0 1 rfl rfl)
theorem dX2_ordered_2 : decode cX2_ordered 2 = .ok (.iload_n 1, 1) := dk_27 (dk_at dksX2_ordered_0 2 rfl rfl)
theorem dX2_ordered_3 : decode cX2_ordered 3 = .ok (.istore_n 3, 1) := dk_62 (dk_at dksX2_ordered_0 3 rfl rfl)
theorem dX2_ordered_4 : decode cX2_ordered 4 = .ok (.iconst 1, 1) := dk_4 (dk_at dksX2_ordered_0 4 rfl rfl)
theorem dX2_ordered_5 : decode cX2_ordered 5 = .ok (.istore 4, 2) := dk_54 4 (dk_at dksX2_ordered_0 5 rfl rfl)
theorem dX2_ordered_7 : decode cX2_ordered 7 = .ok (.iconst 2, 1) := dk_5 (dk_at dksX2_ordered_0 7 rfl rfl)
theorem dX2_ordered_8 : decode cX2_ordered 8 = .ok (.istore 5, 2) := dk_54 5 (dk_at dksX2_ordered_0 8 rfl rfl)
theorem dX2_ordered_10 : decode cX2_ordered 10 = .ok (.iload 5, 2) := dk_21 5 (dk_at dksX2_ordered_0 10 rfl rfl)
theorem dX2_ordered_12 : decode cX2_ordered 12 = .ok (.aload_n 0, 1) := dk_42 (dk_at dksX2_ordered_0 12 rfl rfl)
theorem dX2_ordered_13 : decode cX2_ordered 13 = .ok (.getfield 299, 3) := dk_180 1 43 (dk_at dksX2_ordered_0 13 rfl rfl)
theorem dX2_ordered_16 : decode cX2_ordered 16 = .ok (.if_icmp .ge 16, 3) := dk_162 0 16 (dk_at dksX2_ordered_0 16 rfl rfl)
theorem dX2_ordered_19 : decode cX2_ordered 19 = .ok (.iload 4, 2) := dk_21 4 (dk_at dksX2_ordered_0 19 rfl rfl)
theorem dX2_ordered_21 : decode cX2_ordered 21 = .ok (.iload 5, 2) := dk_21 5 (dk_at dksX2_ordered_0 21 rfl rfl)
theorem dX2_ordered_23 : decode cX2_ordered 23 = .ok (.imul, 1) := dk_104 (dk_at dksX2_ordered_0 23 rfl rfl)
theorem dX2_ordered_24 : decode cX2_ordered 24 = .ok (.istore 4, 2) := dk_54 4 (dk_at dksX2_ordered_1 0 rfl rfl)
theorem dX2_ordered_26 : decode cX2_ordered 26 = .ok (.iinc 5 1, 3) := dk_132 5 1 (dk_at dksX2_ordered_1 2 rfl rfl)
theorem dX2_ordered_29 : decode cX2_ordered 29 = .ok (.goto (-19), 3) := dk_167 255 237 (dk_at dksX2_ordered_1 5 rfl rfl)
theorem dX2_ordered_32 : decode cX2_ordered 32 = .ok (.iconst 0, 1) := dk_3 (dk_at dksX2_ordered_1 8 rfl rfl)
theorem dX2_ordered_33 : decode cX2_ordered 33 = .ok (.istore 5, 2) := dk_54 5 (dk_at dksX2_ordered_1 9 rfl rfl)
theorem dX2_ordered_35 : decode cX2_ordered 35 = .ok (.iload 5, 2) := dk_21 5 (dk_at dksX2_ordered_1 11 rfl rfl)
theorem dX2_ordered_37 : decode cX2_ordered 37 = .ok (.aload_n 0, 1) := dk_42 (dk_at dksX2_ordered_1 13 rfl rfl)
theorem dX2_ordered_38 : decode cX2_ordered 38 = .ok (.getfield 299, 3) := dk_180 1 43 (dk_at dksX2_ordered_1 14 rfl rfl)
theorem dX2_ordered_41 : decode cX2_ordered 41 = .ok (.if_icmp .ge 105, 3) := dk_162 0 105 (dk_at dksX2_ordered_1 17 rfl rfl)
theorem dX2_ordered_44 : decode cX2_ordered 44 = .ok (.iload_n 3, 1) := dk_29 (dk_at dksX2_ordered_1 20 rfl rfl)
theorem dX2_ordered_45 : decode cX2_ordered 45 = .ok (.iload 4, 2) := dk_21 4 (dk_at dksX2_ordered_1 21 rfl rfl)
theorem dX2_ordered_47 : decode cX2_ordered 47 = .ok (.idiv, 1) := dk_108 (dk_at dksX2_ordered_1 23 rfl rfl)
theorem dX2_ordered_48 : decode cX2_ordered 48 = .ok (.istore 6, 2) := dk_54 6 (dk_at dksX2_ordered_2 0 rfl rfl)
theorem dX2_ordered_50 : decode cX2_ordered 50 = .ok (.iload_n 3, 1) := dk_29 (dk_at dksX2_ordered_2 2 rfl rfl)
theorem dX2_ordered_51 : decode cX2_ordered 51 = .ok (.iload 4, 2) := dk_21 4 (dk_at dksX2_ordered_2 3 rfl rfl)
theorem dX2_ordered_53 : decode cX2_ordered 53 = .ok (.irem, 1) := dk_112 (dk_at dksX2_ordered_2 5 rfl rfl)
theorem dX2_ordered_54 : decode cX2_ordered 54 = .ok (.istore_n 3, 1) := dk_62 (dk_at dksX2_ordered_2 6 rfl rfl)
theorem dX2_ordered_55 : decode cX2_ordered 55 = .ok (.iconst 0, 1) := dk_3 (dk_at dksX2_ordered_2 7 rfl rfl)
theorem dX2_ordered_56 : decode cX2_ordered 56 = .ok (.istore 7, 2) := dk_54 7 (dk_at dksX2_ordered_2 8 rfl rfl)
theorem dX2_ordered_58 : decode cX2_ordered 58 = .ok (.iload_n 2, 1) := dk_28 (dk_at dksX2_ordered_2 10 rfl rfl)
theorem dX2_ordered_59 : decode cX2_ordered 59 = .ok (.iload 7, 2) := dk_21 7 (dk_at dksX2_ordered_2 11 rfl rfl)
theorem dX2_ordered_61 : decode cX2_ordered 61 = .ok (.ishr, 1) := dk_122 (dk_at dksX2_ordered_2 13 rfl rfl)
theorem dX2_ordered_62 : decode cX2_ordered 62 = .ok (.iconst 1, 1) := dk_4 (dk_at dksX2_ordered_2 14 rfl rfl)
theorem dX2_ordered_63 : decode cX2_ordered 63 = .ok (.iand, 1) := dk_126 (dk_at dksX2_ordered_2 15 rfl rfl)
theorem dX2_ordered_64 : decode cX2_ordered 64 = .ok (.iconst 1, 1) := dk_4 (dk_at dksX2_ordered_2 16 rfl rfl)
theorem dX2_ordered_65 : decode cX2_ordered 65 = .ok (.if_icmp .eq 8, 3) := dk_159 0 8 (dk_at dksX2_ordered_2 17 rfl rfl)
theorem dX2_ordered_68 : decode cX2_ordered 68 = .ok (.iload 6, 2) := dk_21 6 (dk_at dksX2_ordered_2 20 rfl rfl)
theorem dX2_ordered_70 : decode cX2_ordered 70 = .ok (.ifCond .le 28, 3) := dk_158 0 28 (dk_at dksX2_ordered_3 0 rfl rfl)
theorem dX2_ordered_73 : decode cX2_ordered 73 = .ok (.iload 6, 2) := dk_21 6 (dk_at dksX2_ordered_3 3 rfl rfl)
theorem dX2_ordered_75 : decode cX2_ordered 75 = .ok (.iload_n 2, 1) := dk_28 (dk_at dksX2_ordered_3 5 rfl rfl)
theorem dX2_ordered_76 : decode cX2_ordered 76 = .ok (.iload 7, 2) := dk_21 7 (dk_at dksX2_ordered_3 6 rfl rfl)
theorem dX2_ordered_78 : decode cX2_ordered 78 = .ok (.ishr, 1) := dk_122 (dk_at dksX2_ordered_3 8 rfl rfl)
theorem dX2_ordered_79 : decode cX2_ordered 79 = .ok (.iconst 1, 1) := dk_4 (dk_at dksX2_ordered_3 9 rfl rfl)
theorem dX2_ordered_80 : decode cX2_ordered 80 = .ok (.iand, 1) := dk_126 (dk_at dksX2_ordered_3 10 rfl rfl)
theorem dX2_ordered_81 : decode cX2_ordered 81 = .ok (.ifCond .ne 7, 3) := dk_154 0 7 (dk_at dksX2_ordered_3 11 rfl rfl)
theorem dX2_ordered_84 : decode cX2_ordered 84 = .ok (.iconst 1, 1) := dk_4 (dk_at dksX2_ordered_3 14 rfl rfl)
theorem dX2_ordered_85 : decode cX2_ordered 85 = .ok (.goto 4, 3) := dk_167 0 4 (dk_at dksX2_ordered_3 15 rfl rfl)
theorem dX2_ordered_88 : decode cX2_ordered 88 = .ok (.iconst 0, 1) := dk_3 (dk_at dksX2_ordered_3 18 rfl rfl)
theorem dX2_ordered_89 : decode cX2_ordered 89 = .ok (.isub, 1) := dk_100 (dk_at dksX2_ordered_3 19 rfl rfl)
theorem dX2_ordered_90 : decode cX2_ordered 90 = .ok (.istore 6, 2) := dk_54 6 (dk_at dksX2_ordered_3 20 rfl rfl)
theorem dX2_ordered_92 : decode cX2_ordered 92 = .ok (.iinc 7 1, 3) := dk_132 7 1 (dk_at dksX2_ordered_4 0 rfl rfl)
theorem dX2_ordered_95 : decode cX2_ordered 95 = .ok (.goto (-37), 3) := dk_167 255 219 (dk_at dksX2_ordered_4 3 rfl rfl)
theorem dX2_ordered_98 : decode cX2_ordered 98 = .ok (.aload_n 0, 1) := dk_42 (dk_at dksX2_ordered_4 6 rfl rfl)
theorem dX2_ordered_99 : decode cX2_ordered 99 = .ok (.getfield 99, 3) := dk_180 0 99 (dk_at dksX2_ordered_4 7 rfl rfl)
theorem dX2_ordered_102 : decode cX2_ordered 102 = .ok (.iload 5, 2) := dk_21 5 (dk_at dksX2_ordered_4 10 rfl rfl)
theorem dX2_ordered_104 : decode cX2_ordered 104 = .ok (.iload 7, 2) := dk_21 7 (dk_at dksX2_ordered_4 12 rfl rfl)
theorem dX2_ordered_106 : decode cX2_ordered 106 = .ok (.iastore, 1) := dk_79 (dk_at dksX2_ordered_4 14 rfl rfl)
theorem dX2_ordered_107 : decode cX2_ordered 107 = .ok (.iload_n 2, 1) := dk_28 (dk_at dksX2_ordered_4 15 rfl rfl)
theorem dX2_ordered_108 : decode cX2_ordered 108 = .ok (.iconst 1, 1) := dk_4 (dk_at dksX2_ordered_4 16 rfl rfl)
theorem dX2_ordered_109 : decode cX2_ordered 109 = .ok (.iload 7, 2) := dk_21 7 (dk_at dksX2_ordered_4 17 rfl rfl)
theorem dX2_ordered_111 : decode cX2_ordered 111 = .ok (.ishl, 1) := dk_120 (dk_at dksX2_ordered_4 19 rfl rfl)
theorem dX2_ordered_112 : decode cX2_ordered 112 = .ok (.ior, 1) := dk_128 (dk_at dksX2_ordered_4 20 rfl rfl)
theorem dX2_ordered_113 : decode cX2_ordered 113 = .ok (.istore_n 2, 1) := dk_61 (dk_at dksX2_ordered_4 21 rfl rfl)
theorem dX2_ordered_114 : decode cX2_ordered 114 = .ok (.aload_n 0, 1) := dk_42 (dk_at dksX2_ordered_4 22 rfl rfl)
theorem dX2_ordered_115 : decode cX2_ordered 115 = .ok (.getfield 299, 3) := dk_180 1 43 (dk_at dksX2_ordered_5 0 rfl rfl)
theorem dX2_ordered_118 : decode cX2_ordered 118 = .ok (.iconst 1, 1) := dk_4 (dk_at dksX2_ordered_5 3 rfl rfl)
theorem dX2_ordered_119 : decode cX2_ordered 119 = .ok (.isub, 1) := dk_100 (dk_at dksX2_ordered_5 4 rfl rfl)
theorem dX2_ordered_120 : decode cX2_ordered 120 = .ok (.iload 5, 2) := dk_21 5 (dk_at dksX2_ordered_5 5 rfl rfl)
theorem dX2_ordered_122 : decode cX2_ordered 122 = .ok (.isub, 1) := dk_100 (dk_at dksX2_ordered_5 7 rfl rfl)
theorem dX2_ordered_123 : decode cX2_ordered 123 = .ok (.ifCond .le 17, 3) := dk_158 0 17 (dk_at dksX2_ordered_5 8 rfl rfl)
theorem dX2_ordered_126 : decode cX2_ordered 126 = .ok (.iload 4, 2) := dk_21 4 (dk_at dksX2_ordered_5 11 rfl rfl)
theorem dX2_ordered_128 : decode cX2_ordered 128 = .ok (.aload_n 0, 1) := dk_42 (dk_at dksX2_ordered_5 13 rfl rfl)
theorem dX2_ordered_129 : decode cX2_ordered 129 = .ok (.getfield 299, 3) := dk_180 1 43 (dk_at dksX2_ordered_5 14 rfl rfl)
theorem dX2_ordered_132 : decode cX2_ordered 132 = .ok (.iconst 1, 1) := dk_4 (dk_at dksX2_ordered_5 17 rfl rfl)
theorem dX2_ordered_133 : decode cX2_ordered 133 = .ok (.isub, 1) := dk_100 (dk_at dksX2_ordered_5 18 rfl rfl)
theorem dX2_ordered_134 : decode cX2_ordered 134 = .ok (.iload 5, 2) := dk_21 5 (dk_at dksX2_ordered_5 19 rfl rfl)
theorem dX2_ordered_136 : decode cX2_ordered 136 = .ok (.isub, 1) := dk_100 (dk_at dksX2_ordered_5 21 rfl rfl)
theorem dX2_ordered_137 : decode cX2_ordered 137 = .ok (.idiv, 1) := dk_108 (dk_at dksX2_ordered_5 22 rfl rfl)
theorem dX2_ordered_138 : decode cX2_ordered 138 = .ok (.istore 4, 2) := dk_54 4 (dk_at dksX2_ordered_6 0 rfl rfl)
theorem dX2_ordered_140 : decode cX2_ordered 140 = .ok (.iinc 5 1, 3) := dk_132 5 1 (dk_at dksX2_ordered_6 2 rfl rfl)
theorem dX2_ordered_143 : decode cX2_ordered 143 = .ok (.goto (-108), 3) := dk_167 255 148 (dk_at dksX2_ordered_6 5 rfl rfl)
theorem dX2_ordered_146 : decode cX2_ordered 146 = .ok (.return_, 1) := dk_177 (dk_at dksX2_ordered_6 8 rfl rfl)
abbrev cX2_soon : ByteArray := prog_18_method_75_code
def yX2_soon : MethodName := ⟨RX2, "soon", "(I)I"⟩
def dkwX2_soon_0 : List UInt8 := [42, 3, 27, 182, 1, 55, 172]
abbrev dktX2_soon_0 : List UInt8 := dkwX2_soon_0 ++ []
theorem dksX2_soon_0 : cX2_soon.data.toList.drop 0 = dktX2_soon_0 := by decide +kernel
theorem dX2_soon_0 : decode cX2_soon 0 = .ok (.aload_n 0, 1) := dk_42 (dk_at dksX2_soon_0 0 rfl rfl)
theorem dX2_soon_1 : decode cX2_soon 1 = .ok (.iconst 0, 1) := dk_3 (dk_at dksX2_soon_0 1 rfl rfl)
theorem dX2_soon_2 : decode cX2_soon 2 = .ok (.iload_n 1, 1) := dk_27 (dk_at dksX2_soon_0 2 rfl rfl)
theorem dX2_soon_3 : decode cX2_soon 3 = .ok (.invokevirtual 311, 3) := dk_182 1 55 (dk_at dksX2_soon_0 3 rfl rfl)
theorem dX2_soon_6 : decode cX2_soon 6 = .ok (.ireturn, 1) := dk_172 (dk_at dksX2_soon_0 6 rfl rfl)
abbrev cX2_evening : ByteArray := prog_18_method_77_code
def yX2_evening : MethodName := ⟨RX2, "evening", "(III)I"⟩
def dkwX2_evening_4 : List UInt8 := [132, 6, 1, 167, 255, 228, 21, 5, 172]
abbrev dktX2_evening_4 : List UInt8 := dkwX2_evening_4 ++ []
def dkwX2_evening_3 : List UInt8 := [162, 0, 28, 42, 42, 182, 1, 68, 182, 1, 15, 21, 5, 42, 180, 0, 93, 29, 46, 96, 54, 5]
abbrev dktX2_evening_3 : List UInt8 := dkwX2_evening_3 ++ dktX2_evening_4
def dkwX2_evening_2 : List UInt8 := [182, 1, 65, 172, 42, 182, 0, 247, 42, 28, 181, 1, 59, 3, 54, 5, 3, 54, 6, 21, 6, 27]
abbrev dktX2_evening_2 : List UInt8 := dkwX2_evening_2 ++ dktX2_evening_3
def dkwX2_evening_1 : List UInt8 := [21, 4, 154, 0, 14, 42, 182, 0, 183, 154, 0, 7, 16, 253, 54, 4, 21, 4, 153, 0, 10, 42, 21, 4]
abbrev dktX2_evening_1 : List UInt8 := dkwX2_evening_1 ++ dktX2_evening_2
def dkwX2_evening_0 : List UInt8 := [42, 29, 182, 0, 180, 154, 0, 9, 42, 2, 182, 1, 65, 172, 27, 4, 16, 20, 184, 0, 121, 54, 4]
abbrev dktX2_evening_0 : List UInt8 := dkwX2_evening_0 ++ dktX2_evening_1
theorem dksX2_evening_0 : cX2_evening.data.toList.drop 0 = dktX2_evening_0 := by decide +kernel
theorem dksX2_evening_1 : cX2_evening.data.toList.drop 23 = dktX2_evening_1 := dk_seg dksX2_evening_0 23 rfl rfl
theorem dksX2_evening_2 : cX2_evening.data.toList.drop 47 = dktX2_evening_2 := dk_seg dksX2_evening_1 24 rfl rfl
theorem dksX2_evening_3 : cX2_evening.data.toList.drop 69 = dktX2_evening_3 := dk_seg dksX2_evening_2 22 rfl rfl
theorem dksX2_evening_4 : cX2_evening.data.toList.drop 91 = dktX2_evening_4 := dk_seg dksX2_evening_3 22 rfl rfl
theorem dX2_evening_0 : decode cX2_evening 0 = .ok (.aload_n 0, 1) := dk_42 (dk_at dksX2_evening_0 0 rfl rfl)
theorem dX2_evening_1 : decode cX2_evening 1 = .ok (.iload_n 3, 1) := dk_29 (dk_at dksX2_evening_0 1 rfl rfl)
theorem dX2_evening_2 : decode cX2_evening 2 = .ok (.invokevirtual 180, 3) := dk_182 0 180 (dk_at dksX2_evening_0 2 rfl rfl)
theorem dX2_evening_5 : decode cX2_evening 5 = .ok (.ifCond .ne 9, 3) := dk_154 0 9 (dk_at dksX2_evening_0 5 rfl rfl)
theorem dX2_evening_8 : decode cX2_evening 8 = .ok (.aload_n 0, 1) := dk_42 (dk_at dksX2_evening_0 8 rfl rfl)
theorem dX2_evening_9 : decode cX2_evening 9 = .ok (.iconst (-1), 1) := dk_2 (dk_at dksX2_evening_0 9 rfl rfl)
theorem dX2_evening_10 : decode cX2_evening 10 = .ok (.invokevirtual 321, 3) := dk_182 1 65 (dk_at dksX2_evening_0 10 rfl rfl)
theorem dX2_evening_13 : decode cX2_evening 13 = .ok (.ireturn, 1) := dk_172 (dk_at dksX2_evening_0 13 rfl rfl)
theorem dX2_evening_14 : decode cX2_evening 14 = .ok (.iload_n 1, 1) := dk_27 (dk_at dksX2_evening_0 14 rfl rfl)
theorem dX2_evening_15 : decode cX2_evening 15 = .ok (.iconst 1, 1) := dk_4 (dk_at dksX2_evening_0 15 rfl rfl)
theorem dX2_evening_16 : decode cX2_evening 16 = .ok (.bipush 20, 2) := dk_16 20 (dk_at dksX2_evening_0 16 rfl rfl)
theorem dX2_evening_18 : decode cX2_evening 18 = .ok (.invokestatic 121, 3) := dk_184 0 121 (dk_at dksX2_evening_0 18 rfl rfl)
theorem dX2_evening_21 : decode cX2_evening 21 = .ok (.istore 4, 2) := dk_54 4 (dk_at dksX2_evening_0 21 rfl rfl)
theorem dX2_evening_23 : decode cX2_evening 23 = .ok (.iload 4, 2) := dk_21 4 (dk_at dksX2_evening_1 0 rfl rfl)
theorem dX2_evening_25 : decode cX2_evening 25 = .ok (.ifCond .ne 14, 3) := dk_154 0 14 (dk_at dksX2_evening_1 2 rfl rfl)
theorem dX2_evening_28 : decode cX2_evening 28 = .ok (.aload_n 0, 1) := dk_42 (dk_at dksX2_evening_1 5 rfl rfl)
theorem dX2_evening_29 : decode cX2_evening 29 = .ok (.invokevirtual 183, 3) := dk_182 0 183 (dk_at dksX2_evening_1 6 rfl rfl)
theorem dX2_evening_32 : decode cX2_evening 32 = .ok (.ifCond .ne 7, 3) := dk_154 0 7 (dk_at dksX2_evening_1 9 rfl rfl)
theorem dX2_evening_35 : decode cX2_evening 35 = .ok (.bipush (-3), 2) := dk_16 253 (dk_at dksX2_evening_1 12 rfl rfl)
theorem dX2_evening_37 : decode cX2_evening 37 = .ok (.istore 4, 2) := dk_54 4 (dk_at dksX2_evening_1 14 rfl rfl)
theorem dX2_evening_39 : decode cX2_evening 39 = .ok (.iload 4, 2) := dk_21 4 (dk_at dksX2_evening_1 16 rfl rfl)
theorem dX2_evening_41 : decode cX2_evening 41 = .ok (.ifCond .eq 10, 3) := dk_153 0 10 (dk_at dksX2_evening_1 18 rfl rfl)
theorem dX2_evening_44 : decode cX2_evening 44 = .ok (.aload_n 0, 1) := dk_42 (dk_at dksX2_evening_1 21 rfl rfl)
theorem dX2_evening_45 : decode cX2_evening 45 = .ok (.iload 4, 2) := dk_21 4 (dk_at dksX2_evening_1 22 rfl rfl)
theorem dX2_evening_47 : decode cX2_evening 47 = .ok (.invokevirtual 321, 3) := dk_182 1 65 (dk_at dksX2_evening_2 0 rfl rfl)
theorem dX2_evening_50 : decode cX2_evening 50 = .ok (.ireturn, 1) := dk_172 (dk_at dksX2_evening_2 3 rfl rfl)
theorem dX2_evening_51 : decode cX2_evening 51 = .ok (.aload_n 0, 1) := dk_42 (dk_at dksX2_evening_2 4 rfl rfl)
theorem dX2_evening_52 : decode cX2_evening 52 = .ok (.invokevirtual 247, 3) := dk_182 0 247 (dk_at dksX2_evening_2 5 rfl rfl)
theorem dX2_evening_55 : decode cX2_evening 55 = .ok (.aload_n 0, 1) := dk_42 (dk_at dksX2_evening_2 8 rfl rfl)
theorem dX2_evening_56 : decode cX2_evening 56 = .ok (.iload_n 2, 1) := dk_28 (dk_at dksX2_evening_2 9 rfl rfl)
theorem dX2_evening_57 : decode cX2_evening 57 = .ok (.putfield 315, 3) := dk_181 1 59 (dk_at dksX2_evening_2 10 rfl rfl)
theorem dX2_evening_60 : decode cX2_evening 60 = .ok (.iconst 0, 1) := dk_3 (dk_at dksX2_evening_2 13 rfl rfl)
theorem dX2_evening_61 : decode cX2_evening 61 = .ok (.istore 5, 2) := dk_54 5 (dk_at dksX2_evening_2 14 rfl rfl)
theorem dX2_evening_63 : decode cX2_evening 63 = .ok (.iconst 0, 1) := dk_3 (dk_at dksX2_evening_2 16 rfl rfl)
theorem dX2_evening_64 : decode cX2_evening 64 = .ok (.istore 6, 2) := dk_54 6 (dk_at dksX2_evening_2 17 rfl rfl)
theorem dX2_evening_66 : decode cX2_evening 66 = .ok (.iload 6, 2) := dk_21 6 (dk_at dksX2_evening_2 19 rfl rfl)
theorem dX2_evening_68 : decode cX2_evening 68 = .ok (.iload_n 1, 1) := dk_27 (dk_at dksX2_evening_2 21 rfl rfl)
theorem dX2_evening_69 : decode cX2_evening 69 = .ok (.if_icmp .ge 28, 3) := dk_162 0 28 (dk_at dksX2_evening_3 0 rfl rfl)
theorem dX2_evening_72 : decode cX2_evening 72 = .ok (.aload_n 0, 1) := dk_42 (dk_at dksX2_evening_3 3 rfl rfl)
theorem dX2_evening_73 : decode cX2_evening 73 = .ok (.aload_n 0, 1) := dk_42 (dk_at dksX2_evening_3 4 rfl rfl)
theorem dX2_evening_74 : decode cX2_evening 74 = .ok (.invokevirtual 324, 3) := dk_182 1 68 (dk_at dksX2_evening_3 5 rfl rfl)
theorem dX2_evening_77 : decode cX2_evening 77 = .ok (.invokevirtual 271, 3) := dk_182 1 15 (dk_at dksX2_evening_3 8 rfl rfl)
theorem dX2_evening_80 : decode cX2_evening 80 = .ok (.iload 5, 2) := dk_21 5 (dk_at dksX2_evening_3 11 rfl rfl)
theorem dX2_evening_82 : decode cX2_evening 82 = .ok (.aload_n 0, 1) := dk_42 (dk_at dksX2_evening_3 13 rfl rfl)
theorem dX2_evening_83 : decode cX2_evening 83 = .ok (.getfield 93, 3) := dk_180 0 93 (dk_at dksX2_evening_3 14 rfl rfl)
theorem dX2_evening_86 : decode cX2_evening 86 = .ok (.iload_n 3, 1) := dk_29 (dk_at dksX2_evening_3 17 rfl rfl)
theorem dX2_evening_87 : decode cX2_evening 87 = .ok (.iaload, 1) := dk_46 (dk_at dksX2_evening_3 18 rfl rfl)
theorem dX2_evening_88 : decode cX2_evening 88 = .ok (.iadd, 1) := dk_96 (dk_at dksX2_evening_3 19 rfl rfl)
theorem dX2_evening_89 : decode cX2_evening 89 = .ok (.istore 5, 2) := dk_54 5 (dk_at dksX2_evening_3 20 rfl rfl)
theorem dX2_evening_91 : decode cX2_evening 91 = .ok (.iinc 6 1, 3) := dk_132 6 1 (dk_at dksX2_evening_4 0 rfl rfl)
theorem dX2_evening_94 : decode cX2_evening 94 = .ok (.goto (-28), 3) := dk_167 255 228 (dk_at dksX2_evening_4 3 rfl rfl)
theorem dX2_evening_97 : decode cX2_evening 97 = .ok (.iload 5, 2) := dk_21 5 (dk_at dksX2_evening_4 6 rfl rfl)
theorem dX2_evening_99 : decode cX2_evening 99 = .ok (.ireturn, 1) := dk_172 (dk_at dksX2_evening_4 8 rfl rfl)
abbrev cX2_lower : ByteArray := prog_18_method_3_code
def yX2_lower : MethodName := ⟨RX2, "lower", "(I)I"⟩
def dkwX2_lower_0 : List UInt8 := [42, 180, 0, 7, 27, 116, 92, 46, 4, 96, 79, 18, 111, 27, 100, 172]
abbrev dktX2_lower_0 : List UInt8 := dkwX2_lower_0 ++ []
theorem dksX2_lower_0 : cX2_lower.data.toList.drop 0 = dktX2_lower_0 := by decide +kernel
theorem dX2_lower_0 : decode cX2_lower 0 = .ok (.aload_n 0, 1) := dk_42 (dk_at dksX2_lower_0 0 rfl rfl)
theorem dX2_lower_1 : decode cX2_lower 1 = .ok (.getfield 7, 3) := dk_180 0 7 (dk_at dksX2_lower_0 1 rfl rfl)
theorem dX2_lower_4 : decode cX2_lower 4 = .ok (.iload_n 1, 1) := dk_27 (dk_at dksX2_lower_0 4 rfl rfl)
theorem dX2_lower_5 : decode cX2_lower 5 = .ok (.ineg, 1) := dk_116 (dk_at dksX2_lower_0 5 rfl rfl)
theorem dX2_lower_6 : decode cX2_lower 6 = .ok (.dup2, 1) := dk_92 (dk_at dksX2_lower_0 6 rfl rfl)
theorem dX2_lower_7 : decode cX2_lower 7 = .ok (.iaload, 1) := dk_46 (dk_at dksX2_lower_0 7 rfl rfl)
theorem dX2_lower_8 : decode cX2_lower 8 = .ok (.iconst 1, 1) := dk_4 (dk_at dksX2_lower_0 8 rfl rfl)
theorem dX2_lower_9 : decode cX2_lower 9 = .ok (.iadd, 1) := dk_96 (dk_at dksX2_lower_0 9 rfl rfl)
theorem dX2_lower_10 : decode cX2_lower 10 = .ok (.iastore, 1) := dk_79 (dk_at dksX2_lower_0 10 rfl rfl)
theorem dX2_lower_11 : decode cX2_lower 11 = .ok (.ldc 111, 2) := dk_18 111 (dk_at dksX2_lower_0 11 rfl rfl)
theorem dX2_lower_13 : decode cX2_lower 13 = .ok (.iload_n 1, 1) := dk_27 (dk_at dksX2_lower_0 13 rfl rfl)
theorem dX2_lower_14 : decode cX2_lower 14 = .ok (.isub, 1) := dk_100 (dk_at dksX2_lower_0 14 rfl rfl)
theorem dX2_lower_15 : decode cX2_lower 15 = .ok (.ireturn, 1) := dk_172 (dk_at dksX2_lower_0 15 rfl rfl)
abbrev cX2_drawn : ByteArray := prog_18_method_76_code
def yX2_drawn : MethodName := ⟨RX2, "drawn", "()I"⟩
def dkwX2_drawn_4 : List UInt8 := [167, 255, 210, 29, 60, 167, 255, 157, 27, 172]
abbrev dktX2_drawn_4 : List UInt8 := dkwX2_drawn_4 ++ []
def dkwX2_drawn_3 : List UInt8 := [180, 0, 13, 29, 46, 27, 160, 0, 12, 42, 180, 0, 16, 29, 46, 167, 0, 4, 3, 100, 61, 132, 3, 1]
abbrev dktX2_drawn_3 : List UInt8 := dkwX2_drawn_3 ++ dktX2_drawn_4
def dkwX2_drawn_2 : List UInt8 := [96, 62, 42, 180, 0, 13, 29, 46, 27, 160, 0, 13, 28, 42, 180, 0, 16, 29, 46, 161, 0, 32, 28, 42]
abbrev dktX2_drawn_2 : List UInt8 := dkwX2_drawn_2 ++ dktX2_drawn_3
def dkwX2_drawn_1 : List UInt8 := [181, 1, 59, 42, 180, 1, 59, 19, 1, 64, 126, 17, 1, 0, 108, 42, 27, 182, 0, 198, 112, 61, 27, 4]
abbrev dktX2_drawn_1 : List UInt8 := dkwX2_drawn_1 ++ dktX2_drawn_2
def dkwX2_drawn_0 : List UInt8 := [3, 60, 42, 180, 0, 19, 27, 46, 154, 0, 96, 42, 42, 180, 1, 59, 19, 1, 62, 104, 19, 1, 63, 96]
abbrev dktX2_drawn_0 : List UInt8 := dkwX2_drawn_0 ++ dktX2_drawn_1
theorem dksX2_drawn_0 : cX2_drawn.data.toList.drop 0 = dktX2_drawn_0 := by decide +kernel
theorem dksX2_drawn_1 : cX2_drawn.data.toList.drop 24 = dktX2_drawn_1 := dk_seg dksX2_drawn_0 24 rfl rfl
theorem dksX2_drawn_2 : cX2_drawn.data.toList.drop 48 = dktX2_drawn_2 := dk_seg dksX2_drawn_1 24 rfl rfl
theorem dksX2_drawn_3 : cX2_drawn.data.toList.drop 72 = dktX2_drawn_3 := dk_seg dksX2_drawn_2 24 rfl rfl
theorem dksX2_drawn_4 : cX2_drawn.data.toList.drop 96 = dktX2_drawn_4 := dk_seg dksX2_drawn_3 24 rfl rfl
theorem dX2_drawn_0 : decode cX2_drawn 0 = .ok (.iconst 0, 1) := dk_3 (dk_at dksX2_drawn_0 0 rfl rfl)
theorem dX2_drawn_1 : decode cX2_drawn 1 = .ok (.istore_n 1, 1) := dk_60 (dk_at dksX2_drawn_0 1 rfl rfl)
theorem dX2_drawn_2 : decode cX2_drawn 2 = .ok (.aload_n 0, 1) := dk_42 (dk_at dksX2_drawn_0 2 rfl rfl)
theorem dX2_drawn_3 : decode cX2_drawn 3 = .ok (.getfield 19, 3) := dk_180 0 19 (dk_at dksX2_drawn_0 3 rfl rfl)
theorem dX2_drawn_6 : decode cX2_drawn 6 = .ok (.iload_n 1, 1) := dk_27 (dk_at dksX2_drawn_0 6 rfl rfl)
theorem dX2_drawn_7 : decode cX2_drawn 7 = .ok (.iaload, 1) := dk_46 (dk_at dksX2_drawn_0 7 rfl rfl)
theorem dX2_drawn_8 : decode cX2_drawn 8 = .ok (.ifCond .ne 96, 3) := dk_154 0 96 (dk_at dksX2_drawn_0 8 rfl rfl)
theorem dX2_drawn_11 : decode cX2_drawn 11 = .ok (.aload_n 0, 1) := dk_42 (dk_at dksX2_drawn_0 11 rfl rfl)
theorem dX2_drawn_12 : decode cX2_drawn 12 = .ok (.aload_n 0, 1) := dk_42 (dk_at dksX2_drawn_0 12 rfl rfl)
theorem dX2_drawn_13 : decode cX2_drawn 13 = .ok (.getfield 315, 3) := dk_180 1 59 (dk_at dksX2_drawn_0 13 rfl rfl)
theorem dX2_drawn_16 : decode cX2_drawn 16 = .ok (.ldc_w 318, 3) := dk_19 1 62 (dk_at dksX2_drawn_0 16 rfl rfl)
theorem dX2_drawn_19 : decode cX2_drawn 19 = .ok (.imul, 1) := dk_104 (dk_at dksX2_drawn_0 19 rfl rfl)
theorem dX2_drawn_20 : decode cX2_drawn 20 = .ok (.ldc_w 319, 3) := dk_19 1 63 (dk_at dksX2_drawn_0 20 rfl rfl)
theorem dX2_drawn_23 : decode cX2_drawn 23 = .ok (.iadd, 1) := dk_96 (dk_at dksX2_drawn_0 23 rfl rfl)
theorem dX2_drawn_24 : decode cX2_drawn 24 = .ok (.putfield 315, 3) := dk_181 1 59 (dk_at dksX2_drawn_1 0 rfl rfl)
theorem dX2_drawn_27 : decode cX2_drawn 27 = .ok (.aload_n 0, 1) := dk_42 (dk_at dksX2_drawn_1 3 rfl rfl)
theorem dX2_drawn_28 : decode cX2_drawn 28 = .ok (.getfield 315, 3) := dk_180 1 59 (dk_at dksX2_drawn_1 4 rfl rfl)
theorem dX2_drawn_31 : decode cX2_drawn 31 = .ok (.ldc_w 320, 3) := dk_19 1 64 (dk_at dksX2_drawn_1 7 rfl rfl)
theorem dX2_drawn_34 : decode cX2_drawn 34 = .ok (.iand, 1) := dk_126 (dk_at dksX2_drawn_1 10 rfl rfl)
theorem dX2_drawn_35 : decode cX2_drawn 35 = .ok (.sipush 256, 3) := dk_17 1 0 (dk_at dksX2_drawn_1 11 rfl rfl)
theorem dX2_drawn_38 : decode cX2_drawn 38 = .ok (.idiv, 1) := dk_108 (dk_at dksX2_drawn_1 14 rfl rfl)
theorem dX2_drawn_39 : decode cX2_drawn 39 = .ok (.aload_n 0, 1) := dk_42 (dk_at dksX2_drawn_1 15 rfl rfl)
theorem dX2_drawn_40 : decode cX2_drawn 40 = .ok (.iload_n 1, 1) := dk_27 (dk_at dksX2_drawn_1 16 rfl rfl)
theorem dX2_drawn_41 : decode cX2_drawn 41 = .ok (.invokevirtual 198, 3) := dk_182 0 198 (dk_at dksX2_drawn_1 17 rfl rfl)
theorem dX2_drawn_44 : decode cX2_drawn 44 = .ok (.irem, 1) := dk_112 (dk_at dksX2_drawn_1 20 rfl rfl)
theorem dX2_drawn_45 : decode cX2_drawn 45 = .ok (.istore_n 2, 1) := dk_61 (dk_at dksX2_drawn_1 21 rfl rfl)
theorem dX2_drawn_46 : decode cX2_drawn 46 = .ok (.iload_n 1, 1) := dk_27 (dk_at dksX2_drawn_1 22 rfl rfl)
theorem dX2_drawn_47 : decode cX2_drawn 47 = .ok (.iconst 1, 1) := dk_4 (dk_at dksX2_drawn_1 23 rfl rfl)
theorem dX2_drawn_48 : decode cX2_drawn 48 = .ok (.iadd, 1) := dk_96 (dk_at dksX2_drawn_2 0 rfl rfl)
theorem dX2_drawn_49 : decode cX2_drawn 49 = .ok (.istore_n 3, 1) := dk_62 (dk_at dksX2_drawn_2 1 rfl rfl)
theorem dX2_drawn_50 : decode cX2_drawn 50 = .ok (.aload_n 0, 1) := dk_42 (dk_at dksX2_drawn_2 2 rfl rfl)
theorem dX2_drawn_51 : decode cX2_drawn 51 = .ok (.getfield 13, 3) := dk_180 0 13 (dk_at dksX2_drawn_2 3 rfl rfl)
theorem dX2_drawn_54 : decode cX2_drawn 54 = .ok (.iload_n 3, 1) := dk_29 (dk_at dksX2_drawn_2 6 rfl rfl)
theorem dX2_drawn_55 : decode cX2_drawn 55 = .ok (.iaload, 1) := dk_46 (dk_at dksX2_drawn_2 7 rfl rfl)
theorem dX2_drawn_56 : decode cX2_drawn 56 = .ok (.iload_n 1, 1) := dk_27 (dk_at dksX2_drawn_2 8 rfl rfl)
theorem dX2_drawn_57 : decode cX2_drawn 57 = .ok (.if_icmp .ne 13, 3) := dk_160 0 13 (dk_at dksX2_drawn_2 9 rfl rfl)
theorem dX2_drawn_60 : decode cX2_drawn 60 = .ok (.iload_n 2, 1) := dk_28 (dk_at dksX2_drawn_2 12 rfl rfl)
theorem dX2_drawn_61 : decode cX2_drawn 61 = .ok (.aload_n 0, 1) := dk_42 (dk_at dksX2_drawn_2 13 rfl rfl)
theorem dX2_drawn_62 : decode cX2_drawn 62 = .ok (.getfield 16, 3) := dk_180 0 16 (dk_at dksX2_drawn_2 14 rfl rfl)
theorem dX2_drawn_65 : decode cX2_drawn 65 = .ok (.iload_n 3, 1) := dk_29 (dk_at dksX2_drawn_2 17 rfl rfl)
theorem dX2_drawn_66 : decode cX2_drawn 66 = .ok (.iaload, 1) := dk_46 (dk_at dksX2_drawn_2 18 rfl rfl)
theorem dX2_drawn_67 : decode cX2_drawn 67 = .ok (.if_icmp .lt 32, 3) := dk_161 0 32 (dk_at dksX2_drawn_2 19 rfl rfl)
theorem dX2_drawn_70 : decode cX2_drawn 70 = .ok (.iload_n 2, 1) := dk_28 (dk_at dksX2_drawn_2 22 rfl rfl)
theorem dX2_drawn_71 : decode cX2_drawn 71 = .ok (.aload_n 0, 1) := dk_42 (dk_at dksX2_drawn_2 23 rfl rfl)
theorem dX2_drawn_72 : decode cX2_drawn 72 = .ok (.getfield 13, 3) := dk_180 0 13 (dk_at dksX2_drawn_3 0 rfl rfl)
theorem dX2_drawn_75 : decode cX2_drawn 75 = .ok (.iload_n 3, 1) := dk_29 (dk_at dksX2_drawn_3 3 rfl rfl)
theorem dX2_drawn_76 : decode cX2_drawn 76 = .ok (.iaload, 1) := dk_46 (dk_at dksX2_drawn_3 4 rfl rfl)
theorem dX2_drawn_77 : decode cX2_drawn 77 = .ok (.iload_n 1, 1) := dk_27 (dk_at dksX2_drawn_3 5 rfl rfl)
theorem dX2_drawn_78 : decode cX2_drawn 78 = .ok (.if_icmp .ne 12, 3) := dk_160 0 12 (dk_at dksX2_drawn_3 6 rfl rfl)
theorem dX2_drawn_81 : decode cX2_drawn 81 = .ok (.aload_n 0, 1) := dk_42 (dk_at dksX2_drawn_3 9 rfl rfl)
theorem dX2_drawn_82 : decode cX2_drawn 82 = .ok (.getfield 16, 3) := dk_180 0 16 (dk_at dksX2_drawn_3 10 rfl rfl)
theorem dX2_drawn_85 : decode cX2_drawn 85 = .ok (.iload_n 3, 1) := dk_29 (dk_at dksX2_drawn_3 13 rfl rfl)
theorem dX2_drawn_86 : decode cX2_drawn 86 = .ok (.iaload, 1) := dk_46 (dk_at dksX2_drawn_3 14 rfl rfl)
theorem dX2_drawn_87 : decode cX2_drawn 87 = .ok (.goto 4, 3) := dk_167 0 4 (dk_at dksX2_drawn_3 15 rfl rfl)
theorem dX2_drawn_90 : decode cX2_drawn 90 = .ok (.iconst 0, 1) := dk_3 (dk_at dksX2_drawn_3 18 rfl rfl)
theorem dX2_drawn_91 : decode cX2_drawn 91 = .ok (.isub, 1) := dk_100 (dk_at dksX2_drawn_3 19 rfl rfl)
theorem dX2_drawn_92 : decode cX2_drawn 92 = .ok (.istore_n 2, 1) := dk_61 (dk_at dksX2_drawn_3 20 rfl rfl)
theorem dX2_drawn_93 : decode cX2_drawn 93 = .ok (.iinc 3 1, 3) := dk_132 3 1 (dk_at dksX2_drawn_3 21 rfl rfl)
theorem dX2_drawn_96 : decode cX2_drawn 96 = .ok (.goto (-46), 3) := dk_167 255 210 (dk_at dksX2_drawn_4 0 rfl rfl)
theorem dX2_drawn_99 : decode cX2_drawn 99 = .ok (.iload_n 3, 1) := dk_29 (dk_at dksX2_drawn_4 3 rfl rfl)
theorem dX2_drawn_100 : decode cX2_drawn 100 = .ok (.istore_n 1, 1) := dk_60 (dk_at dksX2_drawn_4 4 rfl rfl)
theorem dX2_drawn_101 : decode cX2_drawn 101 = .ok (.goto (-99), 3) := dk_167 255 157 (dk_at dksX2_drawn_4 5 rfl rfl)
theorem dX2_drawn_104 : decode cX2_drawn 104 = .ok (.iload_n 1, 1) := dk_27 (dk_at dksX2_drawn_4 8 rfl rfl)
theorem dX2_drawn_105 : decode cX2_drawn 105 = .ok (.ireturn, 1) := dk_172 (dk_at dksX2_drawn_4 9 rfl rfl)
abbrev cX2_row : ByteArray := prog_18_method_78_code
def yX2_row : MethodName := ⟨RX2, "row", "(I)I"⟩
def dkwX2_row_2 : List UInt8 := [180, 1, 71, 4, 96, 181, 1, 71, 42, 180, 1, 71, 172]
abbrev dktX2_row_2 : List UInt8 := dkwX2_row_2 ++ []
def dkwX2_row_1 : List UInt8 := [28, 153, 0, 9, 42, 28, 182, 0, 128, 172, 42, 180, 0, 105, 42, 180, 1, 71, 27, 79, 42, 89]
abbrev dktX2_row_1 : List UInt8 := dkwX2_row_1 ++ dktX2_row_2
def dkwX2_row_0 : List UInt8 := [27, 3, 16, 9, 184, 0, 121, 61, 28, 154, 0, 15, 42, 180, 1, 71, 16, 20, 160, 0, 6, 16, 250, 61]
abbrev dktX2_row_0 : List UInt8 := dkwX2_row_0 ++ dktX2_row_1
theorem dksX2_row_0 : cX2_row.data.toList.drop 0 = dktX2_row_0 := by decide +kernel
theorem dksX2_row_1 : cX2_row.data.toList.drop 24 = dktX2_row_1 := dk_seg dksX2_row_0 24 rfl rfl
theorem dksX2_row_2 : cX2_row.data.toList.drop 46 = dktX2_row_2 := dk_seg dksX2_row_1 22 rfl rfl
theorem dX2_row_0 : decode cX2_row 0 = .ok (.iload_n 1, 1) := dk_27 (dk_at dksX2_row_0 0 rfl rfl)
theorem dX2_row_1 : decode cX2_row 1 = .ok (.iconst 0, 1) := dk_3 (dk_at dksX2_row_0 1 rfl rfl)
theorem dX2_row_2 : decode cX2_row 2 = .ok (.bipush 9, 2) := dk_16 9 (dk_at dksX2_row_0 2 rfl rfl)
theorem dX2_row_4 : decode cX2_row 4 = .ok (.invokestatic 121, 3) := dk_184 0 121 (dk_at dksX2_row_0 4 rfl rfl)
theorem dX2_row_7 : decode cX2_row 7 = .ok (.istore_n 2, 1) := dk_61 (dk_at dksX2_row_0 7 rfl rfl)
theorem dX2_row_8 : decode cX2_row 8 = .ok (.iload_n 2, 1) := dk_28 (dk_at dksX2_row_0 8 rfl rfl)
theorem dX2_row_9 : decode cX2_row 9 = .ok (.ifCond .ne 15, 3) := dk_154 0 15 (dk_at dksX2_row_0 9 rfl rfl)
theorem dX2_row_12 : decode cX2_row 12 = .ok (.aload_n 0, 1) := dk_42 (dk_at dksX2_row_0 12 rfl rfl)
theorem dX2_row_13 : decode cX2_row 13 = .ok (.getfield 327, 3) := dk_180 1 71 (dk_at dksX2_row_0 13 rfl rfl)
theorem dX2_row_16 : decode cX2_row 16 = .ok (.bipush 20, 2) := dk_16 20 (dk_at dksX2_row_0 16 rfl rfl)
theorem dX2_row_18 : decode cX2_row 18 = .ok (.if_icmp .ne 6, 3) := dk_160 0 6 (dk_at dksX2_row_0 18 rfl rfl)
theorem dX2_row_21 : decode cX2_row 21 = .ok (.bipush (-6), 2) := dk_16 250 (dk_at dksX2_row_0 21 rfl rfl)
theorem dX2_row_23 : decode cX2_row 23 = .ok (.istore_n 2, 1) := dk_61 (dk_at dksX2_row_0 23 rfl rfl)
theorem dX2_row_24 : decode cX2_row 24 = .ok (.iload_n 2, 1) := dk_28 (dk_at dksX2_row_1 0 rfl rfl)
theorem dX2_row_25 : decode cX2_row 25 = .ok (.ifCond .eq 9, 3) := dk_153 0 9 (dk_at dksX2_row_1 1 rfl rfl)
theorem dX2_row_28 : decode cX2_row 28 = .ok (.aload_n 0, 1) := dk_42 (dk_at dksX2_row_1 4 rfl rfl)
theorem dX2_row_29 : decode cX2_row 29 = .ok (.iload_n 2, 1) := dk_28 (dk_at dksX2_row_1 5 rfl rfl)
theorem dX2_row_30 : decode cX2_row 30 = .ok (.invokevirtual 128, 3) := dk_182 0 128 (dk_at dksX2_row_1 6 rfl rfl)
theorem dX2_row_33 : decode cX2_row 33 = .ok (.ireturn, 1) := dk_172 (dk_at dksX2_row_1 9 rfl rfl)
theorem dX2_row_34 : decode cX2_row 34 = .ok (.aload_n 0, 1) := dk_42 (dk_at dksX2_row_1 10 rfl rfl)
theorem dX2_row_35 : decode cX2_row 35 = .ok (.getfield 105, 3) := dk_180 0 105 (dk_at dksX2_row_1 11 rfl rfl)
theorem dX2_row_38 : decode cX2_row 38 = .ok (.aload_n 0, 1) := dk_42 (dk_at dksX2_row_1 14 rfl rfl)
theorem dX2_row_39 : decode cX2_row 39 = .ok (.getfield 327, 3) := dk_180 1 71 (dk_at dksX2_row_1 15 rfl rfl)
theorem dX2_row_42 : decode cX2_row 42 = .ok (.iload_n 1, 1) := dk_27 (dk_at dksX2_row_1 18 rfl rfl)
theorem dX2_row_43 : decode cX2_row 43 = .ok (.iastore, 1) := dk_79 (dk_at dksX2_row_1 19 rfl rfl)
theorem dX2_row_44 : decode cX2_row 44 = .ok (.aload_n 0, 1) := dk_42 (dk_at dksX2_row_1 20 rfl rfl)
theorem dX2_row_45 : decode cX2_row 45 = .ok (.dup, 1) := dk_89 (dk_at dksX2_row_1 21 rfl rfl)
theorem dX2_row_46 : decode cX2_row 46 = .ok (.getfield 327, 3) := dk_180 1 71 (dk_at dksX2_row_2 0 rfl rfl)
theorem dX2_row_49 : decode cX2_row 49 = .ok (.iconst 1, 1) := dk_4 (dk_at dksX2_row_2 3 rfl rfl)
theorem dX2_row_50 : decode cX2_row 50 = .ok (.iadd, 1) := dk_96 (dk_at dksX2_row_2 4 rfl rfl)
theorem dX2_row_51 : decode cX2_row 51 = .ok (.putfield 327, 3) := dk_181 1 71 (dk_at dksX2_row_2 5 rfl rfl)
theorem dX2_row_54 : decode cX2_row 54 = .ok (.aload_n 0, 1) := dk_42 (dk_at dksX2_row_2 8 rfl rfl)
theorem dX2_row_55 : decode cX2_row 55 = .ok (.getfield 327, 3) := dk_180 1 71 (dk_at dksX2_row_2 9 rfl rfl)
theorem dX2_row_58 : decode cX2_row 58 = .ok (.ireturn, 1) := dk_172 (dk_at dksX2_row_2 12 rfl rfl)
abbrev cX2_judge : ByteArray := prog_18_method_79_code
def yX2_judge : MethodName := ⟨RX2, "judge", "(I)I"⟩
def dkwX2_judge_3 : List UInt8 := [159, 0, 5, 29, 172, 132, 3, 1, 167, 255, 213, 16, 247, 172]
abbrev dktX2_judge_3 : List UInt8 := dkwX2_judge_3 ++ []
def dkwX2_judge_2 : List UInt8 := [42, 180, 0, 105, 29, 46, 42, 180, 1, 0, 156, 0, 8, 16, 9, 167, 0, 7, 42, 180, 1, 0]
abbrev dktX2_judge_2 : List UInt8 := dkwX2_judge_2 ++ dktX2_judge_3
def dkwX2_judge_1 : List UInt8 := [3, 181, 1, 71, 42, 27, 181, 1, 59, 3, 62, 29, 28, 162, 0, 44, 42, 42, 182, 1, 68, 182, 1, 15]
abbrev dktX2_judge_1 : List UInt8 := dkwX2_judge_1 ++ dktX2_judge_2
def dkwX2_judge_0 : List UInt8 := [42, 182, 0, 183, 154, 0, 10, 42, 16, 253, 182, 0, 128, 172, 42, 182, 0, 247, 42, 180, 1, 71, 61, 42]
abbrev dktX2_judge_0 : List UInt8 := dkwX2_judge_0 ++ dktX2_judge_1
theorem dksX2_judge_0 : cX2_judge.data.toList.drop 0 = dktX2_judge_0 := by decide +kernel
theorem dksX2_judge_1 : cX2_judge.data.toList.drop 24 = dktX2_judge_1 := dk_seg dksX2_judge_0 24 rfl rfl
theorem dksX2_judge_2 : cX2_judge.data.toList.drop 48 = dktX2_judge_2 := dk_seg dksX2_judge_1 24 rfl rfl
theorem dksX2_judge_3 : cX2_judge.data.toList.drop 70 = dktX2_judge_3 := dk_seg dksX2_judge_2 22 rfl rfl
theorem dX2_judge_0 : decode cX2_judge 0 = .ok (.aload_n 0, 1) := dk_42 (dk_at dksX2_judge_0 0 rfl rfl)
theorem dX2_judge_1 : decode cX2_judge 1 = .ok (.invokevirtual 183, 3) := dk_182 0 183 (dk_at dksX2_judge_0 1 rfl rfl)
theorem dX2_judge_4 : decode cX2_judge 4 = .ok (.ifCond .ne 10, 3) := dk_154 0 10 (dk_at dksX2_judge_0 4 rfl rfl)
theorem dX2_judge_7 : decode cX2_judge 7 = .ok (.aload_n 0, 1) := dk_42 (dk_at dksX2_judge_0 7 rfl rfl)
theorem dX2_judge_8 : decode cX2_judge 8 = .ok (.bipush (-3), 2) := dk_16 253 (dk_at dksX2_judge_0 8 rfl rfl)
theorem dX2_judge_10 : decode cX2_judge 10 = .ok (.invokevirtual 128, 3) := dk_182 0 128 (dk_at dksX2_judge_0 10 rfl rfl)
theorem dX2_judge_13 : decode cX2_judge 13 = .ok (.ireturn, 1) := dk_172 (dk_at dksX2_judge_0 13 rfl rfl)
theorem dX2_judge_14 : decode cX2_judge 14 = .ok (.aload_n 0, 1) := dk_42 (dk_at dksX2_judge_0 14 rfl rfl)
theorem dX2_judge_15 : decode cX2_judge 15 = .ok (.invokevirtual 247, 3) := dk_182 0 247 (dk_at dksX2_judge_0 15 rfl rfl)
theorem dX2_judge_18 : decode cX2_judge 18 = .ok (.aload_n 0, 1) := dk_42 (dk_at dksX2_judge_0 18 rfl rfl)
theorem dX2_judge_19 : decode cX2_judge 19 = .ok (.getfield 327, 3) := dk_180 1 71 (dk_at dksX2_judge_0 19 rfl rfl)
theorem dX2_judge_22 : decode cX2_judge 22 = .ok (.istore_n 2, 1) := dk_61 (dk_at dksX2_judge_0 22 rfl rfl)
theorem dX2_judge_23 : decode cX2_judge 23 = .ok (.aload_n 0, 1) := dk_42 (dk_at dksX2_judge_0 23 rfl rfl)
theorem dX2_judge_24 : decode cX2_judge 24 = .ok (.iconst 0, 1) := dk_3 (dk_at dksX2_judge_1 0 rfl rfl)
theorem dX2_judge_25 : decode cX2_judge 25 = .ok (.putfield 327, 3) := dk_181 1 71 (dk_at dksX2_judge_1 1 rfl rfl)
theorem dX2_judge_28 : decode cX2_judge 28 = .ok (.aload_n 0, 1) := dk_42 (dk_at dksX2_judge_1 4 rfl rfl)
theorem dX2_judge_29 : decode cX2_judge 29 = .ok (.iload_n 1, 1) := dk_27 (dk_at dksX2_judge_1 5 rfl rfl)
theorem dX2_judge_30 : decode cX2_judge 30 = .ok (.putfield 315, 3) := dk_181 1 59 (dk_at dksX2_judge_1 6 rfl rfl)
theorem dX2_judge_33 : decode cX2_judge 33 = .ok (.iconst 0, 1) := dk_3 (dk_at dksX2_judge_1 9 rfl rfl)
theorem dX2_judge_34 : decode cX2_judge 34 = .ok (.istore_n 3, 1) := dk_62 (dk_at dksX2_judge_1 10 rfl rfl)
theorem dX2_judge_35 : decode cX2_judge 35 = .ok (.iload_n 3, 1) := dk_29 (dk_at dksX2_judge_1 11 rfl rfl)
theorem dX2_judge_36 : decode cX2_judge 36 = .ok (.iload_n 2, 1) := dk_28 (dk_at dksX2_judge_1 12 rfl rfl)
theorem dX2_judge_37 : decode cX2_judge 37 = .ok (.if_icmp .ge 44, 3) := dk_162 0 44 (dk_at dksX2_judge_1 13 rfl rfl)
theorem dX2_judge_40 : decode cX2_judge 40 = .ok (.aload_n 0, 1) := dk_42 (dk_at dksX2_judge_1 16 rfl rfl)
theorem dX2_judge_41 : decode cX2_judge 41 = .ok (.aload_n 0, 1) := dk_42 (dk_at dksX2_judge_1 17 rfl rfl)
theorem dX2_judge_42 : decode cX2_judge 42 = .ok (.invokevirtual 324, 3) := dk_182 1 68 (dk_at dksX2_judge_1 18 rfl rfl)
theorem dX2_judge_45 : decode cX2_judge 45 = .ok (.invokevirtual 271, 3) := dk_182 1 15 (dk_at dksX2_judge_1 21 rfl rfl)
theorem dX2_judge_48 : decode cX2_judge 48 = .ok (.aload_n 0, 1) := dk_42 (dk_at dksX2_judge_2 0 rfl rfl)
theorem dX2_judge_49 : decode cX2_judge 49 = .ok (.getfield 105, 3) := dk_180 0 105 (dk_at dksX2_judge_2 1 rfl rfl)
theorem dX2_judge_52 : decode cX2_judge 52 = .ok (.iload_n 3, 1) := dk_29 (dk_at dksX2_judge_2 4 rfl rfl)
theorem dX2_judge_53 : decode cX2_judge 53 = .ok (.iaload, 1) := dk_46 (dk_at dksX2_judge_2 5 rfl rfl)
theorem dX2_judge_54 : decode cX2_judge 54 = .ok (.aload_n 0, 1) := dk_42 (dk_at dksX2_judge_2 6 rfl rfl)
theorem dX2_judge_55 : decode cX2_judge 55 = .ok (.getfield 256, 3) := dk_180 1 0 (dk_at dksX2_judge_2 7 rfl rfl)
theorem dX2_judge_58 : decode cX2_judge 58 = .ok (.ifCond .ge 8, 3) := dk_156 0 8 (dk_at dksX2_judge_2 10 rfl rfl)
theorem dX2_judge_61 : decode cX2_judge 61 = .ok (.bipush 9, 2) := dk_16 9 (dk_at dksX2_judge_2 13 rfl rfl)
theorem dX2_judge_63 : decode cX2_judge 63 = .ok (.goto 7, 3) := dk_167 0 7 (dk_at dksX2_judge_2 15 rfl rfl)
theorem dX2_judge_66 : decode cX2_judge 66 = .ok (.aload_n 0, 1) := dk_42 (dk_at dksX2_judge_2 18 rfl rfl)
theorem dX2_judge_67 : decode cX2_judge 67 = .ok (.getfield 256, 3) := dk_180 1 0 (dk_at dksX2_judge_2 19 rfl rfl)
theorem dX2_judge_70 : decode cX2_judge 70 = .ok (.if_icmp .eq 5, 3) := dk_159 0 5 (dk_at dksX2_judge_3 0 rfl rfl)
theorem dX2_judge_73 : decode cX2_judge 73 = .ok (.iload_n 3, 1) := dk_29 (dk_at dksX2_judge_3 3 rfl rfl)
theorem dX2_judge_74 : decode cX2_judge 74 = .ok (.ireturn, 1) := dk_172 (dk_at dksX2_judge_3 4 rfl rfl)
theorem dX2_judge_75 : decode cX2_judge 75 = .ok (.iinc 3 1, 3) := dk_132 3 1 (dk_at dksX2_judge_3 5 rfl rfl)
theorem dX2_judge_78 : decode cX2_judge 78 = .ok (.goto (-43), 3) := dk_167 255 213 (dk_at dksX2_judge_3 8 rfl rfl)
theorem dX2_judge_81 : decode cX2_judge 81 = .ok (.bipush (-9), 2) := dk_16 247 (dk_at dksX2_judge_3 11 rfl rfl)
theorem dX2_judge_83 : decode cX2_judge 83 = .ok (.ireturn, 1) := dk_172 (dk_at dksX2_judge_3 13 rfl rfl)
abbrev cX2_image : ByteArray := prog_18_method_83_code
def yX2_image : MethodName := ⟨RX2, "image", "()I"⟩
def dkwX2_image_0 : List UInt8 := [42, 4, 181, 1, 74, 42, 4, 181, 1, 88, 42, 182, 1, 91, 42, 180, 0, 46, 172]
abbrev dktX2_image_0 : List UInt8 := dkwX2_image_0 ++ []
theorem dksX2_image_0 : cX2_image.data.toList.drop 0 = dktX2_image_0 := by decide +kernel
theorem dX2_image_0 : decode cX2_image 0 = .ok (.aload_n 0, 1) := dk_42 (dk_at dksX2_image_0 0 rfl rfl)
theorem dX2_image_1 : decode cX2_image 1 = .ok (.iconst 1, 1) := dk_4 (dk_at dksX2_image_0 1 rfl rfl)
theorem dX2_image_2 : decode cX2_image 2 = .ok (.putfield 330, 3) := dk_181 1 74 (dk_at dksX2_image_0 2 rfl rfl)
theorem dX2_image_5 : decode cX2_image 5 = .ok (.aload_n 0, 1) := dk_42 (dk_at dksX2_image_0 5 rfl rfl)
theorem dX2_image_6 : decode cX2_image 6 = .ok (.iconst 1, 1) := dk_4 (dk_at dksX2_image_0 6 rfl rfl)
theorem dX2_image_7 : decode cX2_image 7 = .ok (.putfield 344, 3) := dk_181 1 88 (dk_at dksX2_image_0 7 rfl rfl)
theorem dX2_image_10 : decode cX2_image 10 = .ok (.aload_n 0, 1) := dk_42 (dk_at dksX2_image_0 10 rfl rfl)
theorem dX2_image_11 : decode cX2_image 11 = .ok (.invokevirtual 347, 3) := dk_182 1 91 (dk_at dksX2_image_0 11 rfl rfl)
theorem dX2_image_14 : decode cX2_image 14 = .ok (.aload_n 0, 1) := dk_42 (dk_at dksX2_image_0 14 rfl rfl)
theorem dX2_image_15 : decode cX2_image 15 = .ok (.getfield 46, 3) := dk_180 0 46 (dk_at dksX2_image_0 15 rfl rfl)
theorem dX2_image_18 : decode cX2_image 18 = .ok (.ireturn, 1) := dk_172 (dk_at dksX2_image_0 18 rfl rfl)
abbrev cX2_passesAll : ByteArray := prog_18_method_82_code
def yX2_passesAll : MethodName := ⟨RX2, "passesAll", "()V"⟩
def dkwX2_passesAll_5 : List UInt8 := [42, 180, 1, 43, 182, 1, 85, 181, 1, 43, 177]
abbrev dktX2_passesAll_5 : List UInt8 := dkwX2_passesAll_5 ++ []
def dkwX2_passesAll_4 : List UInt8 := [42, 180, 0, 46, 182, 1, 85, 181, 0, 46, 42, 42, 42, 180, 0, 114, 182, 1, 85, 181, 0, 114, 42, 42]
abbrev dktX2_passesAll_4 : List UInt8 := dkwX2_passesAll_4 ++ dktX2_passesAll_5
def dkwX2_passesAll_3 : List UInt8 := [180, 0, 37, 182, 1, 81, 42, 42, 180, 0, 40, 182, 1, 81, 42, 42, 180, 0, 96, 182, 1, 81, 42, 42]
abbrev dktX2_passesAll_3 : List UInt8 := dkwX2_passesAll_3 ++ dktX2_passesAll_4
def dkwX2_passesAll_2 : List UInt8 := [180, 0, 28, 182, 1, 81, 42, 42, 180, 0, 31, 182, 1, 81, 42, 42, 180, 0, 34, 182, 1, 81, 42, 42]
abbrev dktX2_passesAll_2 : List UInt8 := dkwX2_passesAll_2 ++ dktX2_passesAll_3
def dkwX2_passesAll_1 : List UInt8 := [180, 0, 19, 182, 1, 81, 42, 42, 180, 0, 22, 182, 1, 81, 42, 42, 180, 0, 25, 182, 1, 81, 42, 42]
abbrev dktX2_passesAll_1 : List UInt8 := dkwX2_passesAll_1 ++ dktX2_passesAll_2
def dkwX2_passesAll_0 : List UInt8 := [42, 3, 181, 1, 78, 42, 42, 180, 0, 13, 182, 1, 81, 42, 42, 180, 0, 16, 182, 1, 81, 42, 42]
abbrev dktX2_passesAll_0 : List UInt8 := dkwX2_passesAll_0 ++ dktX2_passesAll_1
theorem dksX2_passesAll_0 : cX2_passesAll.data.toList.drop 0 = dktX2_passesAll_0 := by decide +kernel
theorem dksX2_passesAll_1 : cX2_passesAll.data.toList.drop 23 = dktX2_passesAll_1 := dk_seg dksX2_passesAll_0 23 rfl rfl
theorem dksX2_passesAll_2 : cX2_passesAll.data.toList.drop 47 = dktX2_passesAll_2 := dk_seg dksX2_passesAll_1 24 rfl rfl
theorem dksX2_passesAll_3 : cX2_passesAll.data.toList.drop 71 = dktX2_passesAll_3 := dk_seg dksX2_passesAll_2 24 rfl rfl
theorem dksX2_passesAll_4 : cX2_passesAll.data.toList.drop 95 = dktX2_passesAll_4 := dk_seg dksX2_passesAll_3 24 rfl rfl
theorem dksX2_passesAll_5 : cX2_passesAll.data.toList.drop 119 = dktX2_passesAll_5 := dk_seg dksX2_passesAll_4 24 rfl rfl
theorem dX2_passesAll_0 : decode cX2_passesAll 0 = .ok (.aload_n 0, 1) := dk_42 (dk_at dksX2_passesAll_0 0 rfl rfl)
theorem dX2_passesAll_1 : decode cX2_passesAll 1 = .ok (.iconst 0, 1) := dk_3 (dk_at dksX2_passesAll_0 1 rfl rfl)
theorem dX2_passesAll_2 : decode cX2_passesAll 2 = .ok (.putfield 334, 3) := dk_181 1 78 (dk_at dksX2_passesAll_0 2 rfl rfl)
theorem dX2_passesAll_5 : decode cX2_passesAll 5 = .ok (.aload_n 0, 1) := dk_42 (dk_at dksX2_passesAll_0 5 rfl rfl)
theorem dX2_passesAll_6 : decode cX2_passesAll 6 = .ok (.aload_n 0, 1) := dk_42 (dk_at dksX2_passesAll_0 6 rfl rfl)
theorem dX2_passesAll_7 : decode cX2_passesAll 7 = .ok (.getfield 13, 3) := dk_180 0 13 (dk_at dksX2_passesAll_0 7 rfl rfl)
theorem dX2_passesAll_10 : decode cX2_passesAll 10 = .ok (.invokevirtual 337, 3) := dk_182 1 81 (dk_at dksX2_passesAll_0 10 rfl rfl)
theorem dX2_passesAll_13 : decode cX2_passesAll 13 = .ok (.aload_n 0, 1) := dk_42 (dk_at dksX2_passesAll_0 13 rfl rfl)
theorem dX2_passesAll_14 : decode cX2_passesAll 14 = .ok (.aload_n 0, 1) := dk_42 (dk_at dksX2_passesAll_0 14 rfl rfl)
theorem dX2_passesAll_15 : decode cX2_passesAll 15 = .ok (.getfield 16, 3) := dk_180 0 16 (dk_at dksX2_passesAll_0 15 rfl rfl)
theorem dX2_passesAll_18 : decode cX2_passesAll 18 = .ok (.invokevirtual 337, 3) := dk_182 1 81 (dk_at dksX2_passesAll_0 18 rfl rfl)
theorem dX2_passesAll_21 : decode cX2_passesAll 21 = .ok (.aload_n 0, 1) := dk_42 (dk_at dksX2_passesAll_0 21 rfl rfl)
theorem dX2_passesAll_22 : decode cX2_passesAll 22 = .ok (.aload_n 0, 1) := dk_42 (dk_at dksX2_passesAll_0 22 rfl rfl)
theorem dX2_passesAll_23 : decode cX2_passesAll 23 = .ok (.getfield 19, 3) := dk_180 0 19 (dk_at dksX2_passesAll_1 0 rfl rfl)
theorem dX2_passesAll_26 : decode cX2_passesAll 26 = .ok (.invokevirtual 337, 3) := dk_182 1 81 (dk_at dksX2_passesAll_1 3 rfl rfl)
theorem dX2_passesAll_29 : decode cX2_passesAll 29 = .ok (.aload_n 0, 1) := dk_42 (dk_at dksX2_passesAll_1 6 rfl rfl)
theorem dX2_passesAll_30 : decode cX2_passesAll 30 = .ok (.aload_n 0, 1) := dk_42 (dk_at dksX2_passesAll_1 7 rfl rfl)
theorem dX2_passesAll_31 : decode cX2_passesAll 31 = .ok (.getfield 22, 3) := dk_180 0 22 (dk_at dksX2_passesAll_1 8 rfl rfl)
theorem dX2_passesAll_34 : decode cX2_passesAll 34 = .ok (.invokevirtual 337, 3) := dk_182 1 81 (dk_at dksX2_passesAll_1 11 rfl rfl)
theorem dX2_passesAll_37 : decode cX2_passesAll 37 = .ok (.aload_n 0, 1) := dk_42 (dk_at dksX2_passesAll_1 14 rfl rfl)
theorem dX2_passesAll_38 : decode cX2_passesAll 38 = .ok (.aload_n 0, 1) := dk_42 (dk_at dksX2_passesAll_1 15 rfl rfl)
theorem dX2_passesAll_39 : decode cX2_passesAll 39 = .ok (.getfield 25, 3) := dk_180 0 25 (dk_at dksX2_passesAll_1 16 rfl rfl)
theorem dX2_passesAll_42 : decode cX2_passesAll 42 = .ok (.invokevirtual 337, 3) := dk_182 1 81 (dk_at dksX2_passesAll_1 19 rfl rfl)
theorem dX2_passesAll_45 : decode cX2_passesAll 45 = .ok (.aload_n 0, 1) := dk_42 (dk_at dksX2_passesAll_1 22 rfl rfl)
theorem dX2_passesAll_46 : decode cX2_passesAll 46 = .ok (.aload_n 0, 1) := dk_42 (dk_at dksX2_passesAll_1 23 rfl rfl)
theorem dX2_passesAll_47 : decode cX2_passesAll 47 = .ok (.getfield 28, 3) := dk_180 0 28 (dk_at dksX2_passesAll_2 0 rfl rfl)
theorem dX2_passesAll_50 : decode cX2_passesAll 50 = .ok (.invokevirtual 337, 3) := dk_182 1 81 (dk_at dksX2_passesAll_2 3 rfl rfl)
theorem dX2_passesAll_53 : decode cX2_passesAll 53 = .ok (.aload_n 0, 1) := dk_42 (dk_at dksX2_passesAll_2 6 rfl rfl)
theorem dX2_passesAll_54 : decode cX2_passesAll 54 = .ok (.aload_n 0, 1) := dk_42 (dk_at dksX2_passesAll_2 7 rfl rfl)
theorem dX2_passesAll_55 : decode cX2_passesAll 55 = .ok (.getfield 31, 3) := dk_180 0 31 (dk_at dksX2_passesAll_2 8 rfl rfl)
theorem dX2_passesAll_58 : decode cX2_passesAll 58 = .ok (.invokevirtual 337, 3) := dk_182 1 81 (dk_at dksX2_passesAll_2 11 rfl rfl)
theorem dX2_passesAll_61 : decode cX2_passesAll 61 = .ok (.aload_n 0, 1) := dk_42 (dk_at dksX2_passesAll_2 14 rfl rfl)
theorem dX2_passesAll_62 : decode cX2_passesAll 62 = .ok (.aload_n 0, 1) := dk_42 (dk_at dksX2_passesAll_2 15 rfl rfl)
theorem dX2_passesAll_63 : decode cX2_passesAll 63 = .ok (.getfield 34, 3) := dk_180 0 34 (dk_at dksX2_passesAll_2 16 rfl rfl)
theorem dX2_passesAll_66 : decode cX2_passesAll 66 = .ok (.invokevirtual 337, 3) := dk_182 1 81 (dk_at dksX2_passesAll_2 19 rfl rfl)
theorem dX2_passesAll_69 : decode cX2_passesAll 69 = .ok (.aload_n 0, 1) := dk_42 (dk_at dksX2_passesAll_2 22 rfl rfl)
theorem dX2_passesAll_70 : decode cX2_passesAll 70 = .ok (.aload_n 0, 1) := dk_42 (dk_at dksX2_passesAll_2 23 rfl rfl)
theorem dX2_passesAll_71 : decode cX2_passesAll 71 = .ok (.getfield 37, 3) := dk_180 0 37 (dk_at dksX2_passesAll_3 0 rfl rfl)
theorem dX2_passesAll_74 : decode cX2_passesAll 74 = .ok (.invokevirtual 337, 3) := dk_182 1 81 (dk_at dksX2_passesAll_3 3 rfl rfl)
theorem dX2_passesAll_77 : decode cX2_passesAll 77 = .ok (.aload_n 0, 1) := dk_42 (dk_at dksX2_passesAll_3 6 rfl rfl)
theorem dX2_passesAll_78 : decode cX2_passesAll 78 = .ok (.aload_n 0, 1) := dk_42 (dk_at dksX2_passesAll_3 7 rfl rfl)
theorem dX2_passesAll_79 : decode cX2_passesAll 79 = .ok (.getfield 40, 3) := dk_180 0 40 (dk_at dksX2_passesAll_3 8 rfl rfl)
theorem dX2_passesAll_82 : decode cX2_passesAll 82 = .ok (.invokevirtual 337, 3) := dk_182 1 81 (dk_at dksX2_passesAll_3 11 rfl rfl)
theorem dX2_passesAll_85 : decode cX2_passesAll 85 = .ok (.aload_n 0, 1) := dk_42 (dk_at dksX2_passesAll_3 14 rfl rfl)
theorem dX2_passesAll_86 : decode cX2_passesAll 86 = .ok (.aload_n 0, 1) := dk_42 (dk_at dksX2_passesAll_3 15 rfl rfl)
theorem dX2_passesAll_87 : decode cX2_passesAll 87 = .ok (.getfield 96, 3) := dk_180 0 96 (dk_at dksX2_passesAll_3 16 rfl rfl)
theorem dX2_passesAll_90 : decode cX2_passesAll 90 = .ok (.invokevirtual 337, 3) := dk_182 1 81 (dk_at dksX2_passesAll_3 19 rfl rfl)
theorem dX2_passesAll_93 : decode cX2_passesAll 93 = .ok (.aload_n 0, 1) := dk_42 (dk_at dksX2_passesAll_3 22 rfl rfl)
theorem dX2_passesAll_94 : decode cX2_passesAll 94 = .ok (.aload_n 0, 1) := dk_42 (dk_at dksX2_passesAll_3 23 rfl rfl)
theorem dX2_passesAll_95 : decode cX2_passesAll 95 = .ok (.aload_n 0, 1) := dk_42 (dk_at dksX2_passesAll_4 0 rfl rfl)
theorem dX2_passesAll_96 : decode cX2_passesAll 96 = .ok (.getfield 46, 3) := dk_180 0 46 (dk_at dksX2_passesAll_4 1 rfl rfl)
theorem dX2_passesAll_99 : decode cX2_passesAll 99 = .ok (.invokevirtual 341, 3) := dk_182 1 85 (dk_at dksX2_passesAll_4 4 rfl rfl)
theorem dX2_passesAll_102 : decode cX2_passesAll 102 = .ok (.putfield 46, 3) := dk_181 0 46 (dk_at dksX2_passesAll_4 7 rfl rfl)
theorem dX2_passesAll_105 : decode cX2_passesAll 105 = .ok (.aload_n 0, 1) := dk_42 (dk_at dksX2_passesAll_4 10 rfl rfl)
theorem dX2_passesAll_106 : decode cX2_passesAll 106 = .ok (.aload_n 0, 1) := dk_42 (dk_at dksX2_passesAll_4 11 rfl rfl)
theorem dX2_passesAll_107 : decode cX2_passesAll 107 = .ok (.aload_n 0, 1) := dk_42 (dk_at dksX2_passesAll_4 12 rfl rfl)
theorem dX2_passesAll_108 : decode cX2_passesAll 108 = .ok (.getfield 114, 3) := dk_180 0 114 (dk_at dksX2_passesAll_4 13 rfl rfl)
theorem dX2_passesAll_111 : decode cX2_passesAll 111 = .ok (.invokevirtual 341, 3) := dk_182 1 85 (dk_at dksX2_passesAll_4 16 rfl rfl)
theorem dX2_passesAll_114 : decode cX2_passesAll 114 = .ok (.putfield 114, 3) := dk_181 0 114 (dk_at dksX2_passesAll_4 19 rfl rfl)
theorem dX2_passesAll_117 : decode cX2_passesAll 117 = .ok (.aload_n 0, 1) := dk_42 (dk_at dksX2_passesAll_4 22 rfl rfl)
theorem dX2_passesAll_118 : decode cX2_passesAll 118 = .ok (.aload_n 0, 1) := dk_42 (dk_at dksX2_passesAll_4 23 rfl rfl)
theorem dX2_passesAll_119 : decode cX2_passesAll 119 = .ok (.aload_n 0, 1) := dk_42 (dk_at dksX2_passesAll_5 0 rfl rfl)
theorem dX2_passesAll_120 : decode cX2_passesAll 120 = .ok (.getfield 299, 3) := dk_180 1 43 (dk_at dksX2_passesAll_5 1 rfl rfl)
theorem dX2_passesAll_123 : decode cX2_passesAll 123 = .ok (.invokevirtual 341, 3) := dk_182 1 85 (dk_at dksX2_passesAll_5 4 rfl rfl)
theorem dX2_passesAll_126 : decode cX2_passesAll 126 = .ok (.putfield 299, 3) := dk_181 1 43 (dk_at dksX2_passesAll_5 7 rfl rfl)
theorem dX2_passesAll_129 : decode cX2_passesAll 129 = .ok (.return_, 1) := dk_177 (dk_at dksX2_passesAll_5 10 rfl rfl)
abbrev cX2_passes : ByteArray := prog_18_method_80_code
def yX2_passes : MethodName := ⟨RX2, "passes", "([I)V"⟩
def dkwX2_passes_2 : List UInt8 := [96, 181, 1, 78, 132, 2, 1, 167, 255, 203, 177]
abbrev dktX2_passes_2 : List UInt8 := dkwX2_passes_2 ++ []
def dkwX2_passes_1 : List UInt8 := [28, 46, 79, 167, 0, 15, 43, 28, 42, 180, 0, 108, 42, 180, 1, 78, 46, 79, 42, 89, 180, 1, 78, 4]
abbrev dktX2_passes_1 : List UInt8 := dkwX2_passes_1 ++ dktX2_passes_2
def dkwX2_passes_0 : List UInt8 := [3, 61, 28, 43, 190, 162, 0, 53, 42, 180, 1, 74, 153, 0, 18, 42, 180, 0, 108, 42, 180, 1, 78, 43]
abbrev dktX2_passes_0 : List UInt8 := dkwX2_passes_0 ++ dktX2_passes_1
theorem dksX2_passes_0 : cX2_passes.data.toList.drop 0 = dktX2_passes_0 := by decide +kernel
theorem dksX2_passes_1 : cX2_passes.data.toList.drop 24 = dktX2_passes_1 := dk_seg dksX2_passes_0 24 rfl rfl
theorem dksX2_passes_2 : cX2_passes.data.toList.drop 48 = dktX2_passes_2 := dk_seg dksX2_passes_1 24 rfl rfl
theorem dX2_passes_0 : decode cX2_passes 0 = .ok (.iconst 0, 1) := dk_3 (dk_at dksX2_passes_0 0 rfl rfl)
theorem dX2_passes_1 : decode cX2_passes 1 = .ok (.istore_n 2, 1) := dk_61 (dk_at dksX2_passes_0 1 rfl rfl)
theorem dX2_passes_2 : decode cX2_passes 2 = .ok (.iload_n 2, 1) := dk_28 (dk_at dksX2_passes_0 2 rfl rfl)
theorem dX2_passes_3 : decode cX2_passes 3 = .ok (.aload_n 1, 1) := dk_43 (dk_at dksX2_passes_0 3 rfl rfl)
theorem dX2_passes_4 : decode cX2_passes 4 = .ok (.arraylength, 1) := dk_190 (dk_at dksX2_passes_0 4 rfl rfl)
theorem dX2_passes_5 : decode cX2_passes 5 = .ok (.if_icmp .ge 53, 3) := dk_162 0 53 (dk_at dksX2_passes_0 5 rfl rfl)
theorem dX2_passes_8 : decode cX2_passes 8 = .ok (.aload_n 0, 1) := dk_42 (dk_at dksX2_passes_0 8 rfl rfl)
theorem dX2_passes_9 : decode cX2_passes 9 = .ok (.getfield 330, 3) := dk_180 1 74 (dk_at dksX2_passes_0 9 rfl rfl)
theorem dX2_passes_12 : decode cX2_passes 12 = .ok (.ifCond .eq 18, 3) := dk_153 0 18 (dk_at dksX2_passes_0 12 rfl rfl)
theorem dX2_passes_15 : decode cX2_passes 15 = .ok (.aload_n 0, 1) := dk_42 (dk_at dksX2_passes_0 15 rfl rfl)
theorem dX2_passes_16 : decode cX2_passes 16 = .ok (.getfield 108, 3) := dk_180 0 108 (dk_at dksX2_passes_0 16 rfl rfl)
theorem dX2_passes_19 : decode cX2_passes 19 = .ok (.aload_n 0, 1) := dk_42 (dk_at dksX2_passes_0 19 rfl rfl)
theorem dX2_passes_20 : decode cX2_passes 20 = .ok (.getfield 334, 3) := dk_180 1 78 (dk_at dksX2_passes_0 20 rfl rfl)
theorem dX2_passes_23 : decode cX2_passes 23 = .ok (.aload_n 1, 1) := dk_43 (dk_at dksX2_passes_0 23 rfl rfl)
theorem dX2_passes_24 : decode cX2_passes 24 = .ok (.iload_n 2, 1) := dk_28 (dk_at dksX2_passes_1 0 rfl rfl)
theorem dX2_passes_25 : decode cX2_passes 25 = .ok (.iaload, 1) := dk_46 (dk_at dksX2_passes_1 1 rfl rfl)
theorem dX2_passes_26 : decode cX2_passes 26 = .ok (.iastore, 1) := dk_79 (dk_at dksX2_passes_1 2 rfl rfl)
theorem dX2_passes_27 : decode cX2_passes 27 = .ok (.goto 15, 3) := dk_167 0 15 (dk_at dksX2_passes_1 3 rfl rfl)
theorem dX2_passes_30 : decode cX2_passes 30 = .ok (.aload_n 1, 1) := dk_43 (dk_at dksX2_passes_1 6 rfl rfl)
theorem dX2_passes_31 : decode cX2_passes 31 = .ok (.iload_n 2, 1) := dk_28 (dk_at dksX2_passes_1 7 rfl rfl)
theorem dX2_passes_32 : decode cX2_passes 32 = .ok (.aload_n 0, 1) := dk_42 (dk_at dksX2_passes_1 8 rfl rfl)
theorem dX2_passes_33 : decode cX2_passes 33 = .ok (.getfield 108, 3) := dk_180 0 108 (dk_at dksX2_passes_1 9 rfl rfl)
theorem dX2_passes_36 : decode cX2_passes 36 = .ok (.aload_n 0, 1) := dk_42 (dk_at dksX2_passes_1 12 rfl rfl)
theorem dX2_passes_37 : decode cX2_passes 37 = .ok (.getfield 334, 3) := dk_180 1 78 (dk_at dksX2_passes_1 13 rfl rfl)
theorem dX2_passes_40 : decode cX2_passes 40 = .ok (.iaload, 1) := dk_46 (dk_at dksX2_passes_1 16 rfl rfl)
theorem dX2_passes_41 : decode cX2_passes 41 = .ok (.iastore, 1) := dk_79 (dk_at dksX2_passes_1 17 rfl rfl)
theorem dX2_passes_42 : decode cX2_passes 42 = .ok (.aload_n 0, 1) := dk_42 (dk_at dksX2_passes_1 18 rfl rfl)
theorem dX2_passes_43 : decode cX2_passes 43 = .ok (.dup, 1) := dk_89 (dk_at dksX2_passes_1 19 rfl rfl)
theorem dX2_passes_44 : decode cX2_passes 44 = .ok (.getfield 334, 3) := dk_180 1 78 (dk_at dksX2_passes_1 20 rfl rfl)
theorem dX2_passes_47 : decode cX2_passes 47 = .ok (.iconst 1, 1) := dk_4 (dk_at dksX2_passes_1 23 rfl rfl)
theorem dX2_passes_48 : decode cX2_passes 48 = .ok (.iadd, 1) := dk_96 (dk_at dksX2_passes_2 0 rfl rfl)
theorem dX2_passes_49 : decode cX2_passes 49 = .ok (.putfield 334, 3) := dk_181 1 78 (dk_at dksX2_passes_2 1 rfl rfl)
theorem dX2_passes_52 : decode cX2_passes 52 = .ok (.iinc 2 1, 3) := dk_132 2 1 (dk_at dksX2_passes_2 4 rfl rfl)
theorem dX2_passes_55 : decode cX2_passes 55 = .ok (.goto (-53), 3) := dk_167 255 203 (dk_at dksX2_passes_2 7 rfl rfl)
theorem dX2_passes_58 : decode cX2_passes 58 = .ok (.return_, 1) := dk_177 (dk_at dksX2_passes_2 10 rfl rfl)
abbrev cX2_passOne : ByteArray := prog_18_method_81_code
def yX2_passOne : MethodName := ⟨RX2, "passOne", "(I)I"⟩
def dkwX2_passOne_2 : List UInt8 := [181, 1, 78, 28, 172]
abbrev dktX2_passOne_2 : List UInt8 := dkwX2_passOne_2 ++ []
def dkwX2_passOne_1 : List UInt8 := [180, 1, 74, 153, 0, 13, 42, 180, 0, 108, 42, 180, 1, 78, 27, 79, 42, 89, 180, 1, 78, 4, 96]
abbrev dktX2_passOne_1 : List UInt8 := dkwX2_passOne_1 ++ dktX2_passOne_2
def dkwX2_passOne_0 : List UInt8 := [42, 180, 1, 74, 153, 0, 7, 27, 167, 0, 12, 42, 180, 0, 108, 42, 180, 1, 78, 46, 61, 42]
abbrev dktX2_passOne_0 : List UInt8 := dkwX2_passOne_0 ++ dktX2_passOne_1
theorem dksX2_passOne_0 : cX2_passOne.data.toList.drop 0 = dktX2_passOne_0 := by decide +kernel
theorem dksX2_passOne_1 : cX2_passOne.data.toList.drop 22 = dktX2_passOne_1 := dk_seg dksX2_passOne_0 22 rfl rfl
theorem dksX2_passOne_2 : cX2_passOne.data.toList.drop 45 = dktX2_passOne_2 := dk_seg dksX2_passOne_1 23 rfl rfl
theorem dX2_passOne_0 : decode cX2_passOne 0 = .ok (.aload_n 0, 1) := dk_42 (dk_at dksX2_passOne_0 0 rfl rfl)
theorem dX2_passOne_1 : decode cX2_passOne 1 = .ok (.getfield 330, 3) := dk_180 1 74 (dk_at dksX2_passOne_0 1 rfl rfl)
theorem dX2_passOne_4 : decode cX2_passOne 4 = .ok (.ifCond .eq 7, 3) := dk_153 0 7 (dk_at dksX2_passOne_0 4 rfl rfl)
theorem dX2_passOne_7 : decode cX2_passOne 7 = .ok (.iload_n 1, 1) := dk_27 (dk_at dksX2_passOne_0 7 rfl rfl)
theorem dX2_passOne_8 : decode cX2_passOne 8 = .ok (.goto 12, 3) := dk_167 0 12 (dk_at dksX2_passOne_0 8 rfl rfl)
theorem dX2_passOne_11 : decode cX2_passOne 11 = .ok (.aload_n 0, 1) := dk_42 (dk_at dksX2_passOne_0 11 rfl rfl)
theorem dX2_passOne_12 : decode cX2_passOne 12 = .ok (.getfield 108, 3) := dk_180 0 108 (dk_at dksX2_passOne_0 12 rfl rfl)
theorem dX2_passOne_15 : decode cX2_passOne 15 = .ok (.aload_n 0, 1) := dk_42 (dk_at dksX2_passOne_0 15 rfl rfl)
theorem dX2_passOne_16 : decode cX2_passOne 16 = .ok (.getfield 334, 3) := dk_180 1 78 (dk_at dksX2_passOne_0 16 rfl rfl)
theorem dX2_passOne_19 : decode cX2_passOne 19 = .ok (.iaload, 1) := dk_46 (dk_at dksX2_passOne_0 19 rfl rfl)
theorem dX2_passOne_20 : decode cX2_passOne 20 = .ok (.istore_n 2, 1) := dk_61 (dk_at dksX2_passOne_0 20 rfl rfl)
theorem dX2_passOne_21 : decode cX2_passOne 21 = .ok (.aload_n 0, 1) := dk_42 (dk_at dksX2_passOne_0 21 rfl rfl)
theorem dX2_passOne_22 : decode cX2_passOne 22 = .ok (.getfield 330, 3) := dk_180 1 74 (dk_at dksX2_passOne_1 0 rfl rfl)
theorem dX2_passOne_25 : decode cX2_passOne 25 = .ok (.ifCond .eq 13, 3) := dk_153 0 13 (dk_at dksX2_passOne_1 3 rfl rfl)
theorem dX2_passOne_28 : decode cX2_passOne 28 = .ok (.aload_n 0, 1) := dk_42 (dk_at dksX2_passOne_1 6 rfl rfl)
theorem dX2_passOne_29 : decode cX2_passOne 29 = .ok (.getfield 108, 3) := dk_180 0 108 (dk_at dksX2_passOne_1 7 rfl rfl)
theorem dX2_passOne_32 : decode cX2_passOne 32 = .ok (.aload_n 0, 1) := dk_42 (dk_at dksX2_passOne_1 10 rfl rfl)
theorem dX2_passOne_33 : decode cX2_passOne 33 = .ok (.getfield 334, 3) := dk_180 1 78 (dk_at dksX2_passOne_1 11 rfl rfl)
theorem dX2_passOne_36 : decode cX2_passOne 36 = .ok (.iload_n 1, 1) := dk_27 (dk_at dksX2_passOne_1 14 rfl rfl)
theorem dX2_passOne_37 : decode cX2_passOne 37 = .ok (.iastore, 1) := dk_79 (dk_at dksX2_passOne_1 15 rfl rfl)
theorem dX2_passOne_38 : decode cX2_passOne 38 = .ok (.aload_n 0, 1) := dk_42 (dk_at dksX2_passOne_1 16 rfl rfl)
theorem dX2_passOne_39 : decode cX2_passOne 39 = .ok (.dup, 1) := dk_89 (dk_at dksX2_passOne_1 17 rfl rfl)
theorem dX2_passOne_40 : decode cX2_passOne 40 = .ok (.getfield 334, 3) := dk_180 1 78 (dk_at dksX2_passOne_1 18 rfl rfl)
theorem dX2_passOne_43 : decode cX2_passOne 43 = .ok (.iconst 1, 1) := dk_4 (dk_at dksX2_passOne_1 21 rfl rfl)
theorem dX2_passOne_44 : decode cX2_passOne 44 = .ok (.iadd, 1) := dk_96 (dk_at dksX2_passOne_1 22 rfl rfl)
theorem dX2_passOne_45 : decode cX2_passOne 45 = .ok (.putfield 334, 3) := dk_181 1 78 (dk_at dksX2_passOne_2 0 rfl rfl)
theorem dX2_passOne_48 : decode cX2_passOne 48 = .ok (.iload_n 2, 1) := dk_28 (dk_at dksX2_passOne_2 3 rfl rfl)
theorem dX2_passOne_49 : decode cX2_passOne 49 = .ok (.ireturn, 1) := dk_172 (dk_at dksX2_passOne_2 4 rfl rfl)
abbrev cX2_on : ByteArray := prog_18_method_84_code
def yX2_on : MethodName := ⟨RX2, "on", "()I"⟩
def dkwX2_on_1 : List UInt8 := [180, 0, 46, 172]
abbrev dktX2_on_1 : List UInt8 := dkwX2_on_1 ++ []
def dkwX2_on_0 : List UInt8 := [42, 180, 1, 88, 154, 0, 10, 42, 16, 253, 182, 0, 128, 172, 42, 3, 181, 1, 74, 42, 182, 1, 91, 42]
abbrev dktX2_on_0 : List UInt8 := dkwX2_on_0 ++ dktX2_on_1
theorem dksX2_on_0 : cX2_on.data.toList.drop 0 = dktX2_on_0 := by decide +kernel
theorem dksX2_on_1 : cX2_on.data.toList.drop 24 = dktX2_on_1 := dk_seg dksX2_on_0 24 rfl rfl
theorem dX2_on_0 : decode cX2_on 0 = .ok (.aload_n 0, 1) := dk_42 (dk_at dksX2_on_0 0 rfl rfl)
theorem dX2_on_1 : decode cX2_on 1 = .ok (.getfield 344, 3) := dk_180 1 88 (dk_at dksX2_on_0 1 rfl rfl)
theorem dX2_on_4 : decode cX2_on 4 = .ok (.ifCond .ne 10, 3) := dk_154 0 10 (dk_at dksX2_on_0 4 rfl rfl)
theorem dX2_on_7 : decode cX2_on 7 = .ok (.aload_n 0, 1) := dk_42 (dk_at dksX2_on_0 7 rfl rfl)
theorem dX2_on_8 : decode cX2_on 8 = .ok (.bipush (-3), 2) := dk_16 253 (dk_at dksX2_on_0 8 rfl rfl)
theorem dX2_on_10 : decode cX2_on 10 = .ok (.invokevirtual 128, 3) := dk_182 0 128 (dk_at dksX2_on_0 10 rfl rfl)
theorem dX2_on_13 : decode cX2_on 13 = .ok (.ireturn, 1) := dk_172 (dk_at dksX2_on_0 13 rfl rfl)
theorem dX2_on_14 : decode cX2_on 14 = .ok (.aload_n 0, 1) := dk_42 (dk_at dksX2_on_0 14 rfl rfl)
theorem dX2_on_15 : decode cX2_on 15 = .ok (.iconst 0, 1) := dk_3 (dk_at dksX2_on_0 15 rfl rfl)
theorem dX2_on_16 : decode cX2_on 16 = .ok (.putfield 330, 3) := dk_181 1 74 (dk_at dksX2_on_0 16 rfl rfl)
theorem dX2_on_19 : decode cX2_on 19 = .ok (.aload_n 0, 1) := dk_42 (dk_at dksX2_on_0 19 rfl rfl)
theorem dX2_on_20 : decode cX2_on 20 = .ok (.invokevirtual 347, 3) := dk_182 1 91 (dk_at dksX2_on_0 20 rfl rfl)
theorem dX2_on_23 : decode cX2_on 23 = .ok (.aload_n 0, 1) := dk_42 (dk_at dksX2_on_0 23 rfl rfl)
theorem dX2_on_24 : decode cX2_on 24 = .ok (.getfield 46, 3) := dk_180 0 46 (dk_at dksX2_on_1 0 rfl rfl)
theorem dX2_on_27 : decode cX2_on 27 = .ok (.ireturn, 1) := dk_172 (dk_at dksX2_on_1 3 rfl rfl)
abbrev cX2_count : ByteArray := prog_18_method_85_code
def yX2_count : MethodName := ⟨RX2, "count", "(I)I"⟩
def dkwX2_count_4 : List UInt8 := [180, 1, 43, 172, 42, 180, 1, 71, 172, 42, 180, 0, 125, 172, 16, 247, 172]
abbrev dktX2_count_4 : List UInt8 := dkwX2_count_4 ++ []
def dkwX2_count_3 : List UInt8 := [180, 0, 19, 29, 46, 153, 0, 7, 4, 167, 0, 4, 3, 96, 61, 132, 3, 1, 167, 255, 228, 28, 172, 42]
abbrev dktX2_count_3 : List UInt8 := dkwX2_count_3 ++ dktX2_count_4
def dkwX2_count_2 : List UInt8 := [42, 180, 0, 46, 172, 42, 180, 0, 114, 172, 3, 62, 29, 42, 180, 0, 46, 162, 0, 26, 28, 42]
abbrev dktX2_count_2 : List UInt8 := dkwX2_count_2 ++ dktX2_count_3
def dkwX2_count_1 : List UInt8 := [170, 0, 0, 0, 0, 0, 0, 100, 0, 0, 0, 0, 0, 0, 0, 5, 0, 0, 0, 40, 0, 0, 0, 45, 0, 0, 0, 50, 0, 0, 0, 85, 0, 0, 0, 90, 0, 0, 0, 95]
abbrev dktX2_count_1 : List UInt8 := dkwX2_count_1 ++ dktX2_count_2
def dkwX2_count_0 : List UInt8 := [27, 16, 11, 16, 16, 184, 0, 140, 153, 0, 13, 42, 180, 0, 7, 27, 16, 10, 100, 46, 172, 3, 61, 27]
abbrev dktX2_count_0 : List UInt8 := dkwX2_count_0 ++ dktX2_count_1
theorem dksX2_count_0 : cX2_count.data.toList.drop 0 = dktX2_count_0 := by decide +kernel
theorem dksX2_count_1 : cX2_count.data.toList.drop 24 = dktX2_count_1 := dk_seg dksX2_count_0 24 rfl rfl
theorem dksX2_count_2 : cX2_count.data.toList.drop 64 = dktX2_count_2 := dk_seg dksX2_count_1 40 rfl rfl
theorem dksX2_count_3 : cX2_count.data.toList.drop 86 = dktX2_count_3 := dk_seg dksX2_count_2 22 rfl rfl
theorem dksX2_count_4 : cX2_count.data.toList.drop 110 = dktX2_count_4 := dk_seg dksX2_count_3 24 rfl rfl
theorem dX2_count_0 : decode cX2_count 0 = .ok (.iload_n 1, 1) := dk_27 (dk_at dksX2_count_0 0 rfl rfl)
theorem dX2_count_1 : decode cX2_count 1 = .ok (.bipush 11, 2) := dk_16 11 (dk_at dksX2_count_0 1 rfl rfl)
theorem dX2_count_3 : decode cX2_count 3 = .ok (.bipush 16, 2) := dk_16 16 (dk_at dksX2_count_0 3 rfl rfl)
theorem dX2_count_5 : decode cX2_count 5 = .ok (.invokestatic 140, 3) := dk_184 0 140 (dk_at dksX2_count_0 5 rfl rfl)
theorem dX2_count_8 : decode cX2_count 8 = .ok (.ifCond .eq 13, 3) := dk_153 0 13 (dk_at dksX2_count_0 8 rfl rfl)
theorem dX2_count_11 : decode cX2_count 11 = .ok (.aload_n 0, 1) := dk_42 (dk_at dksX2_count_0 11 rfl rfl)
theorem dX2_count_12 : decode cX2_count 12 = .ok (.getfield 7, 3) := dk_180 0 7 (dk_at dksX2_count_0 12 rfl rfl)
theorem dX2_count_15 : decode cX2_count 15 = .ok (.iload_n 1, 1) := dk_27 (dk_at dksX2_count_0 15 rfl rfl)
theorem dX2_count_16 : decode cX2_count 16 = .ok (.bipush 10, 2) := dk_16 10 (dk_at dksX2_count_0 16 rfl rfl)
theorem dX2_count_18 : decode cX2_count 18 = .ok (.isub, 1) := dk_100 (dk_at dksX2_count_0 18 rfl rfl)
theorem dX2_count_19 : decode cX2_count 19 = .ok (.iaload, 1) := dk_46 (dk_at dksX2_count_0 19 rfl rfl)
theorem dX2_count_20 : decode cX2_count 20 = .ok (.ireturn, 1) := dk_172 (dk_at dksX2_count_0 20 rfl rfl)
theorem dX2_count_21 : decode cX2_count 21 = .ok (.iconst 0, 1) := dk_3 (dk_at dksX2_count_0 21 rfl rfl)
theorem dX2_count_22 : decode cX2_count 22 = .ok (.istore_n 2, 1) := dk_61 (dk_at dksX2_count_0 22 rfl rfl)
theorem dX2_count_23 : decode cX2_count 23 = .ok (.iload_n 1, 1) := dk_27 (dk_at dksX2_count_0 23 rfl rfl)
theorem dX2_count_24 : decode cX2_count 24 = .ok (.tableswitch 100 0 5 #[40, 45, 50, 85, 90, 95], 40) := by decide +kernel
theorem dX2_count_64 : decode cX2_count 64 = .ok (.aload_n 0, 1) := dk_42 (dk_at dksX2_count_2 0 rfl rfl)
theorem dX2_count_65 : decode cX2_count 65 = .ok (.getfield 46, 3) := dk_180 0 46 (dk_at dksX2_count_2 1 rfl rfl)
theorem dX2_count_68 : decode cX2_count 68 = .ok (.ireturn, 1) := dk_172 (dk_at dksX2_count_2 4 rfl rfl)
theorem dX2_count_69 : decode cX2_count 69 = .ok (.aload_n 0, 1) := dk_42 (dk_at dksX2_count_2 5 rfl rfl)
theorem dX2_count_70 : decode cX2_count 70 = .ok (.getfield 114, 3) := dk_180 0 114 (dk_at dksX2_count_2 6 rfl rfl)
theorem dX2_count_73 : decode cX2_count 73 = .ok (.ireturn, 1) := dk_172 (dk_at dksX2_count_2 9 rfl rfl)
theorem dX2_count_74 : decode cX2_count 74 = .ok (.iconst 0, 1) := dk_3 (dk_at dksX2_count_2 10 rfl rfl)
theorem dX2_count_75 : decode cX2_count 75 = .ok (.istore_n 3, 1) := dk_62 (dk_at dksX2_count_2 11 rfl rfl)
theorem dX2_count_76 : decode cX2_count 76 = .ok (.iload_n 3, 1) := dk_29 (dk_at dksX2_count_2 12 rfl rfl)
theorem dX2_count_77 : decode cX2_count 77 = .ok (.aload_n 0, 1) := dk_42 (dk_at dksX2_count_2 13 rfl rfl)
theorem dX2_count_78 : decode cX2_count 78 = .ok (.getfield 46, 3) := dk_180 0 46 (dk_at dksX2_count_2 14 rfl rfl)
theorem dX2_count_81 : decode cX2_count 81 = .ok (.if_icmp .ge 26, 3) := dk_162 0 26 (dk_at dksX2_count_2 17 rfl rfl)
theorem dX2_count_84 : decode cX2_count 84 = .ok (.iload_n 2, 1) := dk_28 (dk_at dksX2_count_2 20 rfl rfl)
theorem dX2_count_85 : decode cX2_count 85 = .ok (.aload_n 0, 1) := dk_42 (dk_at dksX2_count_2 21 rfl rfl)
theorem dX2_count_86 : decode cX2_count 86 = .ok (.getfield 19, 3) := dk_180 0 19 (dk_at dksX2_count_3 0 rfl rfl)
theorem dX2_count_89 : decode cX2_count 89 = .ok (.iload_n 3, 1) := dk_29 (dk_at dksX2_count_3 3 rfl rfl)
theorem dX2_count_90 : decode cX2_count 90 = .ok (.iaload, 1) := dk_46 (dk_at dksX2_count_3 4 rfl rfl)
theorem dX2_count_91 : decode cX2_count 91 = .ok (.ifCond .eq 7, 3) := dk_153 0 7 (dk_at dksX2_count_3 5 rfl rfl)
theorem dX2_count_94 : decode cX2_count 94 = .ok (.iconst 1, 1) := dk_4 (dk_at dksX2_count_3 8 rfl rfl)
theorem dX2_count_95 : decode cX2_count 95 = .ok (.goto 4, 3) := dk_167 0 4 (dk_at dksX2_count_3 9 rfl rfl)
theorem dX2_count_98 : decode cX2_count 98 = .ok (.iconst 0, 1) := dk_3 (dk_at dksX2_count_3 12 rfl rfl)
theorem dX2_count_99 : decode cX2_count 99 = .ok (.iadd, 1) := dk_96 (dk_at dksX2_count_3 13 rfl rfl)
theorem dX2_count_100 : decode cX2_count 100 = .ok (.istore_n 2, 1) := dk_61 (dk_at dksX2_count_3 14 rfl rfl)
theorem dX2_count_101 : decode cX2_count 101 = .ok (.iinc 3 1, 3) := dk_132 3 1 (dk_at dksX2_count_3 15 rfl rfl)
theorem dX2_count_104 : decode cX2_count 104 = .ok (.goto (-28), 3) := dk_167 255 228 (dk_at dksX2_count_3 18 rfl rfl)
theorem dX2_count_107 : decode cX2_count 107 = .ok (.iload_n 2, 1) := dk_28 (dk_at dksX2_count_3 21 rfl rfl)
theorem dX2_count_108 : decode cX2_count 108 = .ok (.ireturn, 1) := dk_172 (dk_at dksX2_count_3 22 rfl rfl)
theorem dX2_count_109 : decode cX2_count 109 = .ok (.aload_n 0, 1) := dk_42 (dk_at dksX2_count_3 23 rfl rfl)
theorem dX2_count_110 : decode cX2_count 110 = .ok (.getfield 299, 3) := dk_180 1 43 (dk_at dksX2_count_4 0 rfl rfl)
theorem dX2_count_113 : decode cX2_count 113 = .ok (.ireturn, 1) := dk_172 (dk_at dksX2_count_4 3 rfl rfl)
theorem dX2_count_114 : decode cX2_count 114 = .ok (.aload_n 0, 1) := dk_42 (dk_at dksX2_count_4 4 rfl rfl)
theorem dX2_count_115 : decode cX2_count 115 = .ok (.getfield 327, 3) := dk_180 1 71 (dk_at dksX2_count_4 5 rfl rfl)
theorem dX2_count_118 : decode cX2_count 118 = .ok (.ireturn, 1) := dk_172 (dk_at dksX2_count_4 8 rfl rfl)
theorem dX2_count_119 : decode cX2_count 119 = .ok (.aload_n 0, 1) := dk_42 (dk_at dksX2_count_4 9 rfl rfl)
theorem dX2_count_120 : decode cX2_count 120 = .ok (.getfield 125, 3) := dk_180 0 125 (dk_at dksX2_count_4 10 rfl rfl)
theorem dX2_count_123 : decode cX2_count 123 = .ok (.ireturn, 1) := dk_172 (dk_at dksX2_count_4 13 rfl rfl)
theorem dX2_count_124 : decode cX2_count 124 = .ok (.bipush (-9), 2) := dk_16 247 (dk_at dksX2_count_4 14 rfl rfl)
theorem dX2_count_126 : decode cX2_count 126 = .ok (.ireturn, 1) := dk_172 (dk_at dksX2_count_4 16 rfl rfl)
theorem q106 : (Jvm.Cond.initialized "BeforeTheEndModel") ∈ lw_all := lw_g (lw_at lw_m1 3 rfl) rfl
theorem q1218 : (Jvm.Cond.instantiable "BeforeTheEndModel" (52 : Nat)) ∈ lw_all := lw_g (lw_at lw_m5 155 rfl) rfl
theorem q1220 : (Jvm.Cond.instanceMethod ({ cls := "BeforeTheEndModel", name := "<init>", desc := "()V" } : Jvm.MethodName)) ∈ lw_all := lw_g (lw_at lw_m5 157 rfl) rfl
theorem q1221 : (Jvm.Cond.code ({ cls := "BeforeTheEndModel", name := "<init>", desc := "()V" } : Jvm.MethodName) prog_18_method_1_code (1 : Nat) (Option.none : Option Jvm.ClassFile.FieldType)) ∈ lw_all := lw_g (lw_at lw_m5 158 rfl) rfl
theorem q1222 : (Jvm.Cond.methodLink "BeforeTheEndModel" (1 : Nat) ({ cls := "java/lang/Object", name := "<init>", desc := "()V" } : Jvm.MethodName)) ∈ lw_all := lw_g (lw_at lw_m5 159 rfl) rfl
theorem q1223 : (Jvm.Cond.fieldLink "BeforeTheEndModel" (7 : Nat) "BeforeTheEndModel" "refused" "[I") ∈ lw_all := lw_g (lw_at lw_m5 160 rfl) rfl
theorem q1224 : (Jvm.Cond.fieldLink "BeforeTheEndModel" (13 : Nat) "BeforeTheEndModel" "parent" "[I") ∈ lw_all := lw_g (lw_at lw_m5 161 rfl) rfl
theorem q1225 : (Jvm.Cond.fieldLink "BeforeTheEndModel" (16 : Nat) "BeforeTheEndModel" "weight" "[I") ∈ lw_all := lw_g (lw_at lw_m5 162 rfl) rfl
theorem q1226 : (Jvm.Cond.fieldLink "BeforeTheEndModel" (19 : Nat) "BeforeTheEndModel" "answer" "[I") ∈ lw_all := lw_g (lw_at lw_m5 163 rfl) rfl
theorem q1227 : (Jvm.Cond.fieldLink "BeforeTheEndModel" (22 : Nat) "BeforeTheEndModel" "length" "[I") ∈ lw_all := lw_g (lw_at lw_m5 164 rfl) rfl
theorem q1228 : (Jvm.Cond.fieldLink "BeforeTheEndModel" (25 : Nat) "BeforeTheEndModel" "kind" "[I") ∈ lw_all := lw_g (lw_at lw_m5 165 rfl) rfl
theorem q1229 : (Jvm.Cond.fieldLink "BeforeTheEndModel" (28 : Nat) "BeforeTheEndModel" "knows" "[I") ∈ lw_all := lw_g (lw_at lw_m5 166 rfl) rfl
theorem q1230 : (Jvm.Cond.fieldLink "BeforeTheEndModel" (31 : Nat) "BeforeTheEndModel" "hand" "[I") ∈ lw_all := lw_g (lw_at lw_m5 167 rfl) rfl
theorem q1231 : (Jvm.Cond.fieldLink "BeforeTheEndModel" (34 : Nat) "BeforeTheEndModel" "sure" "[I") ∈ lw_all := lw_g (lw_at lw_m5 168 rfl) rfl
theorem q1232 : (Jvm.Cond.fieldLink "BeforeTheEndModel" (37 : Nat) "BeforeTheEndModel" "told" "[I") ∈ lw_all := lw_g (lw_at lw_m5 169 rfl) rfl
theorem q1233 : (Jvm.Cond.fieldLink "BeforeTheEndModel" (40 : Nat) "BeforeTheEndModel" "points" "[I") ∈ lw_all := lw_g (lw_at lw_m5 170 rfl) rfl
theorem q1234 : (Jvm.Cond.fieldLink "BeforeTheEndModel" (43 : Nat) "BeforeTheEndModel" "most" "[I") ∈ lw_all := lw_g (lw_at lw_m5 171 rfl) rfl
theorem q1235 : (Jvm.Cond.fieldLink "BeforeTheEndModel" (46 : Nat) "BeforeTheEndModel" "words" "I") ∈ lw_all := lw_g (lw_at lw_m5 172 rfl) rfl
theorem q1236 : (Jvm.Cond.fieldLink "BeforeTheEndModel" (114 : Nat) "BeforeTheEndModel" "players" "I") ∈ lw_all := lw_g (lw_at lw_m5 173 rfl) rfl
theorem q1237 : (Jvm.Cond.fieldLink "BeforeTheEndModel" (50 : Nat) "BeforeTheEndModel" "tape" "[I") ∈ lw_all := lw_g (lw_at lw_m5 174 rfl) rfl
theorem q1238 : (Jvm.Cond.fieldLink "BeforeTheEndModel" (53 : Nat) "BeforeTheEndModel" "told1" "[I") ∈ lw_all := lw_g (lw_at lw_m5 175 rfl) rfl
theorem q1239 : (Jvm.Cond.fieldLink "BeforeTheEndModel" (56 : Nat) "BeforeTheEndModel" "told2" "[I") ∈ lw_all := lw_g (lw_at lw_m5 176 rfl) rfl
theorem q1240 : (Jvm.Cond.fieldLink "BeforeTheEndModel" (59 : Nat) "BeforeTheEndModel" "told3" "[I") ∈ lw_all := lw_g (lw_at lw_m5 177 rfl) rfl
theorem q1241 : (Jvm.Cond.fieldLink "BeforeTheEndModel" (62 : Nat) "BeforeTheEndModel" "toldSet" "[I") ∈ lw_all := lw_g (lw_at lw_m5 178 rfl) rfl
theorem q1242 : (Jvm.Cond.fieldLink "BeforeTheEndModel" (65 : Nat) "BeforeTheEndModel" "toldKind" "[I") ∈ lw_all := lw_g (lw_at lw_m5 179 rfl) rfl
theorem q1243 : (Jvm.Cond.fieldLink "BeforeTheEndModel" (68 : Nat) "BeforeTheEndModel" "toldAt" "[I") ∈ lw_all := lw_g (lw_at lw_m5 180 rfl) rfl
theorem q1244 : (Jvm.Cond.fieldLink "BeforeTheEndModel" (125 : Nat) "BeforeTheEndModel" "taped" "I") ∈ lw_all := lw_g (lw_at lw_m5 181 rfl) rfl
theorem q1245 : (Jvm.Cond.fieldLink "BeforeTheEndModel" (133 : Nat) "BeforeTheEndModel" "at" "I") ∈ lw_all := lw_g (lw_at lw_m5 182 rfl) rfl
theorem q1246 : (Jvm.Cond.fieldLink "BeforeTheEndModel" (157 : Nat) "BeforeTheEndModel" "statements" "I") ∈ lw_all := lw_g (lw_at lw_m5 183 rfl) rfl
theorem q1247 : (Jvm.Cond.fieldLink "BeforeTheEndModel" (71 : Nat) "BeforeTheEndModel" "share" "[J") ∈ lw_all := lw_g (lw_at lw_m5 184 rfl) rfl
theorem q1248 : (Jvm.Cond.fieldLink "BeforeTheEndModel" (75 : Nat) "BeforeTheEndModel" "ofAnswer" "[J") ∈ lw_all := lw_g (lw_at lw_m5 185 rfl) rfl
theorem q1249 : (Jvm.Cond.fieldLink "BeforeTheEndModel" (78 : Nat) "BeforeTheEndModel" "guessAt" "[I") ∈ lw_all := lw_g (lw_at lw_m5 186 rfl) rfl
theorem q1250 : (Jvm.Cond.fieldLink "BeforeTheEndModel" (81 : Nat) "BeforeTheEndModel" "presses" "[I") ∈ lw_all := lw_g (lw_at lw_m5 187 rfl) rfl
theorem q1251 : (Jvm.Cond.fieldLink "BeforeTheEndModel" (84 : Nat) "BeforeTheEndModel" "learnt" "[I") ∈ lw_all := lw_g (lw_at lw_m5 188 rfl) rfl
theorem q1252 : (Jvm.Cond.fieldLink "BeforeTheEndModel" (194 : Nat) "BeforeTheEndModel" "unit" "J") ∈ lw_all := lw_g (lw_at lw_m5 189 rfl) rfl
theorem q1253 : (Jvm.Cond.fieldLink "BeforeTheEndModel" (87 : Nat) "BeforeTheEndModel" "worthAt" "[J") ∈ lw_all := lw_g (lw_at lw_m5 190 rfl) rfl
theorem q1254 : (Jvm.Cond.fieldLink "BeforeTheEndModel" (212 : Nat) "BeforeTheEndModel" "aloneSet" "I") ∈ lw_all := lw_g (lw_at lw_m5 191 rfl) rfl
theorem q1255 : (Jvm.Cond.fieldLink "BeforeTheEndModel" (90 : Nat) "BeforeTheEndModel" "way" "[I") ∈ lw_all := lw_g (lw_at lw_m5 192 rfl) rfl
theorem q1256 : (Jvm.Cond.fieldLink "BeforeTheEndModel" (93 : Nat) "BeforeTheEndModel" "gets" "[I") ∈ lw_all := lw_g (lw_at lw_m5 193 rfl) rfl
theorem q1257 : (Jvm.Cond.fieldLink "BeforeTheEndModel" (262 : Nat) "BeforeTheEndModel" "winner" "I") ∈ lw_all := lw_g (lw_at lw_m5 194 rfl) rfl
theorem q1258 : (Jvm.Cond.fieldLink "BeforeTheEndModel" (259 : Nat) "BeforeTheEndModel" "firstWord" "I") ∈ lw_all := lw_g (lw_at lw_m5 195 rfl) rfl
theorem q1259 : (Jvm.Cond.fieldLink "BeforeTheEndModel" (256 : Nat) "BeforeTheEndModel" "firstWho" "I") ∈ lw_all := lw_g (lw_at lw_m5 196 rfl) rfl
theorem q1260 : (Jvm.Cond.fieldLink "BeforeTheEndModel" (250 : Nat) "BeforeTheEndModel" "wrongs" "I") ∈ lw_all := lw_g (lw_at lw_m5 197 rfl) rfl
theorem q1261 : (Jvm.Cond.fieldLink "BeforeTheEndModel" (253 : Nat) "BeforeTheEndModel" "out" "I") ∈ lw_all := lw_g (lw_at lw_m5 198 rfl) rfl
theorem q1262 : (Jvm.Cond.fieldLink "BeforeTheEndModel" (284 : Nat) "BeforeTheEndModel" "bestWorth" "J") ∈ lw_all := lw_g (lw_at lw_m5 199 rfl) rfl
theorem q1263 : (Jvm.Cond.fieldLink "BeforeTheEndModel" (281 : Nat) "BeforeTheEndModel" "bestSet" "I") ∈ lw_all := lw_g (lw_at lw_m5 200 rfl) rfl
theorem q1264 : (Jvm.Cond.fieldLink "BeforeTheEndModel" (96 : Nat) "BeforeTheEndModel" "fact" "[I") ∈ lw_all := lw_g (lw_at lw_m5 201 rfl) rfl
theorem q1265 : (Jvm.Cond.fieldLink "BeforeTheEndModel" (99 : Nat) "BeforeTheEndModel" "order" "[I") ∈ lw_all := lw_g (lw_at lw_m5 202 rfl) rfl
theorem q1266 : (Jvm.Cond.fieldLink "BeforeTheEndModel" (102 : Nat) "BeforeTheEndModel" "bestOrder" "[I") ∈ lw_all := lw_g (lw_at lw_m5 203 rfl) rfl
theorem q1267 : (Jvm.Cond.fieldLink "BeforeTheEndModel" (299 : Nat) "BeforeTheEndModel" "facts" "I") ∈ lw_all := lw_g (lw_at lw_m5 204 rfl) rfl
theorem q1268 : (Jvm.Cond.fieldLink "BeforeTheEndModel" (315 : Nat) "BeforeTheEndModel" "lots" "I") ∈ lw_all := lw_g (lw_at lw_m5 205 rfl) rfl
theorem q1269 : (Jvm.Cond.fieldLink "BeforeTheEndModel" (105 : Nat) "BeforeTheEndModel" "row" "[I") ∈ lw_all := lw_g (lw_at lw_m5 206 rfl) rfl
theorem q1270 : (Jvm.Cond.fieldLink "BeforeTheEndModel" (327 : Nat) "BeforeTheEndModel" "rowMany" "I") ∈ lw_all := lw_g (lw_at lw_m5 207 rfl) rfl
theorem q1271 : (Jvm.Cond.fieldLink "BeforeTheEndModel" (108 : Nat) "BeforeTheEndModel" "kept" "[I") ∈ lw_all := lw_g (lw_at lw_m5 208 rfl) rfl
theorem q1272 : (Jvm.Cond.fieldLink "BeforeTheEndModel" (344 : Nat) "BeforeTheEndModel" "hasImage" "Z") ∈ lw_all := lw_g (lw_at lw_m5 209 rfl) rfl
theorem q1273 : (Jvm.Cond.fieldLink "BeforeTheEndModel" (330 : Nat) "BeforeTheEndModel" "isKeeping" "Z") ∈ lw_all := lw_g (lw_at lw_m5 210 rfl) rfl
theorem q1274 : (Jvm.Cond.fieldLink "BeforeTheEndModel" (334 : Nat) "BeforeTheEndModel" "cursor" "I") ∈ lw_all := lw_g (lw_at lw_m5 211 rfl) rfl
theorem q1275 : (Jvm.Cond.laysFinal "BeforeTheEndModel" "BeforeTheEndModel" "refused" "[I") ∈ lw_all := lw_g (lw_at lw_m5 212 rfl) rfl
theorem q1276 : (Jvm.Cond.soleField "BeforeTheEndModel" "refused") ∈ lw_all := lw_g (lw_at lw_m5 213 rfl) rfl
theorem q1277 : (Jvm.Cond.laysFinal "BeforeTheEndModel" "BeforeTheEndModel" "parent" "[I") ∈ lw_all := lw_g (lw_at lw_m5 214 rfl) rfl
theorem q1278 : (Jvm.Cond.soleField "BeforeTheEndModel" "parent") ∈ lw_all := lw_g (lw_at lw_m5 215 rfl) rfl
theorem q1279 : (Jvm.Cond.laysFinal "BeforeTheEndModel" "BeforeTheEndModel" "weight" "[I") ∈ lw_all := lw_g (lw_at lw_m5 216 rfl) rfl
theorem q1280 : (Jvm.Cond.soleField "BeforeTheEndModel" "weight") ∈ lw_all := lw_g (lw_at lw_m5 217 rfl) rfl
theorem q1281 : (Jvm.Cond.laysFinal "BeforeTheEndModel" "BeforeTheEndModel" "answer" "[I") ∈ lw_all := lw_g (lw_at lw_m5 218 rfl) rfl
theorem q1282 : (Jvm.Cond.soleField "BeforeTheEndModel" "answer") ∈ lw_all := lw_g (lw_at lw_m5 219 rfl) rfl
theorem q1283 : (Jvm.Cond.laysFinal "BeforeTheEndModel" "BeforeTheEndModel" "length" "[I") ∈ lw_all := lw_g (lw_at lw_m5 220 rfl) rfl
theorem q1284 : (Jvm.Cond.soleField "BeforeTheEndModel" "length") ∈ lw_all := lw_g (lw_at lw_m5 221 rfl) rfl
theorem q1285 : (Jvm.Cond.laysFinal "BeforeTheEndModel" "BeforeTheEndModel" "kind" "[I") ∈ lw_all := lw_g (lw_at lw_m5 222 rfl) rfl
theorem q1286 : (Jvm.Cond.soleField "BeforeTheEndModel" "kind") ∈ lw_all := lw_g (lw_at lw_m5 223 rfl) rfl
theorem q1287 : (Jvm.Cond.laysFinal "BeforeTheEndModel" "BeforeTheEndModel" "knows" "[I") ∈ lw_all := lw_g (lw_at lw_m5 224 rfl) rfl
theorem q1288 : (Jvm.Cond.soleField "BeforeTheEndModel" "knows") ∈ lw_all := lw_g (lw_at lw_m5 225 rfl) rfl
theorem q1289 : (Jvm.Cond.laysFinal "BeforeTheEndModel" "BeforeTheEndModel" "hand" "[I") ∈ lw_all := lw_g (lw_at lw_m5 226 rfl) rfl
theorem q1290 : (Jvm.Cond.soleField "BeforeTheEndModel" "hand") ∈ lw_all := lw_g (lw_at lw_m5 227 rfl) rfl
theorem q1291 : (Jvm.Cond.laysFinal "BeforeTheEndModel" "BeforeTheEndModel" "sure" "[I") ∈ lw_all := lw_g (lw_at lw_m5 228 rfl) rfl
theorem q1292 : (Jvm.Cond.soleField "BeforeTheEndModel" "sure") ∈ lw_all := lw_g (lw_at lw_m5 229 rfl) rfl
theorem q1293 : (Jvm.Cond.laysFinal "BeforeTheEndModel" "BeforeTheEndModel" "told" "[I") ∈ lw_all := lw_g (lw_at lw_m5 230 rfl) rfl
theorem q1294 : (Jvm.Cond.soleField "BeforeTheEndModel" "told") ∈ lw_all := lw_g (lw_at lw_m5 231 rfl) rfl
theorem q1295 : (Jvm.Cond.laysFinal "BeforeTheEndModel" "BeforeTheEndModel" "points" "[I") ∈ lw_all := lw_g (lw_at lw_m5 232 rfl) rfl
theorem q1296 : (Jvm.Cond.soleField "BeforeTheEndModel" "points") ∈ lw_all := lw_g (lw_at lw_m5 233 rfl) rfl
theorem q1297 : (Jvm.Cond.laysFinal "BeforeTheEndModel" "BeforeTheEndModel" "most" "[I") ∈ lw_all := lw_g (lw_at lw_m5 234 rfl) rfl
theorem q1298 : (Jvm.Cond.soleField "BeforeTheEndModel" "most") ∈ lw_all := lw_g (lw_at lw_m5 235 rfl) rfl
theorem q1299 : (Jvm.Cond.lays "BeforeTheEndModel" "BeforeTheEndModel" "words" "I") ∈ lw_all := lw_g (lw_at lw_m5 236 rfl) rfl
theorem q1300 : (Jvm.Cond.soleField "BeforeTheEndModel" "words") ∈ lw_all := lw_g (lw_at lw_m5 237 rfl) rfl
theorem q1301 : (Jvm.Cond.lays "BeforeTheEndModel" "BeforeTheEndModel" "players" "I") ∈ lw_all := lw_g (lw_at lw_m5 238 rfl) rfl
theorem q1302 : (Jvm.Cond.soleField "BeforeTheEndModel" "players") ∈ lw_all := lw_g (lw_at lw_m5 239 rfl) rfl
theorem q1303 : (Jvm.Cond.laysFinal "BeforeTheEndModel" "BeforeTheEndModel" "tape" "[I") ∈ lw_all := lw_g (lw_at lw_m6 0 rfl) rfl
theorem q1304 : (Jvm.Cond.soleField "BeforeTheEndModel" "tape") ∈ lw_all := lw_g (lw_at lw_m6 1 rfl) rfl
theorem q1305 : (Jvm.Cond.laysFinal "BeforeTheEndModel" "BeforeTheEndModel" "told1" "[I") ∈ lw_all := lw_g (lw_at lw_m6 2 rfl) rfl
theorem q1306 : (Jvm.Cond.soleField "BeforeTheEndModel" "told1") ∈ lw_all := lw_g (lw_at lw_m6 3 rfl) rfl
theorem q1307 : (Jvm.Cond.laysFinal "BeforeTheEndModel" "BeforeTheEndModel" "told2" "[I") ∈ lw_all := lw_g (lw_at lw_m6 4 rfl) rfl
theorem q1308 : (Jvm.Cond.soleField "BeforeTheEndModel" "told2") ∈ lw_all := lw_g (lw_at lw_m6 5 rfl) rfl
theorem q1309 : (Jvm.Cond.laysFinal "BeforeTheEndModel" "BeforeTheEndModel" "told3" "[I") ∈ lw_all := lw_g (lw_at lw_m6 6 rfl) rfl
theorem q1310 : (Jvm.Cond.soleField "BeforeTheEndModel" "told3") ∈ lw_all := lw_g (lw_at lw_m6 7 rfl) rfl
theorem q1311 : (Jvm.Cond.laysFinal "BeforeTheEndModel" "BeforeTheEndModel" "toldSet" "[I") ∈ lw_all := lw_g (lw_at lw_m6 8 rfl) rfl
theorem q1312 : (Jvm.Cond.soleField "BeforeTheEndModel" "toldSet") ∈ lw_all := lw_g (lw_at lw_m6 9 rfl) rfl
theorem q1313 : (Jvm.Cond.laysFinal "BeforeTheEndModel" "BeforeTheEndModel" "toldKind" "[I") ∈ lw_all := lw_g (lw_at lw_m6 10 rfl) rfl
theorem q1314 : (Jvm.Cond.soleField "BeforeTheEndModel" "toldKind") ∈ lw_all := lw_g (lw_at lw_m6 11 rfl) rfl
theorem q1315 : (Jvm.Cond.laysFinal "BeforeTheEndModel" "BeforeTheEndModel" "toldAt" "[I") ∈ lw_all := lw_g (lw_at lw_m6 12 rfl) rfl
theorem q1316 : (Jvm.Cond.soleField "BeforeTheEndModel" "toldAt") ∈ lw_all := lw_g (lw_at lw_m6 13 rfl) rfl
theorem q1317 : (Jvm.Cond.lays "BeforeTheEndModel" "BeforeTheEndModel" "taped" "I") ∈ lw_all := lw_g (lw_at lw_m6 14 rfl) rfl
theorem q1318 : (Jvm.Cond.soleField "BeforeTheEndModel" "taped") ∈ lw_all := lw_g (lw_at lw_m6 15 rfl) rfl
theorem q1319 : (Jvm.Cond.lays "BeforeTheEndModel" "BeforeTheEndModel" "at" "I") ∈ lw_all := lw_g (lw_at lw_m6 16 rfl) rfl
theorem q1320 : (Jvm.Cond.soleField "BeforeTheEndModel" "at") ∈ lw_all := lw_g (lw_at lw_m6 17 rfl) rfl
theorem q1321 : (Jvm.Cond.lays "BeforeTheEndModel" "BeforeTheEndModel" "statements" "I") ∈ lw_all := lw_g (lw_at lw_m6 18 rfl) rfl
theorem q1322 : (Jvm.Cond.soleField "BeforeTheEndModel" "statements") ∈ lw_all := lw_g (lw_at lw_m6 19 rfl) rfl
theorem q1323 : (Jvm.Cond.laysFinal "BeforeTheEndModel" "BeforeTheEndModel" "share" "[J") ∈ lw_all := lw_g (lw_at lw_m6 20 rfl) rfl
theorem q1324 : (Jvm.Cond.soleField "BeforeTheEndModel" "share") ∈ lw_all := lw_g (lw_at lw_m6 21 rfl) rfl
theorem q1325 : (Jvm.Cond.laysFinal "BeforeTheEndModel" "BeforeTheEndModel" "ofAnswer" "[J") ∈ lw_all := lw_g (lw_at lw_m6 22 rfl) rfl
theorem q1326 : (Jvm.Cond.soleField "BeforeTheEndModel" "ofAnswer") ∈ lw_all := lw_g (lw_at lw_m6 23 rfl) rfl
theorem q1327 : (Jvm.Cond.laysFinal "BeforeTheEndModel" "BeforeTheEndModel" "guessAt" "[I") ∈ lw_all := lw_g (lw_at lw_m6 24 rfl) rfl
theorem q1328 : (Jvm.Cond.soleField "BeforeTheEndModel" "guessAt") ∈ lw_all := lw_g (lw_at lw_m6 25 rfl) rfl
theorem q1329 : (Jvm.Cond.laysFinal "BeforeTheEndModel" "BeforeTheEndModel" "presses" "[I") ∈ lw_all := lw_g (lw_at lw_m6 26 rfl) rfl
theorem q1330 : (Jvm.Cond.soleField "BeforeTheEndModel" "presses") ∈ lw_all := lw_g (lw_at lw_m6 27 rfl) rfl
theorem q1331 : (Jvm.Cond.laysFinal "BeforeTheEndModel" "BeforeTheEndModel" "learnt" "[I") ∈ lw_all := lw_g (lw_at lw_m6 28 rfl) rfl
theorem q1332 : (Jvm.Cond.soleField "BeforeTheEndModel" "learnt") ∈ lw_all := lw_g (lw_at lw_m6 29 rfl) rfl
theorem q1333 : (Jvm.Cond.lays "BeforeTheEndModel" "BeforeTheEndModel" "unit" "J") ∈ lw_all := lw_g (lw_at lw_m6 30 rfl) rfl
theorem q1334 : (Jvm.Cond.soleField "BeforeTheEndModel" "unit") ∈ lw_all := lw_g (lw_at lw_m6 31 rfl) rfl
theorem q1335 : (Jvm.Cond.laysFinal "BeforeTheEndModel" "BeforeTheEndModel" "worthAt" "[J") ∈ lw_all := lw_g (lw_at lw_m6 32 rfl) rfl
theorem q1336 : (Jvm.Cond.soleField "BeforeTheEndModel" "worthAt") ∈ lw_all := lw_g (lw_at lw_m6 33 rfl) rfl
theorem q1337 : (Jvm.Cond.lays "BeforeTheEndModel" "BeforeTheEndModel" "aloneSet" "I") ∈ lw_all := lw_g (lw_at lw_m6 34 rfl) rfl
theorem q1338 : (Jvm.Cond.soleField "BeforeTheEndModel" "aloneSet") ∈ lw_all := lw_g (lw_at lw_m6 35 rfl) rfl
theorem q1339 : (Jvm.Cond.laysFinal "BeforeTheEndModel" "BeforeTheEndModel" "way" "[I") ∈ lw_all := lw_g (lw_at lw_m6 36 rfl) rfl
theorem q1340 : (Jvm.Cond.soleField "BeforeTheEndModel" "way") ∈ lw_all := lw_g (lw_at lw_m6 37 rfl) rfl
theorem q1341 : (Jvm.Cond.laysFinal "BeforeTheEndModel" "BeforeTheEndModel" "gets" "[I") ∈ lw_all := lw_g (lw_at lw_m6 38 rfl) rfl
theorem q1342 : (Jvm.Cond.soleField "BeforeTheEndModel" "gets") ∈ lw_all := lw_g (lw_at lw_m6 39 rfl) rfl
theorem q1343 : (Jvm.Cond.lays "BeforeTheEndModel" "BeforeTheEndModel" "winner" "I") ∈ lw_all := lw_g (lw_at lw_m6 40 rfl) rfl
theorem q1344 : (Jvm.Cond.soleField "BeforeTheEndModel" "winner") ∈ lw_all := lw_g (lw_at lw_m6 41 rfl) rfl
theorem q1345 : (Jvm.Cond.lays "BeforeTheEndModel" "BeforeTheEndModel" "firstWord" "I") ∈ lw_all := lw_g (lw_at lw_m6 42 rfl) rfl
theorem q1346 : (Jvm.Cond.soleField "BeforeTheEndModel" "firstWord") ∈ lw_all := lw_g (lw_at lw_m6 43 rfl) rfl
theorem q1347 : (Jvm.Cond.lays "BeforeTheEndModel" "BeforeTheEndModel" "firstWho" "I") ∈ lw_all := lw_g (lw_at lw_m6 44 rfl) rfl
theorem q1348 : (Jvm.Cond.soleField "BeforeTheEndModel" "firstWho") ∈ lw_all := lw_g (lw_at lw_m6 45 rfl) rfl
theorem q1349 : (Jvm.Cond.lays "BeforeTheEndModel" "BeforeTheEndModel" "wrongs" "I") ∈ lw_all := lw_g (lw_at lw_m6 46 rfl) rfl
theorem q1350 : (Jvm.Cond.soleField "BeforeTheEndModel" "wrongs") ∈ lw_all := lw_g (lw_at lw_m6 47 rfl) rfl
theorem q1351 : (Jvm.Cond.lays "BeforeTheEndModel" "BeforeTheEndModel" "out" "I") ∈ lw_all := lw_g (lw_at lw_m6 48 rfl) rfl
theorem q1352 : (Jvm.Cond.soleField "BeforeTheEndModel" "out") ∈ lw_all := lw_g (lw_at lw_m6 49 rfl) rfl
theorem q1353 : (Jvm.Cond.lays "BeforeTheEndModel" "BeforeTheEndModel" "bestWorth" "J") ∈ lw_all := lw_g (lw_at lw_m6 50 rfl) rfl
theorem q1354 : (Jvm.Cond.soleField "BeforeTheEndModel" "bestWorth") ∈ lw_all := lw_g (lw_at lw_m6 51 rfl) rfl
theorem q1355 : (Jvm.Cond.lays "BeforeTheEndModel" "BeforeTheEndModel" "bestSet" "I") ∈ lw_all := lw_g (lw_at lw_m6 52 rfl) rfl
theorem q1356 : (Jvm.Cond.soleField "BeforeTheEndModel" "bestSet") ∈ lw_all := lw_g (lw_at lw_m6 53 rfl) rfl
theorem q1357 : (Jvm.Cond.laysFinal "BeforeTheEndModel" "BeforeTheEndModel" "fact" "[I") ∈ lw_all := lw_g (lw_at lw_m6 54 rfl) rfl
theorem q1358 : (Jvm.Cond.soleField "BeforeTheEndModel" "fact") ∈ lw_all := lw_g (lw_at lw_m6 55 rfl) rfl
theorem q1359 : (Jvm.Cond.laysFinal "BeforeTheEndModel" "BeforeTheEndModel" "order" "[I") ∈ lw_all := lw_g (lw_at lw_m6 56 rfl) rfl
theorem q1360 : (Jvm.Cond.soleField "BeforeTheEndModel" "order") ∈ lw_all := lw_g (lw_at lw_m6 57 rfl) rfl
theorem q1361 : (Jvm.Cond.laysFinal "BeforeTheEndModel" "BeforeTheEndModel" "bestOrder" "[I") ∈ lw_all := lw_g (lw_at lw_m6 58 rfl) rfl
theorem q1362 : (Jvm.Cond.soleField "BeforeTheEndModel" "bestOrder") ∈ lw_all := lw_g (lw_at lw_m6 59 rfl) rfl
theorem q1363 : (Jvm.Cond.lays "BeforeTheEndModel" "BeforeTheEndModel" "facts" "I") ∈ lw_all := lw_g (lw_at lw_m6 60 rfl) rfl
theorem q1364 : (Jvm.Cond.soleField "BeforeTheEndModel" "facts") ∈ lw_all := lw_g (lw_at lw_m6 61 rfl) rfl
theorem q1365 : (Jvm.Cond.lays "BeforeTheEndModel" "BeforeTheEndModel" "lots" "I") ∈ lw_all := lw_g (lw_at lw_m6 62 rfl) rfl
theorem q1366 : (Jvm.Cond.soleField "BeforeTheEndModel" "lots") ∈ lw_all := lw_g (lw_at lw_m6 63 rfl) rfl
theorem q1367 : (Jvm.Cond.laysFinal "BeforeTheEndModel" "BeforeTheEndModel" "row" "[I") ∈ lw_all := lw_g (lw_at lw_m6 64 rfl) rfl
theorem q1368 : (Jvm.Cond.soleField "BeforeTheEndModel" "row") ∈ lw_all := lw_g (lw_at lw_m6 65 rfl) rfl
theorem q1369 : (Jvm.Cond.lays "BeforeTheEndModel" "BeforeTheEndModel" "rowMany" "I") ∈ lw_all := lw_g (lw_at lw_m6 66 rfl) rfl
theorem q1370 : (Jvm.Cond.soleField "BeforeTheEndModel" "rowMany") ∈ lw_all := lw_g (lw_at lw_m6 67 rfl) rfl
theorem q1371 : (Jvm.Cond.laysFinal "BeforeTheEndModel" "BeforeTheEndModel" "kept" "[I") ∈ lw_all := lw_g (lw_at lw_m6 68 rfl) rfl
theorem q1372 : (Jvm.Cond.soleField "BeforeTheEndModel" "kept") ∈ lw_all := lw_g (lw_at lw_m6 69 rfl) rfl
theorem q1373 : (Jvm.Cond.lays "BeforeTheEndModel" "BeforeTheEndModel" "hasImage" "Z") ∈ lw_all := lw_g (lw_at lw_m6 70 rfl) rfl
theorem q1374 : (Jvm.Cond.soleField "BeforeTheEndModel" "hasImage") ∈ lw_all := lw_g (lw_at lw_m6 71 rfl) rfl
theorem q1375 : (Jvm.Cond.lays "BeforeTheEndModel" "BeforeTheEndModel" "isKeeping" "Z") ∈ lw_all := lw_g (lw_at lw_m6 72 rfl) rfl
theorem q1376 : (Jvm.Cond.soleField "BeforeTheEndModel" "isKeeping") ∈ lw_all := lw_g (lw_at lw_m6 73 rfl) rfl
theorem q1377 : (Jvm.Cond.lays "BeforeTheEndModel" "BeforeTheEndModel" "cursor" "I") ∈ lw_all := lw_g (lw_at lw_m6 74 rfl) rfl
theorem q1378 : (Jvm.Cond.soleField "BeforeTheEndModel" "cursor") ∈ lw_all := lw_g (lw_at lw_m6 75 rfl) rfl
theorem q1379 : (Jvm.Cond.superclass "BeforeTheEndModel" "java/lang/Object") ∈ lw_all := lw_g (lw_at lw_m6 76 rfl) rfl
theorem q1381 : (Jvm.Cond.instanceMethod ({ cls := "BeforeTheEndModel", name := "feed", desc := "(IJ)I" } : Jvm.MethodName)) ∈ lw_all := lw_g (lw_at lw_m6 78 rfl) rfl
theorem q1382 : (Jvm.Cond.selects "BeforeTheEndModel" ({ cls := "BeforeTheEndModel", name := "feed", desc := "(IJ)I" } : Jvm.MethodName) ({ cls := "BeforeTheEndModel", name := "feed", desc := "(IJ)I" } : Jvm.MethodName)) ∈ lw_all := lw_g (lw_at lw_m6 79 rfl) rfl
theorem q1383 : (Jvm.Cond.code ({ cls := "BeforeTheEndModel", name := "feed", desc := "(IJ)I" } : Jvm.MethodName) prog_18_method_12_code (6 : Nat) (Option.some Jvm.ClassFile.FieldType.int)) ∈ lw_all := lw_g (lw_at lw_m6 80 rfl) rfl
theorem q1384 : (Jvm.Cond.methodLink "BeforeTheEndModel" (121 : Nat) ({ cls := "BeforeTheEndModel", name := "bound", desc := "(III)I" } : Jvm.MethodName)) ∈ lw_all := lw_g (lw_at lw_m6 81 rfl) rfl
theorem q1385 : (Jvm.Cond.static ({ cls := "BeforeTheEndModel", name := "bound", desc := "(III)I" } : Jvm.MethodName)) ∈ lw_all := lw_g (lw_at lw_m6 82 rfl) rfl
theorem q1386 : (Jvm.Cond.code ({ cls := "BeforeTheEndModel", name := "bound", desc := "(III)I" } : Jvm.MethodName) prog_18_method_6_code (3 : Nat) (Option.some Jvm.ClassFile.FieldType.int)) ∈ lw_all := lw_g (lw_at lw_m6 83 rfl) rfl
theorem q1387 : (Jvm.Cond.methodLink "BeforeTheEndModel" (128 : Nat) ({ cls := "BeforeTheEndModel", name := "no", desc := "(I)I" } : Jvm.MethodName)) ∈ lw_all := lw_g (lw_at lw_m6 84 rfl) rfl
theorem q1388 : (Jvm.Cond.privateMethod ({ cls := "BeforeTheEndModel", name := "no", desc := "(I)I" } : Jvm.MethodName)) ∈ lw_tbl := lw_at lw_m6 85 rfl
theorem q1389 : (Jvm.Cond.instanceMethod ({ cls := "BeforeTheEndModel", name := "no", desc := "(I)I" } : Jvm.MethodName)) ∈ lw_all := lw_g (lw_at lw_m6 86 rfl) rfl
theorem q1390 : (Jvm.Cond.code ({ cls := "BeforeTheEndModel", name := "no", desc := "(I)I" } : Jvm.MethodName) prog_18_method_2_code (2 : Nat) (Option.some Jvm.ClassFile.FieldType.int)) ∈ lw_all := lw_g (lw_at lw_m6 87 rfl) rfl
theorem q1391 : (Jvm.Cond.constantLong "BeforeTheEndModel" (131 : Nat) (255 : Int64)) ∈ lw_all := lw_g (lw_at lw_m6 88 rfl) rfl
theorem q1393 : (Jvm.Cond.instanceMethod ({ cls := "BeforeTheEndModel", name := "quiz", desc := "()I" } : Jvm.MethodName)) ∈ lw_all := lw_g (lw_at lw_m6 90 rfl) rfl
theorem q1394 : (Jvm.Cond.selects "BeforeTheEndModel" ({ cls := "BeforeTheEndModel", name := "quiz", desc := "()I" } : Jvm.MethodName) ({ cls := "BeforeTheEndModel", name := "quiz", desc := "()I" } : Jvm.MethodName)) ∈ lw_all := lw_g (lw_at lw_m6 91 rfl) rfl
theorem q1395 : (Jvm.Cond.code ({ cls := "BeforeTheEndModel", name := "quiz", desc := "()I" } : Jvm.MethodName) prog_18_method_22_code (5 : Nat) (Option.some Jvm.ClassFile.FieldType.int)) ∈ lw_all := lw_g (lw_at lw_m6 92 rfl) rfl
theorem q1396 : (Jvm.Cond.methodLink "BeforeTheEndModel" (173 : Nat) ({ cls := "BeforeTheEndModel", name := "statement", desc := "()Z" } : Jvm.MethodName)) ∈ lw_all := lw_g (lw_at lw_m6 93 rfl) rfl
theorem q1397 : (Jvm.Cond.privateMethod ({ cls := "BeforeTheEndModel", name := "statement", desc := "()Z" } : Jvm.MethodName)) ∈ lw_tbl := lw_at lw_m6 94 rfl
theorem q1398 : (Jvm.Cond.instanceMethod ({ cls := "BeforeTheEndModel", name := "statement", desc := "()Z" } : Jvm.MethodName)) ∈ lw_all := lw_g (lw_at lw_m6 95 rfl) rfl
theorem q1399 : (Jvm.Cond.code ({ cls := "BeforeTheEndModel", name := "statement", desc := "()Z" } : Jvm.MethodName) prog_18_method_20_code (3 : Nat) (Option.some Jvm.ClassFile.FieldType.boolean)) ∈ lw_all := lw_g (lw_at lw_m6 96 rfl) rfl
theorem q1400 : (Jvm.Cond.methodLink "BeforeTheEndModel" (136 : Nat) ({ cls := "BeforeTheEndModel", name := "sign", desc := "()I" } : Jvm.MethodName)) ∈ lw_all := lw_g (lw_at lw_m6 97 rfl) rfl
theorem q1401 : (Jvm.Cond.privateMethod ({ cls := "BeforeTheEndModel", name := "sign", desc := "()I" } : Jvm.MethodName)) ∈ lw_tbl := lw_at lw_m6 98 rfl
theorem q1402 : (Jvm.Cond.instanceMethod ({ cls := "BeforeTheEndModel", name := "sign", desc := "()I" } : Jvm.MethodName)) ∈ lw_all := lw_g (lw_at lw_m6 99 rfl) rfl
theorem q1403 : (Jvm.Cond.code ({ cls := "BeforeTheEndModel", name := "sign", desc := "()I" } : Jvm.MethodName) prog_18_method_13_code (1 : Nat) (Option.some Jvm.ClassFile.FieldType.int)) ∈ lw_all := lw_g (lw_at lw_m6 100 rfl) rfl
theorem q1404 : (Jvm.Cond.methodLink "BeforeTheEndModel" (160 : Nat) ({ cls := "BeforeTheEndModel", name := "readsWord", desc := "(I)Z" } : Jvm.MethodName)) ∈ lw_all := lw_g (lw_at lw_m6 101 rfl) rfl
theorem q1405 : (Jvm.Cond.privateMethod ({ cls := "BeforeTheEndModel", name := "readsWord", desc := "(I)Z" } : Jvm.MethodName)) ∈ lw_tbl := lw_at lw_m6 102 rfl
theorem q1406 : (Jvm.Cond.instanceMethod ({ cls := "BeforeTheEndModel", name := "readsWord", desc := "(I)Z" } : Jvm.MethodName)) ∈ lw_all := lw_g (lw_at lw_m6 103 rfl) rfl
theorem q1407 : (Jvm.Cond.code ({ cls := "BeforeTheEndModel", name := "readsWord", desc := "(I)Z" } : Jvm.MethodName) prog_18_method_16_code (2 : Nat) (Option.some Jvm.ClassFile.FieldType.boolean)) ∈ lw_all := lw_g (lw_at lw_m6 104 rfl) rfl
theorem q1408 : (Jvm.Cond.methodLink "BeforeTheEndModel" (144 : Nat) ({ cls := "BeforeTheEndModel", name := "number", desc := "(I)I" } : Jvm.MethodName)) ∈ lw_all := lw_g (lw_at lw_m6 105 rfl) rfl
theorem q1409 : (Jvm.Cond.privateMethod ({ cls := "BeforeTheEndModel", name := "number", desc := "(I)I" } : Jvm.MethodName)) ∈ lw_tbl := lw_at lw_m6 106 rfl
theorem q1410 : (Jvm.Cond.instanceMethod ({ cls := "BeforeTheEndModel", name := "number", desc := "(I)I" } : Jvm.MethodName)) ∈ lw_all := lw_g (lw_at lw_m6 107 rfl) rfl
theorem q1411 : (Jvm.Cond.code ({ cls := "BeforeTheEndModel", name := "number", desc := "(I)I" } : Jvm.MethodName) prog_18_method_15_code (4 : Nat) (Option.some Jvm.ClassFile.FieldType.int)) ∈ lw_all := lw_g (lw_at lw_m6 108 rfl) rfl
theorem q1412 : (Jvm.Cond.methodLink "BeforeTheEndModel" (140 : Nat) ({ cls := "BeforeTheEndModel", name := "isIn", desc := "(III)Z" } : Jvm.MethodName)) ∈ lw_all := lw_g (lw_at lw_m6 109 rfl) rfl
theorem q1413 : (Jvm.Cond.static ({ cls := "BeforeTheEndModel", name := "isIn", desc := "(III)Z" } : Jvm.MethodName)) ∈ lw_all := lw_g (lw_at lw_m6 110 rfl) rfl
theorem q1414 : (Jvm.Cond.code ({ cls := "BeforeTheEndModel", name := "isIn", desc := "(III)Z" } : Jvm.MethodName) prog_18_method_5_code (3 : Nat) (Option.some Jvm.ClassFile.FieldType.boolean)) ∈ lw_all := lw_g (lw_at lw_m6 111 rfl) rfl
theorem q1415 : (Jvm.Cond.methodLink "BeforeTheEndModel" (147 : Nat) ({ cls := "BeforeTheEndModel", name := "takes", desc := "(I)Z" } : Jvm.MethodName)) ∈ lw_all := lw_g (lw_at lw_m6 112 rfl) rfl
theorem q1416 : (Jvm.Cond.privateMethod ({ cls := "BeforeTheEndModel", name := "takes", desc := "(I)Z" } : Jvm.MethodName)) ∈ lw_tbl := lw_at lw_m6 113 rfl
theorem q1417 : (Jvm.Cond.instanceMethod ({ cls := "BeforeTheEndModel", name := "takes", desc := "(I)Z" } : Jvm.MethodName)) ∈ lw_all := lw_g (lw_at lw_m6 114 rfl) rfl
theorem q1418 : (Jvm.Cond.code ({ cls := "BeforeTheEndModel", name := "takes", desc := "(I)Z" } : Jvm.MethodName) prog_18_method_14_code (2 : Nat) (Option.some Jvm.ClassFile.FieldType.boolean)) ∈ lw_all := lw_g (lw_at lw_m6 115 rfl) rfl
theorem q1419 : (Jvm.Cond.methodLink "BeforeTheEndModel" (163 : Nat) ({ cls := "BeforeTheEndModel", name := "readsPlayer", desc := "(I)Z" } : Jvm.MethodName)) ∈ lw_all := lw_g (lw_at lw_m6 116 rfl) rfl
theorem q1420 : (Jvm.Cond.privateMethod ({ cls := "BeforeTheEndModel", name := "readsPlayer", desc := "(I)Z" } : Jvm.MethodName)) ∈ lw_tbl := lw_at lw_m6 117 rfl
theorem q1421 : (Jvm.Cond.instanceMethod ({ cls := "BeforeTheEndModel", name := "readsPlayer", desc := "(I)Z" } : Jvm.MethodName)) ∈ lw_all := lw_g (lw_at lw_m6 118 rfl) rfl
theorem q1422 : (Jvm.Cond.code ({ cls := "BeforeTheEndModel", name := "readsPlayer", desc := "(I)Z" } : Jvm.MethodName) prog_18_method_19_code (2 : Nat) (Option.some Jvm.ClassFile.FieldType.boolean)) ∈ lw_all := lw_g (lw_at lw_m6 119 rfl) rfl
theorem q1423 : (Jvm.Cond.methodLink "BeforeTheEndModel" (151 : Nat) ({ cls := "BeforeTheEndModel", name := "kindOf", desc := "(I)I" } : Jvm.MethodName)) ∈ lw_all := lw_g (lw_at lw_m6 120 rfl) rfl
theorem q1424 : (Jvm.Cond.static ({ cls := "BeforeTheEndModel", name := "kindOf", desc := "(I)I" } : Jvm.MethodName)) ∈ lw_all := lw_g (lw_at lw_m6 121 rfl) rfl
theorem q1425 : (Jvm.Cond.code ({ cls := "BeforeTheEndModel", name := "kindOf", desc := "(I)I" } : Jvm.MethodName) prog_18_method_17_code (1 : Nat) (Option.some Jvm.ClassFile.FieldType.int)) ∈ lw_all := lw_g (lw_at lw_m6 122 rfl) rfl
theorem q1426 : (Jvm.Cond.methodLink "BeforeTheEndModel" (154 : Nat) ({ cls := "BeforeTheEndModel", name := "readsKnown", desc := "(I)Z" } : Jvm.MethodName)) ∈ lw_all := lw_g (lw_at lw_m6 123 rfl) rfl
theorem q1427 : (Jvm.Cond.privateMethod ({ cls := "BeforeTheEndModel", name := "readsKnown", desc := "(I)Z" } : Jvm.MethodName)) ∈ lw_tbl := lw_at lw_m6 124 rfl
theorem q1428 : (Jvm.Cond.instanceMethod ({ cls := "BeforeTheEndModel", name := "readsKnown", desc := "(I)Z" } : Jvm.MethodName)) ∈ lw_all := lw_g (lw_at lw_m6 125 rfl) rfl
theorem q1429 : (Jvm.Cond.code ({ cls := "BeforeTheEndModel", name := "readsKnown", desc := "(I)Z" } : Jvm.MethodName) prog_18_method_18_code (4 : Nat) (Option.some Jvm.ClassFile.FieldType.boolean)) ∈ lw_all := lw_g (lw_at lw_m6 126 rfl) rfl
theorem q1430 : (Jvm.Cond.methodLink "BeforeTheEndModel" (177 : Nat) ({ cls := "BeforeTheEndModel", name := "comes", desc := "(I)Z" } : Jvm.MethodName)) ∈ lw_all := lw_g (lw_at lw_m6 127 rfl) rfl
theorem q1431 : (Jvm.Cond.privateMethod ({ cls := "BeforeTheEndModel", name := "comes", desc := "(I)Z" } : Jvm.MethodName)) ∈ lw_tbl := lw_at lw_m6 128 rfl
theorem q1432 : (Jvm.Cond.instanceMethod ({ cls := "BeforeTheEndModel", name := "comes", desc := "(I)Z" } : Jvm.MethodName)) ∈ lw_all := lw_g (lw_at lw_m6 129 rfl) rfl
theorem q1433 : (Jvm.Cond.code ({ cls := "BeforeTheEndModel", name := "comes", desc := "(I)Z" } : Jvm.MethodName) prog_18_method_21_code (2 : Nat) (Option.some Jvm.ClassFile.FieldType.boolean)) ∈ lw_all := lw_g (lw_at lw_m6 130 rfl) rfl
theorem q1434 : (Jvm.Cond.methodLink "BeforeTheEndModel" (166 : Nat) ({ cls := "BeforeTheEndModel", name := "isWord", desc := "(I)Z" } : Jvm.MethodName)) ∈ lw_all := lw_g (lw_at lw_m6 131 rfl) rfl
theorem q1435 : (Jvm.Cond.privateMethod ({ cls := "BeforeTheEndModel", name := "isWord", desc := "(I)Z" } : Jvm.MethodName)) ∈ lw_tbl := lw_at lw_m6 132 rfl
theorem q1436 : (Jvm.Cond.instanceMethod ({ cls := "BeforeTheEndModel", name := "isWord", desc := "(I)Z" } : Jvm.MethodName)) ∈ lw_all := lw_g (lw_at lw_m6 133 rfl) rfl
theorem q1437 : (Jvm.Cond.code ({ cls := "BeforeTheEndModel", name := "isWord", desc := "(I)Z" } : Jvm.MethodName) prog_18_method_7_code (2 : Nat) (Option.some Jvm.ClassFile.FieldType.boolean)) ∈ lw_all := lw_g (lw_at lw_m6 134 rfl) rfl
theorem q1438 : (Jvm.Cond.methodLink "BeforeTheEndModel" (169 : Nat) ({ cls := "BeforeTheEndModel", name := "comesWord", desc := "(III)V" } : Jvm.MethodName)) ∈ lw_all := lw_g (lw_at lw_m6 135 rfl) rfl
theorem q1439 : (Jvm.Cond.privateMethod ({ cls := "BeforeTheEndModel", name := "comesWord", desc := "(III)V" } : Jvm.MethodName)) ∈ lw_tbl := lw_at lw_m6 136 rfl
theorem q1440 : (Jvm.Cond.instanceMethod ({ cls := "BeforeTheEndModel", name := "comesWord", desc := "(III)V" } : Jvm.MethodName)) ∈ lw_all := lw_g (lw_at lw_m6 137 rfl) rfl
theorem q1441 : (Jvm.Cond.code ({ cls := "BeforeTheEndModel", name := "comesWord", desc := "(III)V" } : Jvm.MethodName) prog_18_method_11_code (4 : Nat) (Option.none : Option Jvm.ClassFile.FieldType)) ∈ lw_all := lw_g (lw_at lw_m6 138 rfl) rfl
theorem q1443 : (Jvm.Cond.instanceMethod ({ cls := "BeforeTheEndModel", name := "word", desc := "(II)I" } : Jvm.MethodName)) ∈ lw_all := lw_g (lw_at lw_m6 140 rfl) rfl
theorem q1444 : (Jvm.Cond.selects "BeforeTheEndModel" ({ cls := "BeforeTheEndModel", name := "word", desc := "(II)I" } : Jvm.MethodName) ({ cls := "BeforeTheEndModel", name := "word", desc := "(II)I" } : Jvm.MethodName)) ∈ lw_all := lw_g (lw_at lw_m6 141 rfl) rfl
theorem q1445 : (Jvm.Cond.code ({ cls := "BeforeTheEndModel", name := "word", desc := "(II)I" } : Jvm.MethodName) prog_18_method_23_code (3 : Nat) (Option.some Jvm.ClassFile.FieldType.int)) ∈ lw_all := lw_g (lw_at lw_m6 142 rfl) rfl
theorem q1446 : (Jvm.Cond.methodLink "BeforeTheEndModel" (117 : Nat) ({ cls := "BeforeTheEndModel", name := "nexts", desc := "(I)I" } : Jvm.MethodName)) ∈ lw_all := lw_g (lw_at lw_m6 143 rfl) rfl
theorem q1447 : (Jvm.Cond.privateMethod ({ cls := "BeforeTheEndModel", name := "nexts", desc := "(I)I" } : Jvm.MethodName)) ∈ lw_tbl := lw_at lw_m6 144 rfl
theorem q1448 : (Jvm.Cond.instanceMethod ({ cls := "BeforeTheEndModel", name := "nexts", desc := "(I)I" } : Jvm.MethodName)) ∈ lw_all := lw_g (lw_at lw_m6 145 rfl) rfl
theorem q1449 : (Jvm.Cond.code ({ cls := "BeforeTheEndModel", name := "nexts", desc := "(I)I" } : Jvm.MethodName) prog_18_method_9_code (4 : Nat) (Option.some Jvm.ClassFile.FieldType.int)) ∈ lw_all := lw_g (lw_at lw_m6 146 rfl) rfl
theorem q1451 : (Jvm.Cond.instanceMethod ({ cls := "BeforeTheEndModel", name := "player", desc := "(II)I" } : Jvm.MethodName)) ∈ lw_all := lw_g (lw_at lw_m6 148 rfl) rfl
theorem q1452 : (Jvm.Cond.selects "BeforeTheEndModel" ({ cls := "BeforeTheEndModel", name := "player", desc := "(II)I" } : Jvm.MethodName) ({ cls := "BeforeTheEndModel", name := "player", desc := "(II)I" } : Jvm.MethodName)) ∈ lw_all := lw_g (lw_at lw_m6 149 rfl) rfl
theorem q1453 : (Jvm.Cond.code ({ cls := "BeforeTheEndModel", name := "player", desc := "(II)I" } : Jvm.MethodName) prog_18_method_24_code (3 : Nat) (Option.some Jvm.ClassFile.FieldType.int)) ∈ lw_all := lw_g (lw_at lw_m6 150 rfl) rfl
theorem q1454 : (Jvm.Cond.methodLink "BeforeTheEndModel" (180 : Nat) ({ cls := "BeforeTheEndModel", name := "isPlayer", desc := "(I)Z" } : Jvm.MethodName)) ∈ lw_all := lw_g (lw_at lw_m6 151 rfl) rfl
theorem q1455 : (Jvm.Cond.privateMethod ({ cls := "BeforeTheEndModel", name := "isPlayer", desc := "(I)Z" } : Jvm.MethodName)) ∈ lw_tbl := lw_at lw_m6 152 rfl
theorem q1456 : (Jvm.Cond.instanceMethod ({ cls := "BeforeTheEndModel", name := "isPlayer", desc := "(I)Z" } : Jvm.MethodName)) ∈ lw_all := lw_g (lw_at lw_m6 153 rfl) rfl
theorem q1457 : (Jvm.Cond.code ({ cls := "BeforeTheEndModel", name := "isPlayer", desc := "(I)Z" } : Jvm.MethodName) prog_18_method_8_code (2 : Nat) (Option.some Jvm.ClassFile.FieldType.boolean)) ∈ lw_all := lw_g (lw_at lw_m6 154 rfl) rfl
theorem q1459 : (Jvm.Cond.instanceMethod ({ cls := "BeforeTheEndModel", name := "whole", desc := "()I" } : Jvm.MethodName)) ∈ lw_all := lw_g (lw_at lw_m6 156 rfl) rfl
theorem q1460 : (Jvm.Cond.selects "BeforeTheEndModel" ({ cls := "BeforeTheEndModel", name := "whole", desc := "()I" } : Jvm.MethodName) ({ cls := "BeforeTheEndModel", name := "whole", desc := "()I" } : Jvm.MethodName)) ∈ lw_all := lw_g (lw_at lw_m6 157 rfl) rfl
theorem q1461 : (Jvm.Cond.code ({ cls := "BeforeTheEndModel", name := "whole", desc := "()I" } : Jvm.MethodName) prog_18_method_25_code (1 : Nat) (Option.some Jvm.ClassFile.FieldType.int)) ∈ lw_all := lw_g (lw_at lw_m6 158 rfl) rfl
theorem q1462 : (Jvm.Cond.methodLink "BeforeTheEndModel" (183 : Nat) ({ cls := "BeforeTheEndModel", name := "isWhole", desc := "()Z" } : Jvm.MethodName)) ∈ lw_all := lw_g (lw_at lw_m6 159 rfl) rfl
theorem q1463 : (Jvm.Cond.privateMethod ({ cls := "BeforeTheEndModel", name := "isWhole", desc := "()Z" } : Jvm.MethodName)) ∈ lw_tbl := lw_at lw_m6 160 rfl
theorem q1464 : (Jvm.Cond.instanceMethod ({ cls := "BeforeTheEndModel", name := "isWhole", desc := "()Z" } : Jvm.MethodName)) ∈ lw_all := lw_g (lw_at lw_m6 161 rfl) rfl
theorem q1465 : (Jvm.Cond.code ({ cls := "BeforeTheEndModel", name := "isWhole", desc := "()Z" } : Jvm.MethodName) prog_18_method_10_code (2 : Nat) (Option.some Jvm.ClassFile.FieldType.boolean)) ∈ lw_all := lw_g (lw_at lw_m6 162 rfl) rfl
theorem q1467 : (Jvm.Cond.instanceMethod ({ cls := "BeforeTheEndModel", name := "left", desc := "(I)I" } : Jvm.MethodName)) ∈ lw_all := lw_g (lw_at lw_m6 164 rfl) rfl
theorem q1468 : (Jvm.Cond.selects "BeforeTheEndModel" ({ cls := "BeforeTheEndModel", name := "left", desc := "(I)I" } : Jvm.MethodName) ({ cls := "BeforeTheEndModel", name := "left", desc := "(I)I" } : Jvm.MethodName)) ∈ lw_all := lw_g (lw_at lw_m6 165 rfl) rfl
theorem q1469 : (Jvm.Cond.code ({ cls := "BeforeTheEndModel", name := "left", desc := "(I)I" } : Jvm.MethodName) prog_18_method_27_code (4 : Nat) (Option.some Jvm.ClassFile.FieldType.int)) ∈ lw_all := lw_g (lw_at lw_m6 166 rfl) rfl
theorem q1470 : (Jvm.Cond.methodLink "BeforeTheEndModel" (186 : Nat) ({ cls := "BeforeTheEndModel", name := "isBehind", desc := "(II)Z" } : Jvm.MethodName)) ∈ lw_all := lw_g (lw_at lw_m6 167 rfl) rfl
theorem q1471 : (Jvm.Cond.privateMethod ({ cls := "BeforeTheEndModel", name := "isBehind", desc := "(II)Z" } : Jvm.MethodName)) ∈ lw_tbl := lw_at lw_m6 168 rfl
theorem q1472 : (Jvm.Cond.instanceMethod ({ cls := "BeforeTheEndModel", name := "isBehind", desc := "(II)Z" } : Jvm.MethodName)) ∈ lw_all := lw_g (lw_at lw_m6 169 rfl) rfl
theorem q1473 : (Jvm.Cond.code ({ cls := "BeforeTheEndModel", name := "isBehind", desc := "(II)Z" } : Jvm.MethodName) prog_18_method_26_code (4 : Nat) (Option.some Jvm.ClassFile.FieldType.boolean)) ∈ lw_all := lw_g (lw_at lw_m6 170 rfl) rfl
theorem q1475 : (Jvm.Cond.instanceMethod ({ cls := "BeforeTheEndModel", name := "chance", desc := "(III)J" } : Jvm.MethodName)) ∈ lw_all := lw_g (lw_at lw_m6 172 rfl) rfl
theorem q1476 : (Jvm.Cond.selects "BeforeTheEndModel" ({ cls := "BeforeTheEndModel", name := "chance", desc := "(III)J" } : Jvm.MethodName) ({ cls := "BeforeTheEndModel", name := "chance", desc := "(III)J" } : Jvm.MethodName)) ∈ lw_all := lw_g (lw_at lw_m6 173 rfl) rfl
theorem q1477 : (Jvm.Cond.code ({ cls := "BeforeTheEndModel", name := "chance", desc := "(III)J" } : Jvm.MethodName) prog_18_method_42_code (4 : Nat) (Option.some Jvm.ClassFile.FieldType.long)) ∈ lw_all := lw_g (lw_at lw_m6 174 rfl) rfl
theorem q1478 : (Jvm.Cond.methodLink "BeforeTheEndModel" (239 : Nat) ({ cls := "BeforeTheEndModel", name := "noLong", desc := "(I)J" } : Jvm.MethodName)) ∈ lw_all := lw_g (lw_at lw_m6 175 rfl) rfl
theorem q1479 : (Jvm.Cond.privateMethod ({ cls := "BeforeTheEndModel", name := "noLong", desc := "(I)J" } : Jvm.MethodName)) ∈ lw_tbl := lw_at lw_m6 176 rfl
theorem q1480 : (Jvm.Cond.instanceMethod ({ cls := "BeforeTheEndModel", name := "noLong", desc := "(I)J" } : Jvm.MethodName)) ∈ lw_all := lw_g (lw_at lw_m6 177 rfl) rfl
theorem q1481 : (Jvm.Cond.code ({ cls := "BeforeTheEndModel", name := "noLong", desc := "(I)J" } : Jvm.MethodName) prog_18_method_4_code (2 : Nat) (Option.some Jvm.ClassFile.FieldType.long)) ∈ lw_all := lw_g (lw_at lw_m6 178 rfl) rfl
theorem q1482 : (Jvm.Cond.constantLong "BeforeTheEndModel" (112 : Nat) (4000000000000000000 : Int64)) ∈ lw_all := lw_g (lw_at lw_m6 179 rfl) rfl
theorem q1483 : (Jvm.Cond.methodLink "BeforeTheEndModel" (233 : Nat) ({ cls := "BeforeTheEndModel", name := "findShares", desc := "()V" } : Jvm.MethodName)) ∈ lw_all := lw_g (lw_at lw_m6 180 rfl) rfl
theorem q1484 : (Jvm.Cond.privateMethod ({ cls := "BeforeTheEndModel", name := "findShares", desc := "()V" } : Jvm.MethodName)) ∈ lw_tbl := lw_at lw_m6 181 rfl
theorem q1485 : (Jvm.Cond.instanceMethod ({ cls := "BeforeTheEndModel", name := "findShares", desc := "()V" } : Jvm.MethodName)) ∈ lw_all := lw_g (lw_at lw_m6 182 rfl) rfl
theorem q1486 : (Jvm.Cond.code ({ cls := "BeforeTheEndModel", name := "findShares", desc := "()V" } : Jvm.MethodName) prog_18_method_31_code (3 : Nat) (Option.none : Option Jvm.ClassFile.FieldType)) ∈ lw_all := lw_g (lw_at lw_m6 183 rfl) rfl
theorem q1487 : (Jvm.Cond.methodLink "BeforeTheEndModel" (198 : Nat) ({ cls := "BeforeTheEndModel", name := "sumOf", desc := "(I)I" } : Jvm.MethodName)) ∈ lw_all := lw_g (lw_at lw_m6 184 rfl) rfl
theorem q1488 : (Jvm.Cond.privateMethod ({ cls := "BeforeTheEndModel", name := "sumOf", desc := "(I)I" } : Jvm.MethodName)) ∈ lw_tbl := lw_at lw_m6 185 rfl
theorem q1489 : (Jvm.Cond.instanceMethod ({ cls := "BeforeTheEndModel", name := "sumOf", desc := "(I)I" } : Jvm.MethodName)) ∈ lw_all := lw_g (lw_at lw_m6 186 rfl) rfl
theorem q1490 : (Jvm.Cond.code ({ cls := "BeforeTheEndModel", name := "sumOf", desc := "(I)I" } : Jvm.MethodName) prog_18_method_29_code (4 : Nat) (Option.some Jvm.ClassFile.FieldType.int)) ∈ lw_all := lw_g (lw_at lw_m6 187 rfl) rfl
theorem q1491 : (Jvm.Cond.methodLink "BeforeTheEndModel" (201 : Nat) ({ cls := "BeforeTheEndModel", name := "commonOf", desc := "(I)I" } : Jvm.MethodName)) ∈ lw_all := lw_g (lw_at lw_m6 188 rfl) rfl
theorem q1492 : (Jvm.Cond.privateMethod ({ cls := "BeforeTheEndModel", name := "commonOf", desc := "(I)I" } : Jvm.MethodName)) ∈ lw_tbl := lw_at lw_m6 189 rfl
theorem q1493 : (Jvm.Cond.instanceMethod ({ cls := "BeforeTheEndModel", name := "commonOf", desc := "(I)I" } : Jvm.MethodName)) ∈ lw_all := lw_g (lw_at lw_m6 190 rfl) rfl
theorem q1494 : (Jvm.Cond.code ({ cls := "BeforeTheEndModel", name := "commonOf", desc := "(I)I" } : Jvm.MethodName) prog_18_method_30_code (4 : Nat) (Option.some Jvm.ClassFile.FieldType.int)) ∈ lw_all := lw_g (lw_at lw_m6 191 rfl) rfl
theorem q1495 : (Jvm.Cond.methodLink "BeforeTheEndModel" (190 : Nat) ({ cls := "BeforeTheEndModel", name := "divisor", desc := "(JJ)J" } : Jvm.MethodName)) ∈ lw_all := lw_g (lw_at lw_m6 192 rfl) rfl
theorem q1496 : (Jvm.Cond.static ({ cls := "BeforeTheEndModel", name := "divisor", desc := "(JJ)J" } : Jvm.MethodName)) ∈ lw_all := lw_g (lw_at lw_m6 193 rfl) rfl
theorem q1497 : (Jvm.Cond.code ({ cls := "BeforeTheEndModel", name := "divisor", desc := "(JJ)J" } : Jvm.MethodName) prog_18_method_28_code (10 : Nat) (Option.some Jvm.ClassFile.FieldType.long)) ∈ lw_all := lw_g (lw_at lw_m6 194 rfl) rfl
theorem q1498 : (Jvm.Cond.methodLink "BeforeTheEndModel" (243 : Nat) ({ cls := "BeforeTheEndModel", name := "inLeast", desc := "(JJI)J" } : Jvm.MethodName)) ∈ lw_all := lw_g (lw_at lw_m6 195 rfl) rfl
theorem q1499 : (Jvm.Cond.static ({ cls := "BeforeTheEndModel", name := "inLeast", desc := "(JJI)J" } : Jvm.MethodName)) ∈ lw_all := lw_g (lw_at lw_m6 196 rfl) rfl
theorem q1500 : (Jvm.Cond.code ({ cls := "BeforeTheEndModel", name := "inLeast", desc := "(JJI)J" } : Jvm.MethodName) prog_18_method_41_code (7 : Nat) (Option.some Jvm.ClassFile.FieldType.long)) ∈ lw_all := lw_g (lw_at lw_m6 197 rfl) rfl
theorem q1502 : (Jvm.Cond.instanceMethod ({ cls := "BeforeTheEndModel", name := "guess", desc := "(II)I" } : Jvm.MethodName)) ∈ lw_all := lw_g (lw_at lw_m6 199 rfl) rfl
theorem q1503 : (Jvm.Cond.selects "BeforeTheEndModel" ({ cls := "BeforeTheEndModel", name := "guess", desc := "(II)I" } : Jvm.MethodName) ({ cls := "BeforeTheEndModel", name := "guess", desc := "(II)I" } : Jvm.MethodName)) ∈ lw_all := lw_g (lw_at lw_m6 200 rfl) rfl
theorem q1504 : (Jvm.Cond.code ({ cls := "BeforeTheEndModel", name := "guess", desc := "(II)I" } : Jvm.MethodName) prog_18_method_43_code (3 : Nat) (Option.some Jvm.ClassFile.FieldType.int)) ∈ lw_all := lw_g (lw_at lw_m6 201 rfl) rfl
theorem q1505 : (Jvm.Cond.methodLink "BeforeTheEndModel" (219 : Nat) ({ cls := "BeforeTheEndModel", name := "guessOf", desc := "(II)I" } : Jvm.MethodName)) ∈ lw_all := lw_g (lw_at lw_m6 202 rfl) rfl
theorem q1506 : (Jvm.Cond.privateMethod ({ cls := "BeforeTheEndModel", name := "guessOf", desc := "(II)I" } : Jvm.MethodName)) ∈ lw_tbl := lw_at lw_m6 203 rfl
theorem q1507 : (Jvm.Cond.instanceMethod ({ cls := "BeforeTheEndModel", name := "guessOf", desc := "(II)I" } : Jvm.MethodName)) ∈ lw_all := lw_g (lw_at lw_m6 204 rfl) rfl
theorem q1508 : (Jvm.Cond.code ({ cls := "BeforeTheEndModel", name := "guessOf", desc := "(II)I" } : Jvm.MethodName) prog_18_method_32_code (5 : Nat) (Option.some Jvm.ClassFile.FieldType.int)) ∈ lw_all := lw_g (lw_at lw_m6 205 rfl) rfl
theorem q1510 : (Jvm.Cond.instanceMethod ({ cls := "BeforeTheEndModel", name := "points", desc := "(II)I" } : Jvm.MethodName)) ∈ lw_all := lw_g (lw_at lw_m6 207 rfl) rfl
theorem q1511 : (Jvm.Cond.selects "BeforeTheEndModel" ({ cls := "BeforeTheEndModel", name := "points", desc := "(II)I" } : Jvm.MethodName) ({ cls := "BeforeTheEndModel", name := "points", desc := "(II)I" } : Jvm.MethodName)) ∈ lw_all := lw_g (lw_at lw_m6 208 rfl) rfl
theorem q1512 : (Jvm.Cond.code ({ cls := "BeforeTheEndModel", name := "points", desc := "(II)I" } : Jvm.MethodName) prog_18_method_44_code (5 : Nat) (Option.some Jvm.ClassFile.FieldType.int)) ∈ lw_all := lw_g (lw_at lw_m6 209 rfl) rfl
theorem q1514 : (Jvm.Cond.instanceMethod ({ cls := "BeforeTheEndModel", name := "setOf", desc := "(II)I" } : Jvm.MethodName)) ∈ lw_all := lw_g (lw_at lw_m6 211 rfl) rfl
theorem q1515 : (Jvm.Cond.selects "BeforeTheEndModel" ({ cls := "BeforeTheEndModel", name := "setOf", desc := "(II)I" } : Jvm.MethodName) ({ cls := "BeforeTheEndModel", name := "setOf", desc := "(II)I" } : Jvm.MethodName)) ∈ lw_all := lw_g (lw_at lw_m6 212 rfl) rfl
theorem q1516 : (Jvm.Cond.code ({ cls := "BeforeTheEndModel", name := "setOf", desc := "(II)I" } : Jvm.MethodName) prog_18_method_45_code (4 : Nat) (Option.some Jvm.ClassFile.FieldType.int)) ∈ lw_all := lw_g (lw_at lw_m6 213 rfl) rfl
theorem q1518 : (Jvm.Cond.instanceMethod ({ cls := "BeforeTheEndModel", name := "presses", desc := "(II)I" } : Jvm.MethodName)) ∈ lw_all := lw_g (lw_at lw_m6 215 rfl) rfl
theorem q1519 : (Jvm.Cond.selects "BeforeTheEndModel" ({ cls := "BeforeTheEndModel", name := "presses", desc := "(II)I" } : Jvm.MethodName) ({ cls := "BeforeTheEndModel", name := "presses", desc := "(II)I" } : Jvm.MethodName)) ∈ lw_all := lw_g (lw_at lw_m6 216 rfl) rfl
theorem q1520 : (Jvm.Cond.code ({ cls := "BeforeTheEndModel", name := "presses", desc := "(II)I" } : Jvm.MethodName) prog_18_method_46_code (3 : Nat) (Option.some Jvm.ClassFile.FieldType.int)) ∈ lw_all := lw_g (lw_at lw_m6 217 rfl) rfl
theorem q1521 : (Jvm.Cond.methodLink "BeforeTheEndModel" (247 : Nat) ({ cls := "BeforeTheEndModel", name := "finds", desc := "()V" } : Jvm.MethodName)) ∈ lw_all := lw_g (lw_at lw_m6 218 rfl) rfl
theorem q1522 : (Jvm.Cond.privateMethod ({ cls := "BeforeTheEndModel", name := "finds", desc := "()V" } : Jvm.MethodName)) ∈ lw_tbl := lw_at lw_m6 219 rfl
theorem q1523 : (Jvm.Cond.instanceMethod ({ cls := "BeforeTheEndModel", name := "finds", desc := "()V" } : Jvm.MethodName)) ∈ lw_all := lw_g (lw_at lw_m6 220 rfl) rfl
theorem q1524 : (Jvm.Cond.code ({ cls := "BeforeTheEndModel", name := "finds", desc := "()V" } : Jvm.MethodName) prog_18_method_40_code (1 : Nat) (Option.none : Option Jvm.ClassFile.FieldType)) ∈ lw_all := lw_g (lw_at lw_m6 221 rfl) rfl
theorem q1525 : (Jvm.Cond.methodLink "BeforeTheEndModel" (236 : Nat) ({ cls := "BeforeTheEndModel", name := "findPresses", desc := "()V" } : Jvm.MethodName)) ∈ lw_all := lw_g (lw_at lw_m6 222 rfl) rfl
theorem q1526 : (Jvm.Cond.privateMethod ({ cls := "BeforeTheEndModel", name := "findPresses", desc := "()V" } : Jvm.MethodName)) ∈ lw_tbl := lw_at lw_m6 223 rfl
theorem q1527 : (Jvm.Cond.instanceMethod ({ cls := "BeforeTheEndModel", name := "findPresses", desc := "()V" } : Jvm.MethodName)) ∈ lw_all := lw_g (lw_at lw_m6 224 rfl) rfl
theorem q1528 : (Jvm.Cond.code ({ cls := "BeforeTheEndModel", name := "findPresses", desc := "()V" } : Jvm.MethodName) prog_18_method_39_code (3 : Nat) (Option.none : Option Jvm.ClassFile.FieldType)) ∈ lw_all := lw_g (lw_at lw_m6 225 rfl) rfl
theorem q1529 : (Jvm.Cond.methodLink "BeforeTheEndModel" (223 : Nat) ({ cls := "BeforeTheEndModel", name := "findAlone", desc := "(I)V" } : Jvm.MethodName)) ∈ lw_all := lw_g (lw_at lw_m6 226 rfl) rfl
theorem q1530 : (Jvm.Cond.privateMethod ({ cls := "BeforeTheEndModel", name := "findAlone", desc := "(I)V" } : Jvm.MethodName)) ∈ lw_tbl := lw_at lw_m6 227 rfl
theorem q1531 : (Jvm.Cond.instanceMethod ({ cls := "BeforeTheEndModel", name := "findAlone", desc := "(I)V" } : Jvm.MethodName)) ∈ lw_all := lw_g (lw_at lw_m6 228 rfl) rfl
theorem q1532 : (Jvm.Cond.code ({ cls := "BeforeTheEndModel", name := "findAlone", desc := "(I)V" } : Jvm.MethodName) prog_18_method_38_code (5 : Nat) (Option.none : Option Jvm.ClassFile.FieldType)) ∈ lw_all := lw_g (lw_at lw_m6 229 rfl) rfl
theorem q1533 : (Jvm.Cond.methodLink "BeforeTheEndModel" (215 : Nat) ({ cls := "BeforeTheEndModel", name := "pressWorth", desc := "(II)J" } : Jvm.MethodName)) ∈ lw_all := lw_g (lw_at lw_m6 230 rfl) rfl
theorem q1534 : (Jvm.Cond.privateMethod ({ cls := "BeforeTheEndModel", name := "pressWorth", desc := "(II)J" } : Jvm.MethodName)) ∈ lw_tbl := lw_at lw_m6 231 rfl
theorem q1535 : (Jvm.Cond.instanceMethod ({ cls := "BeforeTheEndModel", name := "pressWorth", desc := "(II)J" } : Jvm.MethodName)) ∈ lw_all := lw_g (lw_at lw_m6 232 rfl) rfl
theorem q1536 : (Jvm.Cond.code ({ cls := "BeforeTheEndModel", name := "pressWorth", desc := "(II)J" } : Jvm.MethodName) prog_18_method_37_code (7 : Nat) (Option.some Jvm.ClassFile.FieldType.long)) ∈ lw_all := lw_g (lw_at lw_m6 233 rfl) rfl
theorem q1537 : (Jvm.Cond.methodLink "BeforeTheEndModel" (227 : Nat) ({ cls := "BeforeTheEndModel", name := "sureOf", desc := "(I)I" } : Jvm.MethodName)) ∈ lw_all := lw_g (lw_at lw_m6 234 rfl) rfl
theorem q1538 : (Jvm.Cond.privateMethod ({ cls := "BeforeTheEndModel", name := "sureOf", desc := "(I)I" } : Jvm.MethodName)) ∈ lw_tbl := lw_at lw_m6 235 rfl
theorem q1539 : (Jvm.Cond.instanceMethod ({ cls := "BeforeTheEndModel", name := "sureOf", desc := "(I)I" } : Jvm.MethodName)) ∈ lw_all := lw_g (lw_at lw_m6 236 rfl) rfl
theorem q1540 : (Jvm.Cond.code ({ cls := "BeforeTheEndModel", name := "sureOf", desc := "(I)I" } : Jvm.MethodName) prog_18_method_35_code (2 : Nat) (Option.some Jvm.ClassFile.FieldType.int)) ∈ lw_all := lw_g (lw_at lw_m6 237 rfl) rfl
theorem q1541 : (Jvm.Cond.methodLink "BeforeTheEndModel" (230 : Nat) ({ cls := "BeforeTheEndModel", name := "pressing", desc := "(II)I" } : Jvm.MethodName)) ∈ lw_all := lw_g (lw_at lw_m6 238 rfl) rfl
theorem q1542 : (Jvm.Cond.privateMethod ({ cls := "BeforeTheEndModel", name := "pressing", desc := "(II)I" } : Jvm.MethodName)) ∈ lw_tbl := lw_at lw_m6 239 rfl
theorem q1543 : (Jvm.Cond.instanceMethod ({ cls := "BeforeTheEndModel", name := "pressing", desc := "(II)I" } : Jvm.MethodName)) ∈ lw_all := lw_g (lw_at lw_m7 0 rfl) rfl
theorem q1544 : (Jvm.Cond.code ({ cls := "BeforeTheEndModel", name := "pressing", desc := "(II)I" } : Jvm.MethodName) prog_18_method_36_code (5 : Nat) (Option.some Jvm.ClassFile.FieldType.int)) ∈ lw_all := lw_g (lw_at lw_m7 1 rfl) rfl
theorem q1545 : (Jvm.Cond.methodLink "BeforeTheEndModel" (209 : Nat) ({ cls := "BeforeTheEndModel", name := "mayPress", desc := "(III)Z" } : Jvm.MethodName)) ∈ lw_all := lw_g (lw_at lw_m7 2 rfl) rfl
theorem q1546 : (Jvm.Cond.privateMethod ({ cls := "BeforeTheEndModel", name := "mayPress", desc := "(III)Z" } : Jvm.MethodName)) ∈ lw_tbl := lw_at lw_m7 3 rfl
theorem q1547 : (Jvm.Cond.instanceMethod ({ cls := "BeforeTheEndModel", name := "mayPress", desc := "(III)Z" } : Jvm.MethodName)) ∈ lw_all := lw_g (lw_at lw_m7 4 rfl) rfl
theorem q1548 : (Jvm.Cond.code ({ cls := "BeforeTheEndModel", name := "mayPress", desc := "(III)Z" } : Jvm.MethodName) prog_18_method_34_code (4 : Nat) (Option.some Jvm.ClassFile.FieldType.boolean)) ∈ lw_all := lw_g (lw_at lw_m7 5 rfl) rfl
theorem q1549 : (Jvm.Cond.methodLink "BeforeTheEndModel" (206 : Nat) ({ cls := "BeforeTheEndModel", name := "isSure", desc := "(III)Z" } : Jvm.MethodName)) ∈ lw_all := lw_g (lw_at lw_m7 6 rfl) rfl
theorem q1550 : (Jvm.Cond.privateMethod ({ cls := "BeforeTheEndModel", name := "isSure", desc := "(III)Z" } : Jvm.MethodName)) ∈ lw_tbl := lw_at lw_m7 7 rfl
theorem q1551 : (Jvm.Cond.instanceMethod ({ cls := "BeforeTheEndModel", name := "isSure", desc := "(III)Z" } : Jvm.MethodName)) ∈ lw_all := lw_g (lw_at lw_m7 8 rfl) rfl
theorem q1552 : (Jvm.Cond.code ({ cls := "BeforeTheEndModel", name := "isSure", desc := "(III)Z" } : Jvm.MethodName) prog_18_method_33_code (4 : Nat) (Option.some Jvm.ClassFile.FieldType.boolean)) ∈ lw_all := lw_g (lw_at lw_m7 9 rfl) rfl
theorem q1553 : (Jvm.Cond.constantLong "BeforeTheEndModel" (204 : Nat) (100 : Int64)) ∈ lw_all := lw_g (lw_at lw_m7 10 rfl) rfl
theorem q1555 : (Jvm.Cond.instanceMethod ({ cls := "BeforeTheEndModel", name := "run", desc := "(II)I" } : Jvm.MethodName)) ∈ lw_all := lw_g (lw_at lw_m7 12 rfl) rfl
theorem q1556 : (Jvm.Cond.selects "BeforeTheEndModel" ({ cls := "BeforeTheEndModel", name := "run", desc := "(II)I" } : Jvm.MethodName) ({ cls := "BeforeTheEndModel", name := "run", desc := "(II)I" } : Jvm.MethodName)) ∈ lw_all := lw_g (lw_at lw_m7 13 rfl) rfl
theorem q1557 : (Jvm.Cond.code ({ cls := "BeforeTheEndModel", name := "run", desc := "(II)I" } : Jvm.MethodName) prog_18_method_50_code (3 : Nat) (Option.some Jvm.ClassFile.FieldType.int)) ∈ lw_all := lw_g (lw_at lw_m7 14 rfl) rfl
theorem q1558 : (Jvm.Cond.methodLink "BeforeTheEndModel" (271 : Nat) ({ cls := "BeforeTheEndModel", name := "runs", desc := "(I)V" } : Jvm.MethodName)) ∈ lw_all := lw_g (lw_at lw_m7 15 rfl) rfl
theorem q1559 : (Jvm.Cond.privateMethod ({ cls := "BeforeTheEndModel", name := "runs", desc := "(I)V" } : Jvm.MethodName)) ∈ lw_tbl := lw_at lw_m7 16 rfl
theorem q1560 : (Jvm.Cond.instanceMethod ({ cls := "BeforeTheEndModel", name := "runs", desc := "(I)V" } : Jvm.MethodName)) ∈ lw_all := lw_g (lw_at lw_m7 17 rfl) rfl
theorem q1561 : (Jvm.Cond.code ({ cls := "BeforeTheEndModel", name := "runs", desc := "(I)V" } : Jvm.MethodName) prog_18_method_49_code (5 : Nat) (Option.none : Option Jvm.ClassFile.FieldType)) ∈ lw_all := lw_g (lw_at lw_m7 18 rfl) rfl
theorem q1562 : (Jvm.Cond.methodLink "BeforeTheEndModel" (265 : Nat) ({ cls := "BeforeTheEndModel", name := "answers", desc := "(I)I" } : Jvm.MethodName)) ∈ lw_all := lw_g (lw_at lw_m7 19 rfl) rfl
theorem q1563 : (Jvm.Cond.privateMethod ({ cls := "BeforeTheEndModel", name := "answers", desc := "(I)I" } : Jvm.MethodName)) ∈ lw_tbl := lw_at lw_m7 20 rfl
theorem q1564 : (Jvm.Cond.instanceMethod ({ cls := "BeforeTheEndModel", name := "answers", desc := "(I)I" } : Jvm.MethodName)) ∈ lw_all := lw_g (lw_at lw_m7 21 rfl) rfl
theorem q1565 : (Jvm.Cond.code ({ cls := "BeforeTheEndModel", name := "answers", desc := "(I)I" } : Jvm.MethodName) prog_18_method_47_code (5 : Nat) (Option.some Jvm.ClassFile.FieldType.int)) ∈ lw_all := lw_g (lw_at lw_m7 22 rfl) rfl
theorem q1566 : (Jvm.Cond.methodLink "BeforeTheEndModel" (268 : Nat) ({ cls := "BeforeTheEndModel", name := "isOver", desc := "(III)Z" } : Jvm.MethodName)) ∈ lw_all := lw_g (lw_at lw_m7 23 rfl) rfl
theorem q1567 : (Jvm.Cond.privateMethod ({ cls := "BeforeTheEndModel", name := "isOver", desc := "(III)Z" } : Jvm.MethodName)) ∈ lw_tbl := lw_at lw_m7 24 rfl
theorem q1568 : (Jvm.Cond.instanceMethod ({ cls := "BeforeTheEndModel", name := "isOver", desc := "(III)Z" } : Jvm.MethodName)) ∈ lw_all := lw_g (lw_at lw_m7 25 rfl) rfl
theorem q1569 : (Jvm.Cond.code ({ cls := "BeforeTheEndModel", name := "isOver", desc := "(III)Z" } : Jvm.MethodName) prog_18_method_48_code (4 : Nat) (Option.some Jvm.ClassFile.FieldType.boolean)) ∈ lw_all := lw_g (lw_at lw_m7 26 rfl) rfl
theorem q1571 : (Jvm.Cond.instanceMethod ({ cls := "BeforeTheEndModel", name := "wins", desc := "(II)J" } : Jvm.MethodName)) ∈ lw_all := lw_g (lw_at lw_m7 28 rfl) rfl
theorem q1572 : (Jvm.Cond.selects "BeforeTheEndModel" ({ cls := "BeforeTheEndModel", name := "wins", desc := "(II)J" } : Jvm.MethodName) ({ cls := "BeforeTheEndModel", name := "wins", desc := "(II)J" } : Jvm.MethodName)) ∈ lw_all := lw_g (lw_at lw_m7 29 rfl) rfl
theorem q1573 : (Jvm.Cond.code ({ cls := "BeforeTheEndModel", name := "wins", desc := "(II)J" } : Jvm.MethodName) prog_18_method_53_code (3 : Nat) (Option.some Jvm.ClassFile.FieldType.long)) ∈ lw_all := lw_g (lw_at lw_m7 30 rfl) rfl
theorem q1574 : (Jvm.Cond.methodLink "BeforeTheEndModel" (277 : Nat) ({ cls := "BeforeTheEndModel", name := "inAll", desc := "(III)J" } : Jvm.MethodName)) ∈ lw_all := lw_g (lw_at lw_m7 31 rfl) rfl
theorem q1575 : (Jvm.Cond.privateMethod ({ cls := "BeforeTheEndModel", name := "inAll", desc := "(III)J" } : Jvm.MethodName)) ∈ lw_tbl := lw_at lw_m7 32 rfl
theorem q1576 : (Jvm.Cond.instanceMethod ({ cls := "BeforeTheEndModel", name := "inAll", desc := "(III)J" } : Jvm.MethodName)) ∈ lw_all := lw_g (lw_at lw_m7 33 rfl) rfl
theorem q1577 : (Jvm.Cond.code ({ cls := "BeforeTheEndModel", name := "inAll", desc := "(III)J" } : Jvm.MethodName) prog_18_method_52_code (4 : Nat) (Option.some Jvm.ClassFile.FieldType.long)) ∈ lw_all := lw_g (lw_at lw_m7 34 rfl) rfl
theorem q1578 : (Jvm.Cond.methodLink "BeforeTheEndModel" (274 : Nat) ({ cls := "BeforeTheEndModel", name := "sumOver", desc := "(II)J" } : Jvm.MethodName)) ∈ lw_all := lw_g (lw_at lw_m7 35 rfl) rfl
theorem q1579 : (Jvm.Cond.privateMethod ({ cls := "BeforeTheEndModel", name := "sumOver", desc := "(II)J" } : Jvm.MethodName)) ∈ lw_tbl := lw_at lw_m7 36 rfl
theorem q1580 : (Jvm.Cond.instanceMethod ({ cls := "BeforeTheEndModel", name := "sumOver", desc := "(II)J" } : Jvm.MethodName)) ∈ lw_all := lw_g (lw_at lw_m7 37 rfl) rfl
theorem q1581 : (Jvm.Cond.code ({ cls := "BeforeTheEndModel", name := "sumOver", desc := "(II)J" } : Jvm.MethodName) prog_18_method_51_code (6 : Nat) (Option.some Jvm.ClassFile.FieldType.long)) ∈ lw_all := lw_g (lw_at lw_m7 38 rfl) rfl
theorem q1583 : (Jvm.Cond.instanceMethod ({ cls := "BeforeTheEndModel", name := "worth", desc := "(II)J" } : Jvm.MethodName)) ∈ lw_all := lw_g (lw_at lw_m7 40 rfl) rfl
theorem q1584 : (Jvm.Cond.selects "BeforeTheEndModel" ({ cls := "BeforeTheEndModel", name := "worth", desc := "(II)J" } : Jvm.MethodName) ({ cls := "BeforeTheEndModel", name := "worth", desc := "(II)J" } : Jvm.MethodName)) ∈ lw_all := lw_g (lw_at lw_m7 41 rfl) rfl
theorem q1585 : (Jvm.Cond.code ({ cls := "BeforeTheEndModel", name := "worth", desc := "(II)J" } : Jvm.MethodName) prog_18_method_54_code (3 : Nat) (Option.some Jvm.ClassFile.FieldType.long)) ∈ lw_all := lw_g (lw_at lw_m7 42 rfl) rfl
theorem q1587 : (Jvm.Cond.instanceMethod ({ cls := "BeforeTheEndModel", name := "nobody", desc := "(I)J" } : Jvm.MethodName)) ∈ lw_all := lw_g (lw_at lw_m7 44 rfl) rfl
theorem q1588 : (Jvm.Cond.selects "BeforeTheEndModel" ({ cls := "BeforeTheEndModel", name := "nobody", desc := "(I)J" } : Jvm.MethodName) ({ cls := "BeforeTheEndModel", name := "nobody", desc := "(I)J" } : Jvm.MethodName)) ∈ lw_all := lw_g (lw_at lw_m7 45 rfl) rfl
theorem q1589 : (Jvm.Cond.code ({ cls := "BeforeTheEndModel", name := "nobody", desc := "(I)J" } : Jvm.MethodName) prog_18_method_55_code (2 : Nat) (Option.some Jvm.ClassFile.FieldType.long)) ∈ lw_all := lw_g (lw_at lw_m7 46 rfl) rfl
theorem q1591 : (Jvm.Cond.instanceMethod ({ cls := "BeforeTheEndModel", name := "dull", desc := "(I)J" } : Jvm.MethodName)) ∈ lw_all := lw_g (lw_at lw_m7 48 rfl) rfl
theorem q1592 : (Jvm.Cond.selects "BeforeTheEndModel" ({ cls := "BeforeTheEndModel", name := "dull", desc := "(I)J" } : Jvm.MethodName) ({ cls := "BeforeTheEndModel", name := "dull", desc := "(I)J" } : Jvm.MethodName)) ∈ lw_all := lw_g (lw_at lw_m7 49 rfl) rfl
theorem q1593 : (Jvm.Cond.code ({ cls := "BeforeTheEndModel", name := "dull", desc := "(I)J" } : Jvm.MethodName) prog_18_method_56_code (2 : Nat) (Option.some Jvm.ClassFile.FieldType.long)) ∈ lw_all := lw_g (lw_at lw_m7 50 rfl) rfl
theorem q1595 : (Jvm.Cond.instanceMethod ({ cls := "BeforeTheEndModel", name := "value", desc := "(III)J" } : Jvm.MethodName)) ∈ lw_all := lw_g (lw_at lw_m7 52 rfl) rfl
theorem q1596 : (Jvm.Cond.selects "BeforeTheEndModel" ({ cls := "BeforeTheEndModel", name := "value", desc := "(III)J" } : Jvm.MethodName) ({ cls := "BeforeTheEndModel", name := "value", desc := "(III)J" } : Jvm.MethodName)) ∈ lw_all := lw_g (lw_at lw_m7 53 rfl) rfl
theorem q1597 : (Jvm.Cond.code ({ cls := "BeforeTheEndModel", name := "value", desc := "(III)J" } : Jvm.MethodName) prog_18_method_57_code (4 : Nat) (Option.some Jvm.ClassFile.FieldType.long)) ∈ lw_all := lw_g (lw_at lw_m7 54 rfl) rfl
theorem q1599 : (Jvm.Cond.instanceMethod ({ cls := "BeforeTheEndModel", name := "alone", desc := "(I)I" } : Jvm.MethodName)) ∈ lw_all := lw_g (lw_at lw_m7 56 rfl) rfl
theorem q1600 : (Jvm.Cond.selects "BeforeTheEndModel" ({ cls := "BeforeTheEndModel", name := "alone", desc := "(I)I" } : Jvm.MethodName) ({ cls := "BeforeTheEndModel", name := "alone", desc := "(I)I" } : Jvm.MethodName)) ∈ lw_all := lw_g (lw_at lw_m7 57 rfl) rfl
theorem q1601 : (Jvm.Cond.code ({ cls := "BeforeTheEndModel", name := "alone", desc := "(I)I" } : Jvm.MethodName) prog_18_method_58_code (2 : Nat) (Option.some Jvm.ClassFile.FieldType.int)) ∈ lw_all := lw_g (lw_at lw_m7 58 rfl) rfl
theorem q1603 : (Jvm.Cond.instanceMethod ({ cls := "BeforeTheEndModel", name := "reply", desc := "(II)I" } : Jvm.MethodName)) ∈ lw_all := lw_g (lw_at lw_m7 60 rfl) rfl
theorem q1604 : (Jvm.Cond.selects "BeforeTheEndModel" ({ cls := "BeforeTheEndModel", name := "reply", desc := "(II)I" } : Jvm.MethodName) ({ cls := "BeforeTheEndModel", name := "reply", desc := "(II)I" } : Jvm.MethodName)) ∈ lw_all := lw_g (lw_at lw_m7 61 rfl) rfl
theorem q1605 : (Jvm.Cond.code ({ cls := "BeforeTheEndModel", name := "reply", desc := "(II)I" } : Jvm.MethodName) prog_18_method_61_code (4 : Nat) (Option.some Jvm.ClassFile.FieldType.int)) ∈ lw_all := lw_g (lw_at lw_m7 62 rfl) rfl
theorem q1606 : (Jvm.Cond.methodLink "BeforeTheEndModel" (291 : Nat) ({ cls := "BeforeTheEndModel", name := "replyOf", desc := "(II)I" } : Jvm.MethodName)) ∈ lw_all := lw_g (lw_at lw_m7 63 rfl) rfl
theorem q1607 : (Jvm.Cond.privateMethod ({ cls := "BeforeTheEndModel", name := "replyOf", desc := "(II)I" } : Jvm.MethodName)) ∈ lw_tbl := lw_at lw_m7 64 rfl
theorem q1608 : (Jvm.Cond.instanceMethod ({ cls := "BeforeTheEndModel", name := "replyOf", desc := "(II)I" } : Jvm.MethodName)) ∈ lw_all := lw_g (lw_at lw_m7 65 rfl) rfl
theorem q1609 : (Jvm.Cond.code ({ cls := "BeforeTheEndModel", name := "replyOf", desc := "(II)I" } : Jvm.MethodName) prog_18_method_60_code (5 : Nat) (Option.some Jvm.ClassFile.FieldType.int)) ∈ lw_all := lw_g (lw_at lw_m7 66 rfl) rfl
theorem q1610 : (Jvm.Cond.methodLink "BeforeTheEndModel" (287 : Nat) ({ cls := "BeforeTheEndModel", name := "tries", desc := "(II)V" } : Jvm.MethodName)) ∈ lw_all := lw_g (lw_at lw_m7 67 rfl) rfl
theorem q1611 : (Jvm.Cond.privateMethod ({ cls := "BeforeTheEndModel", name := "tries", desc := "(II)V" } : Jvm.MethodName)) ∈ lw_tbl := lw_at lw_m7 68 rfl
theorem q1612 : (Jvm.Cond.instanceMethod ({ cls := "BeforeTheEndModel", name := "tries", desc := "(II)V" } : Jvm.MethodName)) ∈ lw_all := lw_g (lw_at lw_m7 69 rfl) rfl
theorem q1613 : (Jvm.Cond.code ({ cls := "BeforeTheEndModel", name := "tries", desc := "(II)V" } : Jvm.MethodName) prog_18_method_59_code (6 : Nat) (Option.none : Option Jvm.ClassFile.FieldType)) ∈ lw_all := lw_g (lw_at lw_m7 70 rfl) rfl
theorem q1615 : (Jvm.Cond.instanceMethod ({ cls := "BeforeTheEndModel", name := "rest", desc := "(II)I" } : Jvm.MethodName)) ∈ lw_all := lw_g (lw_at lw_m7 72 rfl) rfl
theorem q1616 : (Jvm.Cond.selects "BeforeTheEndModel" ({ cls := "BeforeTheEndModel", name := "rest", desc := "(II)I" } : Jvm.MethodName) ({ cls := "BeforeTheEndModel", name := "rest", desc := "(II)I" } : Jvm.MethodName)) ∈ lw_all := lw_g (lw_at lw_m7 73 rfl) rfl
theorem q1617 : (Jvm.Cond.code ({ cls := "BeforeTheEndModel", name := "rest", desc := "(II)I" } : Jvm.MethodName) prog_18_method_63_code (6 : Nat) (Option.some Jvm.ClassFile.FieldType.int)) ∈ lw_all := lw_g (lw_at lw_m7 74 rfl) rfl
theorem q1618 : (Jvm.Cond.methodLink "BeforeTheEndModel" (294 : Nat) ({ cls := "BeforeTheEndModel", name := "takesReply", desc := "(I)Z" } : Jvm.MethodName)) ∈ lw_all := lw_g (lw_at lw_m7 75 rfl) rfl
theorem q1619 : (Jvm.Cond.privateMethod ({ cls := "BeforeTheEndModel", name := "takesReply", desc := "(I)Z" } : Jvm.MethodName)) ∈ lw_tbl := lw_at lw_m7 76 rfl
theorem q1620 : (Jvm.Cond.instanceMethod ({ cls := "BeforeTheEndModel", name := "takesReply", desc := "(I)Z" } : Jvm.MethodName)) ∈ lw_all := lw_g (lw_at lw_m7 77 rfl) rfl
theorem q1621 : (Jvm.Cond.code ({ cls := "BeforeTheEndModel", name := "takesReply", desc := "(I)Z" } : Jvm.MethodName) prog_18_method_62_code (4 : Nat) (Option.some Jvm.ClassFile.FieldType.boolean)) ∈ lw_all := lw_g (lw_at lw_m7 78 rfl) rfl
theorem q1623 : (Jvm.Cond.instanceMethod ({ cls := "BeforeTheEndModel", name := "law", desc := "(I)I" } : Jvm.MethodName)) ∈ lw_all := lw_g (lw_at lw_m7 80 rfl) rfl
theorem q1624 : (Jvm.Cond.selects "BeforeTheEndModel" ({ cls := "BeforeTheEndModel", name := "law", desc := "(I)I" } : Jvm.MethodName) ({ cls := "BeforeTheEndModel", name := "law", desc := "(I)I" } : Jvm.MethodName)) ∈ lw_all := lw_g (lw_at lw_m7 81 rfl) rfl
theorem q1625 : (Jvm.Cond.code ({ cls := "BeforeTheEndModel", name := "law", desc := "(I)I" } : Jvm.MethodName) prog_18_method_64_code (6 : Nat) (Option.some Jvm.ClassFile.FieldType.int)) ∈ lw_all := lw_g (lw_at lw_m7 82 rfl) rfl
theorem q1627 : (Jvm.Cond.instanceMethod ({ cls := "BeforeTheEndModel", name := "mostEarly", desc := "(I)I" } : Jvm.MethodName)) ∈ lw_all := lw_g (lw_at lw_m7 84 rfl) rfl
theorem q1628 : (Jvm.Cond.selects "BeforeTheEndModel" ({ cls := "BeforeTheEndModel", name := "mostEarly", desc := "(I)I" } : Jvm.MethodName) ({ cls := "BeforeTheEndModel", name := "mostEarly", desc := "(I)I" } : Jvm.MethodName)) ∈ lw_all := lw_g (lw_at lw_m7 85 rfl) rfl
theorem q1629 : (Jvm.Cond.code ({ cls := "BeforeTheEndModel", name := "mostEarly", desc := "(I)I" } : Jvm.MethodName) prog_18_method_65_code (9 : Nat) (Option.some Jvm.ClassFile.FieldType.int)) ∈ lw_all := lw_g (lw_at lw_m7 86 rfl) rfl
theorem q1630 : (Jvm.Cond.constantLong "BeforeTheEndModel" (297 : Nat) (-1 : Int64)) ∈ lw_all := lw_g (lw_at lw_m7 87 rfl) rfl
theorem q1632 : (Jvm.Cond.instanceMethod ({ cls := "BeforeTheEndModel", name := "silent", desc := "(II)I" } : Jvm.MethodName)) ∈ lw_all := lw_g (lw_at lw_m7 89 rfl) rfl
theorem q1633 : (Jvm.Cond.selects "BeforeTheEndModel" ({ cls := "BeforeTheEndModel", name := "silent", desc := "(II)I" } : Jvm.MethodName) ({ cls := "BeforeTheEndModel", name := "silent", desc := "(II)I" } : Jvm.MethodName)) ∈ lw_all := lw_g (lw_at lw_m7 90 rfl) rfl
theorem q1634 : (Jvm.Cond.code ({ cls := "BeforeTheEndModel", name := "silent", desc := "(II)I" } : Jvm.MethodName) prog_18_method_66_code (6 : Nat) (Option.some Jvm.ClassFile.FieldType.int)) ∈ lw_all := lw_g (lw_at lw_m7 91 rfl) rfl
theorem q1636 : (Jvm.Cond.instanceMethod ({ cls := "BeforeTheEndModel", name := "partners", desc := "(III)I" } : Jvm.MethodName)) ∈ lw_all := lw_g (lw_at lw_m7 93 rfl) rfl
theorem q1637 : (Jvm.Cond.selects "BeforeTheEndModel" ({ cls := "BeforeTheEndModel", name := "partners", desc := "(III)I" } : Jvm.MethodName) ({ cls := "BeforeTheEndModel", name := "partners", desc := "(III)I" } : Jvm.MethodName)) ∈ lw_all := lw_g (lw_at lw_m7 94 rfl) rfl
theorem q1638 : (Jvm.Cond.code ({ cls := "BeforeTheEndModel", name := "partners", desc := "(III)I" } : Jvm.MethodName) prog_18_method_67_code (6 : Nat) (Option.some Jvm.ClassFile.FieldType.int)) ∈ lw_all := lw_g (lw_at lw_m7 95 rfl) rfl
theorem q1640 : (Jvm.Cond.instanceMethod ({ cls := "BeforeTheEndModel", name := "fact", desc := "(I)I" } : Jvm.MethodName)) ∈ lw_all := lw_g (lw_at lw_m7 97 rfl) rfl
theorem q1641 : (Jvm.Cond.selects "BeforeTheEndModel" ({ cls := "BeforeTheEndModel", name := "fact", desc := "(I)I" } : Jvm.MethodName) ({ cls := "BeforeTheEndModel", name := "fact", desc := "(I)I" } : Jvm.MethodName)) ∈ lw_all := lw_g (lw_at lw_m7 98 rfl) rfl
theorem q1642 : (Jvm.Cond.code ({ cls := "BeforeTheEndModel", name := "fact", desc := "(I)I" } : Jvm.MethodName) prog_18_method_68_code (2 : Nat) (Option.some Jvm.ClassFile.FieldType.int)) ∈ lw_all := lw_g (lw_at lw_m7 99 rfl) rfl
theorem q1644 : (Jvm.Cond.instanceMethod ({ cls := "BeforeTheEndModel", name := "had", desc := "(II)I" } : Jvm.MethodName)) ∈ lw_all := lw_g (lw_at lw_m7 101 rfl) rfl
theorem q1645 : (Jvm.Cond.selects "BeforeTheEndModel" ({ cls := "BeforeTheEndModel", name := "had", desc := "(II)I" } : Jvm.MethodName) ({ cls := "BeforeTheEndModel", name := "had", desc := "(II)I" } : Jvm.MethodName)) ∈ lw_all := lw_g (lw_at lw_m7 102 rfl) rfl
theorem q1646 : (Jvm.Cond.code ({ cls := "BeforeTheEndModel", name := "had", desc := "(II)I" } : Jvm.MethodName) prog_18_method_71_code (8 : Nat) (Option.some Jvm.ClassFile.FieldType.int)) ∈ lw_all := lw_g (lw_at lw_m7 103 rfl) rfl
theorem q1647 : (Jvm.Cond.methodLink "BeforeTheEndModel" (305 : Nat) ({ cls := "BeforeTheEndModel", name := "hadOf", desc := "(I)I" } : Jvm.MethodName)) ∈ lw_all := lw_g (lw_at lw_m7 104 rfl) rfl
theorem q1648 : (Jvm.Cond.privateMethod ({ cls := "BeforeTheEndModel", name := "hadOf", desc := "(I)I" } : Jvm.MethodName)) ∈ lw_tbl := lw_at lw_m7 105 rfl
theorem q1649 : (Jvm.Cond.instanceMethod ({ cls := "BeforeTheEndModel", name := "hadOf", desc := "(I)I" } : Jvm.MethodName)) ∈ lw_all := lw_g (lw_at lw_m7 106 rfl) rfl
theorem q1650 : (Jvm.Cond.code ({ cls := "BeforeTheEndModel", name := "hadOf", desc := "(I)I" } : Jvm.MethodName) prog_18_method_70_code (4 : Nat) (Option.some Jvm.ClassFile.FieldType.int)) ∈ lw_all := lw_g (lw_at lw_m7 107 rfl) rfl
theorem q1651 : (Jvm.Cond.methodLink "BeforeTheEndModel" (302 : Nat) ({ cls := "BeforeTheEndModel", name := "bits", desc := "(I)I" } : Jvm.MethodName)) ∈ lw_all := lw_g (lw_at lw_m7 108 rfl) rfl
theorem q1652 : (Jvm.Cond.static ({ cls := "BeforeTheEndModel", name := "bits", desc := "(I)I" } : Jvm.MethodName)) ∈ lw_all := lw_g (lw_at lw_m7 109 rfl) rfl
theorem q1653 : (Jvm.Cond.code ({ cls := "BeforeTheEndModel", name := "bits", desc := "(I)I" } : Jvm.MethodName) prog_18_method_69_code (3 : Nat) (Option.some Jvm.ClassFile.FieldType.int)) ∈ lw_all := lw_g (lw_at lw_m7 110 rfl) rfl
theorem q1655 : (Jvm.Cond.instanceMethod ({ cls := "BeforeTheEndModel", name := "late", desc := "(I)I" } : Jvm.MethodName)) ∈ lw_all := lw_g (lw_at lw_m7 112 rfl) rfl
theorem q1656 : (Jvm.Cond.selects "BeforeTheEndModel" ({ cls := "BeforeTheEndModel", name := "late", desc := "(I)I" } : Jvm.MethodName) ({ cls := "BeforeTheEndModel", name := "late", desc := "(I)I" } : Jvm.MethodName)) ∈ lw_all := lw_g (lw_at lw_m7 113 rfl) rfl
theorem q1657 : (Jvm.Cond.code ({ cls := "BeforeTheEndModel", name := "late", desc := "(I)I" } : Jvm.MethodName) prog_18_method_74_code (2 : Nat) (Option.some Jvm.ClassFile.FieldType.int)) ∈ lw_all := lw_g (lw_at lw_m7 114 rfl) rfl
theorem q1658 : (Jvm.Cond.methodLink "BeforeTheEndModel" (311 : Nat) ({ cls := "BeforeTheEndModel", name := "best", desc := "(ZI)I" } : Jvm.MethodName)) ∈ lw_all := lw_g (lw_at lw_m7 115 rfl) rfl
theorem q1659 : (Jvm.Cond.privateMethod ({ cls := "BeforeTheEndModel", name := "best", desc := "(ZI)I" } : Jvm.MethodName)) ∈ lw_tbl := lw_at lw_m7 116 rfl
theorem q1660 : (Jvm.Cond.instanceMethod ({ cls := "BeforeTheEndModel", name := "best", desc := "(ZI)I" } : Jvm.MethodName)) ∈ lw_all := lw_g (lw_at lw_m7 117 rfl) rfl
theorem q1661 : (Jvm.Cond.code ({ cls := "BeforeTheEndModel", name := "best", desc := "(ZI)I" } : Jvm.MethodName) prog_18_method_73_code (8 : Nat) (Option.some Jvm.ClassFile.FieldType.int)) ∈ lw_all := lw_g (lw_at lw_m7 118 rfl) rfl
theorem q1662 : (Jvm.Cond.methodLink "BeforeTheEndModel" (308 : Nat) ({ cls := "BeforeTheEndModel", name := "ordered", desc := "(I)V" } : Jvm.MethodName)) ∈ lw_all := lw_g (lw_at lw_m7 119 rfl) rfl
theorem q1663 : (Jvm.Cond.privateMethod ({ cls := "BeforeTheEndModel", name := "ordered", desc := "(I)V" } : Jvm.MethodName)) ∈ lw_tbl := lw_at lw_m7 120 rfl
theorem q1664 : (Jvm.Cond.instanceMethod ({ cls := "BeforeTheEndModel", name := "ordered", desc := "(I)V" } : Jvm.MethodName)) ∈ lw_all := lw_g (lw_at lw_m7 121 rfl) rfl
theorem q1665 : (Jvm.Cond.code ({ cls := "BeforeTheEndModel", name := "ordered", desc := "(I)V" } : Jvm.MethodName) prog_18_method_72_code (8 : Nat) (Option.none : Option Jvm.ClassFile.FieldType)) ∈ lw_all := lw_g (lw_at lw_m7 122 rfl) rfl
theorem q1667 : (Jvm.Cond.instanceMethod ({ cls := "BeforeTheEndModel", name := "soon", desc := "(I)I" } : Jvm.MethodName)) ∈ lw_all := lw_g (lw_at lw_m7 124 rfl) rfl
theorem q1668 : (Jvm.Cond.selects "BeforeTheEndModel" ({ cls := "BeforeTheEndModel", name := "soon", desc := "(I)I" } : Jvm.MethodName) ({ cls := "BeforeTheEndModel", name := "soon", desc := "(I)I" } : Jvm.MethodName)) ∈ lw_all := lw_g (lw_at lw_m7 125 rfl) rfl
theorem q1669 : (Jvm.Cond.code ({ cls := "BeforeTheEndModel", name := "soon", desc := "(I)I" } : Jvm.MethodName) prog_18_method_75_code (2 : Nat) (Option.some Jvm.ClassFile.FieldType.int)) ∈ lw_all := lw_g (lw_at lw_m7 126 rfl) rfl
theorem q1671 : (Jvm.Cond.instanceMethod ({ cls := "BeforeTheEndModel", name := "evening", desc := "(III)I" } : Jvm.MethodName)) ∈ lw_all := lw_g (lw_at lw_m7 128 rfl) rfl
theorem q1672 : (Jvm.Cond.selects "BeforeTheEndModel" ({ cls := "BeforeTheEndModel", name := "evening", desc := "(III)I" } : Jvm.MethodName) ({ cls := "BeforeTheEndModel", name := "evening", desc := "(III)I" } : Jvm.MethodName)) ∈ lw_all := lw_g (lw_at lw_m7 129 rfl) rfl
theorem q1673 : (Jvm.Cond.code ({ cls := "BeforeTheEndModel", name := "evening", desc := "(III)I" } : Jvm.MethodName) prog_18_method_77_code (7 : Nat) (Option.some Jvm.ClassFile.FieldType.int)) ∈ lw_all := lw_g (lw_at lw_m7 130 rfl) rfl
theorem q1674 : (Jvm.Cond.methodLink "BeforeTheEndModel" (321 : Nat) ({ cls := "BeforeTheEndModel", name := "lower", desc := "(I)I" } : Jvm.MethodName)) ∈ lw_all := lw_g (lw_at lw_m7 131 rfl) rfl
theorem q1675 : (Jvm.Cond.privateMethod ({ cls := "BeforeTheEndModel", name := "lower", desc := "(I)I" } : Jvm.MethodName)) ∈ lw_tbl := lw_at lw_m7 132 rfl
theorem q1676 : (Jvm.Cond.instanceMethod ({ cls := "BeforeTheEndModel", name := "lower", desc := "(I)I" } : Jvm.MethodName)) ∈ lw_all := lw_g (lw_at lw_m7 133 rfl) rfl
theorem q1677 : (Jvm.Cond.code ({ cls := "BeforeTheEndModel", name := "lower", desc := "(I)I" } : Jvm.MethodName) prog_18_method_3_code (2 : Nat) (Option.some Jvm.ClassFile.FieldType.int)) ∈ lw_all := lw_g (lw_at lw_m7 134 rfl) rfl
theorem q1678 : (Jvm.Cond.constant "BeforeTheEndModel" (111 : Nat) (1000000000 : Int32)) ∈ lw_all := lw_g (lw_at lw_m7 135 rfl) rfl
theorem q1679 : (Jvm.Cond.methodLink "BeforeTheEndModel" (324 : Nat) ({ cls := "BeforeTheEndModel", name := "drawn", desc := "()I" } : Jvm.MethodName)) ∈ lw_all := lw_g (lw_at lw_m7 136 rfl) rfl
theorem q1680 : (Jvm.Cond.privateMethod ({ cls := "BeforeTheEndModel", name := "drawn", desc := "()I" } : Jvm.MethodName)) ∈ lw_tbl := lw_at lw_m7 137 rfl
theorem q1681 : (Jvm.Cond.instanceMethod ({ cls := "BeforeTheEndModel", name := "drawn", desc := "()I" } : Jvm.MethodName)) ∈ lw_all := lw_g (lw_at lw_m7 138 rfl) rfl
theorem q1682 : (Jvm.Cond.code ({ cls := "BeforeTheEndModel", name := "drawn", desc := "()I" } : Jvm.MethodName) prog_18_method_76_code (4 : Nat) (Option.some Jvm.ClassFile.FieldType.int)) ∈ lw_all := lw_g (lw_at lw_m7 139 rfl) rfl
theorem q1683 : (Jvm.Cond.constant "BeforeTheEndModel" (318 : Nat) (1664525 : Int32)) ∈ lw_all := lw_g (lw_at lw_m7 140 rfl) rfl
theorem q1684 : (Jvm.Cond.constant "BeforeTheEndModel" (319 : Nat) (1013904223 : Int32)) ∈ lw_all := lw_g (lw_at lw_m7 141 rfl) rfl
theorem q1685 : (Jvm.Cond.constant "BeforeTheEndModel" (320 : Nat) (2147483647 : Int32)) ∈ lw_all := lw_g (lw_at lw_m7 142 rfl) rfl
theorem q1687 : (Jvm.Cond.instanceMethod ({ cls := "BeforeTheEndModel", name := "row", desc := "(I)I" } : Jvm.MethodName)) ∈ lw_all := lw_g (lw_at lw_m7 144 rfl) rfl
theorem q1688 : (Jvm.Cond.selects "BeforeTheEndModel" ({ cls := "BeforeTheEndModel", name := "row", desc := "(I)I" } : Jvm.MethodName) ({ cls := "BeforeTheEndModel", name := "row", desc := "(I)I" } : Jvm.MethodName)) ∈ lw_all := lw_g (lw_at lw_m7 145 rfl) rfl
theorem q1689 : (Jvm.Cond.code ({ cls := "BeforeTheEndModel", name := "row", desc := "(I)I" } : Jvm.MethodName) prog_18_method_78_code (3 : Nat) (Option.some Jvm.ClassFile.FieldType.int)) ∈ lw_all := lw_g (lw_at lw_m7 146 rfl) rfl
theorem q1691 : (Jvm.Cond.instanceMethod ({ cls := "BeforeTheEndModel", name := "judge", desc := "(I)I" } : Jvm.MethodName)) ∈ lw_all := lw_g (lw_at lw_m7 148 rfl) rfl
theorem q1692 : (Jvm.Cond.selects "BeforeTheEndModel" ({ cls := "BeforeTheEndModel", name := "judge", desc := "(I)I" } : Jvm.MethodName) ({ cls := "BeforeTheEndModel", name := "judge", desc := "(I)I" } : Jvm.MethodName)) ∈ lw_all := lw_g (lw_at lw_m7 149 rfl) rfl
theorem q1693 : (Jvm.Cond.code ({ cls := "BeforeTheEndModel", name := "judge", desc := "(I)I" } : Jvm.MethodName) prog_18_method_79_code (4 : Nat) (Option.some Jvm.ClassFile.FieldType.int)) ∈ lw_all := lw_g (lw_at lw_m7 150 rfl) rfl
theorem q1695 : (Jvm.Cond.instanceMethod ({ cls := "BeforeTheEndModel", name := "image", desc := "()I" } : Jvm.MethodName)) ∈ lw_all := lw_g (lw_at lw_m7 152 rfl) rfl
theorem q1696 : (Jvm.Cond.selects "BeforeTheEndModel" ({ cls := "BeforeTheEndModel", name := "image", desc := "()I" } : Jvm.MethodName) ({ cls := "BeforeTheEndModel", name := "image", desc := "()I" } : Jvm.MethodName)) ∈ lw_all := lw_g (lw_at lw_m7 153 rfl) rfl
theorem q1697 : (Jvm.Cond.code ({ cls := "BeforeTheEndModel", name := "image", desc := "()I" } : Jvm.MethodName) prog_18_method_83_code (1 : Nat) (Option.some Jvm.ClassFile.FieldType.int)) ∈ lw_all := lw_g (lw_at lw_m7 154 rfl) rfl
theorem q1698 : (Jvm.Cond.methodLink "BeforeTheEndModel" (347 : Nat) ({ cls := "BeforeTheEndModel", name := "passesAll", desc := "()V" } : Jvm.MethodName)) ∈ lw_all := lw_g (lw_at lw_m7 155 rfl) rfl
theorem q1699 : (Jvm.Cond.privateMethod ({ cls := "BeforeTheEndModel", name := "passesAll", desc := "()V" } : Jvm.MethodName)) ∈ lw_tbl := lw_at lw_m7 156 rfl
theorem q1700 : (Jvm.Cond.instanceMethod ({ cls := "BeforeTheEndModel", name := "passesAll", desc := "()V" } : Jvm.MethodName)) ∈ lw_all := lw_g (lw_at lw_m7 157 rfl) rfl
theorem q1701 : (Jvm.Cond.code ({ cls := "BeforeTheEndModel", name := "passesAll", desc := "()V" } : Jvm.MethodName) prog_18_method_82_code (1 : Nat) (Option.none : Option Jvm.ClassFile.FieldType)) ∈ lw_all := lw_g (lw_at lw_m7 158 rfl) rfl
theorem q1702 : (Jvm.Cond.methodLink "BeforeTheEndModel" (337 : Nat) ({ cls := "BeforeTheEndModel", name := "passes", desc := "([I)V" } : Jvm.MethodName)) ∈ lw_all := lw_g (lw_at lw_m7 159 rfl) rfl
theorem q1703 : (Jvm.Cond.privateMethod ({ cls := "BeforeTheEndModel", name := "passes", desc := "([I)V" } : Jvm.MethodName)) ∈ lw_tbl := lw_at lw_m7 160 rfl
theorem q1704 : (Jvm.Cond.instanceMethod ({ cls := "BeforeTheEndModel", name := "passes", desc := "([I)V" } : Jvm.MethodName)) ∈ lw_all := lw_g (lw_at lw_m7 161 rfl) rfl
theorem q1705 : (Jvm.Cond.code ({ cls := "BeforeTheEndModel", name := "passes", desc := "([I)V" } : Jvm.MethodName) prog_18_method_80_code (3 : Nat) (Option.none : Option Jvm.ClassFile.FieldType)) ∈ lw_all := lw_g (lw_at lw_m7 162 rfl) rfl
theorem q1706 : (Jvm.Cond.methodLink "BeforeTheEndModel" (341 : Nat) ({ cls := "BeforeTheEndModel", name := "passOne", desc := "(I)I" } : Jvm.MethodName)) ∈ lw_all := lw_g (lw_at lw_m7 163 rfl) rfl
theorem q1707 : (Jvm.Cond.privateMethod ({ cls := "BeforeTheEndModel", name := "passOne", desc := "(I)I" } : Jvm.MethodName)) ∈ lw_tbl := lw_at lw_m7 164 rfl
theorem q1708 : (Jvm.Cond.instanceMethod ({ cls := "BeforeTheEndModel", name := "passOne", desc := "(I)I" } : Jvm.MethodName)) ∈ lw_all := lw_g (lw_at lw_m7 165 rfl) rfl
theorem q1709 : (Jvm.Cond.code ({ cls := "BeforeTheEndModel", name := "passOne", desc := "(I)I" } : Jvm.MethodName) prog_18_method_81_code (3 : Nat) (Option.some Jvm.ClassFile.FieldType.int)) ∈ lw_all := lw_g (lw_at lw_m7 166 rfl) rfl
theorem q1711 : (Jvm.Cond.instanceMethod ({ cls := "BeforeTheEndModel", name := "on", desc := "()I" } : Jvm.MethodName)) ∈ lw_all := lw_g (lw_at lw_m7 168 rfl) rfl
theorem q1712 : (Jvm.Cond.selects "BeforeTheEndModel" ({ cls := "BeforeTheEndModel", name := "on", desc := "()I" } : Jvm.MethodName) ({ cls := "BeforeTheEndModel", name := "on", desc := "()I" } : Jvm.MethodName)) ∈ lw_all := lw_g (lw_at lw_m7 169 rfl) rfl
theorem q1713 : (Jvm.Cond.code ({ cls := "BeforeTheEndModel", name := "on", desc := "()I" } : Jvm.MethodName) prog_18_method_84_code (1 : Nat) (Option.some Jvm.ClassFile.FieldType.int)) ∈ lw_all := lw_g (lw_at lw_m7 170 rfl) rfl
theorem q1715 : (Jvm.Cond.instanceMethod ({ cls := "BeforeTheEndModel", name := "count", desc := "(I)I" } : Jvm.MethodName)) ∈ lw_all := lw_g (lw_at lw_m7 172 rfl) rfl
theorem q1716 : (Jvm.Cond.selects "BeforeTheEndModel" ({ cls := "BeforeTheEndModel", name := "count", desc := "(I)I" } : Jvm.MethodName) ({ cls := "BeforeTheEndModel", name := "count", desc := "(I)I" } : Jvm.MethodName)) ∈ lw_all := lw_g (lw_at lw_m7 173 rfl) rfl
theorem q1717 : (Jvm.Cond.code ({ cls := "BeforeTheEndModel", name := "count", desc := "(I)I" } : Jvm.MethodName) prog_18_method_85_code (4 : Nat) (Option.some Jvm.ClassFile.FieldType.int)) ∈ lw_all := lw_g (lw_at lw_m7 174 rfl) rfl
theorem in_X2 : ∀ w ∈ wsX20, w ∈ lw_all := lw_in wsX20 [1275, 1277, 1279, 1281, 1283, 1285, 1287, 1289, 1291, 1293, 1295, 1297, 1299, 1301, 1303, 1305, 1307, 1309, 1311, 1313, 1315, 1317, 1319, 1321, 1323, 1325, 1327, 1329, 1331, 1333, 1335, 1337, 1339, 1341, 1343, 1345, 1347, 1349, 1351, 1353, 1355, 1357, 1359, 1361, 1363, 1365, 1367, 1369, 1371, 1373, 1375, 1377] (by decide +kernel) (by decide +kernel)
