/-! LetterPen -/
set_option maxRecDepth 100000
def RX0 : String := "LetterPen"
def TX0 : u_T := fun k => match k with
  | 0 => ("LetterPen", "tape", "[C", true)
  | 1 => ("LetterPen", "taped", "I", false)
  | 2 => ("LetterPen", "refusals", "[I", true)
  | 3 => ("LetterPen", "read", "[I", true)
  | 4 => ("LetterPen", "now", "LLetterPen$State;", false)
  | 5 => ("LetterPen", "behind", "Ljava/util/ArrayList;", true)
  | 6 => ("LetterPen", "unused", "Ljava/util/ArrayList;", true)
  | 7 => ("LetterPen", "faultKind", "I", false)
  | 8 => ("LetterPen", "faultPlace", "I", false)
  | 9 => ("LetterPen", "rowA", "[I", false)
  | 10 => ("LetterPen", "rowB", "[I", false)
  | 11 => ("LetterPen", "codesApart", "LLetterPen$Cost;", true)
  | 12 => ("LetterPen", "least", "[[I", true)
  | 13 => ("LetterPen", "wayA", "[I", true)
  | 14 => ("LetterPen", "wayB", "[I", true)
  | 15 => ("LetterPen", "forth", "[[I", true)
  | 16 => ("LetterPen", "back", "[[I", true)
  | 17 => ("LetterPen", "offs", "[[I", true)
  | 18 => ("LetterPen", "partners", "[I", true)
  | 19 => ("LetterPen", "best", "[I", true)
  | 20 => ("LetterPen", "boxA", "LLetterPen$Box;", true)
  | 21 => ("LetterPen", "boxB", "LLetterPen$Box;", true)
  | 22 => ("LetterPen", "bestScore", "I", false)
  | 23 => ("LetterPen", "scores", "[I", true)
  | 24 => ("LetterPen", "ranked", "[I", true)
  | 25 => ("LetterPen", "groups", "[I", true)
  | 26 => ("LetterPen", "costs", "[I", true)
  | 27 => ("LetterPen", "rowLong", "[I", true)
  | 28 => ("LetterPen", "rowModel", "[I", true)
  | 29 => ("LetterPen", "rowScore", "[I", true)
  | 30 => ("LetterPen", "row", "Ljava/util/ArrayList;", true)
  | 31 => ("LetterPen", "samples", "Ljava/util/ArrayList;", true)
  | 32 => ("LetterPen", "valued", "[[I", true)
  | 33 => ("LetterPen", "isFit", "[Z", true)
  | 34 => ("LetterPen", "right", "[I", true)
  | 35 => ("LetterPen", "seeded", "J", false)
  | 36 => ("LetterPen", "image", "[C", true)
  | _ => ("LetterPen", "octets", "I", false)
def tyX0 : Nat → FieldType := fun k => match k with
  | 0 => .array .char
  | 1 => .int
  | 2 => .array .int
  | 3 => .array .int
  | 4 => .object "LetterPen$State"
  | 5 => .object "java/util/ArrayList"
  | 6 => .object "java/util/ArrayList"
  | 7 => .int
  | 8 => .int
  | 9 => .array .int
  | 10 => .array .int
  | 11 => .object "LetterPen$Cost"
  | 12 => .array (.array .int)
  | 13 => .array .int
  | 14 => .array .int
  | 15 => .array (.array .int)
  | 16 => .array (.array .int)
  | 17 => .array (.array .int)
  | 18 => .array .int
  | 19 => .array .int
  | 20 => .object "LetterPen$Box"
  | 21 => .object "LetterPen$Box"
  | 22 => .int
  | 23 => .array .int
  | 24 => .array .int
  | 25 => .array .int
  | 26 => .array .int
  | 27 => .array .int
  | 28 => .array .int
  | 29 => .array .int
  | 30 => .object "java/util/ArrayList"
  | 31 => .object "java/util/ArrayList"
  | 32 => .array (.array .int)
  | 33 => .array .boolean
  | 34 => .array .int
  | 35 => .long
  | 36 => .array .char
  | _ => .int
abbrev wsX00 : List Cond := u_ws RX0 TX0 38
set_option maxRecDepth 100000 in
theorem nmX0 : ∀ a, a < 38 → ∀ b, b < 38 → a ≠ b → (TX0 a).2.1 ≠ (TX0 b).2.1 := by decide +kernel
set_option maxRecDepth 100000 in
theorem tyX0_ok : ∀ k, k < 38 → parseFieldDescriptor (TX0 k).2.2.1 = some (tyX0 k) := by decide +kernel
abbrev cX0_init : ByteArray := prog_1_method_1_code
def yX0_init : MethodName := ⟨RX0, "<init>", "()V"⟩
def dkwX0_init_12 : List UInt8 := [16, 41, 188, 10, 181, 0, 119, 42, 10, 181, 0, 122, 42, 17, 0, 202, 188, 5, 181, 0, 126, 177]
abbrev dktX0_init_12 : List UInt8 := dkwX0_init_12 ++ []
def dkwX0_init_11 : List UInt8 := [181, 0, 109, 42, 16, 41, 16, 8, 197, 0, 49, 2, 181, 0, 112, 42, 16, 41, 188, 4, 181, 0, 115, 42]
abbrev dktX0_init_11 : List UInt8 := dkwX0_init_11 ++ dktX0_init_12
def dkwX0_init_10 : List UInt8 := [181, 0, 103, 42, 187, 0, 27, 89, 183, 0, 29, 181, 0, 106, 42, 187, 0, 27, 89, 183, 0, 29]
abbrev dktX0_init_10 : List UInt8 := dkwX0_init_10 ++ dktX0_init_11
def dkwX0_init_9 : List UInt8 := [181, 0, 94, 42, 16, 8, 188, 10, 181, 0, 97, 42, 16, 8, 188, 10, 181, 0, 100, 42, 16, 8, 188, 10]
abbrev dktX0_init_9 : List UInt8 := dkwX0_init_9 ++ dktX0_init_10
def dkwX0_init_8 : List UInt8 := [181, 0, 85, 42, 16, 8, 188, 10, 181, 0, 88, 42, 16, 8, 188, 10, 181, 0, 91, 42, 16, 9, 188, 10]
abbrev dktX0_init_8 : List UInt8 := dkwX0_init_8 ++ dktX0_init_9
def dkwX0_init_7 : List UInt8 := [183, 0, 77, 181, 0, 78, 42, 187, 0, 75, 89, 183, 0, 77, 181, 0, 82, 42, 16, 8, 188, 10]
abbrev dktX0_init_7 : List UInt8 := dkwX0_init_7 ++ dktX0_init_8
def dkwX0_init_6 : List UInt8 := [181, 0, 66, 42, 16, 8, 188, 10, 181, 0, 69, 42, 16, 8, 188, 10, 181, 0, 72, 42, 187, 0, 75, 89]
abbrev dktX0_init_6 : List UInt8 := dkwX0_init_6 ++ dktX0_init_7
def dkwX0_init_5 : List UInt8 := [181, 0, 60, 42, 16, 8, 16, 8, 197, 0, 49, 2, 181, 0, 63, 42, 16, 8, 16, 8, 197, 0, 49, 2]
abbrev dktX0_init_5 : List UInt8 := dkwX0_init_5 ++ dktX0_init_6
def dkwX0_init_4 : List UInt8 := [188, 10, 181, 0, 54, 42, 16, 32, 188, 10, 181, 0, 57, 42, 16, 8, 16, 8, 197, 0, 49, 2]
abbrev dktX0_init_4 : List UInt8 := dkwX0_init_4 ++ dktX0_init_5
def dkwX0_init_3 : List UInt8 := [186, 0, 41, 0, 0, 181, 0, 45, 42, 16, 16, 16, 16, 197, 0, 49, 2, 181, 0, 51, 42, 16, 32]
abbrev dktX0_init_3 : List UInt8 := dkwX0_init_3 ++ dktX0_init_4
def dkwX0_init_2 : List UInt8 := [181, 0, 30, 42, 187, 0, 27, 89, 183, 0, 29, 181, 0, 34, 42, 2, 181, 0, 37, 42, 42]
abbrev dktX0_init_2 : List UInt8 := dkwX0_init_2 ++ dktX0_init_3
def dkwX0_init_1 : List UInt8 := [188, 10, 181, 0, 17, 42, 187, 0, 20, 89, 183, 0, 22, 181, 0, 23, 42, 187, 0, 27, 89, 183, 0, 29]
abbrev dktX0_init_1 : List UInt8 := dkwX0_init_1 ++ dktX0_init_2
def dkwX0_init_0 : List UInt8 := [42, 183, 0, 1, 42, 17, 6, 64, 188, 5, 181, 0, 9, 42, 16, 6, 188, 10, 181, 0, 13, 42, 16, 24]
abbrev dktX0_init_0 : List UInt8 := dkwX0_init_0 ++ dktX0_init_1
theorem dksX0_init_0 : cX0_init.data.toList.drop 0 = dktX0_init_0 := by decide +kernel
theorem dksX0_init_1 : cX0_init.data.toList.drop 24 = dktX0_init_1 := dk_seg dksX0_init_0 24 rfl rfl
theorem dksX0_init_2 : cX0_init.data.toList.drop 48 = dktX0_init_2 := dk_seg dksX0_init_1 24 rfl rfl
theorem dksX0_init_3 : cX0_init.data.toList.drop 69 = dktX0_init_3 := dk_seg dksX0_init_2 21 rfl rfl
theorem dksX0_init_4 : cX0_init.data.toList.drop 92 = dktX0_init_4 := dk_seg dksX0_init_3 23 rfl rfl
theorem dksX0_init_5 : cX0_init.data.toList.drop 114 = dktX0_init_5 := dk_seg dksX0_init_4 22 rfl rfl
theorem dksX0_init_6 : cX0_init.data.toList.drop 138 = dktX0_init_6 := dk_seg dksX0_init_5 24 rfl rfl
theorem dksX0_init_7 : cX0_init.data.toList.drop 162 = dktX0_init_7 := dk_seg dksX0_init_6 24 rfl rfl
theorem dksX0_init_8 : cX0_init.data.toList.drop 184 = dktX0_init_8 := dk_seg dksX0_init_7 22 rfl rfl
theorem dksX0_init_9 : cX0_init.data.toList.drop 208 = dktX0_init_9 := dk_seg dksX0_init_8 24 rfl rfl
theorem dksX0_init_10 : cX0_init.data.toList.drop 232 = dktX0_init_10 := dk_seg dksX0_init_9 24 rfl rfl
theorem dksX0_init_11 : cX0_init.data.toList.drop 254 = dktX0_init_11 := dk_seg dksX0_init_10 22 rfl rfl
theorem dksX0_init_12 : cX0_init.data.toList.drop 278 = dktX0_init_12 := dk_seg dksX0_init_11 24 rfl rfl
theorem dX0_init_0 : decode cX0_init 0 = .ok (.aload_n 0, 1) := dk_42 (dk_at dksX0_init_0 0 rfl rfl)
theorem dX0_init_1 : decode cX0_init 1 = .ok (.invokespecial 1, 3) := dk_183 0 1 (dk_at dksX0_init_0 1 rfl rfl)
theorem dX0_init_4 : decode cX0_init 4 = .ok (.aload_n 0, 1) := dk_42 (dk_at dksX0_init_0 4 rfl rfl)
theorem dX0_init_5 : decode cX0_init 5 = .ok (.sipush 1600, 3) := dk_17 6 64 (dk_at dksX0_init_0 5 rfl rfl)
theorem dX0_init_8 : decode cX0_init 8 = .ok (.newarray .char, 2) := dk_188_5 (dk_at dksX0_init_0 8 rfl rfl)
theorem dX0_init_10 : decode cX0_init 10 = .ok (.putfield 9, 3) := dk_181 0 9 (dk_at dksX0_init_0 10 rfl rfl)
theorem dX0_init_13 : decode cX0_init 13 = .ok (.aload_n 0, 1) := dk_42 (dk_at dksX0_init_0 13 rfl rfl)
theorem dX0_init_14 : decode cX0_init 14 = .ok (.bipush 6, 2) := dk_16 6 (dk_at dksX0_init_0 14 rfl rfl)
theorem dX0_init_16 : decode cX0_init 16 = .ok (.newarray .int, 2) := dk_188_10 (dk_at dksX0_init_0 16 rfl rfl)
theorem dX0_init_18 : decode cX0_init 18 = .ok (.putfield 13, 3) := dk_181 0 13 (dk_at dksX0_init_0 18 rfl rfl)
theorem dX0_init_21 : decode cX0_init 21 = .ok (.aload_n 0, 1) := dk_42 (dk_at dksX0_init_0 21 rfl rfl)
theorem dX0_init_22 : decode cX0_init 22 = .ok (.bipush 24, 2) := dk_16 24 (dk_at dksX0_init_0 22 rfl rfl)
theorem dX0_init_24 : decode cX0_init 24 = .ok (.newarray .int, 2) := dk_188_10 (dk_at dksX0_init_1 0 rfl rfl)
theorem dX0_init_26 : decode cX0_init 26 = .ok (.putfield 17, 3) := dk_181 0 17 (dk_at dksX0_init_1 2 rfl rfl)
theorem dX0_init_29 : decode cX0_init 29 = .ok (.aload_n 0, 1) := dk_42 (dk_at dksX0_init_1 5 rfl rfl)
theorem dX0_init_30 : decode cX0_init 30 = .ok (.new 20, 3) := dk_187 0 20 (dk_at dksX0_init_1 6 rfl rfl)
theorem dX0_init_33 : decode cX0_init 33 = .ok (.dup, 1) := dk_89 (dk_at dksX0_init_1 9 rfl rfl)
theorem dX0_init_34 : decode cX0_init 34 = .ok (.invokespecial 22, 3) := dk_183 0 22 (dk_at dksX0_init_1 10 rfl rfl)
theorem dX0_init_37 : decode cX0_init 37 = .ok (.putfield 23, 3) := dk_181 0 23 (dk_at dksX0_init_1 13 rfl rfl)
theorem dX0_init_40 : decode cX0_init 40 = .ok (.aload_n 0, 1) := dk_42 (dk_at dksX0_init_1 16 rfl rfl)
theorem dX0_init_41 : decode cX0_init 41 = .ok (.new 27, 3) := dk_187 0 27 (dk_at dksX0_init_1 17 rfl rfl)
theorem dX0_init_44 : decode cX0_init 44 = .ok (.dup, 1) := dk_89 (dk_at dksX0_init_1 20 rfl rfl)
theorem dX0_init_45 : decode cX0_init 45 = .ok (.invokespecial 29, 3) := dk_183 0 29 (dk_at dksX0_init_1 21 rfl rfl)
theorem dX0_init_48 : decode cX0_init 48 = .ok (.putfield 30, 3) := dk_181 0 30 (dk_at dksX0_init_2 0 rfl rfl)
theorem dX0_init_51 : decode cX0_init 51 = .ok (.aload_n 0, 1) := dk_42 (dk_at dksX0_init_2 3 rfl rfl)
theorem dX0_init_52 : decode cX0_init 52 = .ok (.new 27, 3) := dk_187 0 27 (dk_at dksX0_init_2 4 rfl rfl)
theorem dX0_init_55 : decode cX0_init 55 = .ok (.dup, 1) := dk_89 (dk_at dksX0_init_2 7 rfl rfl)
theorem dX0_init_56 : decode cX0_init 56 = .ok (.invokespecial 29, 3) := dk_183 0 29 (dk_at dksX0_init_2 8 rfl rfl)
theorem dX0_init_59 : decode cX0_init 59 = .ok (.putfield 34, 3) := dk_181 0 34 (dk_at dksX0_init_2 11 rfl rfl)
theorem dX0_init_62 : decode cX0_init 62 = .ok (.aload_n 0, 1) := dk_42 (dk_at dksX0_init_2 14 rfl rfl)
theorem dX0_init_63 : decode cX0_init 63 = .ok (.iconst (-1), 1) := dk_2 (dk_at dksX0_init_2 15 rfl rfl)
theorem dX0_init_64 : decode cX0_init 64 = .ok (.putfield 37, 3) := dk_181 0 37 (dk_at dksX0_init_2 16 rfl rfl)
theorem dX0_init_67 : decode cX0_init 67 = .ok (.aload_n 0, 1) := dk_42 (dk_at dksX0_init_2 19 rfl rfl)
theorem dX0_init_68 : decode cX0_init 68 = .ok (.aload_n 0, 1) := dk_42 (dk_at dksX0_init_2 20 rfl rfl)
theorem dX0_init_69 : decode cX0_init 69 = .ok (.invokedynamic 41, 5) := by decide +kernel
theorem dX0_init_74 : decode cX0_init 74 = .ok (.putfield 45, 3) := dk_181 0 45 (dk_at dksX0_init_3 5 rfl rfl)
theorem dX0_init_77 : decode cX0_init 77 = .ok (.aload_n 0, 1) := dk_42 (dk_at dksX0_init_3 8 rfl rfl)
theorem dX0_init_78 : decode cX0_init 78 = .ok (.bipush 16, 2) := dk_16 16 (dk_at dksX0_init_3 9 rfl rfl)
theorem dX0_init_80 : decode cX0_init 80 = .ok (.bipush 16, 2) := dk_16 16 (dk_at dksX0_init_3 11 rfl rfl)
theorem dX0_init_82 : decode cX0_init 82 = .ok (.multianewarray 49 2, 4) := by decide +kernel
theorem dX0_init_86 : decode cX0_init 86 = .ok (.putfield 51, 3) := dk_181 0 51 (dk_at dksX0_init_3 17 rfl rfl)
theorem dX0_init_89 : decode cX0_init 89 = .ok (.aload_n 0, 1) := dk_42 (dk_at dksX0_init_3 20 rfl rfl)
theorem dX0_init_90 : decode cX0_init 90 = .ok (.bipush 32, 2) := dk_16 32 (dk_at dksX0_init_3 21 rfl rfl)
theorem dX0_init_92 : decode cX0_init 92 = .ok (.newarray .int, 2) := dk_188_10 (dk_at dksX0_init_4 0 rfl rfl)
theorem dX0_init_94 : decode cX0_init 94 = .ok (.putfield 54, 3) := dk_181 0 54 (dk_at dksX0_init_4 2 rfl rfl)
theorem dX0_init_97 : decode cX0_init 97 = .ok (.aload_n 0, 1) := dk_42 (dk_at dksX0_init_4 5 rfl rfl)
theorem dX0_init_98 : decode cX0_init 98 = .ok (.bipush 32, 2) := dk_16 32 (dk_at dksX0_init_4 6 rfl rfl)
theorem dX0_init_100 : decode cX0_init 100 = .ok (.newarray .int, 2) := dk_188_10 (dk_at dksX0_init_4 8 rfl rfl)
theorem dX0_init_102 : decode cX0_init 102 = .ok (.putfield 57, 3) := dk_181 0 57 (dk_at dksX0_init_4 10 rfl rfl)
theorem dX0_init_105 : decode cX0_init 105 = .ok (.aload_n 0, 1) := dk_42 (dk_at dksX0_init_4 13 rfl rfl)
theorem dX0_init_106 : decode cX0_init 106 = .ok (.bipush 8, 2) := dk_16 8 (dk_at dksX0_init_4 14 rfl rfl)
theorem dX0_init_108 : decode cX0_init 108 = .ok (.bipush 8, 2) := dk_16 8 (dk_at dksX0_init_4 16 rfl rfl)
theorem dX0_init_110 : decode cX0_init 110 = .ok (.multianewarray 49 2, 4) := by decide +kernel
theorem dX0_init_114 : decode cX0_init 114 = .ok (.putfield 60, 3) := dk_181 0 60 (dk_at dksX0_init_5 0 rfl rfl)
theorem dX0_init_117 : decode cX0_init 117 = .ok (.aload_n 0, 1) := dk_42 (dk_at dksX0_init_5 3 rfl rfl)
theorem dX0_init_118 : decode cX0_init 118 = .ok (.bipush 8, 2) := dk_16 8 (dk_at dksX0_init_5 4 rfl rfl)
theorem dX0_init_120 : decode cX0_init 120 = .ok (.bipush 8, 2) := dk_16 8 (dk_at dksX0_init_5 6 rfl rfl)
theorem dX0_init_122 : decode cX0_init 122 = .ok (.multianewarray 49 2, 4) := by decide +kernel
theorem dX0_init_126 : decode cX0_init 126 = .ok (.putfield 63, 3) := dk_181 0 63 (dk_at dksX0_init_5 12 rfl rfl)
theorem dX0_init_129 : decode cX0_init 129 = .ok (.aload_n 0, 1) := dk_42 (dk_at dksX0_init_5 15 rfl rfl)
theorem dX0_init_130 : decode cX0_init 130 = .ok (.bipush 8, 2) := dk_16 8 (dk_at dksX0_init_5 16 rfl rfl)
theorem dX0_init_132 : decode cX0_init 132 = .ok (.bipush 8, 2) := dk_16 8 (dk_at dksX0_init_5 18 rfl rfl)
theorem dX0_init_134 : decode cX0_init 134 = .ok (.multianewarray 49 2, 4) := by decide +kernel
theorem dX0_init_138 : decode cX0_init 138 = .ok (.putfield 66, 3) := dk_181 0 66 (dk_at dksX0_init_6 0 rfl rfl)
theorem dX0_init_141 : decode cX0_init 141 = .ok (.aload_n 0, 1) := dk_42 (dk_at dksX0_init_6 3 rfl rfl)
theorem dX0_init_142 : decode cX0_init 142 = .ok (.bipush 8, 2) := dk_16 8 (dk_at dksX0_init_6 4 rfl rfl)
theorem dX0_init_144 : decode cX0_init 144 = .ok (.newarray .int, 2) := dk_188_10 (dk_at dksX0_init_6 6 rfl rfl)
theorem dX0_init_146 : decode cX0_init 146 = .ok (.putfield 69, 3) := dk_181 0 69 (dk_at dksX0_init_6 8 rfl rfl)
theorem dX0_init_149 : decode cX0_init 149 = .ok (.aload_n 0, 1) := dk_42 (dk_at dksX0_init_6 11 rfl rfl)
theorem dX0_init_150 : decode cX0_init 150 = .ok (.bipush 8, 2) := dk_16 8 (dk_at dksX0_init_6 12 rfl rfl)
theorem dX0_init_152 : decode cX0_init 152 = .ok (.newarray .int, 2) := dk_188_10 (dk_at dksX0_init_6 14 rfl rfl)
theorem dX0_init_154 : decode cX0_init 154 = .ok (.putfield 72, 3) := dk_181 0 72 (dk_at dksX0_init_6 16 rfl rfl)
theorem dX0_init_157 : decode cX0_init 157 = .ok (.aload_n 0, 1) := dk_42 (dk_at dksX0_init_6 19 rfl rfl)
theorem dX0_init_158 : decode cX0_init 158 = .ok (.new 75, 3) := dk_187 0 75 (dk_at dksX0_init_6 20 rfl rfl)
theorem dX0_init_161 : decode cX0_init 161 = .ok (.dup, 1) := dk_89 (dk_at dksX0_init_6 23 rfl rfl)
theorem dX0_init_162 : decode cX0_init 162 = .ok (.invokespecial 77, 3) := dk_183 0 77 (dk_at dksX0_init_7 0 rfl rfl)
theorem dX0_init_165 : decode cX0_init 165 = .ok (.putfield 78, 3) := dk_181 0 78 (dk_at dksX0_init_7 3 rfl rfl)
theorem dX0_init_168 : decode cX0_init 168 = .ok (.aload_n 0, 1) := dk_42 (dk_at dksX0_init_7 6 rfl rfl)
theorem dX0_init_169 : decode cX0_init 169 = .ok (.new 75, 3) := dk_187 0 75 (dk_at dksX0_init_7 7 rfl rfl)
theorem dX0_init_172 : decode cX0_init 172 = .ok (.dup, 1) := dk_89 (dk_at dksX0_init_7 10 rfl rfl)
theorem dX0_init_173 : decode cX0_init 173 = .ok (.invokespecial 77, 3) := dk_183 0 77 (dk_at dksX0_init_7 11 rfl rfl)
theorem dX0_init_176 : decode cX0_init 176 = .ok (.putfield 82, 3) := dk_181 0 82 (dk_at dksX0_init_7 14 rfl rfl)
theorem dX0_init_179 : decode cX0_init 179 = .ok (.aload_n 0, 1) := dk_42 (dk_at dksX0_init_7 17 rfl rfl)
theorem dX0_init_180 : decode cX0_init 180 = .ok (.bipush 8, 2) := dk_16 8 (dk_at dksX0_init_7 18 rfl rfl)
theorem dX0_init_182 : decode cX0_init 182 = .ok (.newarray .int, 2) := dk_188_10 (dk_at dksX0_init_7 20 rfl rfl)
theorem dX0_init_184 : decode cX0_init 184 = .ok (.putfield 85, 3) := dk_181 0 85 (dk_at dksX0_init_8 0 rfl rfl)
theorem dX0_init_187 : decode cX0_init 187 = .ok (.aload_n 0, 1) := dk_42 (dk_at dksX0_init_8 3 rfl rfl)
theorem dX0_init_188 : decode cX0_init 188 = .ok (.bipush 8, 2) := dk_16 8 (dk_at dksX0_init_8 4 rfl rfl)
theorem dX0_init_190 : decode cX0_init 190 = .ok (.newarray .int, 2) := dk_188_10 (dk_at dksX0_init_8 6 rfl rfl)
theorem dX0_init_192 : decode cX0_init 192 = .ok (.putfield 88, 3) := dk_181 0 88 (dk_at dksX0_init_8 8 rfl rfl)
theorem dX0_init_195 : decode cX0_init 195 = .ok (.aload_n 0, 1) := dk_42 (dk_at dksX0_init_8 11 rfl rfl)
theorem dX0_init_196 : decode cX0_init 196 = .ok (.bipush 8, 2) := dk_16 8 (dk_at dksX0_init_8 12 rfl rfl)
theorem dX0_init_198 : decode cX0_init 198 = .ok (.newarray .int, 2) := dk_188_10 (dk_at dksX0_init_8 14 rfl rfl)
theorem dX0_init_200 : decode cX0_init 200 = .ok (.putfield 91, 3) := dk_181 0 91 (dk_at dksX0_init_8 16 rfl rfl)
theorem dX0_init_203 : decode cX0_init 203 = .ok (.aload_n 0, 1) := dk_42 (dk_at dksX0_init_8 19 rfl rfl)
theorem dX0_init_204 : decode cX0_init 204 = .ok (.bipush 9, 2) := dk_16 9 (dk_at dksX0_init_8 20 rfl rfl)
theorem dX0_init_206 : decode cX0_init 206 = .ok (.newarray .int, 2) := dk_188_10 (dk_at dksX0_init_8 22 rfl rfl)
theorem dX0_init_208 : decode cX0_init 208 = .ok (.putfield 94, 3) := dk_181 0 94 (dk_at dksX0_init_9 0 rfl rfl)
theorem dX0_init_211 : decode cX0_init 211 = .ok (.aload_n 0, 1) := dk_42 (dk_at dksX0_init_9 3 rfl rfl)
theorem dX0_init_212 : decode cX0_init 212 = .ok (.bipush 8, 2) := dk_16 8 (dk_at dksX0_init_9 4 rfl rfl)
theorem dX0_init_214 : decode cX0_init 214 = .ok (.newarray .int, 2) := dk_188_10 (dk_at dksX0_init_9 6 rfl rfl)
theorem dX0_init_216 : decode cX0_init 216 = .ok (.putfield 97, 3) := dk_181 0 97 (dk_at dksX0_init_9 8 rfl rfl)
theorem dX0_init_219 : decode cX0_init 219 = .ok (.aload_n 0, 1) := dk_42 (dk_at dksX0_init_9 11 rfl rfl)
theorem dX0_init_220 : decode cX0_init 220 = .ok (.bipush 8, 2) := dk_16 8 (dk_at dksX0_init_9 12 rfl rfl)
theorem dX0_init_222 : decode cX0_init 222 = .ok (.newarray .int, 2) := dk_188_10 (dk_at dksX0_init_9 14 rfl rfl)
theorem dX0_init_224 : decode cX0_init 224 = .ok (.putfield 100, 3) := dk_181 0 100 (dk_at dksX0_init_9 16 rfl rfl)
theorem dX0_init_227 : decode cX0_init 227 = .ok (.aload_n 0, 1) := dk_42 (dk_at dksX0_init_9 19 rfl rfl)
theorem dX0_init_228 : decode cX0_init 228 = .ok (.bipush 8, 2) := dk_16 8 (dk_at dksX0_init_9 20 rfl rfl)
theorem dX0_init_230 : decode cX0_init 230 = .ok (.newarray .int, 2) := dk_188_10 (dk_at dksX0_init_9 22 rfl rfl)
theorem dX0_init_232 : decode cX0_init 232 = .ok (.putfield 103, 3) := dk_181 0 103 (dk_at dksX0_init_10 0 rfl rfl)
theorem dX0_init_235 : decode cX0_init 235 = .ok (.aload_n 0, 1) := dk_42 (dk_at dksX0_init_10 3 rfl rfl)
theorem dX0_init_236 : decode cX0_init 236 = .ok (.new 27, 3) := dk_187 0 27 (dk_at dksX0_init_10 4 rfl rfl)
theorem dX0_init_239 : decode cX0_init 239 = .ok (.dup, 1) := dk_89 (dk_at dksX0_init_10 7 rfl rfl)
theorem dX0_init_240 : decode cX0_init 240 = .ok (.invokespecial 29, 3) := dk_183 0 29 (dk_at dksX0_init_10 8 rfl rfl)
theorem dX0_init_243 : decode cX0_init 243 = .ok (.putfield 106, 3) := dk_181 0 106 (dk_at dksX0_init_10 11 rfl rfl)
theorem dX0_init_246 : decode cX0_init 246 = .ok (.aload_n 0, 1) := dk_42 (dk_at dksX0_init_10 14 rfl rfl)
theorem dX0_init_247 : decode cX0_init 247 = .ok (.new 27, 3) := dk_187 0 27 (dk_at dksX0_init_10 15 rfl rfl)
theorem dX0_init_250 : decode cX0_init 250 = .ok (.dup, 1) := dk_89 (dk_at dksX0_init_10 18 rfl rfl)
theorem dX0_init_251 : decode cX0_init 251 = .ok (.invokespecial 29, 3) := dk_183 0 29 (dk_at dksX0_init_10 19 rfl rfl)
theorem dX0_init_254 : decode cX0_init 254 = .ok (.putfield 109, 3) := dk_181 0 109 (dk_at dksX0_init_11 0 rfl rfl)
theorem dX0_init_257 : decode cX0_init 257 = .ok (.aload_n 0, 1) := dk_42 (dk_at dksX0_init_11 3 rfl rfl)
theorem dX0_init_258 : decode cX0_init 258 = .ok (.bipush 41, 2) := dk_16 41 (dk_at dksX0_init_11 4 rfl rfl)
theorem dX0_init_260 : decode cX0_init 260 = .ok (.bipush 8, 2) := dk_16 8 (dk_at dksX0_init_11 6 rfl rfl)
theorem dX0_init_262 : decode cX0_init 262 = .ok (.multianewarray 49 2, 4) := by decide +kernel
theorem dX0_init_266 : decode cX0_init 266 = .ok (.putfield 112, 3) := dk_181 0 112 (dk_at dksX0_init_11 12 rfl rfl)
theorem dX0_init_269 : decode cX0_init 269 = .ok (.aload_n 0, 1) := dk_42 (dk_at dksX0_init_11 15 rfl rfl)
theorem dX0_init_270 : decode cX0_init 270 = .ok (.bipush 41, 2) := dk_16 41 (dk_at dksX0_init_11 16 rfl rfl)
theorem dX0_init_272 : decode cX0_init 272 = .ok (.newarray .boolean, 2) := dk_188_4 (dk_at dksX0_init_11 18 rfl rfl)
theorem dX0_init_274 : decode cX0_init 274 = .ok (.putfield 115, 3) := dk_181 0 115 (dk_at dksX0_init_11 20 rfl rfl)
theorem dX0_init_277 : decode cX0_init 277 = .ok (.aload_n 0, 1) := dk_42 (dk_at dksX0_init_11 23 rfl rfl)
theorem dX0_init_278 : decode cX0_init 278 = .ok (.bipush 41, 2) := dk_16 41 (dk_at dksX0_init_12 0 rfl rfl)
theorem dX0_init_280 : decode cX0_init 280 = .ok (.newarray .int, 2) := dk_188_10 (dk_at dksX0_init_12 2 rfl rfl)
theorem dX0_init_282 : decode cX0_init 282 = .ok (.putfield 119, 3) := dk_181 0 119 (dk_at dksX0_init_12 4 rfl rfl)
theorem dX0_init_285 : decode cX0_init 285 = .ok (.aload_n 0, 1) := dk_42 (dk_at dksX0_init_12 7 rfl rfl)
theorem dX0_init_286 : decode cX0_init 286 = .ok (.lconst 1, 1) := dk_10 (dk_at dksX0_init_12 8 rfl rfl)
theorem dX0_init_287 : decode cX0_init 287 = .ok (.putfield 122, 3) := dk_181 0 122 (dk_at dksX0_init_12 9 rfl rfl)
theorem dX0_init_290 : decode cX0_init 290 = .ok (.aload_n 0, 1) := dk_42 (dk_at dksX0_init_12 12 rfl rfl)
theorem dX0_init_291 : decode cX0_init 291 = .ok (.sipush 202, 3) := dk_17 0 202 (dk_at dksX0_init_12 13 rfl rfl)
theorem dX0_init_294 : decode cX0_init 294 = .ok (.newarray .char, 2) := dk_188_5 (dk_at dksX0_init_12 16 rfl rfl)
theorem dX0_init_296 : decode cX0_init 296 = .ok (.putfield 126, 3) := dk_181 0 126 (dk_at dksX0_init_12 18 rfl rfl)
theorem dX0_init_299 : decode cX0_init 299 = .ok (.return_, 1) := dk_177 (dk_at dksX0_init_12 21 rfl rfl)
abbrev cX0_lambda_new_0 : ByteArray := prog_1_method_97_code
def yX0_lambda_new_0 : MethodName := ⟨RX0, "lambda$new$0", "(II)I"⟩
def dkwX0_lambda_new_0_0 : List UInt8 := [42, 180, 1, 37, 27, 46, 42, 180, 1, 43, 28, 46, 184, 1, 18, 172]
abbrev dktX0_lambda_new_0_0 : List UInt8 := dkwX0_lambda_new_0_0 ++ []
theorem dksX0_lambda_new_0_0 : cX0_lambda_new_0.data.toList.drop 0 = dktX0_lambda_new_0_0 := by decide +kernel
theorem dX0_lambda_new_0_0 : decode cX0_lambda_new_0 0 = .ok (.aload_n 0, 1) := dk_42 (dk_at dksX0_lambda_new_0_0 0 rfl rfl)
theorem dX0_lambda_new_0_1 : decode cX0_lambda_new_0 1 = .ok (.getfield 293, 3) := dk_180 1 37 (dk_at dksX0_lambda_new_0_0 1 rfl rfl)
theorem dX0_lambda_new_0_4 : decode cX0_lambda_new_0 4 = .ok (.iload_n 1, 1) := dk_27 (dk_at dksX0_lambda_new_0_0 4 rfl rfl)
theorem dX0_lambda_new_0_5 : decode cX0_lambda_new_0 5 = .ok (.iaload, 1) := dk_46 (dk_at dksX0_lambda_new_0_0 5 rfl rfl)
theorem dX0_lambda_new_0_6 : decode cX0_lambda_new_0 6 = .ok (.aload_n 0, 1) := dk_42 (dk_at dksX0_lambda_new_0_0 6 rfl rfl)
theorem dX0_lambda_new_0_7 : decode cX0_lambda_new_0 7 = .ok (.getfield 299, 3) := dk_180 1 43 (dk_at dksX0_lambda_new_0_0 7 rfl rfl)
theorem dX0_lambda_new_0_10 : decode cX0_lambda_new_0 10 = .ok (.iload_n 2, 1) := dk_28 (dk_at dksX0_lambda_new_0_0 10 rfl rfl)
theorem dX0_lambda_new_0_11 : decode cX0_lambda_new_0 11 = .ok (.iaload, 1) := dk_46 (dk_at dksX0_lambda_new_0_0 11 rfl rfl)
theorem dX0_lambda_new_0_12 : decode cX0_lambda_new_0 12 = .ok (.invokestatic 274, 3) := dk_184 1 18 (dk_at dksX0_lambda_new_0_0 12 rfl rfl)
theorem dX0_lambda_new_0_15 : decode cX0_lambda_new_0 15 = .ok (.ireturn, 1) := dk_172 (dk_at dksX0_lambda_new_0_0 15 rfl rfl)
abbrev cX0_apart : ByteArray := prog_1_method_7_code
def yX0_apart : MethodName := ⟨RX0, "apart", "(II)I"⟩
def dkwX0_apart_0 : List UInt8 := [26, 27, 100, 184, 0, 146, 61, 28, 16, 8, 28, 100, 184, 0, 139, 172]
abbrev dktX0_apart_0 : List UInt8 := dkwX0_apart_0 ++ []
theorem dksX0_apart_0 : cX0_apart.data.toList.drop 0 = dktX0_apart_0 := by decide +kernel
theorem dX0_apart_0 : decode cX0_apart 0 = .ok (.iload_n 0, 1) := dk_26 (dk_at dksX0_apart_0 0 rfl rfl)
theorem dX0_apart_1 : decode cX0_apart 1 = .ok (.iload_n 1, 1) := dk_27 (dk_at dksX0_apart_0 1 rfl rfl)
theorem dX0_apart_2 : decode cX0_apart 2 = .ok (.isub, 1) := dk_100 (dk_at dksX0_apart_0 2 rfl rfl)
theorem dX0_apart_3 : decode cX0_apart 3 = .ok (.invokestatic 146, 3) := dk_184 0 146 (dk_at dksX0_apart_0 3 rfl rfl)
theorem dX0_apart_6 : decode cX0_apart 6 = .ok (.istore_n 2, 1) := dk_61 (dk_at dksX0_apart_0 6 rfl rfl)
theorem dX0_apart_7 : decode cX0_apart 7 = .ok (.iload_n 2, 1) := dk_28 (dk_at dksX0_apart_0 7 rfl rfl)
theorem dX0_apart_8 : decode cX0_apart 8 = .ok (.bipush 8, 2) := dk_16 8 (dk_at dksX0_apart_0 8 rfl rfl)
theorem dX0_apart_10 : decode cX0_apart 10 = .ok (.iload_n 2, 1) := dk_28 (dk_at dksX0_apart_0 10 rfl rfl)
theorem dX0_apart_11 : decode cX0_apart 11 = .ok (.isub, 1) := dk_100 (dk_at dksX0_apart_0 11 rfl rfl)
theorem dX0_apart_12 : decode cX0_apart 12 = .ok (.invokestatic 139, 3) := dk_184 0 139 (dk_at dksX0_apart_0 12 rfl rfl)
theorem dX0_apart_15 : decode cX0_apart 15 = .ok (.ireturn, 1) := dk_172 (dk_at dksX0_apart_0 15 rfl rfl)
abbrev cX0_feed : ByteArray := prog_1_method_10_code
def yX0_feed : MethodName := ⟨RX0, "feed", "(IIIII)I"⟩
def dkwX0_feed_2 : List UInt8 := [180, 0, 153, 172]
abbrev dktX0_feed_2 : List UInt8 := dkwX0_feed_2 ++ []
def dkwX0_feed_1 : List UInt8 := [42, 28, 182, 0, 156, 42, 29, 182, 0, 156, 42, 21, 4, 182, 0, 156, 42, 21, 5, 182, 0, 156, 42]
abbrev dktX0_feed_1 : List UInt8 := dkwX0_feed_1 ++ dktX0_feed_2
def dkwX0_feed_0 : List UInt8 := [42, 180, 0, 153, 16, 20, 96, 17, 6, 64, 164, 0, 9, 42, 3, 182, 0, 150, 172, 42, 27, 182, 0, 156]
abbrev dktX0_feed_0 : List UInt8 := dkwX0_feed_0 ++ dktX0_feed_1
theorem dksX0_feed_0 : cX0_feed.data.toList.drop 0 = dktX0_feed_0 := by decide +kernel
theorem dksX0_feed_1 : cX0_feed.data.toList.drop 24 = dktX0_feed_1 := dk_seg dksX0_feed_0 24 rfl rfl
theorem dksX0_feed_2 : cX0_feed.data.toList.drop 47 = dktX0_feed_2 := dk_seg dksX0_feed_1 23 rfl rfl
theorem dX0_feed_0 : decode cX0_feed 0 = .ok (.aload_n 0, 1) := dk_42 (dk_at dksX0_feed_0 0 rfl rfl)
theorem dX0_feed_1 : decode cX0_feed 1 = .ok (.getfield 153, 3) := dk_180 0 153 (dk_at dksX0_feed_0 1 rfl rfl)
theorem dX0_feed_4 : decode cX0_feed 4 = .ok (.bipush 20, 2) := dk_16 20 (dk_at dksX0_feed_0 4 rfl rfl)
theorem dX0_feed_6 : decode cX0_feed 6 = .ok (.iadd, 1) := dk_96 (dk_at dksX0_feed_0 6 rfl rfl)
theorem dX0_feed_7 : decode cX0_feed 7 = .ok (.sipush 1600, 3) := dk_17 6 64 (dk_at dksX0_feed_0 7 rfl rfl)
theorem dX0_feed_10 : decode cX0_feed 10 = .ok (.if_icmp .le 9, 3) := dk_164 0 9 (dk_at dksX0_feed_0 10 rfl rfl)
theorem dX0_feed_13 : decode cX0_feed 13 = .ok (.aload_n 0, 1) := dk_42 (dk_at dksX0_feed_0 13 rfl rfl)
theorem dX0_feed_14 : decode cX0_feed 14 = .ok (.iconst 0, 1) := dk_3 (dk_at dksX0_feed_0 14 rfl rfl)
theorem dX0_feed_15 : decode cX0_feed 15 = .ok (.invokevirtual 150, 3) := dk_182 0 150 (dk_at dksX0_feed_0 15 rfl rfl)
theorem dX0_feed_18 : decode cX0_feed 18 = .ok (.ireturn, 1) := dk_172 (dk_at dksX0_feed_0 18 rfl rfl)
theorem dX0_feed_19 : decode cX0_feed 19 = .ok (.aload_n 0, 1) := dk_42 (dk_at dksX0_feed_0 19 rfl rfl)
theorem dX0_feed_20 : decode cX0_feed 20 = .ok (.iload_n 1, 1) := dk_27 (dk_at dksX0_feed_0 20 rfl rfl)
theorem dX0_feed_21 : decode cX0_feed 21 = .ok (.invokevirtual 156, 3) := dk_182 0 156 (dk_at dksX0_feed_0 21 rfl rfl)
theorem dX0_feed_24 : decode cX0_feed 24 = .ok (.aload_n 0, 1) := dk_42 (dk_at dksX0_feed_1 0 rfl rfl)
theorem dX0_feed_25 : decode cX0_feed 25 = .ok (.iload_n 2, 1) := dk_28 (dk_at dksX0_feed_1 1 rfl rfl)
theorem dX0_feed_26 : decode cX0_feed 26 = .ok (.invokevirtual 156, 3) := dk_182 0 156 (dk_at dksX0_feed_1 2 rfl rfl)
theorem dX0_feed_29 : decode cX0_feed 29 = .ok (.aload_n 0, 1) := dk_42 (dk_at dksX0_feed_1 5 rfl rfl)
theorem dX0_feed_30 : decode cX0_feed 30 = .ok (.iload_n 3, 1) := dk_29 (dk_at dksX0_feed_1 6 rfl rfl)
theorem dX0_feed_31 : decode cX0_feed 31 = .ok (.invokevirtual 156, 3) := dk_182 0 156 (dk_at dksX0_feed_1 7 rfl rfl)
theorem dX0_feed_34 : decode cX0_feed 34 = .ok (.aload_n 0, 1) := dk_42 (dk_at dksX0_feed_1 10 rfl rfl)
theorem dX0_feed_35 : decode cX0_feed 35 = .ok (.iload 4, 2) := dk_21 4 (dk_at dksX0_feed_1 11 rfl rfl)
theorem dX0_feed_37 : decode cX0_feed 37 = .ok (.invokevirtual 156, 3) := dk_182 0 156 (dk_at dksX0_feed_1 13 rfl rfl)
theorem dX0_feed_40 : decode cX0_feed 40 = .ok (.aload_n 0, 1) := dk_42 (dk_at dksX0_feed_1 16 rfl rfl)
theorem dX0_feed_41 : decode cX0_feed 41 = .ok (.iload 5, 2) := dk_21 5 (dk_at dksX0_feed_1 17 rfl rfl)
theorem dX0_feed_43 : decode cX0_feed 43 = .ok (.invokevirtual 156, 3) := dk_182 0 156 (dk_at dksX0_feed_1 19 rfl rfl)
theorem dX0_feed_46 : decode cX0_feed 46 = .ok (.aload_n 0, 1) := dk_42 (dk_at dksX0_feed_1 22 rfl rfl)
theorem dX0_feed_47 : decode cX0_feed 47 = .ok (.getfield 153, 3) := dk_180 0 153 (dk_at dksX0_feed_2 0 rfl rfl)
theorem dX0_feed_50 : decode cX0_feed 50 = .ok (.ireturn, 1) := dk_172 (dk_at dksX0_feed_2 3 rfl rfl)
abbrev cX0_refused : ByteArray := prog_1_method_8_code
def yX0_refused : MethodName := ⟨RX0, "refused", "(I)I"⟩
def dkwX0_refused_0 : List UInt8 := [42, 180, 0, 13, 27, 92, 46, 4, 96, 79, 2, 172]
abbrev dktX0_refused_0 : List UInt8 := dkwX0_refused_0 ++ []
theorem dksX0_refused_0 : cX0_refused.data.toList.drop 0 = dktX0_refused_0 := by decide +kernel
theorem dX0_refused_0 : decode cX0_refused 0 = .ok (.aload_n 0, 1) := dk_42 (dk_at dksX0_refused_0 0 rfl rfl)
theorem dX0_refused_1 : decode cX0_refused 1 = .ok (.getfield 13, 3) := dk_180 0 13 (dk_at dksX0_refused_0 1 rfl rfl)
theorem dX0_refused_4 : decode cX0_refused 4 = .ok (.iload_n 1, 1) := dk_27 (dk_at dksX0_refused_0 4 rfl rfl)
theorem dX0_refused_5 : decode cX0_refused 5 = .ok (.dup2, 1) := dk_92 (dk_at dksX0_refused_0 5 rfl rfl)
theorem dX0_refused_6 : decode cX0_refused 6 = .ok (.iaload, 1) := dk_46 (dk_at dksX0_refused_0 6 rfl rfl)
theorem dX0_refused_7 : decode cX0_refused 7 = .ok (.iconst 1, 1) := dk_4 (dk_at dksX0_refused_0 7 rfl rfl)
theorem dX0_refused_8 : decode cX0_refused 8 = .ok (.iadd, 1) := dk_96 (dk_at dksX0_refused_0 8 rfl rfl)
theorem dX0_refused_9 : decode cX0_refused 9 = .ok (.iastore, 1) := dk_79 (dk_at dksX0_refused_0 9 rfl rfl)
theorem dX0_refused_10 : decode cX0_refused 10 = .ok (.iconst (-1), 1) := dk_2 (dk_at dksX0_refused_0 10 rfl rfl)
theorem dX0_refused_11 : decode cX0_refused 11 = .ok (.ireturn, 1) := dk_172 (dk_at dksX0_refused_0 11 rfl rfl)
abbrev cX0_lays : ByteArray := prog_1_method_11_code
def yX0_lays : MethodName := ⟨RX0, "lays", "(I)V"⟩
def dkwX0_lays_1 : List UInt8 := [42, 89, 180, 0, 153, 4, 96, 181, 0, 153, 132, 2, 248, 167, 255, 222, 177]
abbrev dktX0_lays_1 : List UInt8 := dkwX0_lays_1 ++ []
def dkwX0_lays_0 : List UInt8 := [16, 24, 61, 28, 155, 0, 36, 42, 180, 0, 9, 42, 180, 0, 153, 27, 28, 122, 17, 0, 255, 126, 146, 85]
abbrev dktX0_lays_0 : List UInt8 := dkwX0_lays_0 ++ dktX0_lays_1
theorem dksX0_lays_0 : cX0_lays.data.toList.drop 0 = dktX0_lays_0 := by decide +kernel
theorem dksX0_lays_1 : cX0_lays.data.toList.drop 24 = dktX0_lays_1 := dk_seg dksX0_lays_0 24 rfl rfl
theorem dX0_lays_0 : decode cX0_lays 0 = .ok (.bipush 24, 2) := dk_16 24 (dk_at dksX0_lays_0 0 rfl rfl)
theorem dX0_lays_2 : decode cX0_lays 2 = .ok (.istore_n 2, 1) := dk_61 (dk_at dksX0_lays_0 2 rfl rfl)
theorem dX0_lays_3 : decode cX0_lays 3 = .ok (.iload_n 2, 1) := dk_28 (dk_at dksX0_lays_0 3 rfl rfl)
theorem dX0_lays_4 : decode cX0_lays 4 = .ok (.ifCond .lt 36, 3) := dk_155 0 36 (dk_at dksX0_lays_0 4 rfl rfl)
theorem dX0_lays_7 : decode cX0_lays 7 = .ok (.aload_n 0, 1) := dk_42 (dk_at dksX0_lays_0 7 rfl rfl)
theorem dX0_lays_8 : decode cX0_lays 8 = .ok (.getfield 9, 3) := dk_180 0 9 (dk_at dksX0_lays_0 8 rfl rfl)
theorem dX0_lays_11 : decode cX0_lays 11 = .ok (.aload_n 0, 1) := dk_42 (dk_at dksX0_lays_0 11 rfl rfl)
theorem dX0_lays_12 : decode cX0_lays 12 = .ok (.getfield 153, 3) := dk_180 0 153 (dk_at dksX0_lays_0 12 rfl rfl)
theorem dX0_lays_15 : decode cX0_lays 15 = .ok (.iload_n 1, 1) := dk_27 (dk_at dksX0_lays_0 15 rfl rfl)
theorem dX0_lays_16 : decode cX0_lays 16 = .ok (.iload_n 2, 1) := dk_28 (dk_at dksX0_lays_0 16 rfl rfl)
theorem dX0_lays_17 : decode cX0_lays 17 = .ok (.ishr, 1) := dk_122 (dk_at dksX0_lays_0 17 rfl rfl)
theorem dX0_lays_18 : decode cX0_lays 18 = .ok (.sipush 255, 3) := dk_17 0 255 (dk_at dksX0_lays_0 18 rfl rfl)
theorem dX0_lays_21 : decode cX0_lays 21 = .ok (.iand, 1) := dk_126 (dk_at dksX0_lays_0 21 rfl rfl)
theorem dX0_lays_22 : decode cX0_lays 22 = .ok (.i2c, 1) := dk_146 (dk_at dksX0_lays_0 22 rfl rfl)
theorem dX0_lays_23 : decode cX0_lays 23 = .ok (.castore, 1) := dk_85 (dk_at dksX0_lays_0 23 rfl rfl)
theorem dX0_lays_24 : decode cX0_lays 24 = .ok (.aload_n 0, 1) := dk_42 (dk_at dksX0_lays_1 0 rfl rfl)
theorem dX0_lays_25 : decode cX0_lays 25 = .ok (.dup, 1) := dk_89 (dk_at dksX0_lays_1 1 rfl rfl)
theorem dX0_lays_26 : decode cX0_lays 26 = .ok (.getfield 153, 3) := dk_180 0 153 (dk_at dksX0_lays_1 2 rfl rfl)
theorem dX0_lays_29 : decode cX0_lays 29 = .ok (.iconst 1, 1) := dk_4 (dk_at dksX0_lays_1 5 rfl rfl)
theorem dX0_lays_30 : decode cX0_lays 30 = .ok (.iadd, 1) := dk_96 (dk_at dksX0_lays_1 6 rfl rfl)
theorem dX0_lays_31 : decode cX0_lays 31 = .ok (.putfield 153, 3) := dk_181 0 153 (dk_at dksX0_lays_1 7 rfl rfl)
theorem dX0_lays_34 : decode cX0_lays 34 = .ok (.iinc 2 (-8), 3) := dk_132 2 248 (dk_at dksX0_lays_1 10 rfl rfl)
theorem dX0_lays_37 : decode cX0_lays 37 = .ok (.goto (-34), 3) := dk_167 255 222 (dk_at dksX0_lays_1 13 rfl rfl)
theorem dX0_lays_40 : decode cX0_lays 40 = .ok (.return_, 1) := dk_177 (dk_at dksX0_lays_1 16 rfl rfl)
abbrev cX0_end : ByteArray := prog_1_method_12_code
def yX0_end : MethodName := ⟨RX0, "end", "(I)Z"⟩
def dkwX0_end_1 : List UInt8 := [172]
abbrev dktX0_end_1 : List UInt8 := dkwX0_end_1 ++ []
def dkwX0_end_0 : List UInt8 := [27, 155, 0, 11, 27, 42, 180, 0, 153, 164, 0, 9, 42, 3, 182, 0, 160, 172, 42, 27, 181, 0, 153, 4]
abbrev dktX0_end_0 : List UInt8 := dkwX0_end_0 ++ dktX0_end_1
theorem dksX0_end_0 : cX0_end.data.toList.drop 0 = dktX0_end_0 := by decide +kernel
theorem dksX0_end_1 : cX0_end.data.toList.drop 24 = dktX0_end_1 := dk_seg dksX0_end_0 24 rfl rfl
theorem dX0_end_0 : decode cX0_end 0 = .ok (.iload_n 1, 1) := dk_27 (dk_at dksX0_end_0 0 rfl rfl)
theorem dX0_end_1 : decode cX0_end 1 = .ok (.ifCond .lt 11, 3) := dk_155 0 11 (dk_at dksX0_end_0 1 rfl rfl)
theorem dX0_end_4 : decode cX0_end 4 = .ok (.iload_n 1, 1) := dk_27 (dk_at dksX0_end_0 4 rfl rfl)
theorem dX0_end_5 : decode cX0_end 5 = .ok (.aload_n 0, 1) := dk_42 (dk_at dksX0_end_0 5 rfl rfl)
theorem dX0_end_6 : decode cX0_end 6 = .ok (.getfield 153, 3) := dk_180 0 153 (dk_at dksX0_end_0 6 rfl rfl)
theorem dX0_end_9 : decode cX0_end 9 = .ok (.if_icmp .le 9, 3) := dk_164 0 9 (dk_at dksX0_end_0 9 rfl rfl)
theorem dX0_end_12 : decode cX0_end 12 = .ok (.aload_n 0, 1) := dk_42 (dk_at dksX0_end_0 12 rfl rfl)
theorem dX0_end_13 : decode cX0_end 13 = .ok (.iconst 0, 1) := dk_3 (dk_at dksX0_end_0 13 rfl rfl)
theorem dX0_end_14 : decode cX0_end 14 = .ok (.invokevirtual 160, 3) := dk_182 0 160 (dk_at dksX0_end_0 14 rfl rfl)
theorem dX0_end_17 : decode cX0_end 17 = .ok (.ireturn, 1) := dk_172 (dk_at dksX0_end_0 17 rfl rfl)
theorem dX0_end_18 : decode cX0_end 18 = .ok (.aload_n 0, 1) := dk_42 (dk_at dksX0_end_0 18 rfl rfl)
theorem dX0_end_19 : decode cX0_end 19 = .ok (.iload_n 1, 1) := dk_27 (dk_at dksX0_end_0 19 rfl rfl)
theorem dX0_end_20 : decode cX0_end 20 = .ok (.putfield 153, 3) := dk_181 0 153 (dk_at dksX0_end_0 20 rfl rfl)
theorem dX0_end_23 : decode cX0_end 23 = .ok (.iconst 1, 1) := dk_4 (dk_at dksX0_end_0 23 rfl rfl)
theorem dX0_end_24 : decode cX0_end 24 = .ok (.ireturn, 1) := dk_172 (dk_at dksX0_end_1 0 rfl rfl)
abbrev cX0_refuses : ByteArray := prog_1_method_9_code
def yX0_refuses : MethodName := ⟨RX0, "refuses", "(I)Z"⟩
def dkwX0_refuses_0 : List UInt8 := [42, 27, 182, 0, 150, 2, 159, 0, 7, 4, 167, 0, 4, 3, 172]
abbrev dktX0_refuses_0 : List UInt8 := dkwX0_refuses_0 ++ []
theorem dksX0_refuses_0 : cX0_refuses.data.toList.drop 0 = dktX0_refuses_0 := by decide +kernel
theorem dX0_refuses_0 : decode cX0_refuses 0 = .ok (.aload_n 0, 1) := dk_42 (dk_at dksX0_refuses_0 0 rfl rfl)
theorem dX0_refuses_1 : decode cX0_refuses 1 = .ok (.iload_n 1, 1) := dk_27 (dk_at dksX0_refuses_0 1 rfl rfl)
theorem dX0_refuses_2 : decode cX0_refuses 2 = .ok (.invokevirtual 150, 3) := dk_182 0 150 (dk_at dksX0_refuses_0 2 rfl rfl)
theorem dX0_refuses_5 : decode cX0_refuses 5 = .ok (.iconst (-1), 1) := dk_2 (dk_at dksX0_refuses_0 5 rfl rfl)
theorem dX0_refuses_6 : decode cX0_refuses 6 = .ok (.if_icmp .eq 7, 3) := dk_159 0 7 (dk_at dksX0_refuses_0 6 rfl rfl)
theorem dX0_refuses_9 : decode cX0_refuses 9 = .ok (.iconst 1, 1) := dk_4 (dk_at dksX0_refuses_0 9 rfl rfl)
theorem dX0_refuses_10 : decode cX0_refuses 10 = .ok (.goto 4, 3) := dk_167 0 4 (dk_at dksX0_refuses_0 10 rfl rfl)
theorem dX0_refuses_13 : decode cX0_refuses 13 = .ok (.iconst 0, 1) := dk_3 (dk_at dksX0_refuses_0 13 rfl rfl)
theorem dX0_refuses_14 : decode cX0_refuses 14 = .ok (.ireturn, 1) := dk_172 (dk_at dksX0_refuses_0 14 rfl rfl)
abbrev cX0_status : ByteArray := prog_1_method_13_code
def yX0_status : MethodName := ⟨RX0, "status", "(I)I"⟩
def dkwX0_status_0 : List UInt8 := [27, 133, 9, 20, 0, 164, 184, 0, 166, 153, 0, 12, 42, 180, 0, 13, 27, 46, 167, 0, 4, 2, 172]
abbrev dktX0_status_0 : List UInt8 := dkwX0_status_0 ++ []
theorem dksX0_status_0 : cX0_status.data.toList.drop 0 = dktX0_status_0 := by decide +kernel
theorem dX0_status_0 : decode cX0_status 0 = .ok (.iload_n 1, 1) := dk_27 (dk_at dksX0_status_0 0 rfl rfl)
theorem dX0_status_1 : decode cX0_status 1 = .ok (.i2l, 1) := dk_133 (dk_at dksX0_status_0 1 rfl rfl)
theorem dX0_status_2 : decode cX0_status 2 = .ok (.lconst 0, 1) := dk_9 (dk_at dksX0_status_0 2 rfl rfl)
theorem dX0_status_3 : decode cX0_status 3 = .ok (.ldc2_w 164, 3) := dk_20 0 164 (dk_at dksX0_status_0 3 rfl rfl)
theorem dX0_status_6 : decode cX0_status 6 = .ok (.invokestatic 166, 3) := dk_184 0 166 (dk_at dksX0_status_0 6 rfl rfl)
theorem dX0_status_9 : decode cX0_status 9 = .ok (.ifCond .eq 12, 3) := dk_153 0 12 (dk_at dksX0_status_0 9 rfl rfl)
theorem dX0_status_12 : decode cX0_status 12 = .ok (.aload_n 0, 1) := dk_42 (dk_at dksX0_status_0 12 rfl rfl)
theorem dX0_status_13 : decode cX0_status 13 = .ok (.getfield 13, 3) := dk_180 0 13 (dk_at dksX0_status_0 13 rfl rfl)
theorem dX0_status_16 : decode cX0_status 16 = .ok (.iload_n 1, 1) := dk_27 (dk_at dksX0_status_0 16 rfl rfl)
theorem dX0_status_17 : decode cX0_status 17 = .ok (.iaload, 1) := dk_46 (dk_at dksX0_status_0 17 rfl rfl)
theorem dX0_status_18 : decode cX0_status 18 = .ok (.goto 4, 3) := dk_167 0 4 (dk_at dksX0_status_0 18 rfl rfl)
theorem dX0_status_21 : decode cX0_status 21 = .ok (.iconst (-1), 1) := dk_2 (dk_at dksX0_status_0 21 rfl rfl)
theorem dX0_status_22 : decode cX0_status 22 = .ok (.ireturn, 1) := dk_172 (dk_at dksX0_status_0 22 rfl rfl)
abbrev cX0_isIn : ByteArray := prog_1_method_2_code
def yX0_isIn : MethodName := ⟨RX0, "isIn", "(JJJ)Z"⟩
def dkwX0_isIn_0 : List UInt8 := [30, 32, 148, 155, 0, 14, 30, 22, 4, 148, 157, 0, 7, 4, 167, 0, 4, 3, 172]
abbrev dktX0_isIn_0 : List UInt8 := dkwX0_isIn_0 ++ []
theorem dksX0_isIn_0 : cX0_isIn.data.toList.drop 0 = dktX0_isIn_0 := by decide +kernel
theorem dX0_isIn_0 : decode cX0_isIn 0 = .ok (.lload_n 0, 1) := dk_30 (dk_at dksX0_isIn_0 0 rfl rfl)
theorem dX0_isIn_1 : decode cX0_isIn 1 = .ok (.lload_n 2, 1) := dk_32 (dk_at dksX0_isIn_0 1 rfl rfl)
theorem dX0_isIn_2 : decode cX0_isIn 2 = .ok (.lcmp, 1) := dk_148 (dk_at dksX0_isIn_0 2 rfl rfl)
theorem dX0_isIn_3 : decode cX0_isIn 3 = .ok (.ifCond .lt 14, 3) := dk_155 0 14 (dk_at dksX0_isIn_0 3 rfl rfl)
theorem dX0_isIn_6 : decode cX0_isIn 6 = .ok (.lload_n 0, 1) := dk_30 (dk_at dksX0_isIn_0 6 rfl rfl)
theorem dX0_isIn_7 : decode cX0_isIn 7 = .ok (.lload 4, 2) := dk_22 4 (dk_at dksX0_isIn_0 7 rfl rfl)
theorem dX0_isIn_9 : decode cX0_isIn 9 = .ok (.lcmp, 1) := dk_148 (dk_at dksX0_isIn_0 9 rfl rfl)
theorem dX0_isIn_10 : decode cX0_isIn 10 = .ok (.ifCond .gt 7, 3) := dk_157 0 7 (dk_at dksX0_isIn_0 10 rfl rfl)
theorem dX0_isIn_13 : decode cX0_isIn 13 = .ok (.iconst 1, 1) := dk_4 (dk_at dksX0_isIn_0 13 rfl rfl)
theorem dX0_isIn_14 : decode cX0_isIn 14 = .ok (.goto 4, 3) := dk_167 0 4 (dk_at dksX0_isIn_0 14 rfl rfl)
theorem dX0_isIn_17 : decode cX0_isIn 17 = .ok (.iconst 0, 1) := dk_3 (dk_at dksX0_isIn_0 17 rfl rfl)
theorem dX0_isIn_18 : decode cX0_isIn 18 = .ok (.ireturn, 1) := dk_172 (dk_at dksX0_isIn_0 18 rfl rfl)
abbrev cX0_pen : ByteArray := prog_1_method_14_code
def yX0_pen : MethodName := ⟨RX0, "pen", "()I"⟩
def dkwX0_pen_3 : List UInt8 := [180, 0, 197, 181, 0, 37, 42, 4, 182, 0, 150, 172]
abbrev dktX0_pen_3 : List UInt8 := dkwX0_pen_3 ++ []
def dkwX0_pen_2 : List UInt8 := [42, 180, 0, 109, 182, 0, 186, 44, 180, 0, 189, 172, 77, 42, 44, 180, 0, 194, 181, 0, 183, 42, 44]
abbrev dktX0_pen_2 : List UInt8 := dkwX0_pen_2 ++ dktX0_pen_3
def dkwX0_pen_1 : List UInt8 := [44, 180, 0, 178, 181, 0, 23, 42, 3, 181, 0, 183, 42, 2, 181, 0, 37, 42, 180, 0, 30, 182, 0, 186]
abbrev dktX0_pen_1 : List UInt8 := dkwX0_pen_1 ++ dktX0_pen_2
def dkwX0_pen_0 : List UInt8 := [187, 0, 170, 89, 42, 42, 180, 0, 153, 183, 0, 172, 76, 42, 3, 181, 0, 153, 43, 182, 0, 175, 77, 42]
abbrev dktX0_pen_0 : List UInt8 := dkwX0_pen_0 ++ dktX0_pen_1
theorem dksX0_pen_0 : cX0_pen.data.toList.drop 0 = dktX0_pen_0 := by decide +kernel
theorem dksX0_pen_1 : cX0_pen.data.toList.drop 24 = dktX0_pen_1 := dk_seg dksX0_pen_0 24 rfl rfl
theorem dksX0_pen_2 : cX0_pen.data.toList.drop 48 = dktX0_pen_2 := dk_seg dksX0_pen_1 24 rfl rfl
theorem dksX0_pen_3 : cX0_pen.data.toList.drop 71 = dktX0_pen_3 := dk_seg dksX0_pen_2 23 rfl rfl
theorem dX0_pen_0 : decode cX0_pen 0 = .ok (.new 170, 3) := dk_187 0 170 (dk_at dksX0_pen_0 0 rfl rfl)
theorem dX0_pen_3 : decode cX0_pen 3 = .ok (.dup, 1) := dk_89 (dk_at dksX0_pen_0 3 rfl rfl)
theorem dX0_pen_4 : decode cX0_pen 4 = .ok (.aload_n 0, 1) := dk_42 (dk_at dksX0_pen_0 4 rfl rfl)
theorem dX0_pen_5 : decode cX0_pen 5 = .ok (.aload_n 0, 1) := dk_42 (dk_at dksX0_pen_0 5 rfl rfl)
theorem dX0_pen_6 : decode cX0_pen 6 = .ok (.getfield 153, 3) := dk_180 0 153 (dk_at dksX0_pen_0 6 rfl rfl)
theorem dX0_pen_9 : decode cX0_pen 9 = .ok (.invokespecial 172, 3) := dk_183 0 172 (dk_at dksX0_pen_0 9 rfl rfl)
theorem dX0_pen_12 : decode cX0_pen 12 = .ok (.astore_n 1, 1) := dk_76 (dk_at dksX0_pen_0 12 rfl rfl)
theorem dX0_pen_13 : decode cX0_pen 13 = .ok (.aload_n 0, 1) := dk_42 (dk_at dksX0_pen_0 13 rfl rfl)
theorem dX0_pen_14 : decode cX0_pen 14 = .ok (.iconst 0, 1) := dk_3 (dk_at dksX0_pen_0 14 rfl rfl)
theorem dX0_pen_15 : decode cX0_pen 15 = .ok (.putfield 153, 3) := dk_181 0 153 (dk_at dksX0_pen_0 15 rfl rfl)
theorem dX0_pen_18 : decode cX0_pen 18 = .ok (.aload_n 1, 1) := dk_43 (dk_at dksX0_pen_0 18 rfl rfl)
theorem dX0_pen_19 : decode cX0_pen 19 = .ok (.invokevirtual 175, 3) := dk_182 0 175 (dk_at dksX0_pen_0 19 rfl rfl)
theorem dX0_pen_22 : decode cX0_pen 22 = .ok (.astore_n 2, 1) := dk_77 (dk_at dksX0_pen_0 22 rfl rfl)
theorem dX0_pen_23 : decode cX0_pen 23 = .ok (.aload_n 0, 1) := dk_42 (dk_at dksX0_pen_0 23 rfl rfl)
theorem dX0_pen_24 : decode cX0_pen 24 = .ok (.aload_n 2, 1) := dk_44 (dk_at dksX0_pen_1 0 rfl rfl)
theorem dX0_pen_25 : decode cX0_pen 25 = .ok (.getfield 178, 3) := dk_180 0 178 (dk_at dksX0_pen_1 1 rfl rfl)
theorem dX0_pen_28 : decode cX0_pen 28 = .ok (.putfield 23, 3) := dk_181 0 23 (dk_at dksX0_pen_1 4 rfl rfl)
theorem dX0_pen_31 : decode cX0_pen 31 = .ok (.aload_n 0, 1) := dk_42 (dk_at dksX0_pen_1 7 rfl rfl)
theorem dX0_pen_32 : decode cX0_pen 32 = .ok (.iconst 0, 1) := dk_3 (dk_at dksX0_pen_1 8 rfl rfl)
theorem dX0_pen_33 : decode cX0_pen 33 = .ok (.putfield 183, 3) := dk_181 0 183 (dk_at dksX0_pen_1 9 rfl rfl)
theorem dX0_pen_36 : decode cX0_pen 36 = .ok (.aload_n 0, 1) := dk_42 (dk_at dksX0_pen_1 12 rfl rfl)
theorem dX0_pen_37 : decode cX0_pen 37 = .ok (.iconst (-1), 1) := dk_2 (dk_at dksX0_pen_1 13 rfl rfl)
theorem dX0_pen_38 : decode cX0_pen 38 = .ok (.putfield 37, 3) := dk_181 0 37 (dk_at dksX0_pen_1 14 rfl rfl)
theorem dX0_pen_41 : decode cX0_pen 41 = .ok (.aload_n 0, 1) := dk_42 (dk_at dksX0_pen_1 17 rfl rfl)
theorem dX0_pen_42 : decode cX0_pen 42 = .ok (.getfield 30, 3) := dk_180 0 30 (dk_at dksX0_pen_1 18 rfl rfl)
theorem dX0_pen_45 : decode cX0_pen 45 = .ok (.invokevirtual 186, 3) := dk_182 0 186 (dk_at dksX0_pen_1 21 rfl rfl)
theorem dX0_pen_48 : decode cX0_pen 48 = .ok (.aload_n 0, 1) := dk_42 (dk_at dksX0_pen_2 0 rfl rfl)
theorem dX0_pen_49 : decode cX0_pen 49 = .ok (.getfield 109, 3) := dk_180 0 109 (dk_at dksX0_pen_2 1 rfl rfl)
theorem dX0_pen_52 : decode cX0_pen 52 = .ok (.invokevirtual 186, 3) := dk_182 0 186 (dk_at dksX0_pen_2 4 rfl rfl)
theorem dX0_pen_55 : decode cX0_pen 55 = .ok (.aload_n 2, 1) := dk_44 (dk_at dksX0_pen_2 7 rfl rfl)
theorem dX0_pen_56 : decode cX0_pen 56 = .ok (.getfield 189, 3) := dk_180 0 189 (dk_at dksX0_pen_2 8 rfl rfl)
theorem dX0_pen_59 : decode cX0_pen 59 = .ok (.ireturn, 1) := dk_172 (dk_at dksX0_pen_2 11 rfl rfl)
theorem dX0_pen_60 : decode cX0_pen 60 = .ok (.astore_n 2, 1) := dk_77 (dk_at dksX0_pen_2 12 rfl rfl)
theorem dX0_pen_61 : decode cX0_pen 61 = .ok (.aload_n 0, 1) := dk_42 (dk_at dksX0_pen_2 13 rfl rfl)
theorem dX0_pen_62 : decode cX0_pen 62 = .ok (.aload_n 2, 1) := dk_44 (dk_at dksX0_pen_2 14 rfl rfl)
theorem dX0_pen_63 : decode cX0_pen 63 = .ok (.getfield 194, 3) := dk_180 0 194 (dk_at dksX0_pen_2 15 rfl rfl)
theorem dX0_pen_66 : decode cX0_pen 66 = .ok (.putfield 183, 3) := dk_181 0 183 (dk_at dksX0_pen_2 18 rfl rfl)
theorem dX0_pen_69 : decode cX0_pen 69 = .ok (.aload_n 0, 1) := dk_42 (dk_at dksX0_pen_2 21 rfl rfl)
theorem dX0_pen_70 : decode cX0_pen 70 = .ok (.aload_n 2, 1) := dk_44 (dk_at dksX0_pen_2 22 rfl rfl)
theorem dX0_pen_71 : decode cX0_pen 71 = .ok (.getfield 197, 3) := dk_180 0 197 (dk_at dksX0_pen_3 0 rfl rfl)
theorem dX0_pen_74 : decode cX0_pen 74 = .ok (.putfield 37, 3) := dk_181 0 37 (dk_at dksX0_pen_3 3 rfl rfl)
theorem dX0_pen_77 : decode cX0_pen 77 = .ok (.aload_n 0, 1) := dk_42 (dk_at dksX0_pen_3 6 rfl rfl)
theorem dX0_pen_78 : decode cX0_pen 78 = .ok (.iconst 1, 1) := dk_4 (dk_at dksX0_pen_3 7 rfl rfl)
theorem dX0_pen_79 : decode cX0_pen 79 = .ok (.invokevirtual 150, 3) := dk_182 0 150 (dk_at dksX0_pen_3 8 rfl rfl)
theorem dX0_pen_82 : decode cX0_pen 82 = .ok (.ireturn, 1) := dk_172 (dk_at dksX0_pen_3 11 rfl rfl)
abbrev cX0_isOwn : ByteArray := prog_1_method_4_code
def yX0_isOwn : MethodName := ⟨RX0, "isOwn", "(Ljava/lang/String;)Z"⟩
def dkwX0_isOwn_1 : List UInt8 := [132, 1, 1, 167, 255, 231, 3, 172]
abbrev dktX0_isOwn_1 : List UInt8 := dkwX0_isOwn_1 ++ []
def dkwX0_isOwn_0 : List UInt8 := [3, 60, 27, 178, 0, 129, 190, 162, 0, 23, 178, 0, 129, 27, 50, 42, 182, 0, 133, 153, 0, 5, 4, 172]
abbrev dktX0_isOwn_0 : List UInt8 := dkwX0_isOwn_0 ++ dktX0_isOwn_1
theorem dksX0_isOwn_0 : cX0_isOwn.data.toList.drop 0 = dktX0_isOwn_0 := by decide +kernel
theorem dksX0_isOwn_1 : cX0_isOwn.data.toList.drop 24 = dktX0_isOwn_1 := dk_seg dksX0_isOwn_0 24 rfl rfl
theorem dX0_isOwn_0 : decode cX0_isOwn 0 = .ok (.iconst 0, 1) := dk_3 (dk_at dksX0_isOwn_0 0 rfl rfl)
theorem dX0_isOwn_1 : decode cX0_isOwn 1 = .ok (.istore_n 1, 1) := dk_60 (dk_at dksX0_isOwn_0 1 rfl rfl)
theorem dX0_isOwn_2 : decode cX0_isOwn 2 = .ok (.iload_n 1, 1) := dk_27 (dk_at dksX0_isOwn_0 2 rfl rfl)
theorem dX0_isOwn_3 : decode cX0_isOwn 3 = .ok (.getstatic 129, 3) := dk_178 0 129 (dk_at dksX0_isOwn_0 3 rfl rfl)
theorem dX0_isOwn_6 : decode cX0_isOwn 6 = .ok (.arraylength, 1) := dk_190 (dk_at dksX0_isOwn_0 6 rfl rfl)
theorem dX0_isOwn_7 : decode cX0_isOwn 7 = .ok (.if_icmp .ge 23, 3) := dk_162 0 23 (dk_at dksX0_isOwn_0 7 rfl rfl)
theorem dX0_isOwn_10 : decode cX0_isOwn 10 = .ok (.getstatic 129, 3) := dk_178 0 129 (dk_at dksX0_isOwn_0 10 rfl rfl)
theorem dX0_isOwn_13 : decode cX0_isOwn 13 = .ok (.iload_n 1, 1) := dk_27 (dk_at dksX0_isOwn_0 13 rfl rfl)
theorem dX0_isOwn_14 : decode cX0_isOwn 14 = .ok (.aaload, 1) := dk_50 (dk_at dksX0_isOwn_0 14 rfl rfl)
theorem dX0_isOwn_15 : decode cX0_isOwn 15 = .ok (.aload_n 0, 1) := dk_42 (dk_at dksX0_isOwn_0 15 rfl rfl)
theorem dX0_isOwn_16 : decode cX0_isOwn 16 = .ok (.invokevirtual 133, 3) := dk_182 0 133 (dk_at dksX0_isOwn_0 16 rfl rfl)
theorem dX0_isOwn_19 : decode cX0_isOwn 19 = .ok (.ifCond .eq 5, 3) := dk_153 0 5 (dk_at dksX0_isOwn_0 19 rfl rfl)
theorem dX0_isOwn_22 : decode cX0_isOwn 22 = .ok (.iconst 1, 1) := dk_4 (dk_at dksX0_isOwn_0 22 rfl rfl)
theorem dX0_isOwn_23 : decode cX0_isOwn 23 = .ok (.ireturn, 1) := dk_172 (dk_at dksX0_isOwn_0 23 rfl rfl)
theorem dX0_isOwn_24 : decode cX0_isOwn 24 = .ok (.iinc 1 1, 3) := dk_132 1 1 (dk_at dksX0_isOwn_1 0 rfl rfl)
theorem dX0_isOwn_27 : decode cX0_isOwn 27 = .ok (.goto (-25), 3) := dk_167 255 231 (dk_at dksX0_isOwn_1 3 rfl rfl)
theorem dX0_isOwn_30 : decode cX0_isOwn 30 = .ok (.iconst 0, 1) := dk_3 (dk_at dksX0_isOwn_1 6 rfl rfl)
theorem dX0_isOwn_31 : decode cX0_isOwn 31 = .ok (.ireturn, 1) := dk_172 (dk_at dksX0_isOwn_1 7 rfl rfl)
abbrev cX0_root : ByteArray := prog_1_method_6_code
def yX0_root : MethodName := ⟨RX0, "root", "(I)I"⟩
def dkwX0_root_1 : List UInt8 := [27, 28, 96, 60, 28, 4, 122, 61, 167, 255, 229, 27, 172]
abbrev dktX0_root_1 : List UInt8 := dkwX0_root_1 ++ []
def dkwX0_root_0 : List UInt8 := [3, 60, 18, 145, 61, 28, 158, 0, 29, 27, 28, 96, 133, 27, 28, 96, 133, 105, 26, 133, 148, 157, 0, 7]
abbrev dktX0_root_0 : List UInt8 := dkwX0_root_0 ++ dktX0_root_1
theorem dksX0_root_0 : cX0_root.data.toList.drop 0 = dktX0_root_0 := by decide +kernel
theorem dksX0_root_1 : cX0_root.data.toList.drop 24 = dktX0_root_1 := dk_seg dksX0_root_0 24 rfl rfl
theorem dX0_root_0 : decode cX0_root 0 = .ok (.iconst 0, 1) := dk_3 (dk_at dksX0_root_0 0 rfl rfl)
theorem dX0_root_1 : decode cX0_root 1 = .ok (.istore_n 1, 1) := dk_60 (dk_at dksX0_root_0 1 rfl rfl)
theorem dX0_root_2 : decode cX0_root 2 = .ok (.ldc 145, 2) := dk_18 145 (dk_at dksX0_root_0 2 rfl rfl)
theorem dX0_root_4 : decode cX0_root 4 = .ok (.istore_n 2, 1) := dk_61 (dk_at dksX0_root_0 4 rfl rfl)
theorem dX0_root_5 : decode cX0_root 5 = .ok (.iload_n 2, 1) := dk_28 (dk_at dksX0_root_0 5 rfl rfl)
theorem dX0_root_6 : decode cX0_root 6 = .ok (.ifCond .le 29, 3) := dk_158 0 29 (dk_at dksX0_root_0 6 rfl rfl)
theorem dX0_root_9 : decode cX0_root 9 = .ok (.iload_n 1, 1) := dk_27 (dk_at dksX0_root_0 9 rfl rfl)
theorem dX0_root_10 : decode cX0_root 10 = .ok (.iload_n 2, 1) := dk_28 (dk_at dksX0_root_0 10 rfl rfl)
theorem dX0_root_11 : decode cX0_root 11 = .ok (.iadd, 1) := dk_96 (dk_at dksX0_root_0 11 rfl rfl)
theorem dX0_root_12 : decode cX0_root 12 = .ok (.i2l, 1) := dk_133 (dk_at dksX0_root_0 12 rfl rfl)
theorem dX0_root_13 : decode cX0_root 13 = .ok (.iload_n 1, 1) := dk_27 (dk_at dksX0_root_0 13 rfl rfl)
theorem dX0_root_14 : decode cX0_root 14 = .ok (.iload_n 2, 1) := dk_28 (dk_at dksX0_root_0 14 rfl rfl)
theorem dX0_root_15 : decode cX0_root 15 = .ok (.iadd, 1) := dk_96 (dk_at dksX0_root_0 15 rfl rfl)
theorem dX0_root_16 : decode cX0_root 16 = .ok (.i2l, 1) := dk_133 (dk_at dksX0_root_0 16 rfl rfl)
theorem dX0_root_17 : decode cX0_root 17 = .ok (.lmul, 1) := dk_105 (dk_at dksX0_root_0 17 rfl rfl)
theorem dX0_root_18 : decode cX0_root 18 = .ok (.iload_n 0, 1) := dk_26 (dk_at dksX0_root_0 18 rfl rfl)
theorem dX0_root_19 : decode cX0_root 19 = .ok (.i2l, 1) := dk_133 (dk_at dksX0_root_0 19 rfl rfl)
theorem dX0_root_20 : decode cX0_root 20 = .ok (.lcmp, 1) := dk_148 (dk_at dksX0_root_0 20 rfl rfl)
theorem dX0_root_21 : decode cX0_root 21 = .ok (.ifCond .gt 7, 3) := dk_157 0 7 (dk_at dksX0_root_0 21 rfl rfl)
theorem dX0_root_24 : decode cX0_root 24 = .ok (.iload_n 1, 1) := dk_27 (dk_at dksX0_root_1 0 rfl rfl)
theorem dX0_root_25 : decode cX0_root 25 = .ok (.iload_n 2, 1) := dk_28 (dk_at dksX0_root_1 1 rfl rfl)
theorem dX0_root_26 : decode cX0_root 26 = .ok (.iadd, 1) := dk_96 (dk_at dksX0_root_1 2 rfl rfl)
theorem dX0_root_27 : decode cX0_root 27 = .ok (.istore_n 1, 1) := dk_60 (dk_at dksX0_root_1 3 rfl rfl)
theorem dX0_root_28 : decode cX0_root 28 = .ok (.iload_n 2, 1) := dk_28 (dk_at dksX0_root_1 4 rfl rfl)
theorem dX0_root_29 : decode cX0_root 29 = .ok (.iconst 1, 1) := dk_4 (dk_at dksX0_root_1 5 rfl rfl)
theorem dX0_root_30 : decode cX0_root 30 = .ok (.ishr, 1) := dk_122 (dk_at dksX0_root_1 6 rfl rfl)
theorem dX0_root_31 : decode cX0_root 31 = .ok (.istore_n 2, 1) := dk_61 (dk_at dksX0_root_1 7 rfl rfl)
theorem dX0_root_32 : decode cX0_root 32 = .ok (.goto (-27), 3) := dk_167 255 229 (dk_at dksX0_root_1 8 rfl rfl)
theorem dX0_root_35 : decode cX0_root 35 = .ok (.iload_n 1, 1) := dk_27 (dk_at dksX0_root_1 11 rfl rfl)
theorem dX0_root_36 : decode cX0_root 36 = .ok (.ireturn, 1) := dk_172 (dk_at dksX0_root_1 12 rfl rfl)
abbrev cX0_fault : ByteArray := prog_1_method_15_code
def yX0_fault : MethodName := ⟨RX0, "fault", "(I)I"⟩
def dkwX0_fault_1 : List UInt8 := [172]
abbrev dktX0_fault_1 : List UInt8 := dkwX0_fault_1 ++ []
def dkwX0_fault_0 : List UInt8 := [27, 154, 0, 10, 42, 180, 0, 183, 167, 0, 16, 27, 4, 160, 0, 10, 42, 180, 0, 37, 167, 0, 4, 2]
abbrev dktX0_fault_0 : List UInt8 := dkwX0_fault_0 ++ dktX0_fault_1
theorem dksX0_fault_0 : cX0_fault.data.toList.drop 0 = dktX0_fault_0 := by decide +kernel
theorem dksX0_fault_1 : cX0_fault.data.toList.drop 24 = dktX0_fault_1 := dk_seg dksX0_fault_0 24 rfl rfl
theorem dX0_fault_0 : decode cX0_fault 0 = .ok (.iload_n 1, 1) := dk_27 (dk_at dksX0_fault_0 0 rfl rfl)
theorem dX0_fault_1 : decode cX0_fault 1 = .ok (.ifCond .ne 10, 3) := dk_154 0 10 (dk_at dksX0_fault_0 1 rfl rfl)
theorem dX0_fault_4 : decode cX0_fault 4 = .ok (.aload_n 0, 1) := dk_42 (dk_at dksX0_fault_0 4 rfl rfl)
theorem dX0_fault_5 : decode cX0_fault 5 = .ok (.getfield 183, 3) := dk_180 0 183 (dk_at dksX0_fault_0 5 rfl rfl)
theorem dX0_fault_8 : decode cX0_fault 8 = .ok (.goto 16, 3) := dk_167 0 16 (dk_at dksX0_fault_0 8 rfl rfl)
theorem dX0_fault_11 : decode cX0_fault 11 = .ok (.iload_n 1, 1) := dk_27 (dk_at dksX0_fault_0 11 rfl rfl)
theorem dX0_fault_12 : decode cX0_fault 12 = .ok (.iconst 1, 1) := dk_4 (dk_at dksX0_fault_0 12 rfl rfl)
theorem dX0_fault_13 : decode cX0_fault 13 = .ok (.if_icmp .ne 10, 3) := dk_160 0 10 (dk_at dksX0_fault_0 13 rfl rfl)
theorem dX0_fault_16 : decode cX0_fault 16 = .ok (.aload_n 0, 1) := dk_42 (dk_at dksX0_fault_0 16 rfl rfl)
theorem dX0_fault_17 : decode cX0_fault 17 = .ok (.getfield 37, 3) := dk_180 0 37 (dk_at dksX0_fault_0 17 rfl rfl)
theorem dX0_fault_20 : decode cX0_fault 20 = .ok (.goto 4, 3) := dk_167 0 4 (dk_at dksX0_fault_0 20 rfl rfl)
theorem dX0_fault_23 : decode cX0_fault 23 = .ok (.iconst (-1), 1) := dk_2 (dk_at dksX0_fault_0 23 rfl rfl)
theorem dX0_fault_24 : decode cX0_fault 24 = .ok (.ireturn, 1) := dk_172 (dk_at dksX0_fault_1 0 rfl rfl)
abbrev cX0_has : ByteArray := prog_1_method_18_code
def yX0_has : MethodName := ⟨RX0, "has", "(I)I"⟩
def dkwX0_has_4 : List UInt8 := [184, 0, 166, 153, 0, 17, 42, 180, 0, 23, 180, 0, 216, 27, 5, 100, 46, 167, 0, 4, 2, 172]
abbrev dktX0_has_4 : List UInt8 := dkwX0_has_4 ++ []
def dkwX0_has_3 : List UInt8 := [42, 180, 0, 30, 182, 0, 203, 172, 42, 180, 0, 122, 136, 172, 27, 133, 20, 0, 212, 20, 0, 214]
abbrev dktX0_has_3 : List UInt8 := dkwX0_has_3 ++ dktX0_has_4
def dkwX0_has_2 : List UInt8 := [42, 182, 0, 207, 172, 42, 180, 0, 23, 180, 0, 209, 182, 0, 203, 172, 42, 180, 0, 109, 182, 0, 203, 172]
abbrev dktX0_has_2 : List UInt8 := dkwX0_has_2 ++ dktX0_has_3
def dkwX0_has_1 : List UInt8 := [170, 0, 0, 0, 0, 0, 97, 0, 0, 0, 0, 0, 0, 0, 10, 0, 0, 0, 59, 0, 0, 0, 64, 0, 0, 0, 97, 0, 0, 0, 97, 0, 0, 0, 97, 0, 0, 0, 97, 0, 0, 0, 97, 0, 0, 0, 97, 0, 0, 0, 75, 0, 0, 0, 83, 0, 0, 0, 91]
abbrev dktX0_has_1 : List UInt8 := dkwX0_has_1 ++ dktX0_has_2
def dkwX0_has_0 : List UInt8 := [27]
abbrev dktX0_has_0 : List UInt8 := dkwX0_has_0 ++ dktX0_has_1
theorem dksX0_has_0 : cX0_has.data.toList.drop 0 = dktX0_has_0 := by decide +kernel
theorem dksX0_has_1 : cX0_has.data.toList.drop 1 = dktX0_has_1 := dk_seg dksX0_has_0 1 rfl rfl
theorem dksX0_has_2 : cX0_has.data.toList.drop 60 = dktX0_has_2 := dk_seg dksX0_has_1 59 rfl rfl
theorem dksX0_has_3 : cX0_has.data.toList.drop 84 = dktX0_has_3 := dk_seg dksX0_has_2 24 rfl rfl
theorem dksX0_has_4 : cX0_has.data.toList.drop 106 = dktX0_has_4 := dk_seg dksX0_has_3 22 rfl rfl
theorem dX0_has_0 : decode cX0_has 0 = .ok (.iload_n 1, 1) := dk_27 (dk_at dksX0_has_0 0 rfl rfl)
theorem dX0_has_1 : decode cX0_has 1 = .ok (.tableswitch 97 0 10 #[59, 64, 97, 97, 97, 97, 97, 97, 75, 83, 91], 59) := by decide +kernel
theorem dX0_has_60 : decode cX0_has 60 = .ok (.aload_n 0, 1) := dk_42 (dk_at dksX0_has_2 0 rfl rfl)
theorem dX0_has_61 : decode cX0_has 61 = .ok (.invokevirtual 207, 3) := dk_182 0 207 (dk_at dksX0_has_2 1 rfl rfl)
theorem dX0_has_64 : decode cX0_has 64 = .ok (.ireturn, 1) := dk_172 (dk_at dksX0_has_2 4 rfl rfl)
theorem dX0_has_65 : decode cX0_has 65 = .ok (.aload_n 0, 1) := dk_42 (dk_at dksX0_has_2 5 rfl rfl)
theorem dX0_has_66 : decode cX0_has 66 = .ok (.getfield 23, 3) := dk_180 0 23 (dk_at dksX0_has_2 6 rfl rfl)
theorem dX0_has_69 : decode cX0_has 69 = .ok (.getfield 209, 3) := dk_180 0 209 (dk_at dksX0_has_2 9 rfl rfl)
theorem dX0_has_72 : decode cX0_has 72 = .ok (.invokevirtual 203, 3) := dk_182 0 203 (dk_at dksX0_has_2 12 rfl rfl)
theorem dX0_has_75 : decode cX0_has 75 = .ok (.ireturn, 1) := dk_172 (dk_at dksX0_has_2 15 rfl rfl)
theorem dX0_has_76 : decode cX0_has 76 = .ok (.aload_n 0, 1) := dk_42 (dk_at dksX0_has_2 16 rfl rfl)
theorem dX0_has_77 : decode cX0_has 77 = .ok (.getfield 109, 3) := dk_180 0 109 (dk_at dksX0_has_2 17 rfl rfl)
theorem dX0_has_80 : decode cX0_has 80 = .ok (.invokevirtual 203, 3) := dk_182 0 203 (dk_at dksX0_has_2 20 rfl rfl)
theorem dX0_has_83 : decode cX0_has 83 = .ok (.ireturn, 1) := dk_172 (dk_at dksX0_has_2 23 rfl rfl)
theorem dX0_has_84 : decode cX0_has 84 = .ok (.aload_n 0, 1) := dk_42 (dk_at dksX0_has_3 0 rfl rfl)
theorem dX0_has_85 : decode cX0_has 85 = .ok (.getfield 30, 3) := dk_180 0 30 (dk_at dksX0_has_3 1 rfl rfl)
theorem dX0_has_88 : decode cX0_has 88 = .ok (.invokevirtual 203, 3) := dk_182 0 203 (dk_at dksX0_has_3 4 rfl rfl)
theorem dX0_has_91 : decode cX0_has 91 = .ok (.ireturn, 1) := dk_172 (dk_at dksX0_has_3 7 rfl rfl)
theorem dX0_has_92 : decode cX0_has 92 = .ok (.aload_n 0, 1) := dk_42 (dk_at dksX0_has_3 8 rfl rfl)
theorem dX0_has_93 : decode cX0_has 93 = .ok (.getfield 122, 3) := dk_180 0 122 (dk_at dksX0_has_3 9 rfl rfl)
theorem dX0_has_96 : decode cX0_has 96 = .ok (.l2i, 1) := dk_136 (dk_at dksX0_has_3 12 rfl rfl)
theorem dX0_has_97 : decode cX0_has 97 = .ok (.ireturn, 1) := dk_172 (dk_at dksX0_has_3 13 rfl rfl)
theorem dX0_has_98 : decode cX0_has 98 = .ok (.iload_n 1, 1) := dk_27 (dk_at dksX0_has_3 14 rfl rfl)
theorem dX0_has_99 : decode cX0_has 99 = .ok (.i2l, 1) := dk_133 (dk_at dksX0_has_3 15 rfl rfl)
theorem dX0_has_100 : decode cX0_has 100 = .ok (.ldc2_w 212, 3) := dk_20 0 212 (dk_at dksX0_has_3 16 rfl rfl)
theorem dX0_has_103 : decode cX0_has 103 = .ok (.ldc2_w 214, 3) := dk_20 0 214 (dk_at dksX0_has_3 19 rfl rfl)
theorem dX0_has_106 : decode cX0_has 106 = .ok (.invokestatic 166, 3) := dk_184 0 166 (dk_at dksX0_has_4 0 rfl rfl)
theorem dX0_has_109 : decode cX0_has 109 = .ok (.ifCond .eq 17, 3) := dk_153 0 17 (dk_at dksX0_has_4 3 rfl rfl)
theorem dX0_has_112 : decode cX0_has 112 = .ok (.aload_n 0, 1) := dk_42 (dk_at dksX0_has_4 6 rfl rfl)
theorem dX0_has_113 : decode cX0_has 113 = .ok (.getfield 23, 3) := dk_180 0 23 (dk_at dksX0_has_4 7 rfl rfl)
theorem dX0_has_116 : decode cX0_has 116 = .ok (.getfield 216, 3) := dk_180 0 216 (dk_at dksX0_has_4 10 rfl rfl)
theorem dX0_has_119 : decode cX0_has 119 = .ok (.iload_n 1, 1) := dk_27 (dk_at dksX0_has_4 13 rfl rfl)
theorem dX0_has_120 : decode cX0_has 120 = .ok (.iconst 2, 1) := dk_5 (dk_at dksX0_has_4 14 rfl rfl)
theorem dX0_has_121 : decode cX0_has 121 = .ok (.isub, 1) := dk_100 (dk_at dksX0_has_4 15 rfl rfl)
theorem dX0_has_122 : decode cX0_has 122 = .ok (.iaload, 1) := dk_46 (dk_at dksX0_has_4 16 rfl rfl)
theorem dX0_has_123 : decode cX0_has 123 = .ok (.goto 4, 3) := dk_167 0 4 (dk_at dksX0_has_4 17 rfl rfl)
theorem dX0_has_126 : decode cX0_has 126 = .ok (.iconst (-1), 1) := dk_2 (dk_at dksX0_has_4 20 rfl rfl)
theorem dX0_has_127 : decode cX0_has 127 = .ok (.ireturn, 1) := dk_172 (dk_at dksX0_has_4 21 rfl rfl)
abbrev cX0_models : ByteArray := prog_1_method_16_code
def yX0_models : MethodName := ⟨RX0, "models", "()I"⟩
def dkwX0_models_0 : List UInt8 := [42, 180, 0, 23, 180, 0, 200, 182, 0, 203, 172]
abbrev dktX0_models_0 : List UInt8 := dkwX0_models_0 ++ []
theorem dksX0_models_0 : cX0_models.data.toList.drop 0 = dktX0_models_0 := by decide +kernel
theorem dX0_models_0 : decode cX0_models 0 = .ok (.aload_n 0, 1) := dk_42 (dk_at dksX0_models_0 0 rfl rfl)
theorem dX0_models_1 : decode cX0_models 1 = .ok (.getfield 23, 3) := dk_180 0 23 (dk_at dksX0_models_0 1 rfl rfl)
theorem dX0_models_4 : decode cX0_models 4 = .ok (.getfield 200, 3) := dk_180 0 200 (dk_at dksX0_models_0 4 rfl rfl)
theorem dX0_models_7 : decode cX0_models 7 = .ok (.invokevirtual 203, 3) := dk_182 0 203 (dk_at dksX0_models_0 7 rfl rfl)
theorem dX0_models_10 : decode cX0_models 10 = .ok (.ireturn, 1) := dk_172 (dk_at dksX0_models_0 10 rfl rfl)
abbrev cX0_named : ByteArray := prog_1_method_19_code
def yX0_named : MethodName := ⟨RX0, "named", "(II)I"⟩
def dkwX0_named_2 : List UInt8 := [162, 0, 16, 45, 28, 182, 0, 237, 16, 97, 100, 4, 96, 167, 0, 4, 3, 172]
abbrev dktX0_named_2 : List UInt8 := dkwX0_named_2 ++ []
def dkwX0_named_1 : List UInt8 := [180, 0, 23, 180, 0, 200, 27, 182, 0, 224, 192, 0, 228, 180, 0, 230, 78, 28, 45, 182, 0, 234]
abbrev dktX0_named_1 : List UInt8 := dkwX0_named_1 ++ dktX0_named_2
def dkwX0_named_0 : List UInt8 := [42, 27, 182, 0, 219, 153, 0, 15, 28, 133, 9, 20, 0, 222, 184, 0, 166, 154, 0, 5, 2, 172, 42]
abbrev dktX0_named_0 : List UInt8 := dkwX0_named_0 ++ dktX0_named_1
theorem dksX0_named_0 : cX0_named.data.toList.drop 0 = dktX0_named_0 := by decide +kernel
theorem dksX0_named_1 : cX0_named.data.toList.drop 23 = dktX0_named_1 := dk_seg dksX0_named_0 23 rfl rfl
theorem dksX0_named_2 : cX0_named.data.toList.drop 45 = dktX0_named_2 := dk_seg dksX0_named_1 22 rfl rfl
theorem dX0_named_0 : decode cX0_named 0 = .ok (.aload_n 0, 1) := dk_42 (dk_at dksX0_named_0 0 rfl rfl)
theorem dX0_named_1 : decode cX0_named 1 = .ok (.iload_n 1, 1) := dk_27 (dk_at dksX0_named_0 1 rfl rfl)
theorem dX0_named_2 : decode cX0_named 2 = .ok (.invokevirtual 219, 3) := dk_182 0 219 (dk_at dksX0_named_0 2 rfl rfl)
theorem dX0_named_5 : decode cX0_named 5 = .ok (.ifCond .eq 15, 3) := dk_153 0 15 (dk_at dksX0_named_0 5 rfl rfl)
theorem dX0_named_8 : decode cX0_named 8 = .ok (.iload_n 2, 1) := dk_28 (dk_at dksX0_named_0 8 rfl rfl)
theorem dX0_named_9 : decode cX0_named 9 = .ok (.i2l, 1) := dk_133 (dk_at dksX0_named_0 9 rfl rfl)
theorem dX0_named_10 : decode cX0_named 10 = .ok (.lconst 0, 1) := dk_9 (dk_at dksX0_named_0 10 rfl rfl)
theorem dX0_named_11 : decode cX0_named 11 = .ok (.ldc2_w 222, 3) := dk_20 0 222 (dk_at dksX0_named_0 11 rfl rfl)
theorem dX0_named_14 : decode cX0_named 14 = .ok (.invokestatic 166, 3) := dk_184 0 166 (dk_at dksX0_named_0 14 rfl rfl)
theorem dX0_named_17 : decode cX0_named 17 = .ok (.ifCond .ne 5, 3) := dk_154 0 5 (dk_at dksX0_named_0 17 rfl rfl)
theorem dX0_named_20 : decode cX0_named 20 = .ok (.iconst (-1), 1) := dk_2 (dk_at dksX0_named_0 20 rfl rfl)
theorem dX0_named_21 : decode cX0_named 21 = .ok (.ireturn, 1) := dk_172 (dk_at dksX0_named_0 21 rfl rfl)
theorem dX0_named_22 : decode cX0_named 22 = .ok (.aload_n 0, 1) := dk_42 (dk_at dksX0_named_0 22 rfl rfl)
theorem dX0_named_23 : decode cX0_named 23 = .ok (.getfield 23, 3) := dk_180 0 23 (dk_at dksX0_named_1 0 rfl rfl)
theorem dX0_named_26 : decode cX0_named 26 = .ok (.getfield 200, 3) := dk_180 0 200 (dk_at dksX0_named_1 3 rfl rfl)
theorem dX0_named_29 : decode cX0_named 29 = .ok (.iload_n 1, 1) := dk_27 (dk_at dksX0_named_1 6 rfl rfl)
theorem dX0_named_30 : decode cX0_named 30 = .ok (.invokevirtual 224, 3) := dk_182 0 224 (dk_at dksX0_named_1 7 rfl rfl)
theorem dX0_named_33 : decode cX0_named 33 = .ok (.checkcast 228, 3) := dk_192 0 228 (dk_at dksX0_named_1 10 rfl rfl)
theorem dX0_named_36 : decode cX0_named 36 = .ok (.getfield 230, 3) := dk_180 0 230 (dk_at dksX0_named_1 13 rfl rfl)
theorem dX0_named_39 : decode cX0_named 39 = .ok (.astore_n 3, 1) := dk_78 (dk_at dksX0_named_1 16 rfl rfl)
theorem dX0_named_40 : decode cX0_named 40 = .ok (.iload_n 2, 1) := dk_28 (dk_at dksX0_named_1 17 rfl rfl)
theorem dX0_named_41 : decode cX0_named 41 = .ok (.aload_n 3, 1) := dk_45 (dk_at dksX0_named_1 18 rfl rfl)
theorem dX0_named_42 : decode cX0_named 42 = .ok (.invokevirtual 234, 3) := dk_182 0 234 (dk_at dksX0_named_1 19 rfl rfl)
theorem dX0_named_45 : decode cX0_named 45 = .ok (.if_icmp .ge 16, 3) := dk_162 0 16 (dk_at dksX0_named_2 0 rfl rfl)
theorem dX0_named_48 : decode cX0_named 48 = .ok (.aload_n 3, 1) := dk_45 (dk_at dksX0_named_2 3 rfl rfl)
theorem dX0_named_49 : decode cX0_named 49 = .ok (.iload_n 2, 1) := dk_28 (dk_at dksX0_named_2 4 rfl rfl)
theorem dX0_named_50 : decode cX0_named 50 = .ok (.invokevirtual 237, 3) := dk_182 0 237 (dk_at dksX0_named_2 5 rfl rfl)
theorem dX0_named_53 : decode cX0_named 53 = .ok (.bipush 97, 2) := dk_16 97 (dk_at dksX0_named_2 8 rfl rfl)
theorem dX0_named_55 : decode cX0_named 55 = .ok (.isub, 1) := dk_100 (dk_at dksX0_named_2 10 rfl rfl)
theorem dX0_named_56 : decode cX0_named 56 = .ok (.iconst 1, 1) := dk_4 (dk_at dksX0_named_2 11 rfl rfl)
theorem dX0_named_57 : decode cX0_named 57 = .ok (.iadd, 1) := dk_96 (dk_at dksX0_named_2 12 rfl rfl)
theorem dX0_named_58 : decode cX0_named 58 = .ok (.goto 4, 3) := dk_167 0 4 (dk_at dksX0_named_2 13 rfl rfl)
theorem dX0_named_61 : decode cX0_named 61 = .ok (.iconst 0, 1) := dk_3 (dk_at dksX0_named_2 16 rfl rfl)
theorem dX0_named_62 : decode cX0_named 62 = .ok (.ireturn, 1) := dk_172 (dk_at dksX0_named_2 17 rfl rfl)
abbrev cX0_isModel : ByteArray := prog_1_method_17_code
def yX0_isModel : MethodName := ⟨RX0, "isModel", "(I)Z"⟩
def dkwX0_isModel_0 : List UInt8 := [27, 133, 9, 42, 182, 0, 207, 4, 100, 133, 184, 0, 166, 172]
abbrev dktX0_isModel_0 : List UInt8 := dkwX0_isModel_0 ++ []
theorem dksX0_isModel_0 : cX0_isModel.data.toList.drop 0 = dktX0_isModel_0 := by decide +kernel
theorem dX0_isModel_0 : decode cX0_isModel 0 = .ok (.iload_n 1, 1) := dk_27 (dk_at dksX0_isModel_0 0 rfl rfl)
theorem dX0_isModel_1 : decode cX0_isModel 1 = .ok (.i2l, 1) := dk_133 (dk_at dksX0_isModel_0 1 rfl rfl)
theorem dX0_isModel_2 : decode cX0_isModel 2 = .ok (.lconst 0, 1) := dk_9 (dk_at dksX0_isModel_0 2 rfl rfl)
theorem dX0_isModel_3 : decode cX0_isModel 3 = .ok (.aload_n 0, 1) := dk_42 (dk_at dksX0_isModel_0 3 rfl rfl)
theorem dX0_isModel_4 : decode cX0_isModel 4 = .ok (.invokevirtual 207, 3) := dk_182 0 207 (dk_at dksX0_isModel_0 4 rfl rfl)
theorem dX0_isModel_7 : decode cX0_isModel 7 = .ok (.iconst 1, 1) := dk_4 (dk_at dksX0_isModel_0 7 rfl rfl)
theorem dX0_isModel_8 : decode cX0_isModel 8 = .ok (.isub, 1) := dk_100 (dk_at dksX0_isModel_0 8 rfl rfl)
theorem dX0_isModel_9 : decode cX0_isModel 9 = .ok (.i2l, 1) := dk_133 (dk_at dksX0_isModel_0 9 rfl rfl)
theorem dX0_isModel_10 : decode cX0_isModel 10 = .ok (.invokestatic 166, 3) := dk_184 0 166 (dk_at dksX0_isModel_0 10 rfl rfl)
theorem dX0_isModel_13 : decode cX0_isModel 13 = .ok (.ireturn, 1) := dk_172 (dk_at dksX0_isModel_0 13 rfl rfl)
abbrev cX0_strokes : ByteArray := prog_1_method_22_code
def yX0_strokes : MethodName := ⟨RX0, "strokes", "(I)I"⟩
def dkwX0_strokes_0 : List UInt8 := [42, 27, 182, 0, 244, 153, 0, 14, 42, 27, 182, 0, 247, 182, 0, 203, 167, 0, 4, 2, 172]
abbrev dktX0_strokes_0 : List UInt8 := dkwX0_strokes_0 ++ []
theorem dksX0_strokes_0 : cX0_strokes.data.toList.drop 0 = dktX0_strokes_0 := by decide +kernel
theorem dX0_strokes_0 : decode cX0_strokes 0 = .ok (.aload_n 0, 1) := dk_42 (dk_at dksX0_strokes_0 0 rfl rfl)
theorem dX0_strokes_1 : decode cX0_strokes 1 = .ok (.iload_n 1, 1) := dk_27 (dk_at dksX0_strokes_0 1 rfl rfl)
theorem dX0_strokes_2 : decode cX0_strokes 2 = .ok (.invokevirtual 244, 3) := dk_182 0 244 (dk_at dksX0_strokes_0 2 rfl rfl)
theorem dX0_strokes_5 : decode cX0_strokes 5 = .ok (.ifCond .eq 14, 3) := dk_153 0 14 (dk_at dksX0_strokes_0 5 rfl rfl)
theorem dX0_strokes_8 : decode cX0_strokes 8 = .ok (.aload_n 0, 1) := dk_42 (dk_at dksX0_strokes_0 8 rfl rfl)
theorem dX0_strokes_9 : decode cX0_strokes 9 = .ok (.iload_n 1, 1) := dk_27 (dk_at dksX0_strokes_0 9 rfl rfl)
theorem dX0_strokes_10 : decode cX0_strokes 10 = .ok (.invokevirtual 247, 3) := dk_182 0 247 (dk_at dksX0_strokes_0 10 rfl rfl)
theorem dX0_strokes_13 : decode cX0_strokes 13 = .ok (.invokevirtual 203, 3) := dk_182 0 203 (dk_at dksX0_strokes_0 13 rfl rfl)
theorem dX0_strokes_16 : decode cX0_strokes 16 = .ok (.goto 4, 3) := dk_167 0 4 (dk_at dksX0_strokes_0 16 rfl rfl)
theorem dX0_strokes_19 : decode cX0_strokes 19 = .ok (.iconst (-1), 1) := dk_2 (dk_at dksX0_strokes_0 19 rfl rfl)
theorem dX0_strokes_20 : decode cX0_strokes 20 = .ok (.ireturn, 1) := dk_172 (dk_at dksX0_strokes_0 20 rfl rfl)
abbrev cX0_isLetter : ByteArray := prog_1_method_20_code
def yX0_isLetter : MethodName := ⟨RX0, "isLetter", "(I)Z"⟩
def dkwX0_isLetter_0 : List UInt8 := [27, 2, 159, 0, 11, 42, 27, 182, 0, 219, 153, 0, 7, 4, 167, 0, 4, 3, 172]
abbrev dktX0_isLetter_0 : List UInt8 := dkwX0_isLetter_0 ++ []
theorem dksX0_isLetter_0 : cX0_isLetter.data.toList.drop 0 = dktX0_isLetter_0 := by decide +kernel
theorem dX0_isLetter_0 : decode cX0_isLetter 0 = .ok (.iload_n 1, 1) := dk_27 (dk_at dksX0_isLetter_0 0 rfl rfl)
theorem dX0_isLetter_1 : decode cX0_isLetter 1 = .ok (.iconst (-1), 1) := dk_2 (dk_at dksX0_isLetter_0 1 rfl rfl)
theorem dX0_isLetter_2 : decode cX0_isLetter 2 = .ok (.if_icmp .eq 11, 3) := dk_159 0 11 (dk_at dksX0_isLetter_0 2 rfl rfl)
theorem dX0_isLetter_5 : decode cX0_isLetter 5 = .ok (.aload_n 0, 1) := dk_42 (dk_at dksX0_isLetter_0 5 rfl rfl)
theorem dX0_isLetter_6 : decode cX0_isLetter 6 = .ok (.iload_n 1, 1) := dk_27 (dk_at dksX0_isLetter_0 6 rfl rfl)
theorem dX0_isLetter_7 : decode cX0_isLetter 7 = .ok (.invokevirtual 219, 3) := dk_182 0 219 (dk_at dksX0_isLetter_0 7 rfl rfl)
theorem dX0_isLetter_10 : decode cX0_isLetter 10 = .ok (.ifCond .eq 7, 3) := dk_153 0 7 (dk_at dksX0_isLetter_0 10 rfl rfl)
theorem dX0_isLetter_13 : decode cX0_isLetter 13 = .ok (.iconst 1, 1) := dk_4 (dk_at dksX0_isLetter_0 13 rfl rfl)
theorem dX0_isLetter_14 : decode cX0_isLetter 14 = .ok (.goto 4, 3) := dk_167 0 4 (dk_at dksX0_isLetter_0 14 rfl rfl)
theorem dX0_isLetter_17 : decode cX0_isLetter 17 = .ok (.iconst 0, 1) := dk_3 (dk_at dksX0_isLetter_0 17 rfl rfl)
theorem dX0_isLetter_18 : decode cX0_isLetter 18 = .ok (.ireturn, 1) := dk_172 (dk_at dksX0_isLetter_0 18 rfl rfl)
abbrev cX0_strokesOf : ByteArray := prog_1_method_21_code
def yX0_strokesOf : MethodName := ⟨RX0, "strokesOf", "(I)Ljava/util/ArrayList;"⟩
def dkwX0_strokesOf_1 : List UInt8 := [182, 0, 224, 192, 0, 228, 180, 0, 241, 176]
abbrev dktX0_strokesOf_1 : List UInt8 := dkwX0_strokesOf_1 ++ []
def dkwX0_strokesOf_0 : List UInt8 := [27, 2, 160, 0, 13, 42, 180, 0, 23, 180, 0, 209, 167, 0, 20, 42, 180, 0, 23, 180, 0, 200, 27]
abbrev dktX0_strokesOf_0 : List UInt8 := dkwX0_strokesOf_0 ++ dktX0_strokesOf_1
theorem dksX0_strokesOf_0 : cX0_strokesOf.data.toList.drop 0 = dktX0_strokesOf_0 := by decide +kernel
theorem dksX0_strokesOf_1 : cX0_strokesOf.data.toList.drop 23 = dktX0_strokesOf_1 := dk_seg dksX0_strokesOf_0 23 rfl rfl
theorem dX0_strokesOf_0 : decode cX0_strokesOf 0 = .ok (.iload_n 1, 1) := dk_27 (dk_at dksX0_strokesOf_0 0 rfl rfl)
theorem dX0_strokesOf_1 : decode cX0_strokesOf 1 = .ok (.iconst (-1), 1) := dk_2 (dk_at dksX0_strokesOf_0 1 rfl rfl)
theorem dX0_strokesOf_2 : decode cX0_strokesOf 2 = .ok (.if_icmp .ne 13, 3) := dk_160 0 13 (dk_at dksX0_strokesOf_0 2 rfl rfl)
theorem dX0_strokesOf_5 : decode cX0_strokesOf 5 = .ok (.aload_n 0, 1) := dk_42 (dk_at dksX0_strokesOf_0 5 rfl rfl)
theorem dX0_strokesOf_6 : decode cX0_strokesOf 6 = .ok (.getfield 23, 3) := dk_180 0 23 (dk_at dksX0_strokesOf_0 6 rfl rfl)
theorem dX0_strokesOf_9 : decode cX0_strokesOf 9 = .ok (.getfield 209, 3) := dk_180 0 209 (dk_at dksX0_strokesOf_0 9 rfl rfl)
theorem dX0_strokesOf_12 : decode cX0_strokesOf 12 = .ok (.goto 20, 3) := dk_167 0 20 (dk_at dksX0_strokesOf_0 12 rfl rfl)
theorem dX0_strokesOf_15 : decode cX0_strokesOf 15 = .ok (.aload_n 0, 1) := dk_42 (dk_at dksX0_strokesOf_0 15 rfl rfl)
theorem dX0_strokesOf_16 : decode cX0_strokesOf 16 = .ok (.getfield 23, 3) := dk_180 0 23 (dk_at dksX0_strokesOf_0 16 rfl rfl)
theorem dX0_strokesOf_19 : decode cX0_strokesOf 19 = .ok (.getfield 200, 3) := dk_180 0 200 (dk_at dksX0_strokesOf_0 19 rfl rfl)
theorem dX0_strokesOf_22 : decode cX0_strokesOf 22 = .ok (.iload_n 1, 1) := dk_27 (dk_at dksX0_strokesOf_0 22 rfl rfl)
theorem dX0_strokesOf_23 : decode cX0_strokesOf 23 = .ok (.invokevirtual 224, 3) := dk_182 0 224 (dk_at dksX0_strokesOf_1 0 rfl rfl)
theorem dX0_strokesOf_26 : decode cX0_strokesOf 26 = .ok (.checkcast 228, 3) := dk_192 0 228 (dk_at dksX0_strokesOf_1 3 rfl rfl)
theorem dX0_strokesOf_29 : decode cX0_strokesOf 29 = .ok (.getfield 241, 3) := dk_180 0 241 (dk_at dksX0_strokesOf_1 6 rfl rfl)
theorem dX0_strokesOf_32 : decode cX0_strokesOf 32 = .ok (.areturn, 1) := dk_176 (dk_at dksX0_strokesOf_1 9 rfl rfl)
abbrev cX0_point : ByteArray := prog_1_method_24_code
def yX0_point : MethodName := ⟨RX0, "point", "(IIII)I"⟩
def dkwX0_point_3 : List UInt8 := [172]
abbrev dktX0_point_3 : List UInt8 := dkwX0_point_3 ++ []
def dkwX0_point_2 : List UInt8 := [9, 10, 184, 0, 166, 153, 0, 18, 25, 5, 180, 1, 8, 5, 29, 104, 21, 4, 96, 46, 167, 0, 4, 2]
abbrev dktX0_point_2 : List UInt8 := dkwX0_point_2 ++ dktX0_point_3
def dkwX0_point_1 : List UInt8 := [182, 1, 5, 172, 29, 133, 9, 25, 5, 182, 1, 5, 4, 100, 133, 184, 0, 166, 153, 0, 29, 21, 4, 133]
abbrev dktX0_point_1 : List UInt8 := dkwX0_point_1 ++ dktX0_point_2
def dkwX0_point_0 : List UInt8 := [42, 27, 28, 182, 1, 1, 58, 5, 25, 5, 199, 0, 5, 2, 172, 29, 2, 160, 0, 9, 25, 5]
abbrev dktX0_point_0 : List UInt8 := dkwX0_point_0 ++ dktX0_point_1
theorem dksX0_point_0 : cX0_point.data.toList.drop 0 = dktX0_point_0 := by decide +kernel
theorem dksX0_point_1 : cX0_point.data.toList.drop 22 = dktX0_point_1 := dk_seg dksX0_point_0 22 rfl rfl
theorem dksX0_point_2 : cX0_point.data.toList.drop 46 = dktX0_point_2 := dk_seg dksX0_point_1 24 rfl rfl
theorem dksX0_point_3 : cX0_point.data.toList.drop 70 = dktX0_point_3 := dk_seg dksX0_point_2 24 rfl rfl
theorem dX0_point_0 : decode cX0_point 0 = .ok (.aload_n 0, 1) := dk_42 (dk_at dksX0_point_0 0 rfl rfl)
theorem dX0_point_1 : decode cX0_point 1 = .ok (.iload_n 1, 1) := dk_27 (dk_at dksX0_point_0 1 rfl rfl)
theorem dX0_point_2 : decode cX0_point 2 = .ok (.iload_n 2, 1) := dk_28 (dk_at dksX0_point_0 2 rfl rfl)
theorem dX0_point_3 : decode cX0_point 3 = .ok (.invokevirtual 257, 3) := dk_182 1 1 (dk_at dksX0_point_0 3 rfl rfl)
theorem dX0_point_6 : decode cX0_point 6 = .ok (.astore 5, 2) := dk_58 5 (dk_at dksX0_point_0 6 rfl rfl)
theorem dX0_point_8 : decode cX0_point 8 = .ok (.aload 5, 2) := dk_25 5 (dk_at dksX0_point_0 8 rfl rfl)
theorem dX0_point_10 : decode cX0_point 10 = .ok (.ifnonnull 5, 3) := dk_199 0 5 (dk_at dksX0_point_0 10 rfl rfl)
theorem dX0_point_13 : decode cX0_point 13 = .ok (.iconst (-1), 1) := dk_2 (dk_at dksX0_point_0 13 rfl rfl)
theorem dX0_point_14 : decode cX0_point 14 = .ok (.ireturn, 1) := dk_172 (dk_at dksX0_point_0 14 rfl rfl)
theorem dX0_point_15 : decode cX0_point 15 = .ok (.iload_n 3, 1) := dk_29 (dk_at dksX0_point_0 15 rfl rfl)
theorem dX0_point_16 : decode cX0_point 16 = .ok (.iconst (-1), 1) := dk_2 (dk_at dksX0_point_0 16 rfl rfl)
theorem dX0_point_17 : decode cX0_point 17 = .ok (.if_icmp .ne 9, 3) := dk_160 0 9 (dk_at dksX0_point_0 17 rfl rfl)
theorem dX0_point_20 : decode cX0_point 20 = .ok (.aload 5, 2) := dk_25 5 (dk_at dksX0_point_0 20 rfl rfl)
theorem dX0_point_22 : decode cX0_point 22 = .ok (.invokevirtual 261, 3) := dk_182 1 5 (dk_at dksX0_point_1 0 rfl rfl)
theorem dX0_point_25 : decode cX0_point 25 = .ok (.ireturn, 1) := dk_172 (dk_at dksX0_point_1 3 rfl rfl)
theorem dX0_point_26 : decode cX0_point 26 = .ok (.iload_n 3, 1) := dk_29 (dk_at dksX0_point_1 4 rfl rfl)
theorem dX0_point_27 : decode cX0_point 27 = .ok (.i2l, 1) := dk_133 (dk_at dksX0_point_1 5 rfl rfl)
theorem dX0_point_28 : decode cX0_point 28 = .ok (.lconst 0, 1) := dk_9 (dk_at dksX0_point_1 6 rfl rfl)
theorem dX0_point_29 : decode cX0_point 29 = .ok (.aload 5, 2) := dk_25 5 (dk_at dksX0_point_1 7 rfl rfl)
theorem dX0_point_31 : decode cX0_point 31 = .ok (.invokevirtual 261, 3) := dk_182 1 5 (dk_at dksX0_point_1 9 rfl rfl)
theorem dX0_point_34 : decode cX0_point 34 = .ok (.iconst 1, 1) := dk_4 (dk_at dksX0_point_1 12 rfl rfl)
theorem dX0_point_35 : decode cX0_point 35 = .ok (.isub, 1) := dk_100 (dk_at dksX0_point_1 13 rfl rfl)
theorem dX0_point_36 : decode cX0_point 36 = .ok (.i2l, 1) := dk_133 (dk_at dksX0_point_1 14 rfl rfl)
theorem dX0_point_37 : decode cX0_point 37 = .ok (.invokestatic 166, 3) := dk_184 0 166 (dk_at dksX0_point_1 15 rfl rfl)
theorem dX0_point_40 : decode cX0_point 40 = .ok (.ifCond .eq 29, 3) := dk_153 0 29 (dk_at dksX0_point_1 18 rfl rfl)
theorem dX0_point_43 : decode cX0_point 43 = .ok (.iload 4, 2) := dk_21 4 (dk_at dksX0_point_1 21 rfl rfl)
theorem dX0_point_45 : decode cX0_point 45 = .ok (.i2l, 1) := dk_133 (dk_at dksX0_point_1 23 rfl rfl)
theorem dX0_point_46 : decode cX0_point 46 = .ok (.lconst 0, 1) := dk_9 (dk_at dksX0_point_2 0 rfl rfl)
theorem dX0_point_47 : decode cX0_point 47 = .ok (.lconst 1, 1) := dk_10 (dk_at dksX0_point_2 1 rfl rfl)
theorem dX0_point_48 : decode cX0_point 48 = .ok (.invokestatic 166, 3) := dk_184 0 166 (dk_at dksX0_point_2 2 rfl rfl)
theorem dX0_point_51 : decode cX0_point 51 = .ok (.ifCond .eq 18, 3) := dk_153 0 18 (dk_at dksX0_point_2 5 rfl rfl)
theorem dX0_point_54 : decode cX0_point 54 = .ok (.aload 5, 2) := dk_25 5 (dk_at dksX0_point_2 8 rfl rfl)
theorem dX0_point_56 : decode cX0_point 56 = .ok (.getfield 264, 3) := dk_180 1 8 (dk_at dksX0_point_2 10 rfl rfl)
theorem dX0_point_59 : decode cX0_point 59 = .ok (.iconst 2, 1) := dk_5 (dk_at dksX0_point_2 13 rfl rfl)
theorem dX0_point_60 : decode cX0_point 60 = .ok (.iload_n 3, 1) := dk_29 (dk_at dksX0_point_2 14 rfl rfl)
theorem dX0_point_61 : decode cX0_point 61 = .ok (.imul, 1) := dk_104 (dk_at dksX0_point_2 15 rfl rfl)
theorem dX0_point_62 : decode cX0_point 62 = .ok (.iload 4, 2) := dk_21 4 (dk_at dksX0_point_2 16 rfl rfl)
theorem dX0_point_64 : decode cX0_point 64 = .ok (.iadd, 1) := dk_96 (dk_at dksX0_point_2 18 rfl rfl)
theorem dX0_point_65 : decode cX0_point 65 = .ok (.iaload, 1) := dk_46 (dk_at dksX0_point_2 19 rfl rfl)
theorem dX0_point_66 : decode cX0_point 66 = .ok (.goto 4, 3) := dk_167 0 4 (dk_at dksX0_point_2 20 rfl rfl)
theorem dX0_point_69 : decode cX0_point 69 = .ok (.iconst (-1), 1) := dk_2 (dk_at dksX0_point_2 23 rfl rfl)
theorem dX0_point_70 : decode cX0_point 70 = .ok (.ireturn, 1) := dk_172 (dk_at dksX0_point_3 0 rfl rfl)
abbrev cX0_strokeOf : ByteArray := prog_1_method_23_code
def yX0_strokeOf : MethodName := ⟨RX0, "strokeOf", "(II)LLetterPen$Stroke;"⟩
def dkwX0_strokeOf_2 : List UInt8 := [180, 0, 216, 3, 46, 182, 0, 253, 167, 0, 4, 1, 176]
abbrev dktX0_strokeOf_2 : List UInt8 := dkwX0_strokeOf_2 ++ []
def dkwX0_strokeOf_1 : List UInt8 := [184, 0, 166, 153, 0, 30, 42, 27, 182, 0, 247, 28, 182, 0, 224, 192, 0, 251, 42, 180, 0, 23]
abbrev dktX0_strokeOf_1 : List UInt8 := dkwX0_strokeOf_1 ++ dktX0_strokeOf_2
def dkwX0_strokeOf_0 : List UInt8 := [42, 27, 182, 0, 244, 153, 0, 50, 28, 133, 9, 42, 27, 182, 0, 247, 182, 0, 203, 4, 100, 133]
abbrev dktX0_strokeOf_0 : List UInt8 := dkwX0_strokeOf_0 ++ dktX0_strokeOf_1
theorem dksX0_strokeOf_0 : cX0_strokeOf.data.toList.drop 0 = dktX0_strokeOf_0 := by decide +kernel
theorem dksX0_strokeOf_1 : cX0_strokeOf.data.toList.drop 22 = dktX0_strokeOf_1 := dk_seg dksX0_strokeOf_0 22 rfl rfl
theorem dksX0_strokeOf_2 : cX0_strokeOf.data.toList.drop 44 = dktX0_strokeOf_2 := dk_seg dksX0_strokeOf_1 22 rfl rfl
theorem dX0_strokeOf_0 : decode cX0_strokeOf 0 = .ok (.aload_n 0, 1) := dk_42 (dk_at dksX0_strokeOf_0 0 rfl rfl)
theorem dX0_strokeOf_1 : decode cX0_strokeOf 1 = .ok (.iload_n 1, 1) := dk_27 (dk_at dksX0_strokeOf_0 1 rfl rfl)
theorem dX0_strokeOf_2 : decode cX0_strokeOf 2 = .ok (.invokevirtual 244, 3) := dk_182 0 244 (dk_at dksX0_strokeOf_0 2 rfl rfl)
theorem dX0_strokeOf_5 : decode cX0_strokeOf 5 = .ok (.ifCond .eq 50, 3) := dk_153 0 50 (dk_at dksX0_strokeOf_0 5 rfl rfl)
theorem dX0_strokeOf_8 : decode cX0_strokeOf 8 = .ok (.iload_n 2, 1) := dk_28 (dk_at dksX0_strokeOf_0 8 rfl rfl)
theorem dX0_strokeOf_9 : decode cX0_strokeOf 9 = .ok (.i2l, 1) := dk_133 (dk_at dksX0_strokeOf_0 9 rfl rfl)
theorem dX0_strokeOf_10 : decode cX0_strokeOf 10 = .ok (.lconst 0, 1) := dk_9 (dk_at dksX0_strokeOf_0 10 rfl rfl)
theorem dX0_strokeOf_11 : decode cX0_strokeOf 11 = .ok (.aload_n 0, 1) := dk_42 (dk_at dksX0_strokeOf_0 11 rfl rfl)
theorem dX0_strokeOf_12 : decode cX0_strokeOf 12 = .ok (.iload_n 1, 1) := dk_27 (dk_at dksX0_strokeOf_0 12 rfl rfl)
theorem dX0_strokeOf_13 : decode cX0_strokeOf 13 = .ok (.invokevirtual 247, 3) := dk_182 0 247 (dk_at dksX0_strokeOf_0 13 rfl rfl)
theorem dX0_strokeOf_16 : decode cX0_strokeOf 16 = .ok (.invokevirtual 203, 3) := dk_182 0 203 (dk_at dksX0_strokeOf_0 16 rfl rfl)
theorem dX0_strokeOf_19 : decode cX0_strokeOf 19 = .ok (.iconst 1, 1) := dk_4 (dk_at dksX0_strokeOf_0 19 rfl rfl)
theorem dX0_strokeOf_20 : decode cX0_strokeOf 20 = .ok (.isub, 1) := dk_100 (dk_at dksX0_strokeOf_0 20 rfl rfl)
theorem dX0_strokeOf_21 : decode cX0_strokeOf 21 = .ok (.i2l, 1) := dk_133 (dk_at dksX0_strokeOf_0 21 rfl rfl)
theorem dX0_strokeOf_22 : decode cX0_strokeOf 22 = .ok (.invokestatic 166, 3) := dk_184 0 166 (dk_at dksX0_strokeOf_1 0 rfl rfl)
theorem dX0_strokeOf_25 : decode cX0_strokeOf 25 = .ok (.ifCond .eq 30, 3) := dk_153 0 30 (dk_at dksX0_strokeOf_1 3 rfl rfl)
theorem dX0_strokeOf_28 : decode cX0_strokeOf 28 = .ok (.aload_n 0, 1) := dk_42 (dk_at dksX0_strokeOf_1 6 rfl rfl)
theorem dX0_strokeOf_29 : decode cX0_strokeOf 29 = .ok (.iload_n 1, 1) := dk_27 (dk_at dksX0_strokeOf_1 7 rfl rfl)
theorem dX0_strokeOf_30 : decode cX0_strokeOf 30 = .ok (.invokevirtual 247, 3) := dk_182 0 247 (dk_at dksX0_strokeOf_1 8 rfl rfl)
theorem dX0_strokeOf_33 : decode cX0_strokeOf 33 = .ok (.iload_n 2, 1) := dk_28 (dk_at dksX0_strokeOf_1 11 rfl rfl)
theorem dX0_strokeOf_34 : decode cX0_strokeOf 34 = .ok (.invokevirtual 224, 3) := dk_182 0 224 (dk_at dksX0_strokeOf_1 12 rfl rfl)
theorem dX0_strokeOf_37 : decode cX0_strokeOf 37 = .ok (.checkcast 251, 3) := dk_192 0 251 (dk_at dksX0_strokeOf_1 15 rfl rfl)
theorem dX0_strokeOf_40 : decode cX0_strokeOf 40 = .ok (.aload_n 0, 1) := dk_42 (dk_at dksX0_strokeOf_1 18 rfl rfl)
theorem dX0_strokeOf_41 : decode cX0_strokeOf 41 = .ok (.getfield 23, 3) := dk_180 0 23 (dk_at dksX0_strokeOf_1 19 rfl rfl)
theorem dX0_strokeOf_44 : decode cX0_strokeOf 44 = .ok (.getfield 216, 3) := dk_180 0 216 (dk_at dksX0_strokeOf_2 0 rfl rfl)
theorem dX0_strokeOf_47 : decode cX0_strokeOf 47 = .ok (.iconst 0, 1) := dk_3 (dk_at dksX0_strokeOf_2 3 rfl rfl)
theorem dX0_strokeOf_48 : decode cX0_strokeOf 48 = .ok (.iaload, 1) := dk_46 (dk_at dksX0_strokeOf_2 4 rfl rfl)
theorem dX0_strokeOf_49 : decode cX0_strokeOf 49 = .ok (.invokevirtual 253, 3) := dk_182 0 253 (dk_at dksX0_strokeOf_2 5 rfl rfl)
theorem dX0_strokeOf_52 : decode cX0_strokeOf 52 = .ok (.goto 4, 3) := dk_167 0 4 (dk_at dksX0_strokeOf_2 8 rfl rfl)
theorem dX0_strokeOf_55 : decode cX0_strokeOf 55 = .ok (.aconst_null, 1) := dk_1 (dk_at dksX0_strokeOf_2 11 rfl rfl)
theorem dX0_strokeOf_56 : decode cX0_strokeOf 56 = .ok (.areturn, 1) := dk_176 (dk_at dksX0_strokeOf_2 12 rfl rfl)
abbrev cX0_length : ByteArray := prog_1_method_25_code
def yX0_length : MethodName := ⟨RX0, "length", "(II)I"⟩
def dkwX0_length_0 : List UInt8 := [42, 27, 28, 182, 1, 1, 78, 45, 199, 0, 7, 2, 167, 0, 7, 45, 180, 1, 11, 172]
abbrev dktX0_length_0 : List UInt8 := dkwX0_length_0 ++ []
theorem dksX0_length_0 : cX0_length.data.toList.drop 0 = dktX0_length_0 := by decide +kernel
theorem dX0_length_0 : decode cX0_length 0 = .ok (.aload_n 0, 1) := dk_42 (dk_at dksX0_length_0 0 rfl rfl)
theorem dX0_length_1 : decode cX0_length 1 = .ok (.iload_n 1, 1) := dk_27 (dk_at dksX0_length_0 1 rfl rfl)
theorem dX0_length_2 : decode cX0_length 2 = .ok (.iload_n 2, 1) := dk_28 (dk_at dksX0_length_0 2 rfl rfl)
theorem dX0_length_3 : decode cX0_length 3 = .ok (.invokevirtual 257, 3) := dk_182 1 1 (dk_at dksX0_length_0 3 rfl rfl)
theorem dX0_length_6 : decode cX0_length 6 = .ok (.astore_n 3, 1) := dk_78 (dk_at dksX0_length_0 6 rfl rfl)
theorem dX0_length_7 : decode cX0_length 7 = .ok (.aload_n 3, 1) := dk_45 (dk_at dksX0_length_0 7 rfl rfl)
theorem dX0_length_8 : decode cX0_length 8 = .ok (.ifnonnull 7, 3) := dk_199 0 7 (dk_at dksX0_length_0 8 rfl rfl)
theorem dX0_length_11 : decode cX0_length 11 = .ok (.iconst (-1), 1) := dk_2 (dk_at dksX0_length_0 11 rfl rfl)
theorem dX0_length_12 : decode cX0_length 12 = .ok (.goto 7, 3) := dk_167 0 7 (dk_at dksX0_length_0 12 rfl rfl)
theorem dX0_length_15 : decode cX0_length 15 = .ok (.aload_n 3, 1) := dk_45 (dk_at dksX0_length_0 15 rfl rfl)
theorem dX0_length_16 : decode cX0_length 16 = .ok (.getfield 267, 3) := dk_180 1 11 (dk_at dksX0_length_0 16 rfl rfl)
theorem dX0_length_19 : decode cX0_length 19 = .ok (.ireturn, 1) := dk_172 (dk_at dksX0_length_0 19 rfl rfl)
abbrev cX0_sample : ByteArray := prog_1_method_26_code
def yX0_sample : MethodName := ⟨RX0, "sample", "(IIII)I"⟩
def dkwX0_sample_2 : List UInt8 := [5, 29, 104, 21, 4, 96, 46, 167, 0, 4, 2, 172]
abbrev dktX0_sample_2 : List UInt8 := dkwX0_sample_2 ++ []
def dkwX0_sample_1 : List UInt8 := [46, 133, 184, 0, 166, 153, 0, 29, 21, 4, 133, 9, 10, 184, 0, 166, 153, 0, 18, 25, 5, 180, 1, 13]
abbrev dktX0_sample_1 : List UInt8 := dkwX0_sample_1 ++ dktX0_sample_2
def dkwX0_sample_0 : List UInt8 := [42, 27, 28, 182, 1, 1, 58, 5, 25, 5, 198, 0, 48, 29, 133, 9, 42, 180, 0, 23, 180, 0, 216, 3]
abbrev dktX0_sample_0 : List UInt8 := dkwX0_sample_0 ++ dktX0_sample_1
theorem dksX0_sample_0 : cX0_sample.data.toList.drop 0 = dktX0_sample_0 := by decide +kernel
theorem dksX0_sample_1 : cX0_sample.data.toList.drop 24 = dktX0_sample_1 := dk_seg dksX0_sample_0 24 rfl rfl
theorem dksX0_sample_2 : cX0_sample.data.toList.drop 48 = dktX0_sample_2 := dk_seg dksX0_sample_1 24 rfl rfl
theorem dX0_sample_0 : decode cX0_sample 0 = .ok (.aload_n 0, 1) := dk_42 (dk_at dksX0_sample_0 0 rfl rfl)
theorem dX0_sample_1 : decode cX0_sample 1 = .ok (.iload_n 1, 1) := dk_27 (dk_at dksX0_sample_0 1 rfl rfl)
theorem dX0_sample_2 : decode cX0_sample 2 = .ok (.iload_n 2, 1) := dk_28 (dk_at dksX0_sample_0 2 rfl rfl)
theorem dX0_sample_3 : decode cX0_sample 3 = .ok (.invokevirtual 257, 3) := dk_182 1 1 (dk_at dksX0_sample_0 3 rfl rfl)
theorem dX0_sample_6 : decode cX0_sample 6 = .ok (.astore 5, 2) := dk_58 5 (dk_at dksX0_sample_0 6 rfl rfl)
theorem dX0_sample_8 : decode cX0_sample 8 = .ok (.aload 5, 2) := dk_25 5 (dk_at dksX0_sample_0 8 rfl rfl)
theorem dX0_sample_10 : decode cX0_sample 10 = .ok (.ifnull 48, 3) := dk_198 0 48 (dk_at dksX0_sample_0 10 rfl rfl)
theorem dX0_sample_13 : decode cX0_sample 13 = .ok (.iload_n 3, 1) := dk_29 (dk_at dksX0_sample_0 13 rfl rfl)
theorem dX0_sample_14 : decode cX0_sample 14 = .ok (.i2l, 1) := dk_133 (dk_at dksX0_sample_0 14 rfl rfl)
theorem dX0_sample_15 : decode cX0_sample 15 = .ok (.lconst 0, 1) := dk_9 (dk_at dksX0_sample_0 15 rfl rfl)
theorem dX0_sample_16 : decode cX0_sample 16 = .ok (.aload_n 0, 1) := dk_42 (dk_at dksX0_sample_0 16 rfl rfl)
theorem dX0_sample_17 : decode cX0_sample 17 = .ok (.getfield 23, 3) := dk_180 0 23 (dk_at dksX0_sample_0 17 rfl rfl)
theorem dX0_sample_20 : decode cX0_sample 20 = .ok (.getfield 216, 3) := dk_180 0 216 (dk_at dksX0_sample_0 20 rfl rfl)
theorem dX0_sample_23 : decode cX0_sample 23 = .ok (.iconst 0, 1) := dk_3 (dk_at dksX0_sample_0 23 rfl rfl)
theorem dX0_sample_24 : decode cX0_sample 24 = .ok (.iaload, 1) := dk_46 (dk_at dksX0_sample_1 0 rfl rfl)
theorem dX0_sample_25 : decode cX0_sample 25 = .ok (.i2l, 1) := dk_133 (dk_at dksX0_sample_1 1 rfl rfl)
theorem dX0_sample_26 : decode cX0_sample 26 = .ok (.invokestatic 166, 3) := dk_184 0 166 (dk_at dksX0_sample_1 2 rfl rfl)
theorem dX0_sample_29 : decode cX0_sample 29 = .ok (.ifCond .eq 29, 3) := dk_153 0 29 (dk_at dksX0_sample_1 5 rfl rfl)
theorem dX0_sample_32 : decode cX0_sample 32 = .ok (.iload 4, 2) := dk_21 4 (dk_at dksX0_sample_1 8 rfl rfl)
theorem dX0_sample_34 : decode cX0_sample 34 = .ok (.i2l, 1) := dk_133 (dk_at dksX0_sample_1 10 rfl rfl)
theorem dX0_sample_35 : decode cX0_sample 35 = .ok (.lconst 0, 1) := dk_9 (dk_at dksX0_sample_1 11 rfl rfl)
theorem dX0_sample_36 : decode cX0_sample 36 = .ok (.lconst 1, 1) := dk_10 (dk_at dksX0_sample_1 12 rfl rfl)
theorem dX0_sample_37 : decode cX0_sample 37 = .ok (.invokestatic 166, 3) := dk_184 0 166 (dk_at dksX0_sample_1 13 rfl rfl)
theorem dX0_sample_40 : decode cX0_sample 40 = .ok (.ifCond .eq 18, 3) := dk_153 0 18 (dk_at dksX0_sample_1 16 rfl rfl)
theorem dX0_sample_43 : decode cX0_sample 43 = .ok (.aload 5, 2) := dk_25 5 (dk_at dksX0_sample_1 19 rfl rfl)
theorem dX0_sample_45 : decode cX0_sample 45 = .ok (.getfield 269, 3) := dk_180 1 13 (dk_at dksX0_sample_1 21 rfl rfl)
theorem dX0_sample_48 : decode cX0_sample 48 = .ok (.iconst 2, 1) := dk_5 (dk_at dksX0_sample_2 0 rfl rfl)
theorem dX0_sample_49 : decode cX0_sample 49 = .ok (.iload_n 3, 1) := dk_29 (dk_at dksX0_sample_2 1 rfl rfl)
theorem dX0_sample_50 : decode cX0_sample 50 = .ok (.imul, 1) := dk_104 (dk_at dksX0_sample_2 2 rfl rfl)
theorem dX0_sample_51 : decode cX0_sample 51 = .ok (.iload 4, 2) := dk_21 4 (dk_at dksX0_sample_2 3 rfl rfl)
theorem dX0_sample_53 : decode cX0_sample 53 = .ok (.iadd, 1) := dk_96 (dk_at dksX0_sample_2 5 rfl rfl)
theorem dX0_sample_54 : decode cX0_sample 54 = .ok (.iaload, 1) := dk_46 (dk_at dksX0_sample_2 6 rfl rfl)
theorem dX0_sample_55 : decode cX0_sample 55 = .ok (.goto 4, 3) := dk_167 0 4 (dk_at dksX0_sample_2 7 rfl rfl)
theorem dX0_sample_58 : decode cX0_sample 58 = .ok (.iconst (-1), 1) := dk_2 (dk_at dksX0_sample_2 10 rfl rfl)
theorem dX0_sample_59 : decode cX0_sample 59 = .ok (.ireturn, 1) := dk_172 (dk_at dksX0_sample_2 11 rfl rfl)
abbrev cX0_code : ByteArray := prog_1_method_27_code
def yX0_code : MethodName := ⟨RX0, "code", "(III)I"⟩
def dkwX0_code_1 : List UInt8 := [46, 4, 100, 133, 184, 0, 166, 153, 0, 13, 25, 4, 180, 1, 15, 29, 46, 167, 0, 4, 2, 172]
abbrev dktX0_code_1 : List UInt8 := dkwX0_code_1 ++ []
def dkwX0_code_0 : List UInt8 := [42, 27, 28, 182, 1, 1, 58, 4, 25, 4, 198, 0, 34, 29, 133, 9, 42, 180, 0, 23, 180, 0, 216, 3]
abbrev dktX0_code_0 : List UInt8 := dkwX0_code_0 ++ dktX0_code_1
theorem dksX0_code_0 : cX0_code.data.toList.drop 0 = dktX0_code_0 := by decide +kernel
theorem dksX0_code_1 : cX0_code.data.toList.drop 24 = dktX0_code_1 := dk_seg dksX0_code_0 24 rfl rfl
theorem dX0_code_0 : decode cX0_code 0 = .ok (.aload_n 0, 1) := dk_42 (dk_at dksX0_code_0 0 rfl rfl)
theorem dX0_code_1 : decode cX0_code 1 = .ok (.iload_n 1, 1) := dk_27 (dk_at dksX0_code_0 1 rfl rfl)
theorem dX0_code_2 : decode cX0_code 2 = .ok (.iload_n 2, 1) := dk_28 (dk_at dksX0_code_0 2 rfl rfl)
theorem dX0_code_3 : decode cX0_code 3 = .ok (.invokevirtual 257, 3) := dk_182 1 1 (dk_at dksX0_code_0 3 rfl rfl)
theorem dX0_code_6 : decode cX0_code 6 = .ok (.astore 4, 2) := dk_58 4 (dk_at dksX0_code_0 6 rfl rfl)
theorem dX0_code_8 : decode cX0_code 8 = .ok (.aload 4, 2) := dk_25 4 (dk_at dksX0_code_0 8 rfl rfl)
theorem dX0_code_10 : decode cX0_code 10 = .ok (.ifnull 34, 3) := dk_198 0 34 (dk_at dksX0_code_0 10 rfl rfl)
theorem dX0_code_13 : decode cX0_code 13 = .ok (.iload_n 3, 1) := dk_29 (dk_at dksX0_code_0 13 rfl rfl)
theorem dX0_code_14 : decode cX0_code 14 = .ok (.i2l, 1) := dk_133 (dk_at dksX0_code_0 14 rfl rfl)
theorem dX0_code_15 : decode cX0_code 15 = .ok (.lconst 0, 1) := dk_9 (dk_at dksX0_code_0 15 rfl rfl)
theorem dX0_code_16 : decode cX0_code 16 = .ok (.aload_n 0, 1) := dk_42 (dk_at dksX0_code_0 16 rfl rfl)
theorem dX0_code_17 : decode cX0_code 17 = .ok (.getfield 23, 3) := dk_180 0 23 (dk_at dksX0_code_0 17 rfl rfl)
theorem dX0_code_20 : decode cX0_code 20 = .ok (.getfield 216, 3) := dk_180 0 216 (dk_at dksX0_code_0 20 rfl rfl)
theorem dX0_code_23 : decode cX0_code 23 = .ok (.iconst 0, 1) := dk_3 (dk_at dksX0_code_0 23 rfl rfl)
theorem dX0_code_24 : decode cX0_code 24 = .ok (.iaload, 1) := dk_46 (dk_at dksX0_code_1 0 rfl rfl)
theorem dX0_code_25 : decode cX0_code 25 = .ok (.iconst 1, 1) := dk_4 (dk_at dksX0_code_1 1 rfl rfl)
theorem dX0_code_26 : decode cX0_code 26 = .ok (.isub, 1) := dk_100 (dk_at dksX0_code_1 2 rfl rfl)
theorem dX0_code_27 : decode cX0_code 27 = .ok (.i2l, 1) := dk_133 (dk_at dksX0_code_1 3 rfl rfl)
theorem dX0_code_28 : decode cX0_code 28 = .ok (.invokestatic 166, 3) := dk_184 0 166 (dk_at dksX0_code_1 4 rfl rfl)
theorem dX0_code_31 : decode cX0_code 31 = .ok (.ifCond .eq 13, 3) := dk_153 0 13 (dk_at dksX0_code_1 7 rfl rfl)
theorem dX0_code_34 : decode cX0_code 34 = .ok (.aload 4, 2) := dk_25 4 (dk_at dksX0_code_1 10 rfl rfl)
theorem dX0_code_36 : decode cX0_code 36 = .ok (.getfield 271, 3) := dk_180 1 15 (dk_at dksX0_code_1 12 rfl rfl)
theorem dX0_code_39 : decode cX0_code 39 = .ok (.iload_n 3, 1) := dk_29 (dk_at dksX0_code_1 15 rfl rfl)
theorem dX0_code_40 : decode cX0_code 40 = .ok (.iaload, 1) := dk_46 (dk_at dksX0_code_1 16 rfl rfl)
theorem dX0_code_41 : decode cX0_code 41 = .ok (.goto 4, 3) := dk_167 0 4 (dk_at dksX0_code_1 17 rfl rfl)
theorem dX0_code_44 : decode cX0_code 44 = .ok (.iconst (-1), 1) := dk_2 (dk_at dksX0_code_1 20 rfl rfl)
theorem dX0_code_45 : decode cX0_code 45 = .ok (.ireturn, 1) := dk_172 (dk_at dksX0_code_1 21 rfl rfl)
abbrev cX0_corner : ByteArray := prog_1_method_28_code
def yX0_corner : MethodName := ⟨RX0, "corner", "(III)I"⟩
def dkwX0_corner_4 : List UInt8 := [167, 0, 4, 2, 172]
abbrev dktX0_corner_4 : List UInt8 := dkwX0_corner_4 ++ []
def dkwX0_corner_3 : List UInt8 := [160, 0, 6, 21, 6, 172, 132, 5, 1, 132, 6, 1, 167, 255, 199, 29, 2, 160, 0, 8, 21, 5]
abbrev dktX0_corner_3 : List UInt8 := dkwX0_corner_3 ++ dktX0_corner_4
def dkwX0_corner_2 : List UInt8 := [100, 46, 25, 4, 180, 1, 15, 21, 6, 46, 184, 1, 18, 5, 162, 0, 6, 167, 0, 15, 21, 5, 29]
abbrev dktX0_corner_2 : List UInt8 := dkwX0_corner_2 ++ dktX0_corner_3
def dkwX0_corner_1 : List UInt8 := [54, 6, 21, 6, 42, 180, 0, 23, 180, 0, 216, 3, 46, 162, 0, 49, 25, 4, 180, 1, 15, 21, 6, 4]
abbrev dktX0_corner_1 : List UInt8 := dkwX0_corner_1 ++ dktX0_corner_2
def dkwX0_corner_0 : List UInt8 := [42, 27, 28, 182, 1, 1, 58, 4, 25, 4, 198, 0, 8, 29, 2, 162, 0, 5, 2, 172, 3, 54, 5, 4]
abbrev dktX0_corner_0 : List UInt8 := dkwX0_corner_0 ++ dktX0_corner_1
theorem dksX0_corner_0 : cX0_corner.data.toList.drop 0 = dktX0_corner_0 := by decide +kernel
theorem dksX0_corner_1 : cX0_corner.data.toList.drop 24 = dktX0_corner_1 := dk_seg dksX0_corner_0 24 rfl rfl
theorem dksX0_corner_2 : cX0_corner.data.toList.drop 48 = dktX0_corner_2 := dk_seg dksX0_corner_1 24 rfl rfl
theorem dksX0_corner_3 : cX0_corner.data.toList.drop 71 = dktX0_corner_3 := dk_seg dksX0_corner_2 23 rfl rfl
theorem dksX0_corner_4 : cX0_corner.data.toList.drop 93 = dktX0_corner_4 := dk_seg dksX0_corner_3 22 rfl rfl
theorem dX0_corner_0 : decode cX0_corner 0 = .ok (.aload_n 0, 1) := dk_42 (dk_at dksX0_corner_0 0 rfl rfl)
theorem dX0_corner_1 : decode cX0_corner 1 = .ok (.iload_n 1, 1) := dk_27 (dk_at dksX0_corner_0 1 rfl rfl)
theorem dX0_corner_2 : decode cX0_corner 2 = .ok (.iload_n 2, 1) := dk_28 (dk_at dksX0_corner_0 2 rfl rfl)
theorem dX0_corner_3 : decode cX0_corner 3 = .ok (.invokevirtual 257, 3) := dk_182 1 1 (dk_at dksX0_corner_0 3 rfl rfl)
theorem dX0_corner_6 : decode cX0_corner 6 = .ok (.astore 4, 2) := dk_58 4 (dk_at dksX0_corner_0 6 rfl rfl)
theorem dX0_corner_8 : decode cX0_corner 8 = .ok (.aload 4, 2) := dk_25 4 (dk_at dksX0_corner_0 8 rfl rfl)
theorem dX0_corner_10 : decode cX0_corner 10 = .ok (.ifnull 8, 3) := dk_198 0 8 (dk_at dksX0_corner_0 10 rfl rfl)
theorem dX0_corner_13 : decode cX0_corner 13 = .ok (.iload_n 3, 1) := dk_29 (dk_at dksX0_corner_0 13 rfl rfl)
theorem dX0_corner_14 : decode cX0_corner 14 = .ok (.iconst (-1), 1) := dk_2 (dk_at dksX0_corner_0 14 rfl rfl)
theorem dX0_corner_15 : decode cX0_corner 15 = .ok (.if_icmp .ge 5, 3) := dk_162 0 5 (dk_at dksX0_corner_0 15 rfl rfl)
theorem dX0_corner_18 : decode cX0_corner 18 = .ok (.iconst (-1), 1) := dk_2 (dk_at dksX0_corner_0 18 rfl rfl)
theorem dX0_corner_19 : decode cX0_corner 19 = .ok (.ireturn, 1) := dk_172 (dk_at dksX0_corner_0 19 rfl rfl)
theorem dX0_corner_20 : decode cX0_corner 20 = .ok (.iconst 0, 1) := dk_3 (dk_at dksX0_corner_0 20 rfl rfl)
theorem dX0_corner_21 : decode cX0_corner 21 = .ok (.istore 5, 2) := dk_54 5 (dk_at dksX0_corner_0 21 rfl rfl)
theorem dX0_corner_23 : decode cX0_corner 23 = .ok (.iconst 1, 1) := dk_4 (dk_at dksX0_corner_0 23 rfl rfl)
theorem dX0_corner_24 : decode cX0_corner 24 = .ok (.istore 6, 2) := dk_54 6 (dk_at dksX0_corner_1 0 rfl rfl)
theorem dX0_corner_26 : decode cX0_corner 26 = .ok (.iload 6, 2) := dk_21 6 (dk_at dksX0_corner_1 2 rfl rfl)
theorem dX0_corner_28 : decode cX0_corner 28 = .ok (.aload_n 0, 1) := dk_42 (dk_at dksX0_corner_1 4 rfl rfl)
theorem dX0_corner_29 : decode cX0_corner 29 = .ok (.getfield 23, 3) := dk_180 0 23 (dk_at dksX0_corner_1 5 rfl rfl)
theorem dX0_corner_32 : decode cX0_corner 32 = .ok (.getfield 216, 3) := dk_180 0 216 (dk_at dksX0_corner_1 8 rfl rfl)
theorem dX0_corner_35 : decode cX0_corner 35 = .ok (.iconst 0, 1) := dk_3 (dk_at dksX0_corner_1 11 rfl rfl)
theorem dX0_corner_36 : decode cX0_corner 36 = .ok (.iaload, 1) := dk_46 (dk_at dksX0_corner_1 12 rfl rfl)
theorem dX0_corner_37 : decode cX0_corner 37 = .ok (.if_icmp .ge 49, 3) := dk_162 0 49 (dk_at dksX0_corner_1 13 rfl rfl)
theorem dX0_corner_40 : decode cX0_corner 40 = .ok (.aload 4, 2) := dk_25 4 (dk_at dksX0_corner_1 16 rfl rfl)
theorem dX0_corner_42 : decode cX0_corner 42 = .ok (.getfield 271, 3) := dk_180 1 15 (dk_at dksX0_corner_1 18 rfl rfl)
theorem dX0_corner_45 : decode cX0_corner 45 = .ok (.iload 6, 2) := dk_21 6 (dk_at dksX0_corner_1 21 rfl rfl)
theorem dX0_corner_47 : decode cX0_corner 47 = .ok (.iconst 1, 1) := dk_4 (dk_at dksX0_corner_1 23 rfl rfl)
theorem dX0_corner_48 : decode cX0_corner 48 = .ok (.isub, 1) := dk_100 (dk_at dksX0_corner_2 0 rfl rfl)
theorem dX0_corner_49 : decode cX0_corner 49 = .ok (.iaload, 1) := dk_46 (dk_at dksX0_corner_2 1 rfl rfl)
theorem dX0_corner_50 : decode cX0_corner 50 = .ok (.aload 4, 2) := dk_25 4 (dk_at dksX0_corner_2 2 rfl rfl)
theorem dX0_corner_52 : decode cX0_corner 52 = .ok (.getfield 271, 3) := dk_180 1 15 (dk_at dksX0_corner_2 4 rfl rfl)
theorem dX0_corner_55 : decode cX0_corner 55 = .ok (.iload 6, 2) := dk_21 6 (dk_at dksX0_corner_2 7 rfl rfl)
theorem dX0_corner_57 : decode cX0_corner 57 = .ok (.iaload, 1) := dk_46 (dk_at dksX0_corner_2 9 rfl rfl)
theorem dX0_corner_58 : decode cX0_corner 58 = .ok (.invokestatic 274, 3) := dk_184 1 18 (dk_at dksX0_corner_2 10 rfl rfl)
theorem dX0_corner_61 : decode cX0_corner 61 = .ok (.iconst 2, 1) := dk_5 (dk_at dksX0_corner_2 13 rfl rfl)
theorem dX0_corner_62 : decode cX0_corner 62 = .ok (.if_icmp .ge 6, 3) := dk_162 0 6 (dk_at dksX0_corner_2 14 rfl rfl)
theorem dX0_corner_65 : decode cX0_corner 65 = .ok (.goto 15, 3) := dk_167 0 15 (dk_at dksX0_corner_2 17 rfl rfl)
theorem dX0_corner_68 : decode cX0_corner 68 = .ok (.iload 5, 2) := dk_21 5 (dk_at dksX0_corner_2 20 rfl rfl)
theorem dX0_corner_70 : decode cX0_corner 70 = .ok (.iload_n 3, 1) := dk_29 (dk_at dksX0_corner_2 22 rfl rfl)
theorem dX0_corner_71 : decode cX0_corner 71 = .ok (.if_icmp .ne 6, 3) := dk_160 0 6 (dk_at dksX0_corner_3 0 rfl rfl)
theorem dX0_corner_74 : decode cX0_corner 74 = .ok (.iload 6, 2) := dk_21 6 (dk_at dksX0_corner_3 3 rfl rfl)
theorem dX0_corner_76 : decode cX0_corner 76 = .ok (.ireturn, 1) := dk_172 (dk_at dksX0_corner_3 5 rfl rfl)
theorem dX0_corner_77 : decode cX0_corner 77 = .ok (.iinc 5 1, 3) := dk_132 5 1 (dk_at dksX0_corner_3 6 rfl rfl)
theorem dX0_corner_80 : decode cX0_corner 80 = .ok (.iinc 6 1, 3) := dk_132 6 1 (dk_at dksX0_corner_3 9 rfl rfl)
theorem dX0_corner_83 : decode cX0_corner 83 = .ok (.goto (-57), 3) := dk_167 255 199 (dk_at dksX0_corner_3 12 rfl rfl)
theorem dX0_corner_86 : decode cX0_corner 86 = .ok (.iload_n 3, 1) := dk_29 (dk_at dksX0_corner_3 15 rfl rfl)
theorem dX0_corner_87 : decode cX0_corner 87 = .ok (.iconst (-1), 1) := dk_2 (dk_at dksX0_corner_3 16 rfl rfl)
theorem dX0_corner_88 : decode cX0_corner 88 = .ok (.if_icmp .ne 8, 3) := dk_160 0 8 (dk_at dksX0_corner_3 17 rfl rfl)
theorem dX0_corner_91 : decode cX0_corner 91 = .ok (.iload 5, 2) := dk_21 5 (dk_at dksX0_corner_3 20 rfl rfl)
theorem dX0_corner_93 : decode cX0_corner 93 = .ok (.goto 4, 3) := dk_167 0 4 (dk_at dksX0_corner_4 0 rfl rfl)
theorem dX0_corner_96 : decode cX0_corner 96 = .ok (.iconst (-1), 1) := dk_2 (dk_at dksX0_corner_4 3 rfl rfl)
theorem dX0_corner_97 : decode cX0_corner 97 = .ok (.ireturn, 1) := dk_172 (dk_at dksX0_corner_4 4 rfl rfl)
abbrev cX0_cell : ByteArray := prog_1_method_29_code
def yX0_cell : MethodName := ⟨RX0, "cell", "(III)I"⟩
def dkwX0_cell_1 : List UInt8 := [180, 0, 78, 42, 27, 182, 0, 247, 182, 1, 21, 25, 4, 29, 182, 1, 25, 167, 0, 4, 2, 172]
abbrev dktX0_cell_1 : List UInt8 := dkwX0_cell_1 ++ []
def dkwX0_cell_0 : List UInt8 := [42, 27, 28, 182, 1, 1, 58, 4, 25, 4, 198, 0, 34, 29, 133, 9, 10, 184, 0, 166, 153, 0, 24, 42]
abbrev dktX0_cell_0 : List UInt8 := dkwX0_cell_0 ++ dktX0_cell_1
theorem dksX0_cell_0 : cX0_cell.data.toList.drop 0 = dktX0_cell_0 := by decide +kernel
theorem dksX0_cell_1 : cX0_cell.data.toList.drop 24 = dktX0_cell_1 := dk_seg dksX0_cell_0 24 rfl rfl
theorem dX0_cell_0 : decode cX0_cell 0 = .ok (.aload_n 0, 1) := dk_42 (dk_at dksX0_cell_0 0 rfl rfl)
theorem dX0_cell_1 : decode cX0_cell 1 = .ok (.iload_n 1, 1) := dk_27 (dk_at dksX0_cell_0 1 rfl rfl)
theorem dX0_cell_2 : decode cX0_cell 2 = .ok (.iload_n 2, 1) := dk_28 (dk_at dksX0_cell_0 2 rfl rfl)
theorem dX0_cell_3 : decode cX0_cell 3 = .ok (.invokevirtual 257, 3) := dk_182 1 1 (dk_at dksX0_cell_0 3 rfl rfl)
theorem dX0_cell_6 : decode cX0_cell 6 = .ok (.astore 4, 2) := dk_58 4 (dk_at dksX0_cell_0 6 rfl rfl)
theorem dX0_cell_8 : decode cX0_cell 8 = .ok (.aload 4, 2) := dk_25 4 (dk_at dksX0_cell_0 8 rfl rfl)
theorem dX0_cell_10 : decode cX0_cell 10 = .ok (.ifnull 34, 3) := dk_198 0 34 (dk_at dksX0_cell_0 10 rfl rfl)
theorem dX0_cell_13 : decode cX0_cell 13 = .ok (.iload_n 3, 1) := dk_29 (dk_at dksX0_cell_0 13 rfl rfl)
theorem dX0_cell_14 : decode cX0_cell 14 = .ok (.i2l, 1) := dk_133 (dk_at dksX0_cell_0 14 rfl rfl)
theorem dX0_cell_15 : decode cX0_cell 15 = .ok (.lconst 0, 1) := dk_9 (dk_at dksX0_cell_0 15 rfl rfl)
theorem dX0_cell_16 : decode cX0_cell 16 = .ok (.lconst 1, 1) := dk_10 (dk_at dksX0_cell_0 16 rfl rfl)
theorem dX0_cell_17 : decode cX0_cell 17 = .ok (.invokestatic 166, 3) := dk_184 0 166 (dk_at dksX0_cell_0 17 rfl rfl)
theorem dX0_cell_20 : decode cX0_cell 20 = .ok (.ifCond .eq 24, 3) := dk_153 0 24 (dk_at dksX0_cell_0 20 rfl rfl)
theorem dX0_cell_23 : decode cX0_cell 23 = .ok (.aload_n 0, 1) := dk_42 (dk_at dksX0_cell_0 23 rfl rfl)
theorem dX0_cell_24 : decode cX0_cell 24 = .ok (.getfield 78, 3) := dk_180 0 78 (dk_at dksX0_cell_1 0 rfl rfl)
theorem dX0_cell_27 : decode cX0_cell 27 = .ok (.aload_n 0, 1) := dk_42 (dk_at dksX0_cell_1 3 rfl rfl)
theorem dX0_cell_28 : decode cX0_cell 28 = .ok (.iload_n 1, 1) := dk_27 (dk_at dksX0_cell_1 4 rfl rfl)
theorem dX0_cell_29 : decode cX0_cell 29 = .ok (.invokevirtual 247, 3) := dk_182 0 247 (dk_at dksX0_cell_1 5 rfl rfl)
theorem dX0_cell_32 : decode cX0_cell 32 = .ok (.invokevirtual 277, 3) := dk_182 1 21 (dk_at dksX0_cell_1 8 rfl rfl)
theorem dX0_cell_35 : decode cX0_cell 35 = .ok (.aload 4, 2) := dk_25 4 (dk_at dksX0_cell_1 11 rfl rfl)
theorem dX0_cell_37 : decode cX0_cell 37 = .ok (.iload_n 3, 1) := dk_29 (dk_at dksX0_cell_1 13 rfl rfl)
theorem dX0_cell_38 : decode cX0_cell 38 = .ok (.invokevirtual 281, 3) := dk_182 1 25 (dk_at dksX0_cell_1 14 rfl rfl)
theorem dX0_cell_41 : decode cX0_cell 41 = .ok (.goto 4, 3) := dk_167 0 4 (dk_at dksX0_cell_1 17 rfl rfl)
theorem dX0_cell_44 : decode cX0_cell 44 = .ok (.iconst (-1), 1) := dk_2 (dk_at dksX0_cell_1 20 rfl rfl)
theorem dX0_cell_45 : decode cX0_cell 45 = .ok (.ireturn, 1) := dk_172 (dk_at dksX0_cell_1 21 rfl rfl)
abbrev cX0_bends : ByteArray := prog_1_method_30_code
def yX0_bends : MethodName := ⟨RX0, "bends", "(II)I"⟩
def dkwX0_bends_1 : List UInt8 := [46, 182, 1, 29, 172]
abbrev dktX0_bends_1 : List UInt8 := dkwX0_bends_1 ++ []
def dkwX0_bends_0 : List UInt8 := [42, 27, 28, 182, 1, 1, 78, 45, 199, 0, 7, 2, 167, 0, 16, 45, 42, 180, 0, 23, 180, 0, 216, 3]
abbrev dktX0_bends_0 : List UInt8 := dkwX0_bends_0 ++ dktX0_bends_1
theorem dksX0_bends_0 : cX0_bends.data.toList.drop 0 = dktX0_bends_0 := by decide +kernel
theorem dksX0_bends_1 : cX0_bends.data.toList.drop 24 = dktX0_bends_1 := dk_seg dksX0_bends_0 24 rfl rfl
theorem dX0_bends_0 : decode cX0_bends 0 = .ok (.aload_n 0, 1) := dk_42 (dk_at dksX0_bends_0 0 rfl rfl)
theorem dX0_bends_1 : decode cX0_bends 1 = .ok (.iload_n 1, 1) := dk_27 (dk_at dksX0_bends_0 1 rfl rfl)
theorem dX0_bends_2 : decode cX0_bends 2 = .ok (.iload_n 2, 1) := dk_28 (dk_at dksX0_bends_0 2 rfl rfl)
theorem dX0_bends_3 : decode cX0_bends 3 = .ok (.invokevirtual 257, 3) := dk_182 1 1 (dk_at dksX0_bends_0 3 rfl rfl)
theorem dX0_bends_6 : decode cX0_bends 6 = .ok (.astore_n 3, 1) := dk_78 (dk_at dksX0_bends_0 6 rfl rfl)
theorem dX0_bends_7 : decode cX0_bends 7 = .ok (.aload_n 3, 1) := dk_45 (dk_at dksX0_bends_0 7 rfl rfl)
theorem dX0_bends_8 : decode cX0_bends 8 = .ok (.ifnonnull 7, 3) := dk_199 0 7 (dk_at dksX0_bends_0 8 rfl rfl)
theorem dX0_bends_11 : decode cX0_bends 11 = .ok (.iconst (-1), 1) := dk_2 (dk_at dksX0_bends_0 11 rfl rfl)
theorem dX0_bends_12 : decode cX0_bends 12 = .ok (.goto 16, 3) := dk_167 0 16 (dk_at dksX0_bends_0 12 rfl rfl)
theorem dX0_bends_15 : decode cX0_bends 15 = .ok (.aload_n 3, 1) := dk_45 (dk_at dksX0_bends_0 15 rfl rfl)
theorem dX0_bends_16 : decode cX0_bends 16 = .ok (.aload_n 0, 1) := dk_42 (dk_at dksX0_bends_0 16 rfl rfl)
theorem dX0_bends_17 : decode cX0_bends 17 = .ok (.getfield 23, 3) := dk_180 0 23 (dk_at dksX0_bends_0 17 rfl rfl)
theorem dX0_bends_20 : decode cX0_bends 20 = .ok (.getfield 216, 3) := dk_180 0 216 (dk_at dksX0_bends_0 20 rfl rfl)
theorem dX0_bends_23 : decode cX0_bends 23 = .ok (.iconst 0, 1) := dk_3 (dk_at dksX0_bends_0 23 rfl rfl)
theorem dX0_bends_24 : decode cX0_bends 24 = .ok (.iaload, 1) := dk_46 (dk_at dksX0_bends_1 0 rfl rfl)
theorem dX0_bends_25 : decode cX0_bends 25 = .ok (.invokevirtual 285, 3) := dk_182 1 29 (dk_at dksX0_bends_1 1 rfl rfl)
theorem dX0_bends_28 : decode cX0_bends 28 = .ok (.ireturn, 1) := dk_172 (dk_at dksX0_bends_1 4 rfl rfl)
abbrev cX0_elastic : ByteArray := prog_1_method_34_code
def yX0_elastic : MethodName := ⟨RX0, "elastic", "(IIZ)I"⟩
def dkwX0_elastic_1 : List UInt8 := [2, 167, 0, 21, 42, 25, 4, 25, 5, 29, 42, 180, 0, 23, 180, 0, 216, 4, 46, 182, 1, 53, 172]
abbrev dktX0_elastic_1 : List UInt8 := dkwX0_elastic_1 ++ []
def dkwX0_elastic_0 : List UInt8 := [42, 27, 182, 1, 50, 58, 4, 42, 28, 182, 1, 50, 58, 5, 25, 4, 198, 0, 8, 25, 5, 199, 0, 7]
abbrev dktX0_elastic_0 : List UInt8 := dkwX0_elastic_0 ++ dktX0_elastic_1
theorem dksX0_elastic_0 : cX0_elastic.data.toList.drop 0 = dktX0_elastic_0 := by decide +kernel
theorem dksX0_elastic_1 : cX0_elastic.data.toList.drop 24 = dktX0_elastic_1 := dk_seg dksX0_elastic_0 24 rfl rfl
theorem dX0_elastic_0 : decode cX0_elastic 0 = .ok (.aload_n 0, 1) := dk_42 (dk_at dksX0_elastic_0 0 rfl rfl)
theorem dX0_elastic_1 : decode cX0_elastic 1 = .ok (.iload_n 1, 1) := dk_27 (dk_at dksX0_elastic_0 1 rfl rfl)
theorem dX0_elastic_2 : decode cX0_elastic 2 = .ok (.invokevirtual 306, 3) := dk_182 1 50 (dk_at dksX0_elastic_0 2 rfl rfl)
theorem dX0_elastic_5 : decode cX0_elastic 5 = .ok (.astore 4, 2) := dk_58 4 (dk_at dksX0_elastic_0 5 rfl rfl)
theorem dX0_elastic_7 : decode cX0_elastic 7 = .ok (.aload_n 0, 1) := dk_42 (dk_at dksX0_elastic_0 7 rfl rfl)
theorem dX0_elastic_8 : decode cX0_elastic 8 = .ok (.iload_n 2, 1) := dk_28 (dk_at dksX0_elastic_0 8 rfl rfl)
theorem dX0_elastic_9 : decode cX0_elastic 9 = .ok (.invokevirtual 306, 3) := dk_182 1 50 (dk_at dksX0_elastic_0 9 rfl rfl)
theorem dX0_elastic_12 : decode cX0_elastic 12 = .ok (.astore 5, 2) := dk_58 5 (dk_at dksX0_elastic_0 12 rfl rfl)
theorem dX0_elastic_14 : decode cX0_elastic 14 = .ok (.aload 4, 2) := dk_25 4 (dk_at dksX0_elastic_0 14 rfl rfl)
theorem dX0_elastic_16 : decode cX0_elastic 16 = .ok (.ifnull 8, 3) := dk_198 0 8 (dk_at dksX0_elastic_0 16 rfl rfl)
theorem dX0_elastic_19 : decode cX0_elastic 19 = .ok (.aload 5, 2) := dk_25 5 (dk_at dksX0_elastic_0 19 rfl rfl)
theorem dX0_elastic_21 : decode cX0_elastic 21 = .ok (.ifnonnull 7, 3) := dk_199 0 7 (dk_at dksX0_elastic_0 21 rfl rfl)
theorem dX0_elastic_24 : decode cX0_elastic 24 = .ok (.iconst (-1), 1) := dk_2 (dk_at dksX0_elastic_1 0 rfl rfl)
theorem dX0_elastic_25 : decode cX0_elastic 25 = .ok (.goto 21, 3) := dk_167 0 21 (dk_at dksX0_elastic_1 1 rfl rfl)
theorem dX0_elastic_28 : decode cX0_elastic 28 = .ok (.aload_n 0, 1) := dk_42 (dk_at dksX0_elastic_1 4 rfl rfl)
theorem dX0_elastic_29 : decode cX0_elastic 29 = .ok (.aload 4, 2) := dk_25 4 (dk_at dksX0_elastic_1 5 rfl rfl)
theorem dX0_elastic_31 : decode cX0_elastic 31 = .ok (.aload 5, 2) := dk_25 5 (dk_at dksX0_elastic_1 7 rfl rfl)
theorem dX0_elastic_33 : decode cX0_elastic 33 = .ok (.iload_n 3, 1) := dk_29 (dk_at dksX0_elastic_1 9 rfl rfl)
theorem dX0_elastic_34 : decode cX0_elastic 34 = .ok (.aload_n 0, 1) := dk_42 (dk_at dksX0_elastic_1 10 rfl rfl)
theorem dX0_elastic_35 : decode cX0_elastic 35 = .ok (.getfield 23, 3) := dk_180 0 23 (dk_at dksX0_elastic_1 11 rfl rfl)
theorem dX0_elastic_38 : decode cX0_elastic 38 = .ok (.getfield 216, 3) := dk_180 0 216 (dk_at dksX0_elastic_1 14 rfl rfl)
theorem dX0_elastic_41 : decode cX0_elastic 41 = .ok (.iconst 1, 1) := dk_4 (dk_at dksX0_elastic_1 17 rfl rfl)
theorem dX0_elastic_42 : decode cX0_elastic 42 = .ok (.iaload, 1) := dk_46 (dk_at dksX0_elastic_1 18 rfl rfl)
theorem dX0_elastic_43 : decode cX0_elastic 43 = .ok (.invokevirtual 309, 3) := dk_182 1 53 (dk_at dksX0_elastic_1 19 rfl rfl)
theorem dX0_elastic_46 : decode cX0_elastic 46 = .ok (.ireturn, 1) := dk_172 (dk_at dksX0_elastic_1 22 rfl rfl)
abbrev cX0_told : ByteArray := prog_1_method_33_code
def yX0_told : MethodName := ⟨RX0, "told", "(I)LLetterPen$Stroke;"⟩
def dkwX0_told_1 : List UInt8 := [27, 16, 8, 100, 7, 108, 27, 7, 112, 182, 1, 1, 176]
abbrev dktX0_told_1 : List UInt8 := dkwX0_told_1 ++ []
def dkwX0_told_0 : List UInt8 := [27, 156, 0, 7, 1, 167, 0, 31, 27, 16, 8, 162, 0, 12, 42, 2, 27, 182, 1, 1, 167, 0, 16, 42]
abbrev dktX0_told_0 : List UInt8 := dkwX0_told_0 ++ dktX0_told_1
theorem dksX0_told_0 : cX0_told.data.toList.drop 0 = dktX0_told_0 := by decide +kernel
theorem dksX0_told_1 : cX0_told.data.toList.drop 24 = dktX0_told_1 := dk_seg dksX0_told_0 24 rfl rfl
theorem dX0_told_0 : decode cX0_told 0 = .ok (.iload_n 1, 1) := dk_27 (dk_at dksX0_told_0 0 rfl rfl)
theorem dX0_told_1 : decode cX0_told 1 = .ok (.ifCond .ge 7, 3) := dk_156 0 7 (dk_at dksX0_told_0 1 rfl rfl)
theorem dX0_told_4 : decode cX0_told 4 = .ok (.aconst_null, 1) := dk_1 (dk_at dksX0_told_0 4 rfl rfl)
theorem dX0_told_5 : decode cX0_told 5 = .ok (.goto 31, 3) := dk_167 0 31 (dk_at dksX0_told_0 5 rfl rfl)
theorem dX0_told_8 : decode cX0_told 8 = .ok (.iload_n 1, 1) := dk_27 (dk_at dksX0_told_0 8 rfl rfl)
theorem dX0_told_9 : decode cX0_told 9 = .ok (.bipush 8, 2) := dk_16 8 (dk_at dksX0_told_0 9 rfl rfl)
theorem dX0_told_11 : decode cX0_told 11 = .ok (.if_icmp .ge 12, 3) := dk_162 0 12 (dk_at dksX0_told_0 11 rfl rfl)
theorem dX0_told_14 : decode cX0_told 14 = .ok (.aload_n 0, 1) := dk_42 (dk_at dksX0_told_0 14 rfl rfl)
theorem dX0_told_15 : decode cX0_told 15 = .ok (.iconst (-1), 1) := dk_2 (dk_at dksX0_told_0 15 rfl rfl)
theorem dX0_told_16 : decode cX0_told 16 = .ok (.iload_n 1, 1) := dk_27 (dk_at dksX0_told_0 16 rfl rfl)
theorem dX0_told_17 : decode cX0_told 17 = .ok (.invokevirtual 257, 3) := dk_182 1 1 (dk_at dksX0_told_0 17 rfl rfl)
theorem dX0_told_20 : decode cX0_told 20 = .ok (.goto 16, 3) := dk_167 0 16 (dk_at dksX0_told_0 20 rfl rfl)
theorem dX0_told_23 : decode cX0_told 23 = .ok (.aload_n 0, 1) := dk_42 (dk_at dksX0_told_0 23 rfl rfl)
theorem dX0_told_24 : decode cX0_told 24 = .ok (.iload_n 1, 1) := dk_27 (dk_at dksX0_told_1 0 rfl rfl)
theorem dX0_told_25 : decode cX0_told 25 = .ok (.bipush 8, 2) := dk_16 8 (dk_at dksX0_told_1 1 rfl rfl)
theorem dX0_told_27 : decode cX0_told 27 = .ok (.isub, 1) := dk_100 (dk_at dksX0_told_1 3 rfl rfl)
theorem dX0_told_28 : decode cX0_told 28 = .ok (.iconst 4, 1) := dk_7 (dk_at dksX0_told_1 4 rfl rfl)
theorem dX0_told_29 : decode cX0_told 29 = .ok (.idiv, 1) := dk_108 (dk_at dksX0_told_1 5 rfl rfl)
theorem dX0_told_30 : decode cX0_told 30 = .ok (.iload_n 1, 1) := dk_27 (dk_at dksX0_told_1 6 rfl rfl)
theorem dX0_told_31 : decode cX0_told 31 = .ok (.iconst 4, 1) := dk_7 (dk_at dksX0_told_1 7 rfl rfl)
theorem dX0_told_32 : decode cX0_told 32 = .ok (.irem, 1) := dk_112 (dk_at dksX0_told_1 8 rfl rfl)
theorem dX0_told_33 : decode cX0_told 33 = .ok (.invokevirtual 257, 3) := dk_182 1 1 (dk_at dksX0_told_1 9 rfl rfl)
theorem dX0_told_36 : decode cX0_told 36 = .ok (.areturn, 1) := dk_176 (dk_at dksX0_told_1 12 rfl rfl)
abbrev cX0_elasticOf : ByteArray := prog_1_method_32_code
def yX0_elasticOf : MethodName := ⟨RX0, "elasticOf", "(LLetterPen$Stroke;LLetterPen$Stroke;ZI)I"⟩
def dkwX0_elasticOf_2 : List UInt8 := [180, 1, 15, 181, 1, 43, 42, 42, 180, 0, 45, 21, 5, 21, 4, 182, 1, 46, 172]
abbrev dktX0_elasticOf_2 : List UInt8 := dkwX0_elasticOf_2 ++ []
def dkwX0_elasticOf_1 : List UInt8 := [42, 29, 153, 0, 15, 44, 21, 5, 182, 0, 253, 180, 1, 40, 167, 0, 12, 44, 21, 5, 182, 0, 253]
abbrev dktX0_elasticOf_1 : List UInt8 := dkwX0_elasticOf_1 ++ dktX0_elasticOf_2
def dkwX0_elasticOf_0 : List UInt8 := [42, 180, 0, 23, 180, 0, 216, 3, 46, 54, 5, 42, 43, 21, 5, 182, 0, 253, 180, 1, 15, 181, 1, 37]
abbrev dktX0_elasticOf_0 : List UInt8 := dkwX0_elasticOf_0 ++ dktX0_elasticOf_1
theorem dksX0_elasticOf_0 : cX0_elasticOf.data.toList.drop 0 = dktX0_elasticOf_0 := by decide +kernel
theorem dksX0_elasticOf_1 : cX0_elasticOf.data.toList.drop 24 = dktX0_elasticOf_1 := dk_seg dksX0_elasticOf_0 24 rfl rfl
theorem dksX0_elasticOf_2 : cX0_elasticOf.data.toList.drop 47 = dktX0_elasticOf_2 := dk_seg dksX0_elasticOf_1 23 rfl rfl
theorem dX0_elasticOf_0 : decode cX0_elasticOf 0 = .ok (.aload_n 0, 1) := dk_42 (dk_at dksX0_elasticOf_0 0 rfl rfl)
theorem dX0_elasticOf_1 : decode cX0_elasticOf 1 = .ok (.getfield 23, 3) := dk_180 0 23 (dk_at dksX0_elasticOf_0 1 rfl rfl)
theorem dX0_elasticOf_4 : decode cX0_elasticOf 4 = .ok (.getfield 216, 3) := dk_180 0 216 (dk_at dksX0_elasticOf_0 4 rfl rfl)
theorem dX0_elasticOf_7 : decode cX0_elasticOf 7 = .ok (.iconst 0, 1) := dk_3 (dk_at dksX0_elasticOf_0 7 rfl rfl)
theorem dX0_elasticOf_8 : decode cX0_elasticOf 8 = .ok (.iaload, 1) := dk_46 (dk_at dksX0_elasticOf_0 8 rfl rfl)
theorem dX0_elasticOf_9 : decode cX0_elasticOf 9 = .ok (.istore 5, 2) := dk_54 5 (dk_at dksX0_elasticOf_0 9 rfl rfl)
theorem dX0_elasticOf_11 : decode cX0_elasticOf 11 = .ok (.aload_n 0, 1) := dk_42 (dk_at dksX0_elasticOf_0 11 rfl rfl)
theorem dX0_elasticOf_12 : decode cX0_elasticOf 12 = .ok (.aload_n 1, 1) := dk_43 (dk_at dksX0_elasticOf_0 12 rfl rfl)
theorem dX0_elasticOf_13 : decode cX0_elasticOf 13 = .ok (.iload 5, 2) := dk_21 5 (dk_at dksX0_elasticOf_0 13 rfl rfl)
theorem dX0_elasticOf_15 : decode cX0_elasticOf 15 = .ok (.invokevirtual 253, 3) := dk_182 0 253 (dk_at dksX0_elasticOf_0 15 rfl rfl)
theorem dX0_elasticOf_18 : decode cX0_elasticOf 18 = .ok (.getfield 271, 3) := dk_180 1 15 (dk_at dksX0_elasticOf_0 18 rfl rfl)
theorem dX0_elasticOf_21 : decode cX0_elasticOf 21 = .ok (.putfield 293, 3) := dk_181 1 37 (dk_at dksX0_elasticOf_0 21 rfl rfl)
theorem dX0_elasticOf_24 : decode cX0_elasticOf 24 = .ok (.aload_n 0, 1) := dk_42 (dk_at dksX0_elasticOf_1 0 rfl rfl)
theorem dX0_elasticOf_25 : decode cX0_elasticOf 25 = .ok (.iload_n 3, 1) := dk_29 (dk_at dksX0_elasticOf_1 1 rfl rfl)
theorem dX0_elasticOf_26 : decode cX0_elasticOf 26 = .ok (.ifCond .eq 15, 3) := dk_153 0 15 (dk_at dksX0_elasticOf_1 2 rfl rfl)
theorem dX0_elasticOf_29 : decode cX0_elasticOf 29 = .ok (.aload_n 2, 1) := dk_44 (dk_at dksX0_elasticOf_1 5 rfl rfl)
theorem dX0_elasticOf_30 : decode cX0_elasticOf 30 = .ok (.iload 5, 2) := dk_21 5 (dk_at dksX0_elasticOf_1 6 rfl rfl)
theorem dX0_elasticOf_32 : decode cX0_elasticOf 32 = .ok (.invokevirtual 253, 3) := dk_182 0 253 (dk_at dksX0_elasticOf_1 8 rfl rfl)
theorem dX0_elasticOf_35 : decode cX0_elasticOf 35 = .ok (.getfield 296, 3) := dk_180 1 40 (dk_at dksX0_elasticOf_1 11 rfl rfl)
theorem dX0_elasticOf_38 : decode cX0_elasticOf 38 = .ok (.goto 12, 3) := dk_167 0 12 (dk_at dksX0_elasticOf_1 14 rfl rfl)
theorem dX0_elasticOf_41 : decode cX0_elasticOf 41 = .ok (.aload_n 2, 1) := dk_44 (dk_at dksX0_elasticOf_1 17 rfl rfl)
theorem dX0_elasticOf_42 : decode cX0_elasticOf 42 = .ok (.iload 5, 2) := dk_21 5 (dk_at dksX0_elasticOf_1 18 rfl rfl)
theorem dX0_elasticOf_44 : decode cX0_elasticOf 44 = .ok (.invokevirtual 253, 3) := dk_182 0 253 (dk_at dksX0_elasticOf_1 20 rfl rfl)
theorem dX0_elasticOf_47 : decode cX0_elasticOf 47 = .ok (.getfield 271, 3) := dk_180 1 15 (dk_at dksX0_elasticOf_2 0 rfl rfl)
theorem dX0_elasticOf_50 : decode cX0_elasticOf 50 = .ok (.putfield 299, 3) := dk_181 1 43 (dk_at dksX0_elasticOf_2 3 rfl rfl)
theorem dX0_elasticOf_53 : decode cX0_elasticOf 53 = .ok (.aload_n 0, 1) := dk_42 (dk_at dksX0_elasticOf_2 6 rfl rfl)
theorem dX0_elasticOf_54 : decode cX0_elasticOf 54 = .ok (.aload_n 0, 1) := dk_42 (dk_at dksX0_elasticOf_2 7 rfl rfl)
theorem dX0_elasticOf_55 : decode cX0_elasticOf 55 = .ok (.getfield 45, 3) := dk_180 0 45 (dk_at dksX0_elasticOf_2 8 rfl rfl)
theorem dX0_elasticOf_58 : decode cX0_elasticOf 58 = .ok (.iload 5, 2) := dk_21 5 (dk_at dksX0_elasticOf_2 11 rfl rfl)
theorem dX0_elasticOf_60 : decode cX0_elasticOf 60 = .ok (.iload 4, 2) := dk_21 4 (dk_at dksX0_elasticOf_2 13 rfl rfl)
theorem dX0_elasticOf_62 : decode cX0_elasticOf 62 = .ok (.invokevirtual 302, 3) := dk_182 1 46 (dk_at dksX0_elasticOf_2 15 rfl rfl)
theorem dX0_elasticOf_65 : decode cX0_elasticOf 65 = .ok (.ireturn, 1) := dk_172 (dk_at dksX0_elasticOf_2 18 rfl rfl)
abbrev cX0_elasticBy : ByteArray := prog_1_method_31_code
def yX0_elasticBy : MethodName := ⟨RX0, "elasticBy", "(LLetterPen$Cost;II)I"⟩
def dkwX0_elasticBy_8 : List UInt8 := [180, 0, 51, 3, 50, 3, 46, 172]
abbrev dktX0_elasticBy_8 : List UInt8 := dkwX0_elasticBy_8 ++ []
def dkwX0_elasticBy_7 : List UInt8 := [185, 1, 33, 3, 0, 96, 184, 0, 139, 79, 132, 5, 255, 167, 255, 90, 132, 4, 255, 167, 255, 74, 42]
abbrev dktX0_elasticBy_7 : List UInt8 := dkwX0_elasticBy_7 ++ dktX0_elasticBy_8
def dkwX0_elasticBy_6 : List UInt8 := [100, 184, 0, 146, 29, 164, 0, 9, 19, 1, 32, 167, 0, 22, 19, 1, 32, 21, 6, 43, 21, 4, 21, 5]
abbrev dktX0_elasticBy_6 : List UInt8 := dkwX0_elasticBy_6 ++ dktX0_elasticBy_7
def dkwX0_elasticBy_5 : List UInt8 := [50, 21, 5, 4, 96, 46, 184, 0, 139, 54, 6, 42, 180, 0, 51, 21, 4, 50, 21, 5, 21, 4, 21, 5]
abbrev dktX0_elasticBy_5 : List UInt8 := dkwX0_elasticBy_5 ++ dktX0_elasticBy_6
def dkwX0_elasticBy_4 : List UInt8 := [21, 5, 46, 184, 0, 139, 54, 6, 21, 5, 28, 4, 100, 162, 0, 22, 21, 6, 42, 180, 0, 51, 21, 4]
abbrev dktX0_elasticBy_4 : List UInt8 := dkwX0_elasticBy_4 ++ dktX0_elasticBy_5
def dkwX0_elasticBy_3 : List UInt8 := [4, 96, 46, 54, 6, 21, 4, 28, 4, 100, 162, 0, 22, 21, 6, 42, 180, 0, 51, 21, 4, 4, 96, 50]
abbrev dktX0_elasticBy_3 : List UInt8 := dkwX0_elasticBy_3 ++ dktX0_elasticBy_4
def dkwX0_elasticBy_2 : List UInt8 := [4, 100, 162, 0, 27, 21, 5, 28, 4, 100, 162, 0, 19, 42, 180, 0, 51, 21, 4, 4, 96, 50, 21, 5]
abbrev dktX0_elasticBy_2 : List UInt8 := dkwX0_elasticBy_2 ++ dktX0_elasticBy_3
def dkwX0_elasticBy_1 : List UInt8 := [100, 160, 0, 15, 21, 5, 28, 4, 100, 160, 0, 7, 3, 167, 0, 6, 19, 1, 32, 54, 6, 21, 4, 28]
abbrev dktX0_elasticBy_1 : List UInt8 := dkwX0_elasticBy_1 ++ dktX0_elasticBy_2
def dkwX0_elasticBy_0 : List UInt8 := [28, 4, 100, 54, 4, 21, 4, 155, 0, 183, 28, 4, 100, 54, 5, 21, 5, 155, 0, 167, 21, 4, 28, 4]
abbrev dktX0_elasticBy_0 : List UInt8 := dkwX0_elasticBy_0 ++ dktX0_elasticBy_1
theorem dksX0_elasticBy_0 : cX0_elasticBy.data.toList.drop 0 = dktX0_elasticBy_0 := by decide +kernel
theorem dksX0_elasticBy_1 : cX0_elasticBy.data.toList.drop 24 = dktX0_elasticBy_1 := dk_seg dksX0_elasticBy_0 24 rfl rfl
theorem dksX0_elasticBy_2 : cX0_elasticBy.data.toList.drop 48 = dktX0_elasticBy_2 := dk_seg dksX0_elasticBy_1 24 rfl rfl
theorem dksX0_elasticBy_3 : cX0_elasticBy.data.toList.drop 72 = dktX0_elasticBy_3 := dk_seg dksX0_elasticBy_2 24 rfl rfl
theorem dksX0_elasticBy_4 : cX0_elasticBy.data.toList.drop 96 = dktX0_elasticBy_4 := dk_seg dksX0_elasticBy_3 24 rfl rfl
theorem dksX0_elasticBy_5 : cX0_elasticBy.data.toList.drop 120 = dktX0_elasticBy_5 := dk_seg dksX0_elasticBy_4 24 rfl rfl
theorem dksX0_elasticBy_6 : cX0_elasticBy.data.toList.drop 144 = dktX0_elasticBy_6 := dk_seg dksX0_elasticBy_5 24 rfl rfl
theorem dksX0_elasticBy_7 : cX0_elasticBy.data.toList.drop 168 = dktX0_elasticBy_7 := dk_seg dksX0_elasticBy_6 24 rfl rfl
theorem dksX0_elasticBy_8 : cX0_elasticBy.data.toList.drop 191 = dktX0_elasticBy_8 := dk_seg dksX0_elasticBy_7 23 rfl rfl
theorem dX0_elasticBy_0 : decode cX0_elasticBy 0 = .ok (.iload_n 2, 1) := dk_28 (dk_at dksX0_elasticBy_0 0 rfl rfl)
theorem dX0_elasticBy_1 : decode cX0_elasticBy 1 = .ok (.iconst 1, 1) := dk_4 (dk_at dksX0_elasticBy_0 1 rfl rfl)
theorem dX0_elasticBy_2 : decode cX0_elasticBy 2 = .ok (.isub, 1) := dk_100 (dk_at dksX0_elasticBy_0 2 rfl rfl)
theorem dX0_elasticBy_3 : decode cX0_elasticBy 3 = .ok (.istore 4, 2) := dk_54 4 (dk_at dksX0_elasticBy_0 3 rfl rfl)
theorem dX0_elasticBy_5 : decode cX0_elasticBy 5 = .ok (.iload 4, 2) := dk_21 4 (dk_at dksX0_elasticBy_0 5 rfl rfl)
theorem dX0_elasticBy_7 : decode cX0_elasticBy 7 = .ok (.ifCond .lt 183, 3) := dk_155 0 183 (dk_at dksX0_elasticBy_0 7 rfl rfl)
theorem dX0_elasticBy_10 : decode cX0_elasticBy 10 = .ok (.iload_n 2, 1) := dk_28 (dk_at dksX0_elasticBy_0 10 rfl rfl)
theorem dX0_elasticBy_11 : decode cX0_elasticBy 11 = .ok (.iconst 1, 1) := dk_4 (dk_at dksX0_elasticBy_0 11 rfl rfl)
theorem dX0_elasticBy_12 : decode cX0_elasticBy 12 = .ok (.isub, 1) := dk_100 (dk_at dksX0_elasticBy_0 12 rfl rfl)
theorem dX0_elasticBy_13 : decode cX0_elasticBy 13 = .ok (.istore 5, 2) := dk_54 5 (dk_at dksX0_elasticBy_0 13 rfl rfl)
theorem dX0_elasticBy_15 : decode cX0_elasticBy 15 = .ok (.iload 5, 2) := dk_21 5 (dk_at dksX0_elasticBy_0 15 rfl rfl)
theorem dX0_elasticBy_17 : decode cX0_elasticBy 17 = .ok (.ifCond .lt 167, 3) := dk_155 0 167 (dk_at dksX0_elasticBy_0 17 rfl rfl)
theorem dX0_elasticBy_20 : decode cX0_elasticBy 20 = .ok (.iload 4, 2) := dk_21 4 (dk_at dksX0_elasticBy_0 20 rfl rfl)
theorem dX0_elasticBy_22 : decode cX0_elasticBy 22 = .ok (.iload_n 2, 1) := dk_28 (dk_at dksX0_elasticBy_0 22 rfl rfl)
theorem dX0_elasticBy_23 : decode cX0_elasticBy 23 = .ok (.iconst 1, 1) := dk_4 (dk_at dksX0_elasticBy_0 23 rfl rfl)
theorem dX0_elasticBy_24 : decode cX0_elasticBy 24 = .ok (.isub, 1) := dk_100 (dk_at dksX0_elasticBy_1 0 rfl rfl)
theorem dX0_elasticBy_25 : decode cX0_elasticBy 25 = .ok (.if_icmp .ne 15, 3) := dk_160 0 15 (dk_at dksX0_elasticBy_1 1 rfl rfl)
theorem dX0_elasticBy_28 : decode cX0_elasticBy 28 = .ok (.iload 5, 2) := dk_21 5 (dk_at dksX0_elasticBy_1 4 rfl rfl)
theorem dX0_elasticBy_30 : decode cX0_elasticBy 30 = .ok (.iload_n 2, 1) := dk_28 (dk_at dksX0_elasticBy_1 6 rfl rfl)
theorem dX0_elasticBy_31 : decode cX0_elasticBy 31 = .ok (.iconst 1, 1) := dk_4 (dk_at dksX0_elasticBy_1 7 rfl rfl)
theorem dX0_elasticBy_32 : decode cX0_elasticBy 32 = .ok (.isub, 1) := dk_100 (dk_at dksX0_elasticBy_1 8 rfl rfl)
theorem dX0_elasticBy_33 : decode cX0_elasticBy 33 = .ok (.if_icmp .ne 7, 3) := dk_160 0 7 (dk_at dksX0_elasticBy_1 9 rfl rfl)
theorem dX0_elasticBy_36 : decode cX0_elasticBy 36 = .ok (.iconst 0, 1) := dk_3 (dk_at dksX0_elasticBy_1 12 rfl rfl)
theorem dX0_elasticBy_37 : decode cX0_elasticBy 37 = .ok (.goto 6, 3) := dk_167 0 6 (dk_at dksX0_elasticBy_1 13 rfl rfl)
theorem dX0_elasticBy_40 : decode cX0_elasticBy 40 = .ok (.ldc_w 288, 3) := dk_19 1 32 (dk_at dksX0_elasticBy_1 16 rfl rfl)
theorem dX0_elasticBy_43 : decode cX0_elasticBy 43 = .ok (.istore 6, 2) := dk_54 6 (dk_at dksX0_elasticBy_1 19 rfl rfl)
theorem dX0_elasticBy_45 : decode cX0_elasticBy 45 = .ok (.iload 4, 2) := dk_21 4 (dk_at dksX0_elasticBy_1 21 rfl rfl)
theorem dX0_elasticBy_47 : decode cX0_elasticBy 47 = .ok (.iload_n 2, 1) := dk_28 (dk_at dksX0_elasticBy_1 23 rfl rfl)
theorem dX0_elasticBy_48 : decode cX0_elasticBy 48 = .ok (.iconst 1, 1) := dk_4 (dk_at dksX0_elasticBy_2 0 rfl rfl)
theorem dX0_elasticBy_49 : decode cX0_elasticBy 49 = .ok (.isub, 1) := dk_100 (dk_at dksX0_elasticBy_2 1 rfl rfl)
theorem dX0_elasticBy_50 : decode cX0_elasticBy 50 = .ok (.if_icmp .ge 27, 3) := dk_162 0 27 (dk_at dksX0_elasticBy_2 2 rfl rfl)
theorem dX0_elasticBy_53 : decode cX0_elasticBy 53 = .ok (.iload 5, 2) := dk_21 5 (dk_at dksX0_elasticBy_2 5 rfl rfl)
theorem dX0_elasticBy_55 : decode cX0_elasticBy 55 = .ok (.iload_n 2, 1) := dk_28 (dk_at dksX0_elasticBy_2 7 rfl rfl)
theorem dX0_elasticBy_56 : decode cX0_elasticBy 56 = .ok (.iconst 1, 1) := dk_4 (dk_at dksX0_elasticBy_2 8 rfl rfl)
theorem dX0_elasticBy_57 : decode cX0_elasticBy 57 = .ok (.isub, 1) := dk_100 (dk_at dksX0_elasticBy_2 9 rfl rfl)
theorem dX0_elasticBy_58 : decode cX0_elasticBy 58 = .ok (.if_icmp .ge 19, 3) := dk_162 0 19 (dk_at dksX0_elasticBy_2 10 rfl rfl)
theorem dX0_elasticBy_61 : decode cX0_elasticBy 61 = .ok (.aload_n 0, 1) := dk_42 (dk_at dksX0_elasticBy_2 13 rfl rfl)
theorem dX0_elasticBy_62 : decode cX0_elasticBy 62 = .ok (.getfield 51, 3) := dk_180 0 51 (dk_at dksX0_elasticBy_2 14 rfl rfl)
theorem dX0_elasticBy_65 : decode cX0_elasticBy 65 = .ok (.iload 4, 2) := dk_21 4 (dk_at dksX0_elasticBy_2 17 rfl rfl)
theorem dX0_elasticBy_67 : decode cX0_elasticBy 67 = .ok (.iconst 1, 1) := dk_4 (dk_at dksX0_elasticBy_2 19 rfl rfl)
theorem dX0_elasticBy_68 : decode cX0_elasticBy 68 = .ok (.iadd, 1) := dk_96 (dk_at dksX0_elasticBy_2 20 rfl rfl)
theorem dX0_elasticBy_69 : decode cX0_elasticBy 69 = .ok (.aaload, 1) := dk_50 (dk_at dksX0_elasticBy_2 21 rfl rfl)
theorem dX0_elasticBy_70 : decode cX0_elasticBy 70 = .ok (.iload 5, 2) := dk_21 5 (dk_at dksX0_elasticBy_2 22 rfl rfl)
theorem dX0_elasticBy_72 : decode cX0_elasticBy 72 = .ok (.iconst 1, 1) := dk_4 (dk_at dksX0_elasticBy_3 0 rfl rfl)
theorem dX0_elasticBy_73 : decode cX0_elasticBy 73 = .ok (.iadd, 1) := dk_96 (dk_at dksX0_elasticBy_3 1 rfl rfl)
theorem dX0_elasticBy_74 : decode cX0_elasticBy 74 = .ok (.iaload, 1) := dk_46 (dk_at dksX0_elasticBy_3 2 rfl rfl)
theorem dX0_elasticBy_75 : decode cX0_elasticBy 75 = .ok (.istore 6, 2) := dk_54 6 (dk_at dksX0_elasticBy_3 3 rfl rfl)
theorem dX0_elasticBy_77 : decode cX0_elasticBy 77 = .ok (.iload 4, 2) := dk_21 4 (dk_at dksX0_elasticBy_3 5 rfl rfl)
theorem dX0_elasticBy_79 : decode cX0_elasticBy 79 = .ok (.iload_n 2, 1) := dk_28 (dk_at dksX0_elasticBy_3 7 rfl rfl)
theorem dX0_elasticBy_80 : decode cX0_elasticBy 80 = .ok (.iconst 1, 1) := dk_4 (dk_at dksX0_elasticBy_3 8 rfl rfl)
theorem dX0_elasticBy_81 : decode cX0_elasticBy 81 = .ok (.isub, 1) := dk_100 (dk_at dksX0_elasticBy_3 9 rfl rfl)
theorem dX0_elasticBy_82 : decode cX0_elasticBy 82 = .ok (.if_icmp .ge 22, 3) := dk_162 0 22 (dk_at dksX0_elasticBy_3 10 rfl rfl)
theorem dX0_elasticBy_85 : decode cX0_elasticBy 85 = .ok (.iload 6, 2) := dk_21 6 (dk_at dksX0_elasticBy_3 13 rfl rfl)
theorem dX0_elasticBy_87 : decode cX0_elasticBy 87 = .ok (.aload_n 0, 1) := dk_42 (dk_at dksX0_elasticBy_3 15 rfl rfl)
theorem dX0_elasticBy_88 : decode cX0_elasticBy 88 = .ok (.getfield 51, 3) := dk_180 0 51 (dk_at dksX0_elasticBy_3 16 rfl rfl)
theorem dX0_elasticBy_91 : decode cX0_elasticBy 91 = .ok (.iload 4, 2) := dk_21 4 (dk_at dksX0_elasticBy_3 19 rfl rfl)
theorem dX0_elasticBy_93 : decode cX0_elasticBy 93 = .ok (.iconst 1, 1) := dk_4 (dk_at dksX0_elasticBy_3 21 rfl rfl)
theorem dX0_elasticBy_94 : decode cX0_elasticBy 94 = .ok (.iadd, 1) := dk_96 (dk_at dksX0_elasticBy_3 22 rfl rfl)
theorem dX0_elasticBy_95 : decode cX0_elasticBy 95 = .ok (.aaload, 1) := dk_50 (dk_at dksX0_elasticBy_3 23 rfl rfl)
theorem dX0_elasticBy_96 : decode cX0_elasticBy 96 = .ok (.iload 5, 2) := dk_21 5 (dk_at dksX0_elasticBy_4 0 rfl rfl)
theorem dX0_elasticBy_98 : decode cX0_elasticBy 98 = .ok (.iaload, 1) := dk_46 (dk_at dksX0_elasticBy_4 2 rfl rfl)
theorem dX0_elasticBy_99 : decode cX0_elasticBy 99 = .ok (.invokestatic 139, 3) := dk_184 0 139 (dk_at dksX0_elasticBy_4 3 rfl rfl)
theorem dX0_elasticBy_102 : decode cX0_elasticBy 102 = .ok (.istore 6, 2) := dk_54 6 (dk_at dksX0_elasticBy_4 6 rfl rfl)
theorem dX0_elasticBy_104 : decode cX0_elasticBy 104 = .ok (.iload 5, 2) := dk_21 5 (dk_at dksX0_elasticBy_4 8 rfl rfl)
theorem dX0_elasticBy_106 : decode cX0_elasticBy 106 = .ok (.iload_n 2, 1) := dk_28 (dk_at dksX0_elasticBy_4 10 rfl rfl)
theorem dX0_elasticBy_107 : decode cX0_elasticBy 107 = .ok (.iconst 1, 1) := dk_4 (dk_at dksX0_elasticBy_4 11 rfl rfl)
theorem dX0_elasticBy_108 : decode cX0_elasticBy 108 = .ok (.isub, 1) := dk_100 (dk_at dksX0_elasticBy_4 12 rfl rfl)
theorem dX0_elasticBy_109 : decode cX0_elasticBy 109 = .ok (.if_icmp .ge 22, 3) := dk_162 0 22 (dk_at dksX0_elasticBy_4 13 rfl rfl)
theorem dX0_elasticBy_112 : decode cX0_elasticBy 112 = .ok (.iload 6, 2) := dk_21 6 (dk_at dksX0_elasticBy_4 16 rfl rfl)
theorem dX0_elasticBy_114 : decode cX0_elasticBy 114 = .ok (.aload_n 0, 1) := dk_42 (dk_at dksX0_elasticBy_4 18 rfl rfl)
theorem dX0_elasticBy_115 : decode cX0_elasticBy 115 = .ok (.getfield 51, 3) := dk_180 0 51 (dk_at dksX0_elasticBy_4 19 rfl rfl)
theorem dX0_elasticBy_118 : decode cX0_elasticBy 118 = .ok (.iload 4, 2) := dk_21 4 (dk_at dksX0_elasticBy_4 22 rfl rfl)
theorem dX0_elasticBy_120 : decode cX0_elasticBy 120 = .ok (.aaload, 1) := dk_50 (dk_at dksX0_elasticBy_5 0 rfl rfl)
theorem dX0_elasticBy_121 : decode cX0_elasticBy 121 = .ok (.iload 5, 2) := dk_21 5 (dk_at dksX0_elasticBy_5 1 rfl rfl)
theorem dX0_elasticBy_123 : decode cX0_elasticBy 123 = .ok (.iconst 1, 1) := dk_4 (dk_at dksX0_elasticBy_5 3 rfl rfl)
theorem dX0_elasticBy_124 : decode cX0_elasticBy 124 = .ok (.iadd, 1) := dk_96 (dk_at dksX0_elasticBy_5 4 rfl rfl)
theorem dX0_elasticBy_125 : decode cX0_elasticBy 125 = .ok (.iaload, 1) := dk_46 (dk_at dksX0_elasticBy_5 5 rfl rfl)
theorem dX0_elasticBy_126 : decode cX0_elasticBy 126 = .ok (.invokestatic 139, 3) := dk_184 0 139 (dk_at dksX0_elasticBy_5 6 rfl rfl)
theorem dX0_elasticBy_129 : decode cX0_elasticBy 129 = .ok (.istore 6, 2) := dk_54 6 (dk_at dksX0_elasticBy_5 9 rfl rfl)
theorem dX0_elasticBy_131 : decode cX0_elasticBy 131 = .ok (.aload_n 0, 1) := dk_42 (dk_at dksX0_elasticBy_5 11 rfl rfl)
theorem dX0_elasticBy_132 : decode cX0_elasticBy 132 = .ok (.getfield 51, 3) := dk_180 0 51 (dk_at dksX0_elasticBy_5 12 rfl rfl)
theorem dX0_elasticBy_135 : decode cX0_elasticBy 135 = .ok (.iload 4, 2) := dk_21 4 (dk_at dksX0_elasticBy_5 15 rfl rfl)
theorem dX0_elasticBy_137 : decode cX0_elasticBy 137 = .ok (.aaload, 1) := dk_50 (dk_at dksX0_elasticBy_5 17 rfl rfl)
theorem dX0_elasticBy_138 : decode cX0_elasticBy 138 = .ok (.iload 5, 2) := dk_21 5 (dk_at dksX0_elasticBy_5 18 rfl rfl)
theorem dX0_elasticBy_140 : decode cX0_elasticBy 140 = .ok (.iload 4, 2) := dk_21 4 (dk_at dksX0_elasticBy_5 20 rfl rfl)
theorem dX0_elasticBy_142 : decode cX0_elasticBy 142 = .ok (.iload 5, 2) := dk_21 5 (dk_at dksX0_elasticBy_5 22 rfl rfl)
theorem dX0_elasticBy_144 : decode cX0_elasticBy 144 = .ok (.isub, 1) := dk_100 (dk_at dksX0_elasticBy_6 0 rfl rfl)
theorem dX0_elasticBy_145 : decode cX0_elasticBy 145 = .ok (.invokestatic 146, 3) := dk_184 0 146 (dk_at dksX0_elasticBy_6 1 rfl rfl)
theorem dX0_elasticBy_148 : decode cX0_elasticBy 148 = .ok (.iload_n 3, 1) := dk_29 (dk_at dksX0_elasticBy_6 4 rfl rfl)
theorem dX0_elasticBy_149 : decode cX0_elasticBy 149 = .ok (.if_icmp .le 9, 3) := dk_164 0 9 (dk_at dksX0_elasticBy_6 5 rfl rfl)
theorem dX0_elasticBy_152 : decode cX0_elasticBy 152 = .ok (.ldc_w 288, 3) := dk_19 1 32 (dk_at dksX0_elasticBy_6 8 rfl rfl)
theorem dX0_elasticBy_155 : decode cX0_elasticBy 155 = .ok (.goto 22, 3) := dk_167 0 22 (dk_at dksX0_elasticBy_6 11 rfl rfl)
theorem dX0_elasticBy_158 : decode cX0_elasticBy 158 = .ok (.ldc_w 288, 3) := dk_19 1 32 (dk_at dksX0_elasticBy_6 14 rfl rfl)
theorem dX0_elasticBy_161 : decode cX0_elasticBy 161 = .ok (.iload 6, 2) := dk_21 6 (dk_at dksX0_elasticBy_6 17 rfl rfl)
theorem dX0_elasticBy_163 : decode cX0_elasticBy 163 = .ok (.aload_n 1, 1) := dk_43 (dk_at dksX0_elasticBy_6 19 rfl rfl)
theorem dX0_elasticBy_164 : decode cX0_elasticBy 164 = .ok (.iload 4, 2) := dk_21 4 (dk_at dksX0_elasticBy_6 20 rfl rfl)
theorem dX0_elasticBy_166 : decode cX0_elasticBy 166 = .ok (.iload 5, 2) := dk_21 5 (dk_at dksX0_elasticBy_6 22 rfl rfl)
theorem dX0_elasticBy_168 : decode cX0_elasticBy 168 = .ok (.invokeinterface 289 3, 5) := by decide +kernel
theorem dX0_elasticBy_173 : decode cX0_elasticBy 173 = .ok (.iadd, 1) := dk_96 (dk_at dksX0_elasticBy_7 5 rfl rfl)
theorem dX0_elasticBy_174 : decode cX0_elasticBy 174 = .ok (.invokestatic 139, 3) := dk_184 0 139 (dk_at dksX0_elasticBy_7 6 rfl rfl)
theorem dX0_elasticBy_177 : decode cX0_elasticBy 177 = .ok (.iastore, 1) := dk_79 (dk_at dksX0_elasticBy_7 9 rfl rfl)
theorem dX0_elasticBy_178 : decode cX0_elasticBy 178 = .ok (.iinc 5 (-1), 3) := dk_132 5 255 (dk_at dksX0_elasticBy_7 10 rfl rfl)
theorem dX0_elasticBy_181 : decode cX0_elasticBy 181 = .ok (.goto (-166), 3) := dk_167 255 90 (dk_at dksX0_elasticBy_7 13 rfl rfl)
theorem dX0_elasticBy_184 : decode cX0_elasticBy 184 = .ok (.iinc 4 (-1), 3) := dk_132 4 255 (dk_at dksX0_elasticBy_7 16 rfl rfl)
theorem dX0_elasticBy_187 : decode cX0_elasticBy 187 = .ok (.goto (-182), 3) := dk_167 255 74 (dk_at dksX0_elasticBy_7 19 rfl rfl)
theorem dX0_elasticBy_190 : decode cX0_elasticBy 190 = .ok (.aload_n 0, 1) := dk_42 (dk_at dksX0_elasticBy_7 22 rfl rfl)
theorem dX0_elasticBy_191 : decode cX0_elasticBy 191 = .ok (.getfield 51, 3) := dk_180 0 51 (dk_at dksX0_elasticBy_8 0 rfl rfl)
theorem dX0_elasticBy_194 : decode cX0_elasticBy 194 = .ok (.iconst 0, 1) := dk_3 (dk_at dksX0_elasticBy_8 3 rfl rfl)
theorem dX0_elasticBy_195 : decode cX0_elasticBy 195 = .ok (.aaload, 1) := dk_50 (dk_at dksX0_elasticBy_8 4 rfl rfl)
theorem dX0_elasticBy_196 : decode cX0_elasticBy 196 = .ok (.iconst 0, 1) := dk_3 (dk_at dksX0_elasticBy_8 5 rfl rfl)
theorem dX0_elasticBy_197 : decode cX0_elasticBy 197 = .ok (.iaload, 1) := dk_46 (dk_at dksX0_elasticBy_8 6 rfl rfl)
theorem dX0_elasticBy_198 : decode cX0_elasticBy 198 = .ok (.ireturn, 1) := dk_172 (dk_at dksX0_elasticBy_8 7 rfl rfl)
abbrev cX0_way : ByteArray := prog_1_method_36_code
def yX0_way : MethodName := ⟨RX0, "way", "(IIII)I"⟩
def dkwX0_way_3 : List UInt8 := [180, 0, 54, 29, 46, 167, 0, 13, 42, 180, 0, 57, 29, 46, 167, 0, 4, 2, 172]
abbrev dktX0_way_3 : List UInt8 := dkwX0_way_3 ++ []
def dkwX0_way_2 : List UInt8 := [172, 29, 21, 7, 162, 0, 37, 21, 4, 133, 9, 10, 184, 0, 166, 153, 0, 26, 21, 4, 154, 0, 12, 42]
abbrev dktX0_way_2 : List UInt8 := dkwX0_way_2 ++ dktX0_way_3
def dkwX0_way_1 : List UInt8 := [29, 2, 162, 0, 5, 2, 172, 42, 25, 5, 25, 6, 182, 1, 57, 54, 7, 29, 2, 160, 0, 6, 21, 7]
abbrev dktX0_way_1 : List UInt8 := dkwX0_way_1 ++ dktX0_way_2
def dkwX0_way_0 : List UInt8 := [42, 27, 182, 1, 50, 58, 5, 42, 28, 182, 1, 50, 58, 6, 25, 5, 198, 0, 13, 25, 6, 198, 0, 8]
abbrev dktX0_way_0 : List UInt8 := dkwX0_way_0 ++ dktX0_way_1
theorem dksX0_way_0 : cX0_way.data.toList.drop 0 = dktX0_way_0 := by decide +kernel
theorem dksX0_way_1 : cX0_way.data.toList.drop 24 = dktX0_way_1 := dk_seg dksX0_way_0 24 rfl rfl
theorem dksX0_way_2 : cX0_way.data.toList.drop 48 = dktX0_way_2 := dk_seg dksX0_way_1 24 rfl rfl
theorem dksX0_way_3 : cX0_way.data.toList.drop 72 = dktX0_way_3 := dk_seg dksX0_way_2 24 rfl rfl
theorem dX0_way_0 : decode cX0_way 0 = .ok (.aload_n 0, 1) := dk_42 (dk_at dksX0_way_0 0 rfl rfl)
theorem dX0_way_1 : decode cX0_way 1 = .ok (.iload_n 1, 1) := dk_27 (dk_at dksX0_way_0 1 rfl rfl)
theorem dX0_way_2 : decode cX0_way 2 = .ok (.invokevirtual 306, 3) := dk_182 1 50 (dk_at dksX0_way_0 2 rfl rfl)
theorem dX0_way_5 : decode cX0_way 5 = .ok (.astore 5, 2) := dk_58 5 (dk_at dksX0_way_0 5 rfl rfl)
theorem dX0_way_7 : decode cX0_way 7 = .ok (.aload_n 0, 1) := dk_42 (dk_at dksX0_way_0 7 rfl rfl)
theorem dX0_way_8 : decode cX0_way 8 = .ok (.iload_n 2, 1) := dk_28 (dk_at dksX0_way_0 8 rfl rfl)
theorem dX0_way_9 : decode cX0_way 9 = .ok (.invokevirtual 306, 3) := dk_182 1 50 (dk_at dksX0_way_0 9 rfl rfl)
theorem dX0_way_12 : decode cX0_way 12 = .ok (.astore 6, 2) := dk_58 6 (dk_at dksX0_way_0 12 rfl rfl)
theorem dX0_way_14 : decode cX0_way 14 = .ok (.aload 5, 2) := dk_25 5 (dk_at dksX0_way_0 14 rfl rfl)
theorem dX0_way_16 : decode cX0_way 16 = .ok (.ifnull 13, 3) := dk_198 0 13 (dk_at dksX0_way_0 16 rfl rfl)
theorem dX0_way_19 : decode cX0_way 19 = .ok (.aload 6, 2) := dk_25 6 (dk_at dksX0_way_0 19 rfl rfl)
theorem dX0_way_21 : decode cX0_way 21 = .ok (.ifnull 8, 3) := dk_198 0 8 (dk_at dksX0_way_0 21 rfl rfl)
theorem dX0_way_24 : decode cX0_way 24 = .ok (.iload_n 3, 1) := dk_29 (dk_at dksX0_way_1 0 rfl rfl)
theorem dX0_way_25 : decode cX0_way 25 = .ok (.iconst (-1), 1) := dk_2 (dk_at dksX0_way_1 1 rfl rfl)
theorem dX0_way_26 : decode cX0_way 26 = .ok (.if_icmp .ge 5, 3) := dk_162 0 5 (dk_at dksX0_way_1 2 rfl rfl)
theorem dX0_way_29 : decode cX0_way 29 = .ok (.iconst (-1), 1) := dk_2 (dk_at dksX0_way_1 5 rfl rfl)
theorem dX0_way_30 : decode cX0_way 30 = .ok (.ireturn, 1) := dk_172 (dk_at dksX0_way_1 6 rfl rfl)
theorem dX0_way_31 : decode cX0_way 31 = .ok (.aload_n 0, 1) := dk_42 (dk_at dksX0_way_1 7 rfl rfl)
theorem dX0_way_32 : decode cX0_way 32 = .ok (.aload 5, 2) := dk_25 5 (dk_at dksX0_way_1 8 rfl rfl)
theorem dX0_way_34 : decode cX0_way 34 = .ok (.aload 6, 2) := dk_25 6 (dk_at dksX0_way_1 10 rfl rfl)
theorem dX0_way_36 : decode cX0_way 36 = .ok (.invokevirtual 313, 3) := dk_182 1 57 (dk_at dksX0_way_1 12 rfl rfl)
theorem dX0_way_39 : decode cX0_way 39 = .ok (.istore 7, 2) := dk_54 7 (dk_at dksX0_way_1 15 rfl rfl)
theorem dX0_way_41 : decode cX0_way 41 = .ok (.iload_n 3, 1) := dk_29 (dk_at dksX0_way_1 17 rfl rfl)
theorem dX0_way_42 : decode cX0_way 42 = .ok (.iconst (-1), 1) := dk_2 (dk_at dksX0_way_1 18 rfl rfl)
theorem dX0_way_43 : decode cX0_way 43 = .ok (.if_icmp .ne 6, 3) := dk_160 0 6 (dk_at dksX0_way_1 19 rfl rfl)
theorem dX0_way_46 : decode cX0_way 46 = .ok (.iload 7, 2) := dk_21 7 (dk_at dksX0_way_1 22 rfl rfl)
theorem dX0_way_48 : decode cX0_way 48 = .ok (.ireturn, 1) := dk_172 (dk_at dksX0_way_2 0 rfl rfl)
theorem dX0_way_49 : decode cX0_way 49 = .ok (.iload_n 3, 1) := dk_29 (dk_at dksX0_way_2 1 rfl rfl)
theorem dX0_way_50 : decode cX0_way 50 = .ok (.iload 7, 2) := dk_21 7 (dk_at dksX0_way_2 2 rfl rfl)
theorem dX0_way_52 : decode cX0_way 52 = .ok (.if_icmp .ge 37, 3) := dk_162 0 37 (dk_at dksX0_way_2 4 rfl rfl)
theorem dX0_way_55 : decode cX0_way 55 = .ok (.iload 4, 2) := dk_21 4 (dk_at dksX0_way_2 7 rfl rfl)
theorem dX0_way_57 : decode cX0_way 57 = .ok (.i2l, 1) := dk_133 (dk_at dksX0_way_2 9 rfl rfl)
theorem dX0_way_58 : decode cX0_way 58 = .ok (.lconst 0, 1) := dk_9 (dk_at dksX0_way_2 10 rfl rfl)
theorem dX0_way_59 : decode cX0_way 59 = .ok (.lconst 1, 1) := dk_10 (dk_at dksX0_way_2 11 rfl rfl)
theorem dX0_way_60 : decode cX0_way 60 = .ok (.invokestatic 166, 3) := dk_184 0 166 (dk_at dksX0_way_2 12 rfl rfl)
theorem dX0_way_63 : decode cX0_way 63 = .ok (.ifCond .eq 26, 3) := dk_153 0 26 (dk_at dksX0_way_2 15 rfl rfl)
theorem dX0_way_66 : decode cX0_way 66 = .ok (.iload 4, 2) := dk_21 4 (dk_at dksX0_way_2 18 rfl rfl)
theorem dX0_way_68 : decode cX0_way 68 = .ok (.ifCond .ne 12, 3) := dk_154 0 12 (dk_at dksX0_way_2 20 rfl rfl)
theorem dX0_way_71 : decode cX0_way 71 = .ok (.aload_n 0, 1) := dk_42 (dk_at dksX0_way_2 23 rfl rfl)
theorem dX0_way_72 : decode cX0_way 72 = .ok (.getfield 54, 3) := dk_180 0 54 (dk_at dksX0_way_3 0 rfl rfl)
theorem dX0_way_75 : decode cX0_way 75 = .ok (.iload_n 3, 1) := dk_29 (dk_at dksX0_way_3 3 rfl rfl)
theorem dX0_way_76 : decode cX0_way 76 = .ok (.iaload, 1) := dk_46 (dk_at dksX0_way_3 4 rfl rfl)
theorem dX0_way_77 : decode cX0_way 77 = .ok (.goto 13, 3) := dk_167 0 13 (dk_at dksX0_way_3 5 rfl rfl)
theorem dX0_way_80 : decode cX0_way 80 = .ok (.aload_n 0, 1) := dk_42 (dk_at dksX0_way_3 8 rfl rfl)
theorem dX0_way_81 : decode cX0_way 81 = .ok (.getfield 57, 3) := dk_180 0 57 (dk_at dksX0_way_3 9 rfl rfl)
theorem dX0_way_84 : decode cX0_way 84 = .ok (.iload_n 3, 1) := dk_29 (dk_at dksX0_way_3 12 rfl rfl)
theorem dX0_way_85 : decode cX0_way 85 = .ok (.iaload, 1) := dk_46 (dk_at dksX0_way_3 13 rfl rfl)
theorem dX0_way_86 : decode cX0_way 86 = .ok (.goto 4, 3) := dk_167 0 4 (dk_at dksX0_way_3 14 rfl rfl)
theorem dX0_way_89 : decode cX0_way 89 = .ok (.iconst (-1), 1) := dk_2 (dk_at dksX0_way_3 17 rfl rfl)
theorem dX0_way_90 : decode cX0_way 90 = .ok (.ireturn, 1) := dk_172 (dk_at dksX0_way_3 18 rfl rfl)
abbrev cX0_laysWay : ByteArray := prog_1_method_35_code
def yX0_laysWay : MethodName := ⟨RX0, "laysWay", "(LLetterPen$Stroke;LLetterPen$Stroke;)I"⟩
def dkwX0_laysWay_7 : List UInt8 := [167, 255, 126, 132, 5, 1, 167, 255, 120]
abbrev dktX0_laysWay_7 : List UInt8 := dkwX0_laysWay_7 ++ []
def dkwX0_laysWay_6 : List UInt8 := [100, 162, 0, 26, 42, 180, 0, 51, 21, 4, 4, 96, 50, 21, 5, 46, 21, 7, 160, 0, 9, 132, 4, 1]
abbrev dktX0_laysWay_6 : List UInt8 := dkwX0_laysWay_6 ++ dktX0_laysWay_7
def dkwX0_laysWay_5 : List UInt8 := [50, 21, 5, 4, 96, 46, 21, 7, 160, 0, 12, 132, 4, 1, 132, 5, 1, 167, 255, 157, 21, 4, 29, 4]
abbrev dktX0_laysWay_5 : List UInt8 := dkwX0_laysWay_5 ++ dktX0_laysWay_6
def dkwX0_laysWay_4 : List UInt8 := [21, 4, 29, 4, 100, 162, 0, 39, 21, 5, 29, 4, 100, 162, 0, 31, 42, 180, 0, 51, 21, 4, 4, 96]
abbrev dktX0_laysWay_4 : List UInt8 := dkwX0_laysWay_4 ++ dktX0_laysWay_5
def dkwX0_laysWay_3 : List UInt8 := [160, 0, 6, 21, 6, 172, 21, 7, 42, 180, 0, 45, 21, 4, 21, 5, 185, 1, 33, 3, 0, 100, 54, 7]
abbrev dktX0_laysWay_3 : List UInt8 := dkwX0_laysWay_3 ++ dktX0_laysWay_4
def dkwX0_laysWay_2 : List UInt8 := [180, 0, 57, 21, 6, 21, 5, 79, 132, 6, 1, 21, 4, 29, 4, 100, 160, 0, 14, 21, 5, 29, 4, 100]
abbrev dktX0_laysWay_2 : List UInt8 := dkwX0_laysWay_2 ++ dktX0_laysWay_3
def dkwX0_laysWay_1 : List UInt8 := [180, 0, 23, 180, 0, 216, 4, 46, 182, 1, 53, 54, 7, 42, 180, 0, 54, 21, 6, 21, 4, 79, 42]
abbrev dktX0_laysWay_1 : List UInt8 := dkwX0_laysWay_1 ++ dktX0_laysWay_2
def dkwX0_laysWay_0 : List UInt8 := [42, 180, 0, 23, 180, 0, 216, 3, 46, 62, 3, 54, 4, 3, 54, 5, 3, 54, 6, 42, 43, 44, 3, 42]
abbrev dktX0_laysWay_0 : List UInt8 := dkwX0_laysWay_0 ++ dktX0_laysWay_1
theorem dksX0_laysWay_0 : cX0_laysWay.data.toList.drop 0 = dktX0_laysWay_0 := by decide +kernel
theorem dksX0_laysWay_1 : cX0_laysWay.data.toList.drop 24 = dktX0_laysWay_1 := dk_seg dksX0_laysWay_0 24 rfl rfl
theorem dksX0_laysWay_2 : cX0_laysWay.data.toList.drop 47 = dktX0_laysWay_2 := dk_seg dksX0_laysWay_1 23 rfl rfl
theorem dksX0_laysWay_3 : cX0_laysWay.data.toList.drop 71 = dktX0_laysWay_3 := dk_seg dksX0_laysWay_2 24 rfl rfl
theorem dksX0_laysWay_4 : cX0_laysWay.data.toList.drop 95 = dktX0_laysWay_4 := dk_seg dksX0_laysWay_3 24 rfl rfl
theorem dksX0_laysWay_5 : cX0_laysWay.data.toList.drop 119 = dktX0_laysWay_5 := dk_seg dksX0_laysWay_4 24 rfl rfl
theorem dksX0_laysWay_6 : cX0_laysWay.data.toList.drop 143 = dktX0_laysWay_6 := dk_seg dksX0_laysWay_5 24 rfl rfl
theorem dksX0_laysWay_7 : cX0_laysWay.data.toList.drop 167 = dktX0_laysWay_7 := dk_seg dksX0_laysWay_6 24 rfl rfl
theorem dX0_laysWay_0 : decode cX0_laysWay 0 = .ok (.aload_n 0, 1) := dk_42 (dk_at dksX0_laysWay_0 0 rfl rfl)
theorem dX0_laysWay_1 : decode cX0_laysWay 1 = .ok (.getfield 23, 3) := dk_180 0 23 (dk_at dksX0_laysWay_0 1 rfl rfl)
theorem dX0_laysWay_4 : decode cX0_laysWay 4 = .ok (.getfield 216, 3) := dk_180 0 216 (dk_at dksX0_laysWay_0 4 rfl rfl)
theorem dX0_laysWay_7 : decode cX0_laysWay 7 = .ok (.iconst 0, 1) := dk_3 (dk_at dksX0_laysWay_0 7 rfl rfl)
theorem dX0_laysWay_8 : decode cX0_laysWay 8 = .ok (.iaload, 1) := dk_46 (dk_at dksX0_laysWay_0 8 rfl rfl)
theorem dX0_laysWay_9 : decode cX0_laysWay 9 = .ok (.istore_n 3, 1) := dk_62 (dk_at dksX0_laysWay_0 9 rfl rfl)
theorem dX0_laysWay_10 : decode cX0_laysWay 10 = .ok (.iconst 0, 1) := dk_3 (dk_at dksX0_laysWay_0 10 rfl rfl)
theorem dX0_laysWay_11 : decode cX0_laysWay 11 = .ok (.istore 4, 2) := dk_54 4 (dk_at dksX0_laysWay_0 11 rfl rfl)
theorem dX0_laysWay_13 : decode cX0_laysWay 13 = .ok (.iconst 0, 1) := dk_3 (dk_at dksX0_laysWay_0 13 rfl rfl)
theorem dX0_laysWay_14 : decode cX0_laysWay 14 = .ok (.istore 5, 2) := dk_54 5 (dk_at dksX0_laysWay_0 14 rfl rfl)
theorem dX0_laysWay_16 : decode cX0_laysWay 16 = .ok (.iconst 0, 1) := dk_3 (dk_at dksX0_laysWay_0 16 rfl rfl)
theorem dX0_laysWay_17 : decode cX0_laysWay 17 = .ok (.istore 6, 2) := dk_54 6 (dk_at dksX0_laysWay_0 17 rfl rfl)
theorem dX0_laysWay_19 : decode cX0_laysWay 19 = .ok (.aload_n 0, 1) := dk_42 (dk_at dksX0_laysWay_0 19 rfl rfl)
theorem dX0_laysWay_20 : decode cX0_laysWay 20 = .ok (.aload_n 1, 1) := dk_43 (dk_at dksX0_laysWay_0 20 rfl rfl)
theorem dX0_laysWay_21 : decode cX0_laysWay 21 = .ok (.aload_n 2, 1) := dk_44 (dk_at dksX0_laysWay_0 21 rfl rfl)
theorem dX0_laysWay_22 : decode cX0_laysWay 22 = .ok (.iconst 0, 1) := dk_3 (dk_at dksX0_laysWay_0 22 rfl rfl)
theorem dX0_laysWay_23 : decode cX0_laysWay 23 = .ok (.aload_n 0, 1) := dk_42 (dk_at dksX0_laysWay_0 23 rfl rfl)
theorem dX0_laysWay_24 : decode cX0_laysWay 24 = .ok (.getfield 23, 3) := dk_180 0 23 (dk_at dksX0_laysWay_1 0 rfl rfl)
theorem dX0_laysWay_27 : decode cX0_laysWay 27 = .ok (.getfield 216, 3) := dk_180 0 216 (dk_at dksX0_laysWay_1 3 rfl rfl)
theorem dX0_laysWay_30 : decode cX0_laysWay 30 = .ok (.iconst 1, 1) := dk_4 (dk_at dksX0_laysWay_1 6 rfl rfl)
theorem dX0_laysWay_31 : decode cX0_laysWay 31 = .ok (.iaload, 1) := dk_46 (dk_at dksX0_laysWay_1 7 rfl rfl)
theorem dX0_laysWay_32 : decode cX0_laysWay 32 = .ok (.invokevirtual 309, 3) := dk_182 1 53 (dk_at dksX0_laysWay_1 8 rfl rfl)
theorem dX0_laysWay_35 : decode cX0_laysWay 35 = .ok (.istore 7, 2) := dk_54 7 (dk_at dksX0_laysWay_1 11 rfl rfl)
theorem dX0_laysWay_37 : decode cX0_laysWay 37 = .ok (.aload_n 0, 1) := dk_42 (dk_at dksX0_laysWay_1 13 rfl rfl)
theorem dX0_laysWay_38 : decode cX0_laysWay 38 = .ok (.getfield 54, 3) := dk_180 0 54 (dk_at dksX0_laysWay_1 14 rfl rfl)
theorem dX0_laysWay_41 : decode cX0_laysWay 41 = .ok (.iload 6, 2) := dk_21 6 (dk_at dksX0_laysWay_1 17 rfl rfl)
theorem dX0_laysWay_43 : decode cX0_laysWay 43 = .ok (.iload 4, 2) := dk_21 4 (dk_at dksX0_laysWay_1 19 rfl rfl)
theorem dX0_laysWay_45 : decode cX0_laysWay 45 = .ok (.iastore, 1) := dk_79 (dk_at dksX0_laysWay_1 21 rfl rfl)
theorem dX0_laysWay_46 : decode cX0_laysWay 46 = .ok (.aload_n 0, 1) := dk_42 (dk_at dksX0_laysWay_1 22 rfl rfl)
theorem dX0_laysWay_47 : decode cX0_laysWay 47 = .ok (.getfield 57, 3) := dk_180 0 57 (dk_at dksX0_laysWay_2 0 rfl rfl)
theorem dX0_laysWay_50 : decode cX0_laysWay 50 = .ok (.iload 6, 2) := dk_21 6 (dk_at dksX0_laysWay_2 3 rfl rfl)
theorem dX0_laysWay_52 : decode cX0_laysWay 52 = .ok (.iload 5, 2) := dk_21 5 (dk_at dksX0_laysWay_2 5 rfl rfl)
theorem dX0_laysWay_54 : decode cX0_laysWay 54 = .ok (.iastore, 1) := dk_79 (dk_at dksX0_laysWay_2 7 rfl rfl)
theorem dX0_laysWay_55 : decode cX0_laysWay 55 = .ok (.iinc 6 1, 3) := dk_132 6 1 (dk_at dksX0_laysWay_2 8 rfl rfl)
theorem dX0_laysWay_58 : decode cX0_laysWay 58 = .ok (.iload 4, 2) := dk_21 4 (dk_at dksX0_laysWay_2 11 rfl rfl)
theorem dX0_laysWay_60 : decode cX0_laysWay 60 = .ok (.iload_n 3, 1) := dk_29 (dk_at dksX0_laysWay_2 13 rfl rfl)
theorem dX0_laysWay_61 : decode cX0_laysWay 61 = .ok (.iconst 1, 1) := dk_4 (dk_at dksX0_laysWay_2 14 rfl rfl)
theorem dX0_laysWay_62 : decode cX0_laysWay 62 = .ok (.isub, 1) := dk_100 (dk_at dksX0_laysWay_2 15 rfl rfl)
theorem dX0_laysWay_63 : decode cX0_laysWay 63 = .ok (.if_icmp .ne 14, 3) := dk_160 0 14 (dk_at dksX0_laysWay_2 16 rfl rfl)
theorem dX0_laysWay_66 : decode cX0_laysWay 66 = .ok (.iload 5, 2) := dk_21 5 (dk_at dksX0_laysWay_2 19 rfl rfl)
theorem dX0_laysWay_68 : decode cX0_laysWay 68 = .ok (.iload_n 3, 1) := dk_29 (dk_at dksX0_laysWay_2 21 rfl rfl)
theorem dX0_laysWay_69 : decode cX0_laysWay 69 = .ok (.iconst 1, 1) := dk_4 (dk_at dksX0_laysWay_2 22 rfl rfl)
theorem dX0_laysWay_70 : decode cX0_laysWay 70 = .ok (.isub, 1) := dk_100 (dk_at dksX0_laysWay_2 23 rfl rfl)
theorem dX0_laysWay_71 : decode cX0_laysWay 71 = .ok (.if_icmp .ne 6, 3) := dk_160 0 6 (dk_at dksX0_laysWay_3 0 rfl rfl)
theorem dX0_laysWay_74 : decode cX0_laysWay 74 = .ok (.iload 6, 2) := dk_21 6 (dk_at dksX0_laysWay_3 3 rfl rfl)
theorem dX0_laysWay_76 : decode cX0_laysWay 76 = .ok (.ireturn, 1) := dk_172 (dk_at dksX0_laysWay_3 5 rfl rfl)
theorem dX0_laysWay_77 : decode cX0_laysWay 77 = .ok (.iload 7, 2) := dk_21 7 (dk_at dksX0_laysWay_3 6 rfl rfl)
theorem dX0_laysWay_79 : decode cX0_laysWay 79 = .ok (.aload_n 0, 1) := dk_42 (dk_at dksX0_laysWay_3 8 rfl rfl)
theorem dX0_laysWay_80 : decode cX0_laysWay 80 = .ok (.getfield 45, 3) := dk_180 0 45 (dk_at dksX0_laysWay_3 9 rfl rfl)
theorem dX0_laysWay_83 : decode cX0_laysWay 83 = .ok (.iload 4, 2) := dk_21 4 (dk_at dksX0_laysWay_3 12 rfl rfl)
theorem dX0_laysWay_85 : decode cX0_laysWay 85 = .ok (.iload 5, 2) := dk_21 5 (dk_at dksX0_laysWay_3 14 rfl rfl)
theorem dX0_laysWay_87 : decode cX0_laysWay 87 = .ok (.invokeinterface 289 3, 5) := by decide +kernel
theorem dX0_laysWay_92 : decode cX0_laysWay 92 = .ok (.isub, 1) := dk_100 (dk_at dksX0_laysWay_3 21 rfl rfl)
theorem dX0_laysWay_93 : decode cX0_laysWay 93 = .ok (.istore 7, 2) := dk_54 7 (dk_at dksX0_laysWay_3 22 rfl rfl)
theorem dX0_laysWay_95 : decode cX0_laysWay 95 = .ok (.iload 4, 2) := dk_21 4 (dk_at dksX0_laysWay_4 0 rfl rfl)
theorem dX0_laysWay_97 : decode cX0_laysWay 97 = .ok (.iload_n 3, 1) := dk_29 (dk_at dksX0_laysWay_4 2 rfl rfl)
theorem dX0_laysWay_98 : decode cX0_laysWay 98 = .ok (.iconst 1, 1) := dk_4 (dk_at dksX0_laysWay_4 3 rfl rfl)
theorem dX0_laysWay_99 : decode cX0_laysWay 99 = .ok (.isub, 1) := dk_100 (dk_at dksX0_laysWay_4 4 rfl rfl)
theorem dX0_laysWay_100 : decode cX0_laysWay 100 = .ok (.if_icmp .ge 39, 3) := dk_162 0 39 (dk_at dksX0_laysWay_4 5 rfl rfl)
theorem dX0_laysWay_103 : decode cX0_laysWay 103 = .ok (.iload 5, 2) := dk_21 5 (dk_at dksX0_laysWay_4 8 rfl rfl)
theorem dX0_laysWay_105 : decode cX0_laysWay 105 = .ok (.iload_n 3, 1) := dk_29 (dk_at dksX0_laysWay_4 10 rfl rfl)
theorem dX0_laysWay_106 : decode cX0_laysWay 106 = .ok (.iconst 1, 1) := dk_4 (dk_at dksX0_laysWay_4 11 rfl rfl)
theorem dX0_laysWay_107 : decode cX0_laysWay 107 = .ok (.isub, 1) := dk_100 (dk_at dksX0_laysWay_4 12 rfl rfl)
theorem dX0_laysWay_108 : decode cX0_laysWay 108 = .ok (.if_icmp .ge 31, 3) := dk_162 0 31 (dk_at dksX0_laysWay_4 13 rfl rfl)
theorem dX0_laysWay_111 : decode cX0_laysWay 111 = .ok (.aload_n 0, 1) := dk_42 (dk_at dksX0_laysWay_4 16 rfl rfl)
theorem dX0_laysWay_112 : decode cX0_laysWay 112 = .ok (.getfield 51, 3) := dk_180 0 51 (dk_at dksX0_laysWay_4 17 rfl rfl)
theorem dX0_laysWay_115 : decode cX0_laysWay 115 = .ok (.iload 4, 2) := dk_21 4 (dk_at dksX0_laysWay_4 20 rfl rfl)
theorem dX0_laysWay_117 : decode cX0_laysWay 117 = .ok (.iconst 1, 1) := dk_4 (dk_at dksX0_laysWay_4 22 rfl rfl)
theorem dX0_laysWay_118 : decode cX0_laysWay 118 = .ok (.iadd, 1) := dk_96 (dk_at dksX0_laysWay_4 23 rfl rfl)
theorem dX0_laysWay_119 : decode cX0_laysWay 119 = .ok (.aaload, 1) := dk_50 (dk_at dksX0_laysWay_5 0 rfl rfl)
theorem dX0_laysWay_120 : decode cX0_laysWay 120 = .ok (.iload 5, 2) := dk_21 5 (dk_at dksX0_laysWay_5 1 rfl rfl)
theorem dX0_laysWay_122 : decode cX0_laysWay 122 = .ok (.iconst 1, 1) := dk_4 (dk_at dksX0_laysWay_5 3 rfl rfl)
theorem dX0_laysWay_123 : decode cX0_laysWay 123 = .ok (.iadd, 1) := dk_96 (dk_at dksX0_laysWay_5 4 rfl rfl)
theorem dX0_laysWay_124 : decode cX0_laysWay 124 = .ok (.iaload, 1) := dk_46 (dk_at dksX0_laysWay_5 5 rfl rfl)
theorem dX0_laysWay_125 : decode cX0_laysWay 125 = .ok (.iload 7, 2) := dk_21 7 (dk_at dksX0_laysWay_5 6 rfl rfl)
theorem dX0_laysWay_127 : decode cX0_laysWay 127 = .ok (.if_icmp .ne 12, 3) := dk_160 0 12 (dk_at dksX0_laysWay_5 8 rfl rfl)
theorem dX0_laysWay_130 : decode cX0_laysWay 130 = .ok (.iinc 4 1, 3) := dk_132 4 1 (dk_at dksX0_laysWay_5 11 rfl rfl)
theorem dX0_laysWay_133 : decode cX0_laysWay 133 = .ok (.iinc 5 1, 3) := dk_132 5 1 (dk_at dksX0_laysWay_5 14 rfl rfl)
theorem dX0_laysWay_136 : decode cX0_laysWay 136 = .ok (.goto (-99), 3) := dk_167 255 157 (dk_at dksX0_laysWay_5 17 rfl rfl)
theorem dX0_laysWay_139 : decode cX0_laysWay 139 = .ok (.iload 4, 2) := dk_21 4 (dk_at dksX0_laysWay_5 20 rfl rfl)
theorem dX0_laysWay_141 : decode cX0_laysWay 141 = .ok (.iload_n 3, 1) := dk_29 (dk_at dksX0_laysWay_5 22 rfl rfl)
theorem dX0_laysWay_142 : decode cX0_laysWay 142 = .ok (.iconst 1, 1) := dk_4 (dk_at dksX0_laysWay_5 23 rfl rfl)
theorem dX0_laysWay_143 : decode cX0_laysWay 143 = .ok (.isub, 1) := dk_100 (dk_at dksX0_laysWay_6 0 rfl rfl)
theorem dX0_laysWay_144 : decode cX0_laysWay 144 = .ok (.if_icmp .ge 26, 3) := dk_162 0 26 (dk_at dksX0_laysWay_6 1 rfl rfl)
theorem dX0_laysWay_147 : decode cX0_laysWay 147 = .ok (.aload_n 0, 1) := dk_42 (dk_at dksX0_laysWay_6 4 rfl rfl)
theorem dX0_laysWay_148 : decode cX0_laysWay 148 = .ok (.getfield 51, 3) := dk_180 0 51 (dk_at dksX0_laysWay_6 5 rfl rfl)
theorem dX0_laysWay_151 : decode cX0_laysWay 151 = .ok (.iload 4, 2) := dk_21 4 (dk_at dksX0_laysWay_6 8 rfl rfl)
theorem dX0_laysWay_153 : decode cX0_laysWay 153 = .ok (.iconst 1, 1) := dk_4 (dk_at dksX0_laysWay_6 10 rfl rfl)
theorem dX0_laysWay_154 : decode cX0_laysWay 154 = .ok (.iadd, 1) := dk_96 (dk_at dksX0_laysWay_6 11 rfl rfl)
theorem dX0_laysWay_155 : decode cX0_laysWay 155 = .ok (.aaload, 1) := dk_50 (dk_at dksX0_laysWay_6 12 rfl rfl)
theorem dX0_laysWay_156 : decode cX0_laysWay 156 = .ok (.iload 5, 2) := dk_21 5 (dk_at dksX0_laysWay_6 13 rfl rfl)
theorem dX0_laysWay_158 : decode cX0_laysWay 158 = .ok (.iaload, 1) := dk_46 (dk_at dksX0_laysWay_6 15 rfl rfl)
theorem dX0_laysWay_159 : decode cX0_laysWay 159 = .ok (.iload 7, 2) := dk_21 7 (dk_at dksX0_laysWay_6 16 rfl rfl)
theorem dX0_laysWay_161 : decode cX0_laysWay 161 = .ok (.if_icmp .ne 9, 3) := dk_160 0 9 (dk_at dksX0_laysWay_6 18 rfl rfl)
theorem dX0_laysWay_164 : decode cX0_laysWay 164 = .ok (.iinc 4 1, 3) := dk_132 4 1 (dk_at dksX0_laysWay_6 21 rfl rfl)
theorem dX0_laysWay_167 : decode cX0_laysWay 167 = .ok (.goto (-130), 3) := dk_167 255 126 (dk_at dksX0_laysWay_7 0 rfl rfl)
theorem dX0_laysWay_170 : decode cX0_laysWay 170 = .ok (.iinc 5 1, 3) := dk_132 5 1 (dk_at dksX0_laysWay_7 3 rfl rfl)
theorem dX0_laysWay_173 : decode cX0_laysWay 173 = .ok (.goto (-136), 3) := dk_167 255 120 (dk_at dksX0_laysWay_7 6 rfl rfl)
abbrev cX0_strays : ByteArray := prog_1_method_37_code
def yX0_strays : MethodName := ⟨RX0, "strays", "(II)I"⟩
def dkwX0_strays_3 : List UInt8 := [132, 7, 1, 167, 255, 221, 21, 5, 172]
abbrev dktX0_strays_3 : List UInt8 := dkwX0_strays_3 ++ []
def dkwX0_strays_2 : List UInt8 := [42, 180, 0, 54, 21, 7, 46, 42, 180, 0, 57, 21, 7, 46, 100, 184, 0, 146, 184, 1, 61, 54, 5]
abbrev dktX0_strays_2 : List UInt8 := dkwX0_strays_2 ++ dktX0_strays_3
def dkwX0_strays_1 : List UInt8 := [3, 54, 5, 42, 45, 25, 4, 182, 1, 57, 54, 6, 3, 54, 7, 21, 7, 21, 6, 162, 0, 34, 21, 5]
abbrev dktX0_strays_1 : List UInt8 := dkwX0_strays_1 ++ dktX0_strays_2
def dkwX0_strays_0 : List UInt8 := [42, 27, 182, 1, 50, 78, 42, 28, 182, 1, 50, 58, 4, 45, 198, 0, 8, 25, 4, 199, 0, 5, 2, 172]
abbrev dktX0_strays_0 : List UInt8 := dkwX0_strays_0 ++ dktX0_strays_1
theorem dksX0_strays_0 : cX0_strays.data.toList.drop 0 = dktX0_strays_0 := by decide +kernel
theorem dksX0_strays_1 : cX0_strays.data.toList.drop 24 = dktX0_strays_1 := dk_seg dksX0_strays_0 24 rfl rfl
theorem dksX0_strays_2 : cX0_strays.data.toList.drop 48 = dktX0_strays_2 := dk_seg dksX0_strays_1 24 rfl rfl
theorem dksX0_strays_3 : cX0_strays.data.toList.drop 71 = dktX0_strays_3 := dk_seg dksX0_strays_2 23 rfl rfl
theorem dX0_strays_0 : decode cX0_strays 0 = .ok (.aload_n 0, 1) := dk_42 (dk_at dksX0_strays_0 0 rfl rfl)
theorem dX0_strays_1 : decode cX0_strays 1 = .ok (.iload_n 1, 1) := dk_27 (dk_at dksX0_strays_0 1 rfl rfl)
theorem dX0_strays_2 : decode cX0_strays 2 = .ok (.invokevirtual 306, 3) := dk_182 1 50 (dk_at dksX0_strays_0 2 rfl rfl)
theorem dX0_strays_5 : decode cX0_strays 5 = .ok (.astore_n 3, 1) := dk_78 (dk_at dksX0_strays_0 5 rfl rfl)
theorem dX0_strays_6 : decode cX0_strays 6 = .ok (.aload_n 0, 1) := dk_42 (dk_at dksX0_strays_0 6 rfl rfl)
theorem dX0_strays_7 : decode cX0_strays 7 = .ok (.iload_n 2, 1) := dk_28 (dk_at dksX0_strays_0 7 rfl rfl)
theorem dX0_strays_8 : decode cX0_strays 8 = .ok (.invokevirtual 306, 3) := dk_182 1 50 (dk_at dksX0_strays_0 8 rfl rfl)
theorem dX0_strays_11 : decode cX0_strays 11 = .ok (.astore 4, 2) := dk_58 4 (dk_at dksX0_strays_0 11 rfl rfl)
theorem dX0_strays_13 : decode cX0_strays 13 = .ok (.aload_n 3, 1) := dk_45 (dk_at dksX0_strays_0 13 rfl rfl)
theorem dX0_strays_14 : decode cX0_strays 14 = .ok (.ifnull 8, 3) := dk_198 0 8 (dk_at dksX0_strays_0 14 rfl rfl)
theorem dX0_strays_17 : decode cX0_strays 17 = .ok (.aload 4, 2) := dk_25 4 (dk_at dksX0_strays_0 17 rfl rfl)
theorem dX0_strays_19 : decode cX0_strays 19 = .ok (.ifnonnull 5, 3) := dk_199 0 5 (dk_at dksX0_strays_0 19 rfl rfl)
theorem dX0_strays_22 : decode cX0_strays 22 = .ok (.iconst (-1), 1) := dk_2 (dk_at dksX0_strays_0 22 rfl rfl)
theorem dX0_strays_23 : decode cX0_strays 23 = .ok (.ireturn, 1) := dk_172 (dk_at dksX0_strays_0 23 rfl rfl)
theorem dX0_strays_24 : decode cX0_strays 24 = .ok (.iconst 0, 1) := dk_3 (dk_at dksX0_strays_1 0 rfl rfl)
theorem dX0_strays_25 : decode cX0_strays 25 = .ok (.istore 5, 2) := dk_54 5 (dk_at dksX0_strays_1 1 rfl rfl)
theorem dX0_strays_27 : decode cX0_strays 27 = .ok (.aload_n 0, 1) := dk_42 (dk_at dksX0_strays_1 3 rfl rfl)
theorem dX0_strays_28 : decode cX0_strays 28 = .ok (.aload_n 3, 1) := dk_45 (dk_at dksX0_strays_1 4 rfl rfl)
theorem dX0_strays_29 : decode cX0_strays 29 = .ok (.aload 4, 2) := dk_25 4 (dk_at dksX0_strays_1 5 rfl rfl)
theorem dX0_strays_31 : decode cX0_strays 31 = .ok (.invokevirtual 313, 3) := dk_182 1 57 (dk_at dksX0_strays_1 7 rfl rfl)
theorem dX0_strays_34 : decode cX0_strays 34 = .ok (.istore 6, 2) := dk_54 6 (dk_at dksX0_strays_1 10 rfl rfl)
theorem dX0_strays_36 : decode cX0_strays 36 = .ok (.iconst 0, 1) := dk_3 (dk_at dksX0_strays_1 12 rfl rfl)
theorem dX0_strays_37 : decode cX0_strays 37 = .ok (.istore 7, 2) := dk_54 7 (dk_at dksX0_strays_1 13 rfl rfl)
theorem dX0_strays_39 : decode cX0_strays 39 = .ok (.iload 7, 2) := dk_21 7 (dk_at dksX0_strays_1 15 rfl rfl)
theorem dX0_strays_41 : decode cX0_strays 41 = .ok (.iload 6, 2) := dk_21 6 (dk_at dksX0_strays_1 17 rfl rfl)
theorem dX0_strays_43 : decode cX0_strays 43 = .ok (.if_icmp .ge 34, 3) := dk_162 0 34 (dk_at dksX0_strays_1 19 rfl rfl)
theorem dX0_strays_46 : decode cX0_strays 46 = .ok (.iload 5, 2) := dk_21 5 (dk_at dksX0_strays_1 22 rfl rfl)
theorem dX0_strays_48 : decode cX0_strays 48 = .ok (.aload_n 0, 1) := dk_42 (dk_at dksX0_strays_2 0 rfl rfl)
theorem dX0_strays_49 : decode cX0_strays 49 = .ok (.getfield 54, 3) := dk_180 0 54 (dk_at dksX0_strays_2 1 rfl rfl)
theorem dX0_strays_52 : decode cX0_strays 52 = .ok (.iload 7, 2) := dk_21 7 (dk_at dksX0_strays_2 4 rfl rfl)
theorem dX0_strays_54 : decode cX0_strays 54 = .ok (.iaload, 1) := dk_46 (dk_at dksX0_strays_2 6 rfl rfl)
theorem dX0_strays_55 : decode cX0_strays 55 = .ok (.aload_n 0, 1) := dk_42 (dk_at dksX0_strays_2 7 rfl rfl)
theorem dX0_strays_56 : decode cX0_strays 56 = .ok (.getfield 57, 3) := dk_180 0 57 (dk_at dksX0_strays_2 8 rfl rfl)
theorem dX0_strays_59 : decode cX0_strays 59 = .ok (.iload 7, 2) := dk_21 7 (dk_at dksX0_strays_2 11 rfl rfl)
theorem dX0_strays_61 : decode cX0_strays 61 = .ok (.iaload, 1) := dk_46 (dk_at dksX0_strays_2 13 rfl rfl)
theorem dX0_strays_62 : decode cX0_strays 62 = .ok (.isub, 1) := dk_100 (dk_at dksX0_strays_2 14 rfl rfl)
theorem dX0_strays_63 : decode cX0_strays 63 = .ok (.invokestatic 146, 3) := dk_184 0 146 (dk_at dksX0_strays_2 15 rfl rfl)
theorem dX0_strays_66 : decode cX0_strays 66 = .ok (.invokestatic 317, 3) := dk_184 1 61 (dk_at dksX0_strays_2 18 rfl rfl)
theorem dX0_strays_69 : decode cX0_strays 69 = .ok (.istore 5, 2) := dk_54 5 (dk_at dksX0_strays_2 21 rfl rfl)
theorem dX0_strays_71 : decode cX0_strays 71 = .ok (.iinc 7 1, 3) := dk_132 7 1 (dk_at dksX0_strays_3 0 rfl rfl)
theorem dX0_strays_74 : decode cX0_strays 74 = .ok (.goto (-35), 3) := dk_167 255 221 (dk_at dksX0_strays_3 3 rfl rfl)
theorem dX0_strays_77 : decode cX0_strays 77 = .ok (.iload 5, 2) := dk_21 5 (dk_at dksX0_strays_3 6 rfl rfl)
theorem dX0_strays_79 : decode cX0_strays 79 = .ok (.ireturn, 1) := dk_172 (dk_at dksX0_strays_3 8 rfl rfl)
abbrev cX0_paired : ByteArray := prog_1_method_39_code
def yX0_paired : MethodName := ⟨RX0, "paired", "(II)I"⟩
def dkwX0_paired_1 : List UInt8 := [167, 0, 10, 42, 45, 25, 4, 182, 1, 67, 172]
abbrev dktX0_paired_1 : List UInt8 := dkwX0_paired_1 ++ []
def dkwX0_paired_0 : List UInt8 := [42, 27, 182, 1, 50, 78, 42, 28, 182, 1, 50, 58, 4, 45, 198, 0, 8, 25, 4, 199, 0, 7, 2]
abbrev dktX0_paired_0 : List UInt8 := dkwX0_paired_0 ++ dktX0_paired_1
theorem dksX0_paired_0 : cX0_paired.data.toList.drop 0 = dktX0_paired_0 := by decide +kernel
theorem dksX0_paired_1 : cX0_paired.data.toList.drop 23 = dktX0_paired_1 := dk_seg dksX0_paired_0 23 rfl rfl
theorem dX0_paired_0 : decode cX0_paired 0 = .ok (.aload_n 0, 1) := dk_42 (dk_at dksX0_paired_0 0 rfl rfl)
theorem dX0_paired_1 : decode cX0_paired 1 = .ok (.iload_n 1, 1) := dk_27 (dk_at dksX0_paired_0 1 rfl rfl)
theorem dX0_paired_2 : decode cX0_paired 2 = .ok (.invokevirtual 306, 3) := dk_182 1 50 (dk_at dksX0_paired_0 2 rfl rfl)
theorem dX0_paired_5 : decode cX0_paired 5 = .ok (.astore_n 3, 1) := dk_78 (dk_at dksX0_paired_0 5 rfl rfl)
theorem dX0_paired_6 : decode cX0_paired 6 = .ok (.aload_n 0, 1) := dk_42 (dk_at dksX0_paired_0 6 rfl rfl)
theorem dX0_paired_7 : decode cX0_paired 7 = .ok (.iload_n 2, 1) := dk_28 (dk_at dksX0_paired_0 7 rfl rfl)
theorem dX0_paired_8 : decode cX0_paired 8 = .ok (.invokevirtual 306, 3) := dk_182 1 50 (dk_at dksX0_paired_0 8 rfl rfl)
theorem dX0_paired_11 : decode cX0_paired 11 = .ok (.astore 4, 2) := dk_58 4 (dk_at dksX0_paired_0 11 rfl rfl)
theorem dX0_paired_13 : decode cX0_paired 13 = .ok (.aload_n 3, 1) := dk_45 (dk_at dksX0_paired_0 13 rfl rfl)
theorem dX0_paired_14 : decode cX0_paired 14 = .ok (.ifnull 8, 3) := dk_198 0 8 (dk_at dksX0_paired_0 14 rfl rfl)
theorem dX0_paired_17 : decode cX0_paired 17 = .ok (.aload 4, 2) := dk_25 4 (dk_at dksX0_paired_0 17 rfl rfl)
theorem dX0_paired_19 : decode cX0_paired 19 = .ok (.ifnonnull 7, 3) := dk_199 0 7 (dk_at dksX0_paired_0 19 rfl rfl)
theorem dX0_paired_22 : decode cX0_paired 22 = .ok (.iconst (-1), 1) := dk_2 (dk_at dksX0_paired_0 22 rfl rfl)
theorem dX0_paired_23 : decode cX0_paired 23 = .ok (.goto 10, 3) := dk_167 0 10 (dk_at dksX0_paired_1 0 rfl rfl)
theorem dX0_paired_26 : decode cX0_paired 26 = .ok (.aload_n 0, 1) := dk_42 (dk_at dksX0_paired_1 3 rfl rfl)
theorem dX0_paired_27 : decode cX0_paired 27 = .ok (.aload_n 3, 1) := dk_45 (dk_at dksX0_paired_1 4 rfl rfl)
theorem dX0_paired_28 : decode cX0_paired 28 = .ok (.aload 4, 2) := dk_25 4 (dk_at dksX0_paired_1 5 rfl rfl)
theorem dX0_paired_30 : decode cX0_paired 30 = .ok (.invokevirtual 323, 3) := dk_182 1 67 (dk_at dksX0_paired_1 7 rfl rfl)
theorem dX0_paired_33 : decode cX0_paired 33 = .ok (.ireturn, 1) := dk_172 (dk_at dksX0_paired_1 10 rfl rfl)
abbrev cX0_pairedOf : ByteArray := prog_1_method_38_code
def yX0_pairedOf : MethodName := ⟨RX0, "pairedOf", "(LLetterPen$Stroke;LLetterPen$Stroke;)I"⟩
def dkwX0_pairedOf_2 : List UInt8 := [46, 96, 79, 184, 1, 64, 172]
abbrev dktX0_pairedOf_2 : List UInt8 := dkwX0_pairedOf_2 ++ []
def dkwX0_pairedOf_1 : List UInt8 := [42, 43, 44, 4, 42, 180, 0, 23, 180, 0, 216, 4, 46, 182, 1, 53, 42, 180, 0, 23, 180, 0, 216, 6]
abbrev dktX0_pairedOf_1 : List UInt8 := dkwX0_pairedOf_1 ++ dktX0_pairedOf_2
def dkwX0_pairedOf_0 : List UInt8 := [5, 188, 10, 89, 3, 42, 43, 44, 3, 42, 180, 0, 23, 180, 0, 216, 4, 46, 182, 1, 53, 79, 89, 4]
abbrev dktX0_pairedOf_0 : List UInt8 := dkwX0_pairedOf_0 ++ dktX0_pairedOf_1
theorem dksX0_pairedOf_0 : cX0_pairedOf.data.toList.drop 0 = dktX0_pairedOf_0 := by decide +kernel
theorem dksX0_pairedOf_1 : cX0_pairedOf.data.toList.drop 24 = dktX0_pairedOf_1 := dk_seg dksX0_pairedOf_0 24 rfl rfl
theorem dksX0_pairedOf_2 : cX0_pairedOf.data.toList.drop 48 = dktX0_pairedOf_2 := dk_seg dksX0_pairedOf_1 24 rfl rfl
theorem dX0_pairedOf_0 : decode cX0_pairedOf 0 = .ok (.iconst 2, 1) := dk_5 (dk_at dksX0_pairedOf_0 0 rfl rfl)
theorem dX0_pairedOf_1 : decode cX0_pairedOf 1 = .ok (.newarray .int, 2) := dk_188_10 (dk_at dksX0_pairedOf_0 1 rfl rfl)
theorem dX0_pairedOf_3 : decode cX0_pairedOf 3 = .ok (.dup, 1) := dk_89 (dk_at dksX0_pairedOf_0 3 rfl rfl)
theorem dX0_pairedOf_4 : decode cX0_pairedOf 4 = .ok (.iconst 0, 1) := dk_3 (dk_at dksX0_pairedOf_0 4 rfl rfl)
theorem dX0_pairedOf_5 : decode cX0_pairedOf 5 = .ok (.aload_n 0, 1) := dk_42 (dk_at dksX0_pairedOf_0 5 rfl rfl)
theorem dX0_pairedOf_6 : decode cX0_pairedOf 6 = .ok (.aload_n 1, 1) := dk_43 (dk_at dksX0_pairedOf_0 6 rfl rfl)
theorem dX0_pairedOf_7 : decode cX0_pairedOf 7 = .ok (.aload_n 2, 1) := dk_44 (dk_at dksX0_pairedOf_0 7 rfl rfl)
theorem dX0_pairedOf_8 : decode cX0_pairedOf 8 = .ok (.iconst 0, 1) := dk_3 (dk_at dksX0_pairedOf_0 8 rfl rfl)
theorem dX0_pairedOf_9 : decode cX0_pairedOf 9 = .ok (.aload_n 0, 1) := dk_42 (dk_at dksX0_pairedOf_0 9 rfl rfl)
theorem dX0_pairedOf_10 : decode cX0_pairedOf 10 = .ok (.getfield 23, 3) := dk_180 0 23 (dk_at dksX0_pairedOf_0 10 rfl rfl)
theorem dX0_pairedOf_13 : decode cX0_pairedOf 13 = .ok (.getfield 216, 3) := dk_180 0 216 (dk_at dksX0_pairedOf_0 13 rfl rfl)
theorem dX0_pairedOf_16 : decode cX0_pairedOf 16 = .ok (.iconst 1, 1) := dk_4 (dk_at dksX0_pairedOf_0 16 rfl rfl)
theorem dX0_pairedOf_17 : decode cX0_pairedOf 17 = .ok (.iaload, 1) := dk_46 (dk_at dksX0_pairedOf_0 17 rfl rfl)
theorem dX0_pairedOf_18 : decode cX0_pairedOf 18 = .ok (.invokevirtual 309, 3) := dk_182 1 53 (dk_at dksX0_pairedOf_0 18 rfl rfl)
theorem dX0_pairedOf_21 : decode cX0_pairedOf 21 = .ok (.iastore, 1) := dk_79 (dk_at dksX0_pairedOf_0 21 rfl rfl)
theorem dX0_pairedOf_22 : decode cX0_pairedOf 22 = .ok (.dup, 1) := dk_89 (dk_at dksX0_pairedOf_0 22 rfl rfl)
theorem dX0_pairedOf_23 : decode cX0_pairedOf 23 = .ok (.iconst 1, 1) := dk_4 (dk_at dksX0_pairedOf_0 23 rfl rfl)
theorem dX0_pairedOf_24 : decode cX0_pairedOf 24 = .ok (.aload_n 0, 1) := dk_42 (dk_at dksX0_pairedOf_1 0 rfl rfl)
theorem dX0_pairedOf_25 : decode cX0_pairedOf 25 = .ok (.aload_n 1, 1) := dk_43 (dk_at dksX0_pairedOf_1 1 rfl rfl)
theorem dX0_pairedOf_26 : decode cX0_pairedOf 26 = .ok (.aload_n 2, 1) := dk_44 (dk_at dksX0_pairedOf_1 2 rfl rfl)
theorem dX0_pairedOf_27 : decode cX0_pairedOf 27 = .ok (.iconst 1, 1) := dk_4 (dk_at dksX0_pairedOf_1 3 rfl rfl)
theorem dX0_pairedOf_28 : decode cX0_pairedOf 28 = .ok (.aload_n 0, 1) := dk_42 (dk_at dksX0_pairedOf_1 4 rfl rfl)
theorem dX0_pairedOf_29 : decode cX0_pairedOf 29 = .ok (.getfield 23, 3) := dk_180 0 23 (dk_at dksX0_pairedOf_1 5 rfl rfl)
theorem dX0_pairedOf_32 : decode cX0_pairedOf 32 = .ok (.getfield 216, 3) := dk_180 0 216 (dk_at dksX0_pairedOf_1 8 rfl rfl)
theorem dX0_pairedOf_35 : decode cX0_pairedOf 35 = .ok (.iconst 1, 1) := dk_4 (dk_at dksX0_pairedOf_1 11 rfl rfl)
theorem dX0_pairedOf_36 : decode cX0_pairedOf 36 = .ok (.iaload, 1) := dk_46 (dk_at dksX0_pairedOf_1 12 rfl rfl)
theorem dX0_pairedOf_37 : decode cX0_pairedOf 37 = .ok (.invokevirtual 309, 3) := dk_182 1 53 (dk_at dksX0_pairedOf_1 13 rfl rfl)
theorem dX0_pairedOf_40 : decode cX0_pairedOf 40 = .ok (.aload_n 0, 1) := dk_42 (dk_at dksX0_pairedOf_1 16 rfl rfl)
theorem dX0_pairedOf_41 : decode cX0_pairedOf 41 = .ok (.getfield 23, 3) := dk_180 0 23 (dk_at dksX0_pairedOf_1 17 rfl rfl)
theorem dX0_pairedOf_44 : decode cX0_pairedOf 44 = .ok (.getfield 216, 3) := dk_180 0 216 (dk_at dksX0_pairedOf_1 20 rfl rfl)
theorem dX0_pairedOf_47 : decode cX0_pairedOf 47 = .ok (.iconst 3, 1) := dk_6 (dk_at dksX0_pairedOf_1 23 rfl rfl)
theorem dX0_pairedOf_48 : decode cX0_pairedOf 48 = .ok (.iaload, 1) := dk_46 (dk_at dksX0_pairedOf_2 0 rfl rfl)
theorem dX0_pairedOf_49 : decode cX0_pairedOf 49 = .ok (.iadd, 1) := dk_96 (dk_at dksX0_pairedOf_2 1 rfl rfl)
theorem dX0_pairedOf_50 : decode cX0_pairedOf 50 = .ok (.iastore, 1) := dk_79 (dk_at dksX0_pairedOf_2 2 rfl rfl)
theorem dX0_pairedOf_51 : decode cX0_pairedOf 51 = .ok (.invokestatic 320, 3) := dk_184 1 64 (dk_at dksX0_pairedOf_2 3 rfl rfl)
theorem dX0_pairedOf_54 : decode cX0_pairedOf 54 = .ok (.ireturn, 1) := dk_172 (dk_at dksX0_pairedOf_2 6 rfl rfl)
abbrev cX0_least : ByteArray := prog_1_method_5_code
def yX0_least : MethodName := ⟨RX0, "least", "([I)I"⟩
def dkwX0_least_1 : List UInt8 := [27, 21, 5, 184, 0, 139, 60, 132, 4, 1, 167, 255, 234, 27, 172]
abbrev dktX0_least_1 : List UInt8 := dkwX0_least_1 ++ []
def dkwX0_least_0 : List UInt8 := [42, 3, 46, 60, 42, 77, 44, 190, 62, 3, 54, 4, 21, 4, 29, 162, 0, 22, 44, 21, 4, 46, 54, 5]
abbrev dktX0_least_0 : List UInt8 := dkwX0_least_0 ++ dktX0_least_1
theorem dksX0_least_0 : cX0_least.data.toList.drop 0 = dktX0_least_0 := by decide +kernel
theorem dksX0_least_1 : cX0_least.data.toList.drop 24 = dktX0_least_1 := dk_seg dksX0_least_0 24 rfl rfl
theorem dX0_least_0 : decode cX0_least 0 = .ok (.aload_n 0, 1) := dk_42 (dk_at dksX0_least_0 0 rfl rfl)
theorem dX0_least_1 : decode cX0_least 1 = .ok (.iconst 0, 1) := dk_3 (dk_at dksX0_least_0 1 rfl rfl)
theorem dX0_least_2 : decode cX0_least 2 = .ok (.iaload, 1) := dk_46 (dk_at dksX0_least_0 2 rfl rfl)
theorem dX0_least_3 : decode cX0_least 3 = .ok (.istore_n 1, 1) := dk_60 (dk_at dksX0_least_0 3 rfl rfl)
theorem dX0_least_4 : decode cX0_least 4 = .ok (.aload_n 0, 1) := dk_42 (dk_at dksX0_least_0 4 rfl rfl)
theorem dX0_least_5 : decode cX0_least 5 = .ok (.astore_n 2, 1) := dk_77 (dk_at dksX0_least_0 5 rfl rfl)
theorem dX0_least_6 : decode cX0_least 6 = .ok (.aload_n 2, 1) := dk_44 (dk_at dksX0_least_0 6 rfl rfl)
theorem dX0_least_7 : decode cX0_least 7 = .ok (.arraylength, 1) := dk_190 (dk_at dksX0_least_0 7 rfl rfl)
theorem dX0_least_8 : decode cX0_least 8 = .ok (.istore_n 3, 1) := dk_62 (dk_at dksX0_least_0 8 rfl rfl)
theorem dX0_least_9 : decode cX0_least 9 = .ok (.iconst 0, 1) := dk_3 (dk_at dksX0_least_0 9 rfl rfl)
theorem dX0_least_10 : decode cX0_least 10 = .ok (.istore 4, 2) := dk_54 4 (dk_at dksX0_least_0 10 rfl rfl)
theorem dX0_least_12 : decode cX0_least 12 = .ok (.iload 4, 2) := dk_21 4 (dk_at dksX0_least_0 12 rfl rfl)
theorem dX0_least_14 : decode cX0_least 14 = .ok (.iload_n 3, 1) := dk_29 (dk_at dksX0_least_0 14 rfl rfl)
theorem dX0_least_15 : decode cX0_least 15 = .ok (.if_icmp .ge 22, 3) := dk_162 0 22 (dk_at dksX0_least_0 15 rfl rfl)
theorem dX0_least_18 : decode cX0_least 18 = .ok (.aload_n 2, 1) := dk_44 (dk_at dksX0_least_0 18 rfl rfl)
theorem dX0_least_19 : decode cX0_least 19 = .ok (.iload 4, 2) := dk_21 4 (dk_at dksX0_least_0 19 rfl rfl)
theorem dX0_least_21 : decode cX0_least 21 = .ok (.iaload, 1) := dk_46 (dk_at dksX0_least_0 21 rfl rfl)
theorem dX0_least_22 : decode cX0_least 22 = .ok (.istore 5, 2) := dk_54 5 (dk_at dksX0_least_0 22 rfl rfl)
theorem dX0_least_24 : decode cX0_least 24 = .ok (.iload_n 1, 1) := dk_27 (dk_at dksX0_least_1 0 rfl rfl)
theorem dX0_least_25 : decode cX0_least 25 = .ok (.iload 5, 2) := dk_21 5 (dk_at dksX0_least_1 1 rfl rfl)
theorem dX0_least_27 : decode cX0_least 27 = .ok (.invokestatic 139, 3) := dk_184 0 139 (dk_at dksX0_least_1 3 rfl rfl)
theorem dX0_least_30 : decode cX0_least 30 = .ok (.istore_n 1, 1) := dk_60 (dk_at dksX0_least_1 6 rfl rfl)
theorem dX0_least_31 : decode cX0_least 31 = .ok (.iinc 4 1, 3) := dk_132 4 1 (dk_at dksX0_least_1 7 rfl rfl)
theorem dX0_least_34 : decode cX0_least 34 = .ok (.goto (-22), 3) := dk_167 255 234 (dk_at dksX0_least_1 10 rfl rfl)
theorem dX0_least_37 : decode cX0_least 37 = .ok (.iload_n 1, 1) := dk_27 (dk_at dksX0_least_1 13 rfl rfl)
theorem dX0_least_38 : decode cX0_least 38 = .ok (.ireturn, 1) := dk_172 (dk_at dksX0_least_1 14 rfl rfl)
abbrev cX0_wide : ByteArray := prog_1_method_40_code
def yX0_wide : MethodName := ⟨RX0, "wide", "(II)I"⟩
def dkwX0_wide_2 : List UInt8 := [182, 1, 53, 21, 5, 159, 0, 9, 132, 6, 1, 167, 255, 238, 21, 6, 172]
abbrev dktX0_wide_2 : List UInt8 := dkwX0_wide_2 ++ []
def dkwX0_wide_1 : List UInt8 := [42, 45, 25, 4, 3, 16, 16, 182, 1, 53, 54, 5, 3, 54, 6, 42, 45, 25, 4, 3, 21, 6]
abbrev dktX0_wide_1 : List UInt8 := dkwX0_wide_1 ++ dktX0_wide_2
def dkwX0_wide_0 : List UInt8 := [42, 27, 182, 1, 50, 78, 42, 28, 182, 1, 50, 58, 4, 45, 198, 0, 8, 25, 4, 199, 0, 5, 2, 172]
abbrev dktX0_wide_0 : List UInt8 := dkwX0_wide_0 ++ dktX0_wide_1
theorem dksX0_wide_0 : cX0_wide.data.toList.drop 0 = dktX0_wide_0 := by decide +kernel
theorem dksX0_wide_1 : cX0_wide.data.toList.drop 24 = dktX0_wide_1 := dk_seg dksX0_wide_0 24 rfl rfl
theorem dksX0_wide_2 : cX0_wide.data.toList.drop 46 = dktX0_wide_2 := dk_seg dksX0_wide_1 22 rfl rfl
theorem dX0_wide_0 : decode cX0_wide 0 = .ok (.aload_n 0, 1) := dk_42 (dk_at dksX0_wide_0 0 rfl rfl)
theorem dX0_wide_1 : decode cX0_wide 1 = .ok (.iload_n 1, 1) := dk_27 (dk_at dksX0_wide_0 1 rfl rfl)
theorem dX0_wide_2 : decode cX0_wide 2 = .ok (.invokevirtual 306, 3) := dk_182 1 50 (dk_at dksX0_wide_0 2 rfl rfl)
theorem dX0_wide_5 : decode cX0_wide 5 = .ok (.astore_n 3, 1) := dk_78 (dk_at dksX0_wide_0 5 rfl rfl)
theorem dX0_wide_6 : decode cX0_wide 6 = .ok (.aload_n 0, 1) := dk_42 (dk_at dksX0_wide_0 6 rfl rfl)
theorem dX0_wide_7 : decode cX0_wide 7 = .ok (.iload_n 2, 1) := dk_28 (dk_at dksX0_wide_0 7 rfl rfl)
theorem dX0_wide_8 : decode cX0_wide 8 = .ok (.invokevirtual 306, 3) := dk_182 1 50 (dk_at dksX0_wide_0 8 rfl rfl)
theorem dX0_wide_11 : decode cX0_wide 11 = .ok (.astore 4, 2) := dk_58 4 (dk_at dksX0_wide_0 11 rfl rfl)
theorem dX0_wide_13 : decode cX0_wide 13 = .ok (.aload_n 3, 1) := dk_45 (dk_at dksX0_wide_0 13 rfl rfl)
theorem dX0_wide_14 : decode cX0_wide 14 = .ok (.ifnull 8, 3) := dk_198 0 8 (dk_at dksX0_wide_0 14 rfl rfl)
theorem dX0_wide_17 : decode cX0_wide 17 = .ok (.aload 4, 2) := dk_25 4 (dk_at dksX0_wide_0 17 rfl rfl)
theorem dX0_wide_19 : decode cX0_wide 19 = .ok (.ifnonnull 5, 3) := dk_199 0 5 (dk_at dksX0_wide_0 19 rfl rfl)
theorem dX0_wide_22 : decode cX0_wide 22 = .ok (.iconst (-1), 1) := dk_2 (dk_at dksX0_wide_0 22 rfl rfl)
theorem dX0_wide_23 : decode cX0_wide 23 = .ok (.ireturn, 1) := dk_172 (dk_at dksX0_wide_0 23 rfl rfl)
theorem dX0_wide_24 : decode cX0_wide 24 = .ok (.aload_n 0, 1) := dk_42 (dk_at dksX0_wide_1 0 rfl rfl)
theorem dX0_wide_25 : decode cX0_wide 25 = .ok (.aload_n 3, 1) := dk_45 (dk_at dksX0_wide_1 1 rfl rfl)
theorem dX0_wide_26 : decode cX0_wide 26 = .ok (.aload 4, 2) := dk_25 4 (dk_at dksX0_wide_1 2 rfl rfl)
theorem dX0_wide_28 : decode cX0_wide 28 = .ok (.iconst 0, 1) := dk_3 (dk_at dksX0_wide_1 4 rfl rfl)
theorem dX0_wide_29 : decode cX0_wide 29 = .ok (.bipush 16, 2) := dk_16 16 (dk_at dksX0_wide_1 5 rfl rfl)
theorem dX0_wide_31 : decode cX0_wide 31 = .ok (.invokevirtual 309, 3) := dk_182 1 53 (dk_at dksX0_wide_1 7 rfl rfl)
theorem dX0_wide_34 : decode cX0_wide 34 = .ok (.istore 5, 2) := dk_54 5 (dk_at dksX0_wide_1 10 rfl rfl)
theorem dX0_wide_36 : decode cX0_wide 36 = .ok (.iconst 0, 1) := dk_3 (dk_at dksX0_wide_1 12 rfl rfl)
theorem dX0_wide_37 : decode cX0_wide 37 = .ok (.istore 6, 2) := dk_54 6 (dk_at dksX0_wide_1 13 rfl rfl)
theorem dX0_wide_39 : decode cX0_wide 39 = .ok (.aload_n 0, 1) := dk_42 (dk_at dksX0_wide_1 15 rfl rfl)
theorem dX0_wide_40 : decode cX0_wide 40 = .ok (.aload_n 3, 1) := dk_45 (dk_at dksX0_wide_1 16 rfl rfl)
theorem dX0_wide_41 : decode cX0_wide 41 = .ok (.aload 4, 2) := dk_25 4 (dk_at dksX0_wide_1 17 rfl rfl)
theorem dX0_wide_43 : decode cX0_wide 43 = .ok (.iconst 0, 1) := dk_3 (dk_at dksX0_wide_1 19 rfl rfl)
theorem dX0_wide_44 : decode cX0_wide 44 = .ok (.iload 6, 2) := dk_21 6 (dk_at dksX0_wide_1 20 rfl rfl)
theorem dX0_wide_46 : decode cX0_wide 46 = .ok (.invokevirtual 309, 3) := dk_182 1 53 (dk_at dksX0_wide_2 0 rfl rfl)
theorem dX0_wide_49 : decode cX0_wide 49 = .ok (.iload 5, 2) := dk_21 5 (dk_at dksX0_wide_2 3 rfl rfl)
theorem dX0_wide_51 : decode cX0_wide 51 = .ok (.if_icmp .eq 9, 3) := dk_159 0 9 (dk_at dksX0_wide_2 5 rfl rfl)
theorem dX0_wide_54 : decode cX0_wide 54 = .ok (.iinc 6 1, 3) := dk_132 6 1 (dk_at dksX0_wide_2 8 rfl rfl)
theorem dX0_wide_57 : decode cX0_wide 57 = .ok (.goto (-18), 3) := dk_167 255 238 (dk_at dksX0_wide_2 11 rfl rfl)
theorem dX0_wide_60 : decode cX0_wide 60 = .ok (.iload 6, 2) := dk_21 6 (dk_at dksX0_wide_2 14 rfl rfl)
theorem dX0_wide_62 : decode cX0_wide 62 = .ok (.ireturn, 1) := dk_172 (dk_at dksX0_wide_2 16 rfl rfl)
abbrev cX0_score : ByteArray := prog_1_method_45_code
def yX0_score : MethodName := ⟨RX0, "score", "(II)I"⟩
def dkwX0_score_1 : List UInt8 := [182, 0, 247, 182, 1, 96, 167, 0, 4, 2, 172]
abbrev dktX0_score_1 : List UInt8 := dkwX0_score_1 ++ []
def dkwX0_score_0 : List UInt8 := [42, 27, 182, 0, 244, 153, 0, 28, 42, 28, 182, 0, 244, 153, 0, 20, 42, 42, 27, 182, 0, 247, 42, 28]
abbrev dktX0_score_0 : List UInt8 := dkwX0_score_0 ++ dktX0_score_1
theorem dksX0_score_0 : cX0_score.data.toList.drop 0 = dktX0_score_0 := by decide +kernel
theorem dksX0_score_1 : cX0_score.data.toList.drop 24 = dktX0_score_1 := dk_seg dksX0_score_0 24 rfl rfl
theorem dX0_score_0 : decode cX0_score 0 = .ok (.aload_n 0, 1) := dk_42 (dk_at dksX0_score_0 0 rfl rfl)
theorem dX0_score_1 : decode cX0_score 1 = .ok (.iload_n 1, 1) := dk_27 (dk_at dksX0_score_0 1 rfl rfl)
theorem dX0_score_2 : decode cX0_score 2 = .ok (.invokevirtual 244, 3) := dk_182 0 244 (dk_at dksX0_score_0 2 rfl rfl)
theorem dX0_score_5 : decode cX0_score 5 = .ok (.ifCond .eq 28, 3) := dk_153 0 28 (dk_at dksX0_score_0 5 rfl rfl)
theorem dX0_score_8 : decode cX0_score 8 = .ok (.aload_n 0, 1) := dk_42 (dk_at dksX0_score_0 8 rfl rfl)
theorem dX0_score_9 : decode cX0_score 9 = .ok (.iload_n 2, 1) := dk_28 (dk_at dksX0_score_0 9 rfl rfl)
theorem dX0_score_10 : decode cX0_score 10 = .ok (.invokevirtual 244, 3) := dk_182 0 244 (dk_at dksX0_score_0 10 rfl rfl)
theorem dX0_score_13 : decode cX0_score 13 = .ok (.ifCond .eq 20, 3) := dk_153 0 20 (dk_at dksX0_score_0 13 rfl rfl)
theorem dX0_score_16 : decode cX0_score 16 = .ok (.aload_n 0, 1) := dk_42 (dk_at dksX0_score_0 16 rfl rfl)
theorem dX0_score_17 : decode cX0_score 17 = .ok (.aload_n 0, 1) := dk_42 (dk_at dksX0_score_0 17 rfl rfl)
theorem dX0_score_18 : decode cX0_score 18 = .ok (.iload_n 1, 1) := dk_27 (dk_at dksX0_score_0 18 rfl rfl)
theorem dX0_score_19 : decode cX0_score 19 = .ok (.invokevirtual 247, 3) := dk_182 0 247 (dk_at dksX0_score_0 19 rfl rfl)
theorem dX0_score_22 : decode cX0_score 22 = .ok (.aload_n 0, 1) := dk_42 (dk_at dksX0_score_0 22 rfl rfl)
theorem dX0_score_23 : decode cX0_score 23 = .ok (.iload_n 2, 1) := dk_28 (dk_at dksX0_score_0 23 rfl rfl)
theorem dX0_score_24 : decode cX0_score 24 = .ok (.invokevirtual 247, 3) := dk_182 0 247 (dk_at dksX0_score_1 0 rfl rfl)
theorem dX0_score_27 : decode cX0_score 27 = .ok (.invokevirtual 352, 3) := dk_182 1 96 (dk_at dksX0_score_1 3 rfl rfl)
theorem dX0_score_30 : decode cX0_score 30 = .ok (.goto 4, 3) := dk_167 0 4 (dk_at dksX0_score_1 6 rfl rfl)
theorem dX0_score_33 : decode cX0_score 33 = .ok (.iconst (-1), 1) := dk_2 (dk_at dksX0_score_1 9 rfl rfl)
theorem dX0_score_34 : decode cX0_score 34 = .ok (.ireturn, 1) := dk_172 (dk_at dksX0_score_1 10 rfl rfl)
abbrev cX0_scoreOf : ByteArray := prog_1_method_44_code
def yX0_scoreOf : MethodName := ⟨RX0, "scoreOf", "(Ljava/util/ArrayList;Ljava/util/ArrayList;)I"⟩
def dkwX0_scoreOf_1 : List UInt8 := [42, 180, 0, 23, 180, 0, 216, 5, 46, 42, 180, 0, 23, 180, 0, 216, 6, 46, 182, 1, 92, 172]
abbrev dktX0_scoreOf_1 : List UInt8 := dkwX0_scoreOf_1 ++ []
def dkwX0_scoreOf_0 : List UInt8 := [42, 43, 44, 42, 180, 0, 23, 180, 0, 216, 4, 46, 182, 1, 88, 42, 43, 182, 0, 203, 44, 182, 0, 203]
abbrev dktX0_scoreOf_0 : List UInt8 := dkwX0_scoreOf_0 ++ dktX0_scoreOf_1
theorem dksX0_scoreOf_0 : cX0_scoreOf.data.toList.drop 0 = dktX0_scoreOf_0 := by decide +kernel
theorem dksX0_scoreOf_1 : cX0_scoreOf.data.toList.drop 24 = dktX0_scoreOf_1 := dk_seg dksX0_scoreOf_0 24 rfl rfl
theorem dX0_scoreOf_0 : decode cX0_scoreOf 0 = .ok (.aload_n 0, 1) := dk_42 (dk_at dksX0_scoreOf_0 0 rfl rfl)
theorem dX0_scoreOf_1 : decode cX0_scoreOf 1 = .ok (.aload_n 1, 1) := dk_43 (dk_at dksX0_scoreOf_0 1 rfl rfl)
theorem dX0_scoreOf_2 : decode cX0_scoreOf 2 = .ok (.aload_n 2, 1) := dk_44 (dk_at dksX0_scoreOf_0 2 rfl rfl)
theorem dX0_scoreOf_3 : decode cX0_scoreOf 3 = .ok (.aload_n 0, 1) := dk_42 (dk_at dksX0_scoreOf_0 3 rfl rfl)
theorem dX0_scoreOf_4 : decode cX0_scoreOf 4 = .ok (.getfield 23, 3) := dk_180 0 23 (dk_at dksX0_scoreOf_0 4 rfl rfl)
theorem dX0_scoreOf_7 : decode cX0_scoreOf 7 = .ok (.getfield 216, 3) := dk_180 0 216 (dk_at dksX0_scoreOf_0 7 rfl rfl)
theorem dX0_scoreOf_10 : decode cX0_scoreOf 10 = .ok (.iconst 1, 1) := dk_4 (dk_at dksX0_scoreOf_0 10 rfl rfl)
theorem dX0_scoreOf_11 : decode cX0_scoreOf 11 = .ok (.iaload, 1) := dk_46 (dk_at dksX0_scoreOf_0 11 rfl rfl)
theorem dX0_scoreOf_12 : decode cX0_scoreOf 12 = .ok (.invokevirtual 344, 3) := dk_182 1 88 (dk_at dksX0_scoreOf_0 12 rfl rfl)
theorem dX0_scoreOf_15 : decode cX0_scoreOf 15 = .ok (.aload_n 0, 1) := dk_42 (dk_at dksX0_scoreOf_0 15 rfl rfl)
theorem dX0_scoreOf_16 : decode cX0_scoreOf 16 = .ok (.aload_n 1, 1) := dk_43 (dk_at dksX0_scoreOf_0 16 rfl rfl)
theorem dX0_scoreOf_17 : decode cX0_scoreOf 17 = .ok (.invokevirtual 203, 3) := dk_182 0 203 (dk_at dksX0_scoreOf_0 17 rfl rfl)
theorem dX0_scoreOf_20 : decode cX0_scoreOf 20 = .ok (.aload_n 2, 1) := dk_44 (dk_at dksX0_scoreOf_0 20 rfl rfl)
theorem dX0_scoreOf_21 : decode cX0_scoreOf 21 = .ok (.invokevirtual 203, 3) := dk_182 0 203 (dk_at dksX0_scoreOf_0 21 rfl rfl)
theorem dX0_scoreOf_24 : decode cX0_scoreOf 24 = .ok (.aload_n 0, 1) := dk_42 (dk_at dksX0_scoreOf_1 0 rfl rfl)
theorem dX0_scoreOf_25 : decode cX0_scoreOf 25 = .ok (.getfield 23, 3) := dk_180 0 23 (dk_at dksX0_scoreOf_1 1 rfl rfl)
theorem dX0_scoreOf_28 : decode cX0_scoreOf 28 = .ok (.getfield 216, 3) := dk_180 0 216 (dk_at dksX0_scoreOf_1 4 rfl rfl)
theorem dX0_scoreOf_31 : decode cX0_scoreOf 31 = .ok (.iconst 2, 1) := dk_5 (dk_at dksX0_scoreOf_1 7 rfl rfl)
theorem dX0_scoreOf_32 : decode cX0_scoreOf 32 = .ok (.iaload, 1) := dk_46 (dk_at dksX0_scoreOf_1 8 rfl rfl)
theorem dX0_scoreOf_33 : decode cX0_scoreOf 33 = .ok (.aload_n 0, 1) := dk_42 (dk_at dksX0_scoreOf_1 9 rfl rfl)
theorem dX0_scoreOf_34 : decode cX0_scoreOf 34 = .ok (.getfield 23, 3) := dk_180 0 23 (dk_at dksX0_scoreOf_1 10 rfl rfl)
theorem dX0_scoreOf_37 : decode cX0_scoreOf 37 = .ok (.getfield 216, 3) := dk_180 0 216 (dk_at dksX0_scoreOf_1 13 rfl rfl)
theorem dX0_scoreOf_40 : decode cX0_scoreOf 40 = .ok (.iconst 3, 1) := dk_6 (dk_at dksX0_scoreOf_1 16 rfl rfl)
theorem dX0_scoreOf_41 : decode cX0_scoreOf 41 = .ok (.iaload, 1) := dk_46 (dk_at dksX0_scoreOf_1 17 rfl rfl)
theorem dX0_scoreOf_42 : decode cX0_scoreOf 42 = .ok (.invokevirtual 348, 3) := dk_182 1 92 (dk_at dksX0_scoreOf_1 18 rfl rfl)
theorem dX0_scoreOf_45 : decode cX0_scoreOf 45 = .ok (.ireturn, 1) := dk_172 (dk_at dksX0_scoreOf_1 21 rfl rfl)
abbrev cX0_laysCosts : ByteArray := prog_1_method_41_code
def yX0_laysCosts : MethodName := ⟨RX0, "laysCosts", "(Ljava/util/ArrayList;Ljava/util/ArrayList;I)V"⟩
def dkwX0_laysCosts_10 : List UInt8 := [184, 0, 146, 96, 79, 132, 5, 1, 167, 255, 157, 132, 4, 1, 167, 255, 139, 177]
abbrev dktX0_laysCosts_10 : List UInt8 := dkwX0_laysCosts_10 ++ []
def dkwX0_laysCosts_9 : List UInt8 := [4, 182, 1, 25, 42, 180, 0, 82, 44, 21, 5, 182, 0, 224, 192, 0, 251, 4, 182, 1, 25, 100]
abbrev dktX0_laysCosts_9 : List UInt8 := dkwX0_laysCosts_9 ++ dktX0_laysCosts_10
def dkwX0_laysCosts_8 : List UInt8 := [192, 0, 251, 3, 182, 1, 25, 100, 184, 0, 146, 42, 180, 0, 78, 43, 21, 4, 182, 0, 224, 192, 0, 251]
abbrev dktX0_laysCosts_8 : List UInt8 := dkwX0_laysCosts_8 ++ dktX0_laysCosts_9
def dkwX0_laysCosts_7 : List UInt8 := [21, 4, 182, 0, 224, 192, 0, 251, 3, 182, 1, 25, 42, 180, 0, 82, 44, 21, 5, 182, 0, 224]
abbrev dktX0_laysCosts_7 : List UInt8 := dkwX0_laysCosts_7 ++ dktX0_laysCosts_8
def dkwX0_laysCosts_6 : List UInt8 := [21, 5, 44, 182, 0, 203, 162, 0, 96, 42, 180, 0, 66, 21, 4, 50, 21, 5, 42, 180, 0, 78, 43]
abbrev dktX0_laysCosts_6 : List UInt8 := dkwX0_laysCosts_6 ++ dktX0_laysCosts_7
def dkwX0_laysCosts_5 : List UInt8 := [180, 0, 82, 44, 182, 1, 21, 87, 3, 54, 4, 21, 4, 43, 182, 0, 203, 162, 0, 114, 3, 54, 5]
abbrev dktX0_laysCosts_5 : List UInt8 := dkwX0_laysCosts_5 ++ dktX0_laysCosts_6
def dkwX0_laysCosts_4 : List UInt8 := [132, 5, 1, 167, 255, 176, 132, 4, 1, 167, 255, 158, 42, 180, 0, 78, 43, 182, 1, 21, 87, 42]
abbrev dktX0_laysCosts_4 : List UInt8 := dkwX0_laysCosts_4 ++ dktX0_laysCosts_5
def dkwX0_laysCosts_3 : List UInt8 := [21, 4, 182, 0, 224, 192, 0, 251, 44, 21, 5, 182, 0, 224, 192, 0, 251, 4, 29, 182, 1, 53, 79]
abbrev dktX0_laysCosts_3 : List UInt8 := dkwX0_laysCosts_3 ++ dktX0_laysCosts_4
def dkwX0_laysCosts_2 : List UInt8 := [182, 0, 224, 192, 0, 251, 3, 29, 182, 1, 53, 79, 42, 180, 0, 63, 21, 4, 50, 21, 5, 42, 43]
abbrev dktX0_laysCosts_2 : List UInt8 := dkwX0_laysCosts_2 ++ dktX0_laysCosts_3
def dkwX0_laysCosts_1 : List UInt8 := [42, 180, 0, 60, 21, 4, 50, 21, 5, 42, 43, 21, 4, 182, 0, 224, 192, 0, 251, 44, 21, 5]
abbrev dktX0_laysCosts_1 : List UInt8 := dkwX0_laysCosts_1 ++ dktX0_laysCosts_2
def dkwX0_laysCosts_0 : List UInt8 := [3, 54, 4, 21, 4, 43, 182, 0, 203, 162, 0, 95, 3, 54, 5, 21, 5, 44, 182, 0, 203, 162, 0, 77]
abbrev dktX0_laysCosts_0 : List UInt8 := dkwX0_laysCosts_0 ++ dktX0_laysCosts_1
theorem dksX0_laysCosts_0 : cX0_laysCosts.data.toList.drop 0 = dktX0_laysCosts_0 := by decide +kernel
theorem dksX0_laysCosts_1 : cX0_laysCosts.data.toList.drop 24 = dktX0_laysCosts_1 := dk_seg dksX0_laysCosts_0 24 rfl rfl
theorem dksX0_laysCosts_2 : cX0_laysCosts.data.toList.drop 46 = dktX0_laysCosts_2 := dk_seg dksX0_laysCosts_1 22 rfl rfl
theorem dksX0_laysCosts_3 : cX0_laysCosts.data.toList.drop 69 = dktX0_laysCosts_3 := dk_seg dksX0_laysCosts_2 23 rfl rfl
theorem dksX0_laysCosts_4 : cX0_laysCosts.data.toList.drop 92 = dktX0_laysCosts_4 := dk_seg dksX0_laysCosts_3 23 rfl rfl
theorem dksX0_laysCosts_5 : cX0_laysCosts.data.toList.drop 114 = dktX0_laysCosts_5 := dk_seg dksX0_laysCosts_4 22 rfl rfl
theorem dksX0_laysCosts_6 : cX0_laysCosts.data.toList.drop 137 = dktX0_laysCosts_6 := dk_seg dksX0_laysCosts_5 23 rfl rfl
theorem dksX0_laysCosts_7 : cX0_laysCosts.data.toList.drop 160 = dktX0_laysCosts_7 := dk_seg dksX0_laysCosts_6 23 rfl rfl
theorem dksX0_laysCosts_8 : cX0_laysCosts.data.toList.drop 182 = dktX0_laysCosts_8 := dk_seg dksX0_laysCosts_7 22 rfl rfl
theorem dksX0_laysCosts_9 : cX0_laysCosts.data.toList.drop 206 = dktX0_laysCosts_9 := dk_seg dksX0_laysCosts_8 24 rfl rfl
theorem dksX0_laysCosts_10 : cX0_laysCosts.data.toList.drop 228 = dktX0_laysCosts_10 := dk_seg dksX0_laysCosts_9 22 rfl rfl
theorem dX0_laysCosts_0 : decode cX0_laysCosts 0 = .ok (.iconst 0, 1) := dk_3 (dk_at dksX0_laysCosts_0 0 rfl rfl)
theorem dX0_laysCosts_1 : decode cX0_laysCosts 1 = .ok (.istore 4, 2) := dk_54 4 (dk_at dksX0_laysCosts_0 1 rfl rfl)
theorem dX0_laysCosts_3 : decode cX0_laysCosts 3 = .ok (.iload 4, 2) := dk_21 4 (dk_at dksX0_laysCosts_0 3 rfl rfl)
theorem dX0_laysCosts_5 : decode cX0_laysCosts 5 = .ok (.aload_n 1, 1) := dk_43 (dk_at dksX0_laysCosts_0 5 rfl rfl)
theorem dX0_laysCosts_6 : decode cX0_laysCosts 6 = .ok (.invokevirtual 203, 3) := dk_182 0 203 (dk_at dksX0_laysCosts_0 6 rfl rfl)
theorem dX0_laysCosts_9 : decode cX0_laysCosts 9 = .ok (.if_icmp .ge 95, 3) := dk_162 0 95 (dk_at dksX0_laysCosts_0 9 rfl rfl)
theorem dX0_laysCosts_12 : decode cX0_laysCosts 12 = .ok (.iconst 0, 1) := dk_3 (dk_at dksX0_laysCosts_0 12 rfl rfl)
theorem dX0_laysCosts_13 : decode cX0_laysCosts 13 = .ok (.istore 5, 2) := dk_54 5 (dk_at dksX0_laysCosts_0 13 rfl rfl)
theorem dX0_laysCosts_15 : decode cX0_laysCosts 15 = .ok (.iload 5, 2) := dk_21 5 (dk_at dksX0_laysCosts_0 15 rfl rfl)
theorem dX0_laysCosts_17 : decode cX0_laysCosts 17 = .ok (.aload_n 2, 1) := dk_44 (dk_at dksX0_laysCosts_0 17 rfl rfl)
theorem dX0_laysCosts_18 : decode cX0_laysCosts 18 = .ok (.invokevirtual 203, 3) := dk_182 0 203 (dk_at dksX0_laysCosts_0 18 rfl rfl)
theorem dX0_laysCosts_21 : decode cX0_laysCosts 21 = .ok (.if_icmp .ge 77, 3) := dk_162 0 77 (dk_at dksX0_laysCosts_0 21 rfl rfl)
theorem dX0_laysCosts_24 : decode cX0_laysCosts 24 = .ok (.aload_n 0, 1) := dk_42 (dk_at dksX0_laysCosts_1 0 rfl rfl)
theorem dX0_laysCosts_25 : decode cX0_laysCosts 25 = .ok (.getfield 60, 3) := dk_180 0 60 (dk_at dksX0_laysCosts_1 1 rfl rfl)
theorem dX0_laysCosts_28 : decode cX0_laysCosts 28 = .ok (.iload 4, 2) := dk_21 4 (dk_at dksX0_laysCosts_1 4 rfl rfl)
theorem dX0_laysCosts_30 : decode cX0_laysCosts 30 = .ok (.aaload, 1) := dk_50 (dk_at dksX0_laysCosts_1 6 rfl rfl)
theorem dX0_laysCosts_31 : decode cX0_laysCosts 31 = .ok (.iload 5, 2) := dk_21 5 (dk_at dksX0_laysCosts_1 7 rfl rfl)
theorem dX0_laysCosts_33 : decode cX0_laysCosts 33 = .ok (.aload_n 0, 1) := dk_42 (dk_at dksX0_laysCosts_1 9 rfl rfl)
theorem dX0_laysCosts_34 : decode cX0_laysCosts 34 = .ok (.aload_n 1, 1) := dk_43 (dk_at dksX0_laysCosts_1 10 rfl rfl)
theorem dX0_laysCosts_35 : decode cX0_laysCosts 35 = .ok (.iload 4, 2) := dk_21 4 (dk_at dksX0_laysCosts_1 11 rfl rfl)
theorem dX0_laysCosts_37 : decode cX0_laysCosts 37 = .ok (.invokevirtual 224, 3) := dk_182 0 224 (dk_at dksX0_laysCosts_1 13 rfl rfl)
theorem dX0_laysCosts_40 : decode cX0_laysCosts 40 = .ok (.checkcast 251, 3) := dk_192 0 251 (dk_at dksX0_laysCosts_1 16 rfl rfl)
theorem dX0_laysCosts_43 : decode cX0_laysCosts 43 = .ok (.aload_n 2, 1) := dk_44 (dk_at dksX0_laysCosts_1 19 rfl rfl)
theorem dX0_laysCosts_44 : decode cX0_laysCosts 44 = .ok (.iload 5, 2) := dk_21 5 (dk_at dksX0_laysCosts_1 20 rfl rfl)
theorem dX0_laysCosts_46 : decode cX0_laysCosts 46 = .ok (.invokevirtual 224, 3) := dk_182 0 224 (dk_at dksX0_laysCosts_2 0 rfl rfl)
theorem dX0_laysCosts_49 : decode cX0_laysCosts 49 = .ok (.checkcast 251, 3) := dk_192 0 251 (dk_at dksX0_laysCosts_2 3 rfl rfl)
theorem dX0_laysCosts_52 : decode cX0_laysCosts 52 = .ok (.iconst 0, 1) := dk_3 (dk_at dksX0_laysCosts_2 6 rfl rfl)
theorem dX0_laysCosts_53 : decode cX0_laysCosts 53 = .ok (.iload_n 3, 1) := dk_29 (dk_at dksX0_laysCosts_2 7 rfl rfl)
theorem dX0_laysCosts_54 : decode cX0_laysCosts 54 = .ok (.invokevirtual 309, 3) := dk_182 1 53 (dk_at dksX0_laysCosts_2 8 rfl rfl)
theorem dX0_laysCosts_57 : decode cX0_laysCosts 57 = .ok (.iastore, 1) := dk_79 (dk_at dksX0_laysCosts_2 11 rfl rfl)
theorem dX0_laysCosts_58 : decode cX0_laysCosts 58 = .ok (.aload_n 0, 1) := dk_42 (dk_at dksX0_laysCosts_2 12 rfl rfl)
theorem dX0_laysCosts_59 : decode cX0_laysCosts 59 = .ok (.getfield 63, 3) := dk_180 0 63 (dk_at dksX0_laysCosts_2 13 rfl rfl)
theorem dX0_laysCosts_62 : decode cX0_laysCosts 62 = .ok (.iload 4, 2) := dk_21 4 (dk_at dksX0_laysCosts_2 16 rfl rfl)
theorem dX0_laysCosts_64 : decode cX0_laysCosts 64 = .ok (.aaload, 1) := dk_50 (dk_at dksX0_laysCosts_2 18 rfl rfl)
theorem dX0_laysCosts_65 : decode cX0_laysCosts 65 = .ok (.iload 5, 2) := dk_21 5 (dk_at dksX0_laysCosts_2 19 rfl rfl)
theorem dX0_laysCosts_67 : decode cX0_laysCosts 67 = .ok (.aload_n 0, 1) := dk_42 (dk_at dksX0_laysCosts_2 21 rfl rfl)
theorem dX0_laysCosts_68 : decode cX0_laysCosts 68 = .ok (.aload_n 1, 1) := dk_43 (dk_at dksX0_laysCosts_2 22 rfl rfl)
theorem dX0_laysCosts_69 : decode cX0_laysCosts 69 = .ok (.iload 4, 2) := dk_21 4 (dk_at dksX0_laysCosts_3 0 rfl rfl)
theorem dX0_laysCosts_71 : decode cX0_laysCosts 71 = .ok (.invokevirtual 224, 3) := dk_182 0 224 (dk_at dksX0_laysCosts_3 2 rfl rfl)
theorem dX0_laysCosts_74 : decode cX0_laysCosts 74 = .ok (.checkcast 251, 3) := dk_192 0 251 (dk_at dksX0_laysCosts_3 5 rfl rfl)
theorem dX0_laysCosts_77 : decode cX0_laysCosts 77 = .ok (.aload_n 2, 1) := dk_44 (dk_at dksX0_laysCosts_3 8 rfl rfl)
theorem dX0_laysCosts_78 : decode cX0_laysCosts 78 = .ok (.iload 5, 2) := dk_21 5 (dk_at dksX0_laysCosts_3 9 rfl rfl)
theorem dX0_laysCosts_80 : decode cX0_laysCosts 80 = .ok (.invokevirtual 224, 3) := dk_182 0 224 (dk_at dksX0_laysCosts_3 11 rfl rfl)
theorem dX0_laysCosts_83 : decode cX0_laysCosts 83 = .ok (.checkcast 251, 3) := dk_192 0 251 (dk_at dksX0_laysCosts_3 14 rfl rfl)
theorem dX0_laysCosts_86 : decode cX0_laysCosts 86 = .ok (.iconst 1, 1) := dk_4 (dk_at dksX0_laysCosts_3 17 rfl rfl)
theorem dX0_laysCosts_87 : decode cX0_laysCosts 87 = .ok (.iload_n 3, 1) := dk_29 (dk_at dksX0_laysCosts_3 18 rfl rfl)
theorem dX0_laysCosts_88 : decode cX0_laysCosts 88 = .ok (.invokevirtual 309, 3) := dk_182 1 53 (dk_at dksX0_laysCosts_3 19 rfl rfl)
theorem dX0_laysCosts_91 : decode cX0_laysCosts 91 = .ok (.iastore, 1) := dk_79 (dk_at dksX0_laysCosts_3 22 rfl rfl)
theorem dX0_laysCosts_92 : decode cX0_laysCosts 92 = .ok (.iinc 5 1, 3) := dk_132 5 1 (dk_at dksX0_laysCosts_4 0 rfl rfl)
theorem dX0_laysCosts_95 : decode cX0_laysCosts 95 = .ok (.goto (-80), 3) := dk_167 255 176 (dk_at dksX0_laysCosts_4 3 rfl rfl)
theorem dX0_laysCosts_98 : decode cX0_laysCosts 98 = .ok (.iinc 4 1, 3) := dk_132 4 1 (dk_at dksX0_laysCosts_4 6 rfl rfl)
theorem dX0_laysCosts_101 : decode cX0_laysCosts 101 = .ok (.goto (-98), 3) := dk_167 255 158 (dk_at dksX0_laysCosts_4 9 rfl rfl)
theorem dX0_laysCosts_104 : decode cX0_laysCosts 104 = .ok (.aload_n 0, 1) := dk_42 (dk_at dksX0_laysCosts_4 12 rfl rfl)
theorem dX0_laysCosts_105 : decode cX0_laysCosts 105 = .ok (.getfield 78, 3) := dk_180 0 78 (dk_at dksX0_laysCosts_4 13 rfl rfl)
theorem dX0_laysCosts_108 : decode cX0_laysCosts 108 = .ok (.aload_n 1, 1) := dk_43 (dk_at dksX0_laysCosts_4 16 rfl rfl)
theorem dX0_laysCosts_109 : decode cX0_laysCosts 109 = .ok (.invokevirtual 277, 3) := dk_182 1 21 (dk_at dksX0_laysCosts_4 17 rfl rfl)
theorem dX0_laysCosts_112 : decode cX0_laysCosts 112 = .ok (.pop, 1) := dk_87 (dk_at dksX0_laysCosts_4 20 rfl rfl)
theorem dX0_laysCosts_113 : decode cX0_laysCosts 113 = .ok (.aload_n 0, 1) := dk_42 (dk_at dksX0_laysCosts_4 21 rfl rfl)
theorem dX0_laysCosts_114 : decode cX0_laysCosts 114 = .ok (.getfield 82, 3) := dk_180 0 82 (dk_at dksX0_laysCosts_5 0 rfl rfl)
theorem dX0_laysCosts_117 : decode cX0_laysCosts 117 = .ok (.aload_n 2, 1) := dk_44 (dk_at dksX0_laysCosts_5 3 rfl rfl)
theorem dX0_laysCosts_118 : decode cX0_laysCosts 118 = .ok (.invokevirtual 277, 3) := dk_182 1 21 (dk_at dksX0_laysCosts_5 4 rfl rfl)
theorem dX0_laysCosts_121 : decode cX0_laysCosts 121 = .ok (.pop, 1) := dk_87 (dk_at dksX0_laysCosts_5 7 rfl rfl)
theorem dX0_laysCosts_122 : decode cX0_laysCosts 122 = .ok (.iconst 0, 1) := dk_3 (dk_at dksX0_laysCosts_5 8 rfl rfl)
theorem dX0_laysCosts_123 : decode cX0_laysCosts 123 = .ok (.istore 4, 2) := dk_54 4 (dk_at dksX0_laysCosts_5 9 rfl rfl)
theorem dX0_laysCosts_125 : decode cX0_laysCosts 125 = .ok (.iload 4, 2) := dk_21 4 (dk_at dksX0_laysCosts_5 11 rfl rfl)
theorem dX0_laysCosts_127 : decode cX0_laysCosts 127 = .ok (.aload_n 1, 1) := dk_43 (dk_at dksX0_laysCosts_5 13 rfl rfl)
theorem dX0_laysCosts_128 : decode cX0_laysCosts 128 = .ok (.invokevirtual 203, 3) := dk_182 0 203 (dk_at dksX0_laysCosts_5 14 rfl rfl)
theorem dX0_laysCosts_131 : decode cX0_laysCosts 131 = .ok (.if_icmp .ge 114, 3) := dk_162 0 114 (dk_at dksX0_laysCosts_5 17 rfl rfl)
theorem dX0_laysCosts_134 : decode cX0_laysCosts 134 = .ok (.iconst 0, 1) := dk_3 (dk_at dksX0_laysCosts_5 20 rfl rfl)
theorem dX0_laysCosts_135 : decode cX0_laysCosts 135 = .ok (.istore 5, 2) := dk_54 5 (dk_at dksX0_laysCosts_5 21 rfl rfl)
theorem dX0_laysCosts_137 : decode cX0_laysCosts 137 = .ok (.iload 5, 2) := dk_21 5 (dk_at dksX0_laysCosts_6 0 rfl rfl)
theorem dX0_laysCosts_139 : decode cX0_laysCosts 139 = .ok (.aload_n 2, 1) := dk_44 (dk_at dksX0_laysCosts_6 2 rfl rfl)
theorem dX0_laysCosts_140 : decode cX0_laysCosts 140 = .ok (.invokevirtual 203, 3) := dk_182 0 203 (dk_at dksX0_laysCosts_6 3 rfl rfl)
theorem dX0_laysCosts_143 : decode cX0_laysCosts 143 = .ok (.if_icmp .ge 96, 3) := dk_162 0 96 (dk_at dksX0_laysCosts_6 6 rfl rfl)
theorem dX0_laysCosts_146 : decode cX0_laysCosts 146 = .ok (.aload_n 0, 1) := dk_42 (dk_at dksX0_laysCosts_6 9 rfl rfl)
theorem dX0_laysCosts_147 : decode cX0_laysCosts 147 = .ok (.getfield 66, 3) := dk_180 0 66 (dk_at dksX0_laysCosts_6 10 rfl rfl)
theorem dX0_laysCosts_150 : decode cX0_laysCosts 150 = .ok (.iload 4, 2) := dk_21 4 (dk_at dksX0_laysCosts_6 13 rfl rfl)
theorem dX0_laysCosts_152 : decode cX0_laysCosts 152 = .ok (.aaload, 1) := dk_50 (dk_at dksX0_laysCosts_6 15 rfl rfl)
theorem dX0_laysCosts_153 : decode cX0_laysCosts 153 = .ok (.iload 5, 2) := dk_21 5 (dk_at dksX0_laysCosts_6 16 rfl rfl)
theorem dX0_laysCosts_155 : decode cX0_laysCosts 155 = .ok (.aload_n 0, 1) := dk_42 (dk_at dksX0_laysCosts_6 18 rfl rfl)
theorem dX0_laysCosts_156 : decode cX0_laysCosts 156 = .ok (.getfield 78, 3) := dk_180 0 78 (dk_at dksX0_laysCosts_6 19 rfl rfl)
theorem dX0_laysCosts_159 : decode cX0_laysCosts 159 = .ok (.aload_n 1, 1) := dk_43 (dk_at dksX0_laysCosts_6 22 rfl rfl)
theorem dX0_laysCosts_160 : decode cX0_laysCosts 160 = .ok (.iload 4, 2) := dk_21 4 (dk_at dksX0_laysCosts_7 0 rfl rfl)
theorem dX0_laysCosts_162 : decode cX0_laysCosts 162 = .ok (.invokevirtual 224, 3) := dk_182 0 224 (dk_at dksX0_laysCosts_7 2 rfl rfl)
theorem dX0_laysCosts_165 : decode cX0_laysCosts 165 = .ok (.checkcast 251, 3) := dk_192 0 251 (dk_at dksX0_laysCosts_7 5 rfl rfl)
theorem dX0_laysCosts_168 : decode cX0_laysCosts 168 = .ok (.iconst 0, 1) := dk_3 (dk_at dksX0_laysCosts_7 8 rfl rfl)
theorem dX0_laysCosts_169 : decode cX0_laysCosts 169 = .ok (.invokevirtual 281, 3) := dk_182 1 25 (dk_at dksX0_laysCosts_7 9 rfl rfl)
theorem dX0_laysCosts_172 : decode cX0_laysCosts 172 = .ok (.aload_n 0, 1) := dk_42 (dk_at dksX0_laysCosts_7 12 rfl rfl)
theorem dX0_laysCosts_173 : decode cX0_laysCosts 173 = .ok (.getfield 82, 3) := dk_180 0 82 (dk_at dksX0_laysCosts_7 13 rfl rfl)
theorem dX0_laysCosts_176 : decode cX0_laysCosts 176 = .ok (.aload_n 2, 1) := dk_44 (dk_at dksX0_laysCosts_7 16 rfl rfl)
theorem dX0_laysCosts_177 : decode cX0_laysCosts 177 = .ok (.iload 5, 2) := dk_21 5 (dk_at dksX0_laysCosts_7 17 rfl rfl)
theorem dX0_laysCosts_179 : decode cX0_laysCosts 179 = .ok (.invokevirtual 224, 3) := dk_182 0 224 (dk_at dksX0_laysCosts_7 19 rfl rfl)
theorem dX0_laysCosts_182 : decode cX0_laysCosts 182 = .ok (.checkcast 251, 3) := dk_192 0 251 (dk_at dksX0_laysCosts_8 0 rfl rfl)
theorem dX0_laysCosts_185 : decode cX0_laysCosts 185 = .ok (.iconst 0, 1) := dk_3 (dk_at dksX0_laysCosts_8 3 rfl rfl)
theorem dX0_laysCosts_186 : decode cX0_laysCosts 186 = .ok (.invokevirtual 281, 3) := dk_182 1 25 (dk_at dksX0_laysCosts_8 4 rfl rfl)
theorem dX0_laysCosts_189 : decode cX0_laysCosts 189 = .ok (.isub, 1) := dk_100 (dk_at dksX0_laysCosts_8 7 rfl rfl)
theorem dX0_laysCosts_190 : decode cX0_laysCosts 190 = .ok (.invokestatic 146, 3) := dk_184 0 146 (dk_at dksX0_laysCosts_8 8 rfl rfl)
theorem dX0_laysCosts_193 : decode cX0_laysCosts 193 = .ok (.aload_n 0, 1) := dk_42 (dk_at dksX0_laysCosts_8 11 rfl rfl)
theorem dX0_laysCosts_194 : decode cX0_laysCosts 194 = .ok (.getfield 78, 3) := dk_180 0 78 (dk_at dksX0_laysCosts_8 12 rfl rfl)
theorem dX0_laysCosts_197 : decode cX0_laysCosts 197 = .ok (.aload_n 1, 1) := dk_43 (dk_at dksX0_laysCosts_8 15 rfl rfl)
theorem dX0_laysCosts_198 : decode cX0_laysCosts 198 = .ok (.iload 4, 2) := dk_21 4 (dk_at dksX0_laysCosts_8 16 rfl rfl)
theorem dX0_laysCosts_200 : decode cX0_laysCosts 200 = .ok (.invokevirtual 224, 3) := dk_182 0 224 (dk_at dksX0_laysCosts_8 18 rfl rfl)
theorem dX0_laysCosts_203 : decode cX0_laysCosts 203 = .ok (.checkcast 251, 3) := dk_192 0 251 (dk_at dksX0_laysCosts_8 21 rfl rfl)
theorem dX0_laysCosts_206 : decode cX0_laysCosts 206 = .ok (.iconst 1, 1) := dk_4 (dk_at dksX0_laysCosts_9 0 rfl rfl)
theorem dX0_laysCosts_207 : decode cX0_laysCosts 207 = .ok (.invokevirtual 281, 3) := dk_182 1 25 (dk_at dksX0_laysCosts_9 1 rfl rfl)
theorem dX0_laysCosts_210 : decode cX0_laysCosts 210 = .ok (.aload_n 0, 1) := dk_42 (dk_at dksX0_laysCosts_9 4 rfl rfl)
theorem dX0_laysCosts_211 : decode cX0_laysCosts 211 = .ok (.getfield 82, 3) := dk_180 0 82 (dk_at dksX0_laysCosts_9 5 rfl rfl)
theorem dX0_laysCosts_214 : decode cX0_laysCosts 214 = .ok (.aload_n 2, 1) := dk_44 (dk_at dksX0_laysCosts_9 8 rfl rfl)
theorem dX0_laysCosts_215 : decode cX0_laysCosts 215 = .ok (.iload 5, 2) := dk_21 5 (dk_at dksX0_laysCosts_9 9 rfl rfl)
theorem dX0_laysCosts_217 : decode cX0_laysCosts 217 = .ok (.invokevirtual 224, 3) := dk_182 0 224 (dk_at dksX0_laysCosts_9 11 rfl rfl)
theorem dX0_laysCosts_220 : decode cX0_laysCosts 220 = .ok (.checkcast 251, 3) := dk_192 0 251 (dk_at dksX0_laysCosts_9 14 rfl rfl)
theorem dX0_laysCosts_223 : decode cX0_laysCosts 223 = .ok (.iconst 1, 1) := dk_4 (dk_at dksX0_laysCosts_9 17 rfl rfl)
theorem dX0_laysCosts_224 : decode cX0_laysCosts 224 = .ok (.invokevirtual 281, 3) := dk_182 1 25 (dk_at dksX0_laysCosts_9 18 rfl rfl)
theorem dX0_laysCosts_227 : decode cX0_laysCosts 227 = .ok (.isub, 1) := dk_100 (dk_at dksX0_laysCosts_9 21 rfl rfl)
theorem dX0_laysCosts_228 : decode cX0_laysCosts 228 = .ok (.invokestatic 146, 3) := dk_184 0 146 (dk_at dksX0_laysCosts_10 0 rfl rfl)
theorem dX0_laysCosts_231 : decode cX0_laysCosts 231 = .ok (.iadd, 1) := dk_96 (dk_at dksX0_laysCosts_10 3 rfl rfl)
theorem dX0_laysCosts_232 : decode cX0_laysCosts 232 = .ok (.iastore, 1) := dk_79 (dk_at dksX0_laysCosts_10 4 rfl rfl)
theorem dX0_laysCosts_233 : decode cX0_laysCosts 233 = .ok (.iinc 5 1, 3) := dk_132 5 1 (dk_at dksX0_laysCosts_10 5 rfl rfl)
theorem dX0_laysCosts_236 : decode cX0_laysCosts 236 = .ok (.goto (-99), 3) := dk_167 255 157 (dk_at dksX0_laysCosts_10 8 rfl rfl)
theorem dX0_laysCosts_239 : decode cX0_laysCosts 239 = .ok (.iinc 4 1, 3) := dk_132 4 1 (dk_at dksX0_laysCosts_10 11 rfl rfl)
theorem dX0_laysCosts_242 : decode cX0_laysCosts 242 = .ok (.goto (-117), 3) := dk_167 255 139 (dk_at dksX0_laysCosts_10 14 rfl rfl)
theorem dX0_laysCosts_245 : decode cX0_laysCosts 245 = .ok (.return_, 1) := dk_177 (dk_at dksX0_laysCosts_10 17 rfl rfl)
abbrev cX0_scoreBy : ByteArray := prog_1_method_43_code
def yX0_scoreBy : MethodName := ⟨RX0, "scoreBy", "(IIII)I"⟩
def dkwX0_scoreBy_1 : List UInt8 := [180, 1, 75, 172]
abbrev dktX0_scoreBy_1 : List UInt8 := dkwX0_scoreBy_1 ++ []
def dkwX0_scoreBy_0 : List UInt8 := [42, 19, 1, 32, 181, 1, 75, 42, 3, 27, 28, 4, 28, 120, 4, 100, 3, 29, 21, 4, 182, 1, 84, 42]
abbrev dktX0_scoreBy_0 : List UInt8 := dkwX0_scoreBy_0 ++ dktX0_scoreBy_1
theorem dksX0_scoreBy_0 : cX0_scoreBy.data.toList.drop 0 = dktX0_scoreBy_0 := by decide +kernel
theorem dksX0_scoreBy_1 : cX0_scoreBy.data.toList.drop 24 = dktX0_scoreBy_1 := dk_seg dksX0_scoreBy_0 24 rfl rfl
theorem dX0_scoreBy_0 : decode cX0_scoreBy 0 = .ok (.aload_n 0, 1) := dk_42 (dk_at dksX0_scoreBy_0 0 rfl rfl)
theorem dX0_scoreBy_1 : decode cX0_scoreBy 1 = .ok (.ldc_w 288, 3) := dk_19 1 32 (dk_at dksX0_scoreBy_0 1 rfl rfl)
theorem dX0_scoreBy_4 : decode cX0_scoreBy 4 = .ok (.putfield 331, 3) := dk_181 1 75 (dk_at dksX0_scoreBy_0 4 rfl rfl)
theorem dX0_scoreBy_7 : decode cX0_scoreBy 7 = .ok (.aload_n 0, 1) := dk_42 (dk_at dksX0_scoreBy_0 7 rfl rfl)
theorem dX0_scoreBy_8 : decode cX0_scoreBy 8 = .ok (.iconst 0, 1) := dk_3 (dk_at dksX0_scoreBy_0 8 rfl rfl)
theorem dX0_scoreBy_9 : decode cX0_scoreBy 9 = .ok (.iload_n 1, 1) := dk_27 (dk_at dksX0_scoreBy_0 9 rfl rfl)
theorem dX0_scoreBy_10 : decode cX0_scoreBy 10 = .ok (.iload_n 2, 1) := dk_28 (dk_at dksX0_scoreBy_0 10 rfl rfl)
theorem dX0_scoreBy_11 : decode cX0_scoreBy 11 = .ok (.iconst 1, 1) := dk_4 (dk_at dksX0_scoreBy_0 11 rfl rfl)
theorem dX0_scoreBy_12 : decode cX0_scoreBy 12 = .ok (.iload_n 2, 1) := dk_28 (dk_at dksX0_scoreBy_0 12 rfl rfl)
theorem dX0_scoreBy_13 : decode cX0_scoreBy 13 = .ok (.ishl, 1) := dk_120 (dk_at dksX0_scoreBy_0 13 rfl rfl)
theorem dX0_scoreBy_14 : decode cX0_scoreBy 14 = .ok (.iconst 1, 1) := dk_4 (dk_at dksX0_scoreBy_0 14 rfl rfl)
theorem dX0_scoreBy_15 : decode cX0_scoreBy 15 = .ok (.isub, 1) := dk_100 (dk_at dksX0_scoreBy_0 15 rfl rfl)
theorem dX0_scoreBy_16 : decode cX0_scoreBy 16 = .ok (.iconst 0, 1) := dk_3 (dk_at dksX0_scoreBy_0 16 rfl rfl)
theorem dX0_scoreBy_17 : decode cX0_scoreBy 17 = .ok (.iload_n 3, 1) := dk_29 (dk_at dksX0_scoreBy_0 17 rfl rfl)
theorem dX0_scoreBy_18 : decode cX0_scoreBy 18 = .ok (.iload 4, 2) := dk_21 4 (dk_at dksX0_scoreBy_0 18 rfl rfl)
theorem dX0_scoreBy_20 : decode cX0_scoreBy 20 = .ok (.invokevirtual 340, 3) := dk_182 1 84 (dk_at dksX0_scoreBy_0 20 rfl rfl)
theorem dX0_scoreBy_23 : decode cX0_scoreBy 23 = .ok (.aload_n 0, 1) := dk_42 (dk_at dksX0_scoreBy_0 23 rfl rfl)
theorem dX0_scoreBy_24 : decode cX0_scoreBy 24 = .ok (.getfield 331, 3) := dk_180 1 75 (dk_at dksX0_scoreBy_1 0 rfl rfl)
theorem dX0_scoreBy_27 : decode cX0_scoreBy 27 = .ok (.ireturn, 1) := dk_172 (dk_at dksX0_scoreBy_1 3 rfl rfl)
abbrev cX0_pairs : ByteArray := prog_1_method_42_code
def yX0_pairs : MethodName := ⟨RX0, "pairs", "(IIIIIII)V"⟩
def dkwX0_pairs_7 : List UInt8 := [21, 4, 21, 5, 21, 6, 96, 21, 6, 21, 7, 182, 1, 84, 177]
abbrev dktX0_pairs_7 : List UInt8 := dkwX0_pairs_7 ++ []
def dkwX0_pairs_6 : List UInt8 := [21, 7, 182, 1, 84, 132, 8, 1, 167, 255, 157, 42, 180, 0, 69, 27, 2, 79, 42, 27, 4, 96, 28, 29]
abbrev dktX0_pairs_6 : List UInt8 := dkwX0_pairs_6 ++ dktX0_pairs_7
def dkwX0_pairs_5 : List UInt8 := [96, 42, 180, 0, 23, 180, 0, 216, 8, 46, 42, 180, 0, 66, 27, 50, 21, 8, 46, 104, 96, 21, 6]
abbrev dktX0_pairs_5 : List UInt8 := dkwX0_pairs_5 ++ dktX0_pairs_6
def dkwX0_pairs_4 : List UInt8 := [42, 180, 0, 60, 27, 50, 21, 8, 46, 42, 180, 0, 63, 27, 50, 21, 8, 46, 21, 7, 96, 184, 0, 139]
abbrev dktX0_pairs_4 : List UInt8 := dkwX0_pairs_4 ++ dktX0_pairs_5
def dkwX0_pairs_3 : List UInt8 := [180, 0, 69, 27, 21, 8, 79, 42, 27, 4, 96, 28, 29, 21, 4, 4, 21, 8, 120, 2, 130, 126, 21, 5]
abbrev dktX0_pairs_3 : List UInt8 := dkwX0_pairs_3 ++ dktX0_pairs_4
def dkwX0_pairs_2 : List UInt8 := [177, 3, 54, 8, 21, 8, 29, 162, 0, 99, 21, 4, 21, 8, 122, 4, 126, 154, 0, 6, 167, 0, 80, 42]
abbrev dktX0_pairs_2 : List UInt8 := dkwX0_pairs_2 ++ dktX0_pairs_3
def dkwX0_pairs_1 : List UInt8 := [161, 0, 4, 177, 42, 21, 8, 181, 1, 75, 42, 180, 0, 69, 3, 42, 180, 0, 72, 3, 28, 184, 1, 78]
abbrev dktX0_pairs_1 : List UInt8 := dkwX0_pairs_1 ++ dktX0_pairs_2
def dkwX0_pairs_0 : List UInt8 := [27, 28, 160, 0, 47, 21, 5, 21, 6, 21, 4, 184, 1, 70, 104, 96, 54, 8, 21, 8, 42, 180, 1, 75]
abbrev dktX0_pairs_0 : List UInt8 := dkwX0_pairs_0 ++ dktX0_pairs_1
theorem dksX0_pairs_0 : cX0_pairs.data.toList.drop 0 = dktX0_pairs_0 := by decide +kernel
theorem dksX0_pairs_1 : cX0_pairs.data.toList.drop 24 = dktX0_pairs_1 := dk_seg dksX0_pairs_0 24 rfl rfl
theorem dksX0_pairs_2 : cX0_pairs.data.toList.drop 48 = dktX0_pairs_2 := dk_seg dksX0_pairs_1 24 rfl rfl
theorem dksX0_pairs_3 : cX0_pairs.data.toList.drop 72 = dktX0_pairs_3 := dk_seg dksX0_pairs_2 24 rfl rfl
theorem dksX0_pairs_4 : cX0_pairs.data.toList.drop 96 = dktX0_pairs_4 := dk_seg dksX0_pairs_3 24 rfl rfl
theorem dksX0_pairs_5 : cX0_pairs.data.toList.drop 120 = dktX0_pairs_5 := dk_seg dksX0_pairs_4 24 rfl rfl
theorem dksX0_pairs_6 : cX0_pairs.data.toList.drop 143 = dktX0_pairs_6 := dk_seg dksX0_pairs_5 23 rfl rfl
theorem dksX0_pairs_7 : cX0_pairs.data.toList.drop 167 = dktX0_pairs_7 := dk_seg dksX0_pairs_6 24 rfl rfl
theorem dX0_pairs_0 : decode cX0_pairs 0 = .ok (.iload_n 1, 1) := dk_27 (dk_at dksX0_pairs_0 0 rfl rfl)
theorem dX0_pairs_1 : decode cX0_pairs 1 = .ok (.iload_n 2, 1) := dk_28 (dk_at dksX0_pairs_0 1 rfl rfl)
theorem dX0_pairs_2 : decode cX0_pairs 2 = .ok (.if_icmp .ne 47, 3) := dk_160 0 47 (dk_at dksX0_pairs_0 2 rfl rfl)
theorem dX0_pairs_5 : decode cX0_pairs 5 = .ok (.iload 5, 2) := dk_21 5 (dk_at dksX0_pairs_0 5 rfl rfl)
theorem dX0_pairs_7 : decode cX0_pairs 7 = .ok (.iload 6, 2) := dk_21 6 (dk_at dksX0_pairs_0 7 rfl rfl)
theorem dX0_pairs_9 : decode cX0_pairs 9 = .ok (.iload 4, 2) := dk_21 4 (dk_at dksX0_pairs_0 9 rfl rfl)
theorem dX0_pairs_11 : decode cX0_pairs 11 = .ok (.invokestatic 326, 3) := dk_184 1 70 (dk_at dksX0_pairs_0 11 rfl rfl)
theorem dX0_pairs_14 : decode cX0_pairs 14 = .ok (.imul, 1) := dk_104 (dk_at dksX0_pairs_0 14 rfl rfl)
theorem dX0_pairs_15 : decode cX0_pairs 15 = .ok (.iadd, 1) := dk_96 (dk_at dksX0_pairs_0 15 rfl rfl)
theorem dX0_pairs_16 : decode cX0_pairs 16 = .ok (.istore 8, 2) := dk_54 8 (dk_at dksX0_pairs_0 16 rfl rfl)
theorem dX0_pairs_18 : decode cX0_pairs 18 = .ok (.iload 8, 2) := dk_21 8 (dk_at dksX0_pairs_0 18 rfl rfl)
theorem dX0_pairs_20 : decode cX0_pairs 20 = .ok (.aload_n 0, 1) := dk_42 (dk_at dksX0_pairs_0 20 rfl rfl)
theorem dX0_pairs_21 : decode cX0_pairs 21 = .ok (.getfield 331, 3) := dk_180 1 75 (dk_at dksX0_pairs_0 21 rfl rfl)
theorem dX0_pairs_24 : decode cX0_pairs 24 = .ok (.if_icmp .lt 4, 3) := dk_161 0 4 (dk_at dksX0_pairs_1 0 rfl rfl)
theorem dX0_pairs_27 : decode cX0_pairs 27 = .ok (.return_, 1) := dk_177 (dk_at dksX0_pairs_1 3 rfl rfl)
theorem dX0_pairs_28 : decode cX0_pairs 28 = .ok (.aload_n 0, 1) := dk_42 (dk_at dksX0_pairs_1 4 rfl rfl)
theorem dX0_pairs_29 : decode cX0_pairs 29 = .ok (.iload 8, 2) := dk_21 8 (dk_at dksX0_pairs_1 5 rfl rfl)
theorem dX0_pairs_31 : decode cX0_pairs 31 = .ok (.putfield 331, 3) := dk_181 1 75 (dk_at dksX0_pairs_1 7 rfl rfl)
theorem dX0_pairs_34 : decode cX0_pairs 34 = .ok (.aload_n 0, 1) := dk_42 (dk_at dksX0_pairs_1 10 rfl rfl)
theorem dX0_pairs_35 : decode cX0_pairs 35 = .ok (.getfield 69, 3) := dk_180 0 69 (dk_at dksX0_pairs_1 11 rfl rfl)
theorem dX0_pairs_38 : decode cX0_pairs 38 = .ok (.iconst 0, 1) := dk_3 (dk_at dksX0_pairs_1 14 rfl rfl)
theorem dX0_pairs_39 : decode cX0_pairs 39 = .ok (.aload_n 0, 1) := dk_42 (dk_at dksX0_pairs_1 15 rfl rfl)
theorem dX0_pairs_40 : decode cX0_pairs 40 = .ok (.getfield 72, 3) := dk_180 0 72 (dk_at dksX0_pairs_1 16 rfl rfl)
theorem dX0_pairs_43 : decode cX0_pairs 43 = .ok (.iconst 0, 1) := dk_3 (dk_at dksX0_pairs_1 19 rfl rfl)
theorem dX0_pairs_44 : decode cX0_pairs 44 = .ok (.iload_n 2, 1) := dk_28 (dk_at dksX0_pairs_1 20 rfl rfl)
theorem dX0_pairs_45 : decode cX0_pairs 45 = .ok (.invokestatic 334, 3) := dk_184 1 78 (dk_at dksX0_pairs_1 21 rfl rfl)
theorem dX0_pairs_48 : decode cX0_pairs 48 = .ok (.return_, 1) := dk_177 (dk_at dksX0_pairs_2 0 rfl rfl)
theorem dX0_pairs_49 : decode cX0_pairs 49 = .ok (.iconst 0, 1) := dk_3 (dk_at dksX0_pairs_2 1 rfl rfl)
theorem dX0_pairs_50 : decode cX0_pairs 50 = .ok (.istore 8, 2) := dk_54 8 (dk_at dksX0_pairs_2 2 rfl rfl)
theorem dX0_pairs_52 : decode cX0_pairs 52 = .ok (.iload 8, 2) := dk_21 8 (dk_at dksX0_pairs_2 4 rfl rfl)
theorem dX0_pairs_54 : decode cX0_pairs 54 = .ok (.iload_n 3, 1) := dk_29 (dk_at dksX0_pairs_2 6 rfl rfl)
theorem dX0_pairs_55 : decode cX0_pairs 55 = .ok (.if_icmp .ge 99, 3) := dk_162 0 99 (dk_at dksX0_pairs_2 7 rfl rfl)
theorem dX0_pairs_58 : decode cX0_pairs 58 = .ok (.iload 4, 2) := dk_21 4 (dk_at dksX0_pairs_2 10 rfl rfl)
theorem dX0_pairs_60 : decode cX0_pairs 60 = .ok (.iload 8, 2) := dk_21 8 (dk_at dksX0_pairs_2 12 rfl rfl)
theorem dX0_pairs_62 : decode cX0_pairs 62 = .ok (.ishr, 1) := dk_122 (dk_at dksX0_pairs_2 14 rfl rfl)
theorem dX0_pairs_63 : decode cX0_pairs 63 = .ok (.iconst 1, 1) := dk_4 (dk_at dksX0_pairs_2 15 rfl rfl)
theorem dX0_pairs_64 : decode cX0_pairs 64 = .ok (.iand, 1) := dk_126 (dk_at dksX0_pairs_2 16 rfl rfl)
theorem dX0_pairs_65 : decode cX0_pairs 65 = .ok (.ifCond .ne 6, 3) := dk_154 0 6 (dk_at dksX0_pairs_2 17 rfl rfl)
theorem dX0_pairs_68 : decode cX0_pairs 68 = .ok (.goto 80, 3) := dk_167 0 80 (dk_at dksX0_pairs_2 20 rfl rfl)
theorem dX0_pairs_71 : decode cX0_pairs 71 = .ok (.aload_n 0, 1) := dk_42 (dk_at dksX0_pairs_2 23 rfl rfl)
theorem dX0_pairs_72 : decode cX0_pairs 72 = .ok (.getfield 69, 3) := dk_180 0 69 (dk_at dksX0_pairs_3 0 rfl rfl)
theorem dX0_pairs_75 : decode cX0_pairs 75 = .ok (.iload_n 1, 1) := dk_27 (dk_at dksX0_pairs_3 3 rfl rfl)
theorem dX0_pairs_76 : decode cX0_pairs 76 = .ok (.iload 8, 2) := dk_21 8 (dk_at dksX0_pairs_3 4 rfl rfl)
theorem dX0_pairs_78 : decode cX0_pairs 78 = .ok (.iastore, 1) := dk_79 (dk_at dksX0_pairs_3 6 rfl rfl)
theorem dX0_pairs_79 : decode cX0_pairs 79 = .ok (.aload_n 0, 1) := dk_42 (dk_at dksX0_pairs_3 7 rfl rfl)
theorem dX0_pairs_80 : decode cX0_pairs 80 = .ok (.iload_n 1, 1) := dk_27 (dk_at dksX0_pairs_3 8 rfl rfl)
theorem dX0_pairs_81 : decode cX0_pairs 81 = .ok (.iconst 1, 1) := dk_4 (dk_at dksX0_pairs_3 9 rfl rfl)
theorem dX0_pairs_82 : decode cX0_pairs 82 = .ok (.iadd, 1) := dk_96 (dk_at dksX0_pairs_3 10 rfl rfl)
theorem dX0_pairs_83 : decode cX0_pairs 83 = .ok (.iload_n 2, 1) := dk_28 (dk_at dksX0_pairs_3 11 rfl rfl)
theorem dX0_pairs_84 : decode cX0_pairs 84 = .ok (.iload_n 3, 1) := dk_29 (dk_at dksX0_pairs_3 12 rfl rfl)
theorem dX0_pairs_85 : decode cX0_pairs 85 = .ok (.iload 4, 2) := dk_21 4 (dk_at dksX0_pairs_3 13 rfl rfl)
theorem dX0_pairs_87 : decode cX0_pairs 87 = .ok (.iconst 1, 1) := dk_4 (dk_at dksX0_pairs_3 15 rfl rfl)
theorem dX0_pairs_88 : decode cX0_pairs 88 = .ok (.iload 8, 2) := dk_21 8 (dk_at dksX0_pairs_3 16 rfl rfl)
theorem dX0_pairs_90 : decode cX0_pairs 90 = .ok (.ishl, 1) := dk_120 (dk_at dksX0_pairs_3 18 rfl rfl)
theorem dX0_pairs_91 : decode cX0_pairs 91 = .ok (.iconst (-1), 1) := dk_2 (dk_at dksX0_pairs_3 19 rfl rfl)
theorem dX0_pairs_92 : decode cX0_pairs 92 = .ok (.ixor, 1) := dk_130 (dk_at dksX0_pairs_3 20 rfl rfl)
theorem dX0_pairs_93 : decode cX0_pairs 93 = .ok (.iand, 1) := dk_126 (dk_at dksX0_pairs_3 21 rfl rfl)
theorem dX0_pairs_94 : decode cX0_pairs 94 = .ok (.iload 5, 2) := dk_21 5 (dk_at dksX0_pairs_3 22 rfl rfl)
theorem dX0_pairs_96 : decode cX0_pairs 96 = .ok (.aload_n 0, 1) := dk_42 (dk_at dksX0_pairs_4 0 rfl rfl)
theorem dX0_pairs_97 : decode cX0_pairs 97 = .ok (.getfield 60, 3) := dk_180 0 60 (dk_at dksX0_pairs_4 1 rfl rfl)
theorem dX0_pairs_100 : decode cX0_pairs 100 = .ok (.iload_n 1, 1) := dk_27 (dk_at dksX0_pairs_4 4 rfl rfl)
theorem dX0_pairs_101 : decode cX0_pairs 101 = .ok (.aaload, 1) := dk_50 (dk_at dksX0_pairs_4 5 rfl rfl)
theorem dX0_pairs_102 : decode cX0_pairs 102 = .ok (.iload 8, 2) := dk_21 8 (dk_at dksX0_pairs_4 6 rfl rfl)
theorem dX0_pairs_104 : decode cX0_pairs 104 = .ok (.iaload, 1) := dk_46 (dk_at dksX0_pairs_4 8 rfl rfl)
theorem dX0_pairs_105 : decode cX0_pairs 105 = .ok (.aload_n 0, 1) := dk_42 (dk_at dksX0_pairs_4 9 rfl rfl)
theorem dX0_pairs_106 : decode cX0_pairs 106 = .ok (.getfield 63, 3) := dk_180 0 63 (dk_at dksX0_pairs_4 10 rfl rfl)
theorem dX0_pairs_109 : decode cX0_pairs 109 = .ok (.iload_n 1, 1) := dk_27 (dk_at dksX0_pairs_4 13 rfl rfl)
theorem dX0_pairs_110 : decode cX0_pairs 110 = .ok (.aaload, 1) := dk_50 (dk_at dksX0_pairs_4 14 rfl rfl)
theorem dX0_pairs_111 : decode cX0_pairs 111 = .ok (.iload 8, 2) := dk_21 8 (dk_at dksX0_pairs_4 15 rfl rfl)
theorem dX0_pairs_113 : decode cX0_pairs 113 = .ok (.iaload, 1) := dk_46 (dk_at dksX0_pairs_4 17 rfl rfl)
theorem dX0_pairs_114 : decode cX0_pairs 114 = .ok (.iload 7, 2) := dk_21 7 (dk_at dksX0_pairs_4 18 rfl rfl)
theorem dX0_pairs_116 : decode cX0_pairs 116 = .ok (.iadd, 1) := dk_96 (dk_at dksX0_pairs_4 20 rfl rfl)
theorem dX0_pairs_117 : decode cX0_pairs 117 = .ok (.invokestatic 139, 3) := dk_184 0 139 (dk_at dksX0_pairs_4 21 rfl rfl)
theorem dX0_pairs_120 : decode cX0_pairs 120 = .ok (.iadd, 1) := dk_96 (dk_at dksX0_pairs_5 0 rfl rfl)
theorem dX0_pairs_121 : decode cX0_pairs 121 = .ok (.aload_n 0, 1) := dk_42 (dk_at dksX0_pairs_5 1 rfl rfl)
theorem dX0_pairs_122 : decode cX0_pairs 122 = .ok (.getfield 23, 3) := dk_180 0 23 (dk_at dksX0_pairs_5 2 rfl rfl)
theorem dX0_pairs_125 : decode cX0_pairs 125 = .ok (.getfield 216, 3) := dk_180 0 216 (dk_at dksX0_pairs_5 5 rfl rfl)
theorem dX0_pairs_128 : decode cX0_pairs 128 = .ok (.iconst 5, 1) := dk_8 (dk_at dksX0_pairs_5 8 rfl rfl)
theorem dX0_pairs_129 : decode cX0_pairs 129 = .ok (.iaload, 1) := dk_46 (dk_at dksX0_pairs_5 9 rfl rfl)
theorem dX0_pairs_130 : decode cX0_pairs 130 = .ok (.aload_n 0, 1) := dk_42 (dk_at dksX0_pairs_5 10 rfl rfl)
theorem dX0_pairs_131 : decode cX0_pairs 131 = .ok (.getfield 66, 3) := dk_180 0 66 (dk_at dksX0_pairs_5 11 rfl rfl)
theorem dX0_pairs_134 : decode cX0_pairs 134 = .ok (.iload_n 1, 1) := dk_27 (dk_at dksX0_pairs_5 14 rfl rfl)
theorem dX0_pairs_135 : decode cX0_pairs 135 = .ok (.aaload, 1) := dk_50 (dk_at dksX0_pairs_5 15 rfl rfl)
theorem dX0_pairs_136 : decode cX0_pairs 136 = .ok (.iload 8, 2) := dk_21 8 (dk_at dksX0_pairs_5 16 rfl rfl)
theorem dX0_pairs_138 : decode cX0_pairs 138 = .ok (.iaload, 1) := dk_46 (dk_at dksX0_pairs_5 18 rfl rfl)
theorem dX0_pairs_139 : decode cX0_pairs 139 = .ok (.imul, 1) := dk_104 (dk_at dksX0_pairs_5 19 rfl rfl)
theorem dX0_pairs_140 : decode cX0_pairs 140 = .ok (.iadd, 1) := dk_96 (dk_at dksX0_pairs_5 20 rfl rfl)
theorem dX0_pairs_141 : decode cX0_pairs 141 = .ok (.iload 6, 2) := dk_21 6 (dk_at dksX0_pairs_5 21 rfl rfl)
theorem dX0_pairs_143 : decode cX0_pairs 143 = .ok (.iload 7, 2) := dk_21 7 (dk_at dksX0_pairs_6 0 rfl rfl)
theorem dX0_pairs_145 : decode cX0_pairs 145 = .ok (.invokevirtual 340, 3) := dk_182 1 84 (dk_at dksX0_pairs_6 2 rfl rfl)
theorem dX0_pairs_148 : decode cX0_pairs 148 = .ok (.iinc 8 1, 3) := dk_132 8 1 (dk_at dksX0_pairs_6 5 rfl rfl)
theorem dX0_pairs_151 : decode cX0_pairs 151 = .ok (.goto (-99), 3) := dk_167 255 157 (dk_at dksX0_pairs_6 8 rfl rfl)
theorem dX0_pairs_154 : decode cX0_pairs 154 = .ok (.aload_n 0, 1) := dk_42 (dk_at dksX0_pairs_6 11 rfl rfl)
theorem dX0_pairs_155 : decode cX0_pairs 155 = .ok (.getfield 69, 3) := dk_180 0 69 (dk_at dksX0_pairs_6 12 rfl rfl)
theorem dX0_pairs_158 : decode cX0_pairs 158 = .ok (.iload_n 1, 1) := dk_27 (dk_at dksX0_pairs_6 15 rfl rfl)
theorem dX0_pairs_159 : decode cX0_pairs 159 = .ok (.iconst (-1), 1) := dk_2 (dk_at dksX0_pairs_6 16 rfl rfl)
theorem dX0_pairs_160 : decode cX0_pairs 160 = .ok (.iastore, 1) := dk_79 (dk_at dksX0_pairs_6 17 rfl rfl)
theorem dX0_pairs_161 : decode cX0_pairs 161 = .ok (.aload_n 0, 1) := dk_42 (dk_at dksX0_pairs_6 18 rfl rfl)
theorem dX0_pairs_162 : decode cX0_pairs 162 = .ok (.iload_n 1, 1) := dk_27 (dk_at dksX0_pairs_6 19 rfl rfl)
theorem dX0_pairs_163 : decode cX0_pairs 163 = .ok (.iconst 1, 1) := dk_4 (dk_at dksX0_pairs_6 20 rfl rfl)
theorem dX0_pairs_164 : decode cX0_pairs 164 = .ok (.iadd, 1) := dk_96 (dk_at dksX0_pairs_6 21 rfl rfl)
theorem dX0_pairs_165 : decode cX0_pairs 165 = .ok (.iload_n 2, 1) := dk_28 (dk_at dksX0_pairs_6 22 rfl rfl)
theorem dX0_pairs_166 : decode cX0_pairs 166 = .ok (.iload_n 3, 1) := dk_29 (dk_at dksX0_pairs_6 23 rfl rfl)
theorem dX0_pairs_167 : decode cX0_pairs 167 = .ok (.iload 4, 2) := dk_21 4 (dk_at dksX0_pairs_7 0 rfl rfl)
theorem dX0_pairs_169 : decode cX0_pairs 169 = .ok (.iload 5, 2) := dk_21 5 (dk_at dksX0_pairs_7 2 rfl rfl)
theorem dX0_pairs_171 : decode cX0_pairs 171 = .ok (.iload 6, 2) := dk_21 6 (dk_at dksX0_pairs_7 4 rfl rfl)
theorem dX0_pairs_173 : decode cX0_pairs 173 = .ok (.iadd, 1) := dk_96 (dk_at dksX0_pairs_7 6 rfl rfl)
theorem dX0_pairs_174 : decode cX0_pairs 174 = .ok (.iload 6, 2) := dk_21 6 (dk_at dksX0_pairs_7 7 rfl rfl)
theorem dX0_pairs_176 : decode cX0_pairs 176 = .ok (.iload 7, 2) := dk_21 7 (dk_at dksX0_pairs_7 9 rfl rfl)
theorem dX0_pairs_178 : decode cX0_pairs 178 = .ok (.invokevirtual 340, 3) := dk_182 1 84 (dk_at dksX0_pairs_7 11 rfl rfl)
theorem dX0_pairs_181 : decode cX0_pairs 181 = .ok (.return_, 1) := dk_177 (dk_at dksX0_pairs_7 14 rfl rfl)
abbrev cX0_partner : ByteArray := prog_1_method_46_code
def yX0_partner : MethodName := ⟨RX0, "partner", "(IIII)I"⟩
def dkwX0_partner_5 : List UInt8 := [50, 21, 6, 46, 162, 0, 7, 4, 167, 0, 4, 3, 184, 1, 100, 172]
abbrev dktX0_partner_5 : List UInt8 := dkwX0_partner_5 ++ []
def dkwX0_partner_4 : List UInt8 := [42, 180, 0, 63, 29, 50, 21, 6, 46, 42, 180, 0, 23, 180, 0, 216, 6, 46, 96, 42, 180, 0, 60, 29]
abbrev dktX0_partner_4 : List UInt8 := dkwX0_partner_4 ++ dktX0_partner_5
def dkwX0_partner_3 : List UInt8 := [54, 6, 21, 4, 154, 0, 6, 21, 6, 172, 21, 5, 19, 1, 32, 162, 0, 44, 21, 6, 2, 159, 0, 38]
abbrev dktX0_partner_3 : List UInt8 := dkwX0_partner_3 ++ dktX0_partner_4
def dkwX0_partner_2 : List UInt8 := [172, 42, 42, 27, 182, 0, 247, 42, 28, 182, 0, 247, 182, 1, 96, 54, 5, 42, 180, 0, 72, 29, 46]
abbrev dktX0_partner_2 : List UInt8 := dkwX0_partner_2 ++ dktX0_partner_3
def dkwX0_partner_1 : List UInt8 := [182, 0, 203, 4, 100, 133, 184, 0, 166, 153, 0, 14, 21, 4, 133, 9, 10, 184, 0, 166, 154, 0, 5, 2]
abbrev dktX0_partner_1 : List UInt8 := dkwX0_partner_1 ++ dktX0_partner_2
def dkwX0_partner_0 : List UInt8 := [42, 27, 182, 0, 244, 153, 0, 42, 42, 28, 182, 0, 244, 153, 0, 34, 29, 133, 9, 42, 27, 182, 0, 247]
abbrev dktX0_partner_0 : List UInt8 := dkwX0_partner_0 ++ dktX0_partner_1
theorem dksX0_partner_0 : cX0_partner.data.toList.drop 0 = dktX0_partner_0 := by decide +kernel
theorem dksX0_partner_1 : cX0_partner.data.toList.drop 24 = dktX0_partner_1 := dk_seg dksX0_partner_0 24 rfl rfl
theorem dksX0_partner_2 : cX0_partner.data.toList.drop 48 = dktX0_partner_2 := dk_seg dksX0_partner_1 24 rfl rfl
theorem dksX0_partner_3 : cX0_partner.data.toList.drop 71 = dktX0_partner_3 := dk_seg dksX0_partner_2 23 rfl rfl
theorem dksX0_partner_4 : cX0_partner.data.toList.drop 95 = dktX0_partner_4 := dk_seg dksX0_partner_3 24 rfl rfl
theorem dksX0_partner_5 : cX0_partner.data.toList.drop 119 = dktX0_partner_5 := dk_seg dksX0_partner_4 24 rfl rfl
theorem dX0_partner_0 : decode cX0_partner 0 = .ok (.aload_n 0, 1) := dk_42 (dk_at dksX0_partner_0 0 rfl rfl)
theorem dX0_partner_1 : decode cX0_partner 1 = .ok (.iload_n 1, 1) := dk_27 (dk_at dksX0_partner_0 1 rfl rfl)
theorem dX0_partner_2 : decode cX0_partner 2 = .ok (.invokevirtual 244, 3) := dk_182 0 244 (dk_at dksX0_partner_0 2 rfl rfl)
theorem dX0_partner_5 : decode cX0_partner 5 = .ok (.ifCond .eq 42, 3) := dk_153 0 42 (dk_at dksX0_partner_0 5 rfl rfl)
theorem dX0_partner_8 : decode cX0_partner 8 = .ok (.aload_n 0, 1) := dk_42 (dk_at dksX0_partner_0 8 rfl rfl)
theorem dX0_partner_9 : decode cX0_partner 9 = .ok (.iload_n 2, 1) := dk_28 (dk_at dksX0_partner_0 9 rfl rfl)
theorem dX0_partner_10 : decode cX0_partner 10 = .ok (.invokevirtual 244, 3) := dk_182 0 244 (dk_at dksX0_partner_0 10 rfl rfl)
theorem dX0_partner_13 : decode cX0_partner 13 = .ok (.ifCond .eq 34, 3) := dk_153 0 34 (dk_at dksX0_partner_0 13 rfl rfl)
theorem dX0_partner_16 : decode cX0_partner 16 = .ok (.iload_n 3, 1) := dk_29 (dk_at dksX0_partner_0 16 rfl rfl)
theorem dX0_partner_17 : decode cX0_partner 17 = .ok (.i2l, 1) := dk_133 (dk_at dksX0_partner_0 17 rfl rfl)
theorem dX0_partner_18 : decode cX0_partner 18 = .ok (.lconst 0, 1) := dk_9 (dk_at dksX0_partner_0 18 rfl rfl)
theorem dX0_partner_19 : decode cX0_partner 19 = .ok (.aload_n 0, 1) := dk_42 (dk_at dksX0_partner_0 19 rfl rfl)
theorem dX0_partner_20 : decode cX0_partner 20 = .ok (.iload_n 1, 1) := dk_27 (dk_at dksX0_partner_0 20 rfl rfl)
theorem dX0_partner_21 : decode cX0_partner 21 = .ok (.invokevirtual 247, 3) := dk_182 0 247 (dk_at dksX0_partner_0 21 rfl rfl)
theorem dX0_partner_24 : decode cX0_partner 24 = .ok (.invokevirtual 203, 3) := dk_182 0 203 (dk_at dksX0_partner_1 0 rfl rfl)
theorem dX0_partner_27 : decode cX0_partner 27 = .ok (.iconst 1, 1) := dk_4 (dk_at dksX0_partner_1 3 rfl rfl)
theorem dX0_partner_28 : decode cX0_partner 28 = .ok (.isub, 1) := dk_100 (dk_at dksX0_partner_1 4 rfl rfl)
theorem dX0_partner_29 : decode cX0_partner 29 = .ok (.i2l, 1) := dk_133 (dk_at dksX0_partner_1 5 rfl rfl)
theorem dX0_partner_30 : decode cX0_partner 30 = .ok (.invokestatic 166, 3) := dk_184 0 166 (dk_at dksX0_partner_1 6 rfl rfl)
theorem dX0_partner_33 : decode cX0_partner 33 = .ok (.ifCond .eq 14, 3) := dk_153 0 14 (dk_at dksX0_partner_1 9 rfl rfl)
theorem dX0_partner_36 : decode cX0_partner 36 = .ok (.iload 4, 2) := dk_21 4 (dk_at dksX0_partner_1 12 rfl rfl)
theorem dX0_partner_38 : decode cX0_partner 38 = .ok (.i2l, 1) := dk_133 (dk_at dksX0_partner_1 14 rfl rfl)
theorem dX0_partner_39 : decode cX0_partner 39 = .ok (.lconst 0, 1) := dk_9 (dk_at dksX0_partner_1 15 rfl rfl)
theorem dX0_partner_40 : decode cX0_partner 40 = .ok (.lconst 1, 1) := dk_10 (dk_at dksX0_partner_1 16 rfl rfl)
theorem dX0_partner_41 : decode cX0_partner 41 = .ok (.invokestatic 166, 3) := dk_184 0 166 (dk_at dksX0_partner_1 17 rfl rfl)
theorem dX0_partner_44 : decode cX0_partner 44 = .ok (.ifCond .ne 5, 3) := dk_154 0 5 (dk_at dksX0_partner_1 20 rfl rfl)
theorem dX0_partner_47 : decode cX0_partner 47 = .ok (.iconst (-1), 1) := dk_2 (dk_at dksX0_partner_1 23 rfl rfl)
theorem dX0_partner_48 : decode cX0_partner 48 = .ok (.ireturn, 1) := dk_172 (dk_at dksX0_partner_2 0 rfl rfl)
theorem dX0_partner_49 : decode cX0_partner 49 = .ok (.aload_n 0, 1) := dk_42 (dk_at dksX0_partner_2 1 rfl rfl)
theorem dX0_partner_50 : decode cX0_partner 50 = .ok (.aload_n 0, 1) := dk_42 (dk_at dksX0_partner_2 2 rfl rfl)
theorem dX0_partner_51 : decode cX0_partner 51 = .ok (.iload_n 1, 1) := dk_27 (dk_at dksX0_partner_2 3 rfl rfl)
theorem dX0_partner_52 : decode cX0_partner 52 = .ok (.invokevirtual 247, 3) := dk_182 0 247 (dk_at dksX0_partner_2 4 rfl rfl)
theorem dX0_partner_55 : decode cX0_partner 55 = .ok (.aload_n 0, 1) := dk_42 (dk_at dksX0_partner_2 7 rfl rfl)
theorem dX0_partner_56 : decode cX0_partner 56 = .ok (.iload_n 2, 1) := dk_28 (dk_at dksX0_partner_2 8 rfl rfl)
theorem dX0_partner_57 : decode cX0_partner 57 = .ok (.invokevirtual 247, 3) := dk_182 0 247 (dk_at dksX0_partner_2 9 rfl rfl)
theorem dX0_partner_60 : decode cX0_partner 60 = .ok (.invokevirtual 352, 3) := dk_182 1 96 (dk_at dksX0_partner_2 12 rfl rfl)
theorem dX0_partner_63 : decode cX0_partner 63 = .ok (.istore 5, 2) := dk_54 5 (dk_at dksX0_partner_2 15 rfl rfl)
theorem dX0_partner_65 : decode cX0_partner 65 = .ok (.aload_n 0, 1) := dk_42 (dk_at dksX0_partner_2 17 rfl rfl)
theorem dX0_partner_66 : decode cX0_partner 66 = .ok (.getfield 72, 3) := dk_180 0 72 (dk_at dksX0_partner_2 18 rfl rfl)
theorem dX0_partner_69 : decode cX0_partner 69 = .ok (.iload_n 3, 1) := dk_29 (dk_at dksX0_partner_2 21 rfl rfl)
theorem dX0_partner_70 : decode cX0_partner 70 = .ok (.iaload, 1) := dk_46 (dk_at dksX0_partner_2 22 rfl rfl)
theorem dX0_partner_71 : decode cX0_partner 71 = .ok (.istore 6, 2) := dk_54 6 (dk_at dksX0_partner_3 0 rfl rfl)
theorem dX0_partner_73 : decode cX0_partner 73 = .ok (.iload 4, 2) := dk_21 4 (dk_at dksX0_partner_3 2 rfl rfl)
theorem dX0_partner_75 : decode cX0_partner 75 = .ok (.ifCond .ne 6, 3) := dk_154 0 6 (dk_at dksX0_partner_3 4 rfl rfl)
theorem dX0_partner_78 : decode cX0_partner 78 = .ok (.iload 6, 2) := dk_21 6 (dk_at dksX0_partner_3 7 rfl rfl)
theorem dX0_partner_80 : decode cX0_partner 80 = .ok (.ireturn, 1) := dk_172 (dk_at dksX0_partner_3 9 rfl rfl)
theorem dX0_partner_81 : decode cX0_partner 81 = .ok (.iload 5, 2) := dk_21 5 (dk_at dksX0_partner_3 10 rfl rfl)
theorem dX0_partner_83 : decode cX0_partner 83 = .ok (.ldc_w 288, 3) := dk_19 1 32 (dk_at dksX0_partner_3 12 rfl rfl)
theorem dX0_partner_86 : decode cX0_partner 86 = .ok (.if_icmp .ge 44, 3) := dk_162 0 44 (dk_at dksX0_partner_3 15 rfl rfl)
theorem dX0_partner_89 : decode cX0_partner 89 = .ok (.iload 6, 2) := dk_21 6 (dk_at dksX0_partner_3 18 rfl rfl)
theorem dX0_partner_91 : decode cX0_partner 91 = .ok (.iconst (-1), 1) := dk_2 (dk_at dksX0_partner_3 20 rfl rfl)
theorem dX0_partner_92 : decode cX0_partner 92 = .ok (.if_icmp .eq 38, 3) := dk_159 0 38 (dk_at dksX0_partner_3 21 rfl rfl)
theorem dX0_partner_95 : decode cX0_partner 95 = .ok (.aload_n 0, 1) := dk_42 (dk_at dksX0_partner_4 0 rfl rfl)
theorem dX0_partner_96 : decode cX0_partner 96 = .ok (.getfield 63, 3) := dk_180 0 63 (dk_at dksX0_partner_4 1 rfl rfl)
theorem dX0_partner_99 : decode cX0_partner 99 = .ok (.iload_n 3, 1) := dk_29 (dk_at dksX0_partner_4 4 rfl rfl)
theorem dX0_partner_100 : decode cX0_partner 100 = .ok (.aaload, 1) := dk_50 (dk_at dksX0_partner_4 5 rfl rfl)
theorem dX0_partner_101 : decode cX0_partner 101 = .ok (.iload 6, 2) := dk_21 6 (dk_at dksX0_partner_4 6 rfl rfl)
theorem dX0_partner_103 : decode cX0_partner 103 = .ok (.iaload, 1) := dk_46 (dk_at dksX0_partner_4 8 rfl rfl)
theorem dX0_partner_104 : decode cX0_partner 104 = .ok (.aload_n 0, 1) := dk_42 (dk_at dksX0_partner_4 9 rfl rfl)
theorem dX0_partner_105 : decode cX0_partner 105 = .ok (.getfield 23, 3) := dk_180 0 23 (dk_at dksX0_partner_4 10 rfl rfl)
theorem dX0_partner_108 : decode cX0_partner 108 = .ok (.getfield 216, 3) := dk_180 0 216 (dk_at dksX0_partner_4 13 rfl rfl)
theorem dX0_partner_111 : decode cX0_partner 111 = .ok (.iconst 3, 1) := dk_6 (dk_at dksX0_partner_4 16 rfl rfl)
theorem dX0_partner_112 : decode cX0_partner 112 = .ok (.iaload, 1) := dk_46 (dk_at dksX0_partner_4 17 rfl rfl)
theorem dX0_partner_113 : decode cX0_partner 113 = .ok (.iadd, 1) := dk_96 (dk_at dksX0_partner_4 18 rfl rfl)
theorem dX0_partner_114 : decode cX0_partner 114 = .ok (.aload_n 0, 1) := dk_42 (dk_at dksX0_partner_4 19 rfl rfl)
theorem dX0_partner_115 : decode cX0_partner 115 = .ok (.getfield 60, 3) := dk_180 0 60 (dk_at dksX0_partner_4 20 rfl rfl)
theorem dX0_partner_118 : decode cX0_partner 118 = .ok (.iload_n 3, 1) := dk_29 (dk_at dksX0_partner_4 23 rfl rfl)
theorem dX0_partner_119 : decode cX0_partner 119 = .ok (.aaload, 1) := dk_50 (dk_at dksX0_partner_5 0 rfl rfl)
theorem dX0_partner_120 : decode cX0_partner 120 = .ok (.iload 6, 2) := dk_21 6 (dk_at dksX0_partner_5 1 rfl rfl)
theorem dX0_partner_122 : decode cX0_partner 122 = .ok (.iaload, 1) := dk_46 (dk_at dksX0_partner_5 3 rfl rfl)
theorem dX0_partner_123 : decode cX0_partner 123 = .ok (.if_icmp .ge 7, 3) := dk_162 0 7 (dk_at dksX0_partner_5 4 rfl rfl)
theorem dX0_partner_126 : decode cX0_partner 126 = .ok (.iconst 1, 1) := dk_4 (dk_at dksX0_partner_5 7 rfl rfl)
theorem dX0_partner_127 : decode cX0_partner 127 = .ok (.goto 4, 3) := dk_167 0 4 (dk_at dksX0_partner_5 8 rfl rfl)
theorem dX0_partner_130 : decode cX0_partner 130 = .ok (.iconst 0, 1) := dk_3 (dk_at dksX0_partner_5 11 rfl rfl)
theorem dX0_partner_131 : decode cX0_partner 131 = .ok (.invokestatic 356, 3) := dk_184 1 100 (dk_at dksX0_partner_5 12 rfl rfl)
theorem dX0_partner_134 : decode cX0_partner 134 = .ok (.ireturn, 1) := dk_172 (dk_at dksX0_partner_5 15 rfl rfl)
abbrev cX0_flag : ByteArray := prog_1_method_3_code
def yX0_flag : MethodName := ⟨RX0, "flag", "(Z)I"⟩
def dkwX0_flag_0 : List UInt8 := [26, 153, 0, 7, 4, 167, 0, 4, 3, 172]
abbrev dktX0_flag_0 : List UInt8 := dkwX0_flag_0 ++ []
theorem dksX0_flag_0 : cX0_flag.data.toList.drop 0 = dktX0_flag_0 := by decide +kernel
theorem dX0_flag_0 : decode cX0_flag 0 = .ok (.iload_n 0, 1) := dk_26 (dk_at dksX0_flag_0 0 rfl rfl)
theorem dX0_flag_1 : decode cX0_flag 1 = .ok (.ifCond .eq 7, 3) := dk_153 0 7 (dk_at dksX0_flag_0 1 rfl rfl)
theorem dX0_flag_4 : decode cX0_flag 4 = .ok (.iconst 1, 1) := dk_4 (dk_at dksX0_flag_0 4 rfl rfl)
theorem dX0_flag_5 : decode cX0_flag 5 = .ok (.goto 4, 3) := dk_167 0 4 (dk_at dksX0_flag_0 5 rfl rfl)
theorem dX0_flag_8 : decode cX0_flag 8 = .ok (.iconst 0, 1) := dk_3 (dk_at dksX0_flag_0 8 rfl rfl)
theorem dX0_flag_9 : decode cX0_flag 9 = .ok (.ireturn, 1) := dk_172 (dk_at dksX0_flag_0 9 rfl rfl)
abbrev cX0_worst : ByteArray := prog_1_method_48_code
def yX0_worst : MethodName := ⟨RX0, "worst", "(III)I"⟩
def dkwX0_worst_7 : List UInt8 := [21, 5, 172]
abbrev dktX0_worst_7 : List UInt8 := dkwX0_worst_7 ++ []
def dkwX0_worst_6 : List UInt8 := [29, 154, 0, 8, 21, 7, 167, 0, 19, 29, 4, 160, 0, 12, 3, 21, 6, 184, 1, 61, 167, 0, 5]
abbrev dktX0_worst_6 : List UInt8 := dkwX0_worst_6 ++ dktX0_worst_7
def dkwX0_worst_5 : List UInt8 := [163, 0, 6, 167, 0, 15, 42, 21, 8, 182, 1, 104, 54, 6, 21, 8, 54, 7, 132, 8, 1, 167, 255, 199]
abbrev dktX0_worst_5 : List UInt8 := dkwX0_worst_5 ++ dktX0_worst_6
def dkwX0_worst_4 : List UInt8 := [21, 8, 46, 2, 160, 0, 7, 3, 167, 0, 4, 5, 100, 54, 5, 42, 21, 8, 182, 1, 104, 21, 6]
abbrev dktX0_worst_4 : List UInt8 := dkwX0_worst_4 ++ dktX0_worst_5
def dkwX0_worst_3 : List UInt8 := [182, 0, 247, 182, 1, 96, 87, 3, 54, 8, 21, 8, 21, 4, 162, 0, 56, 21, 5, 42, 180, 0, 72]
abbrev dktX0_worst_3 : List UInt8 := dkwX0_worst_3 ++ dktX0_worst_4
def dkwX0_worst_2 : List UInt8 := [182, 0, 247, 182, 0, 203, 96, 54, 5, 2, 54, 6, 2, 54, 7, 42, 42, 27, 182, 0, 247, 42, 28]
abbrev dktX0_worst_2 : List UInt8 := dkwX0_worst_2 ++ dktX0_worst_3
def dkwX0_worst_1 : List UInt8 := [184, 0, 166, 154, 0, 5, 2, 172, 42, 27, 182, 0, 247, 182, 0, 203, 54, 4, 21, 4, 42, 28]
abbrev dktX0_worst_1 : List UInt8 := dkwX0_worst_1 ++ dktX0_worst_2
def dkwX0_worst_0 : List UInt8 := [42, 27, 182, 0, 244, 153, 0, 23, 42, 28, 182, 0, 244, 153, 0, 15, 29, 133, 9, 20, 0, 212]
abbrev dktX0_worst_0 : List UInt8 := dkwX0_worst_0 ++ dktX0_worst_1
theorem dksX0_worst_0 : cX0_worst.data.toList.drop 0 = dktX0_worst_0 := by decide +kernel
theorem dksX0_worst_1 : cX0_worst.data.toList.drop 22 = dktX0_worst_1 := dk_seg dksX0_worst_0 22 rfl rfl
theorem dksX0_worst_2 : cX0_worst.data.toList.drop 44 = dktX0_worst_2 := dk_seg dksX0_worst_1 22 rfl rfl
theorem dksX0_worst_3 : cX0_worst.data.toList.drop 67 = dktX0_worst_3 := dk_seg dksX0_worst_2 23 rfl rfl
theorem dksX0_worst_4 : cX0_worst.data.toList.drop 90 = dktX0_worst_4 := dk_seg dksX0_worst_3 23 rfl rfl
theorem dksX0_worst_5 : cX0_worst.data.toList.drop 113 = dktX0_worst_5 := dk_seg dksX0_worst_4 23 rfl rfl
theorem dksX0_worst_6 : cX0_worst.data.toList.drop 137 = dktX0_worst_6 := dk_seg dksX0_worst_5 24 rfl rfl
theorem dksX0_worst_7 : cX0_worst.data.toList.drop 160 = dktX0_worst_7 := dk_seg dksX0_worst_6 23 rfl rfl
theorem dX0_worst_0 : decode cX0_worst 0 = .ok (.aload_n 0, 1) := dk_42 (dk_at dksX0_worst_0 0 rfl rfl)
theorem dX0_worst_1 : decode cX0_worst 1 = .ok (.iload_n 1, 1) := dk_27 (dk_at dksX0_worst_0 1 rfl rfl)
theorem dX0_worst_2 : decode cX0_worst 2 = .ok (.invokevirtual 244, 3) := dk_182 0 244 (dk_at dksX0_worst_0 2 rfl rfl)
theorem dX0_worst_5 : decode cX0_worst 5 = .ok (.ifCond .eq 23, 3) := dk_153 0 23 (dk_at dksX0_worst_0 5 rfl rfl)
theorem dX0_worst_8 : decode cX0_worst 8 = .ok (.aload_n 0, 1) := dk_42 (dk_at dksX0_worst_0 8 rfl rfl)
theorem dX0_worst_9 : decode cX0_worst 9 = .ok (.iload_n 2, 1) := dk_28 (dk_at dksX0_worst_0 9 rfl rfl)
theorem dX0_worst_10 : decode cX0_worst 10 = .ok (.invokevirtual 244, 3) := dk_182 0 244 (dk_at dksX0_worst_0 10 rfl rfl)
theorem dX0_worst_13 : decode cX0_worst 13 = .ok (.ifCond .eq 15, 3) := dk_153 0 15 (dk_at dksX0_worst_0 13 rfl rfl)
theorem dX0_worst_16 : decode cX0_worst 16 = .ok (.iload_n 3, 1) := dk_29 (dk_at dksX0_worst_0 16 rfl rfl)
theorem dX0_worst_17 : decode cX0_worst 17 = .ok (.i2l, 1) := dk_133 (dk_at dksX0_worst_0 17 rfl rfl)
theorem dX0_worst_18 : decode cX0_worst 18 = .ok (.lconst 0, 1) := dk_9 (dk_at dksX0_worst_0 18 rfl rfl)
theorem dX0_worst_19 : decode cX0_worst 19 = .ok (.ldc2_w 212, 3) := dk_20 0 212 (dk_at dksX0_worst_0 19 rfl rfl)
theorem dX0_worst_22 : decode cX0_worst 22 = .ok (.invokestatic 166, 3) := dk_184 0 166 (dk_at dksX0_worst_1 0 rfl rfl)
theorem dX0_worst_25 : decode cX0_worst 25 = .ok (.ifCond .ne 5, 3) := dk_154 0 5 (dk_at dksX0_worst_1 3 rfl rfl)
theorem dX0_worst_28 : decode cX0_worst 28 = .ok (.iconst (-1), 1) := dk_2 (dk_at dksX0_worst_1 6 rfl rfl)
theorem dX0_worst_29 : decode cX0_worst 29 = .ok (.ireturn, 1) := dk_172 (dk_at dksX0_worst_1 7 rfl rfl)
theorem dX0_worst_30 : decode cX0_worst 30 = .ok (.aload_n 0, 1) := dk_42 (dk_at dksX0_worst_1 8 rfl rfl)
theorem dX0_worst_31 : decode cX0_worst 31 = .ok (.iload_n 1, 1) := dk_27 (dk_at dksX0_worst_1 9 rfl rfl)
theorem dX0_worst_32 : decode cX0_worst 32 = .ok (.invokevirtual 247, 3) := dk_182 0 247 (dk_at dksX0_worst_1 10 rfl rfl)
theorem dX0_worst_35 : decode cX0_worst 35 = .ok (.invokevirtual 203, 3) := dk_182 0 203 (dk_at dksX0_worst_1 13 rfl rfl)
theorem dX0_worst_38 : decode cX0_worst 38 = .ok (.istore 4, 2) := dk_54 4 (dk_at dksX0_worst_1 16 rfl rfl)
theorem dX0_worst_40 : decode cX0_worst 40 = .ok (.iload 4, 2) := dk_21 4 (dk_at dksX0_worst_1 18 rfl rfl)
theorem dX0_worst_42 : decode cX0_worst 42 = .ok (.aload_n 0, 1) := dk_42 (dk_at dksX0_worst_1 20 rfl rfl)
theorem dX0_worst_43 : decode cX0_worst 43 = .ok (.iload_n 2, 1) := dk_28 (dk_at dksX0_worst_1 21 rfl rfl)
theorem dX0_worst_44 : decode cX0_worst 44 = .ok (.invokevirtual 247, 3) := dk_182 0 247 (dk_at dksX0_worst_2 0 rfl rfl)
theorem dX0_worst_47 : decode cX0_worst 47 = .ok (.invokevirtual 203, 3) := dk_182 0 203 (dk_at dksX0_worst_2 3 rfl rfl)
theorem dX0_worst_50 : decode cX0_worst 50 = .ok (.iadd, 1) := dk_96 (dk_at dksX0_worst_2 6 rfl rfl)
theorem dX0_worst_51 : decode cX0_worst 51 = .ok (.istore 5, 2) := dk_54 5 (dk_at dksX0_worst_2 7 rfl rfl)
theorem dX0_worst_53 : decode cX0_worst 53 = .ok (.iconst (-1), 1) := dk_2 (dk_at dksX0_worst_2 9 rfl rfl)
theorem dX0_worst_54 : decode cX0_worst 54 = .ok (.istore 6, 2) := dk_54 6 (dk_at dksX0_worst_2 10 rfl rfl)
theorem dX0_worst_56 : decode cX0_worst 56 = .ok (.iconst (-1), 1) := dk_2 (dk_at dksX0_worst_2 12 rfl rfl)
theorem dX0_worst_57 : decode cX0_worst 57 = .ok (.istore 7, 2) := dk_54 7 (dk_at dksX0_worst_2 13 rfl rfl)
theorem dX0_worst_59 : decode cX0_worst 59 = .ok (.aload_n 0, 1) := dk_42 (dk_at dksX0_worst_2 15 rfl rfl)
theorem dX0_worst_60 : decode cX0_worst 60 = .ok (.aload_n 0, 1) := dk_42 (dk_at dksX0_worst_2 16 rfl rfl)
theorem dX0_worst_61 : decode cX0_worst 61 = .ok (.iload_n 1, 1) := dk_27 (dk_at dksX0_worst_2 17 rfl rfl)
theorem dX0_worst_62 : decode cX0_worst 62 = .ok (.invokevirtual 247, 3) := dk_182 0 247 (dk_at dksX0_worst_2 18 rfl rfl)
theorem dX0_worst_65 : decode cX0_worst 65 = .ok (.aload_n 0, 1) := dk_42 (dk_at dksX0_worst_2 21 rfl rfl)
theorem dX0_worst_66 : decode cX0_worst 66 = .ok (.iload_n 2, 1) := dk_28 (dk_at dksX0_worst_2 22 rfl rfl)
theorem dX0_worst_67 : decode cX0_worst 67 = .ok (.invokevirtual 247, 3) := dk_182 0 247 (dk_at dksX0_worst_3 0 rfl rfl)
theorem dX0_worst_70 : decode cX0_worst 70 = .ok (.invokevirtual 352, 3) := dk_182 1 96 (dk_at dksX0_worst_3 3 rfl rfl)
theorem dX0_worst_73 : decode cX0_worst 73 = .ok (.pop, 1) := dk_87 (dk_at dksX0_worst_3 6 rfl rfl)
theorem dX0_worst_74 : decode cX0_worst 74 = .ok (.iconst 0, 1) := dk_3 (dk_at dksX0_worst_3 7 rfl rfl)
theorem dX0_worst_75 : decode cX0_worst 75 = .ok (.istore 8, 2) := dk_54 8 (dk_at dksX0_worst_3 8 rfl rfl)
theorem dX0_worst_77 : decode cX0_worst 77 = .ok (.iload 8, 2) := dk_21 8 (dk_at dksX0_worst_3 10 rfl rfl)
theorem dX0_worst_79 : decode cX0_worst 79 = .ok (.iload 4, 2) := dk_21 4 (dk_at dksX0_worst_3 12 rfl rfl)
theorem dX0_worst_81 : decode cX0_worst 81 = .ok (.if_icmp .ge 56, 3) := dk_162 0 56 (dk_at dksX0_worst_3 14 rfl rfl)
theorem dX0_worst_84 : decode cX0_worst 84 = .ok (.iload 5, 2) := dk_21 5 (dk_at dksX0_worst_3 17 rfl rfl)
theorem dX0_worst_86 : decode cX0_worst 86 = .ok (.aload_n 0, 1) := dk_42 (dk_at dksX0_worst_3 19 rfl rfl)
theorem dX0_worst_87 : decode cX0_worst 87 = .ok (.getfield 72, 3) := dk_180 0 72 (dk_at dksX0_worst_3 20 rfl rfl)
theorem dX0_worst_90 : decode cX0_worst 90 = .ok (.iload 8, 2) := dk_21 8 (dk_at dksX0_worst_4 0 rfl rfl)
theorem dX0_worst_92 : decode cX0_worst 92 = .ok (.iaload, 1) := dk_46 (dk_at dksX0_worst_4 2 rfl rfl)
theorem dX0_worst_93 : decode cX0_worst 93 = .ok (.iconst (-1), 1) := dk_2 (dk_at dksX0_worst_4 3 rfl rfl)
theorem dX0_worst_94 : decode cX0_worst 94 = .ok (.if_icmp .ne 7, 3) := dk_160 0 7 (dk_at dksX0_worst_4 4 rfl rfl)
theorem dX0_worst_97 : decode cX0_worst 97 = .ok (.iconst 0, 1) := dk_3 (dk_at dksX0_worst_4 7 rfl rfl)
theorem dX0_worst_98 : decode cX0_worst 98 = .ok (.goto 4, 3) := dk_167 0 4 (dk_at dksX0_worst_4 8 rfl rfl)
theorem dX0_worst_101 : decode cX0_worst 101 = .ok (.iconst 2, 1) := dk_5 (dk_at dksX0_worst_4 11 rfl rfl)
theorem dX0_worst_102 : decode cX0_worst 102 = .ok (.isub, 1) := dk_100 (dk_at dksX0_worst_4 12 rfl rfl)
theorem dX0_worst_103 : decode cX0_worst 103 = .ok (.istore 5, 2) := dk_54 5 (dk_at dksX0_worst_4 13 rfl rfl)
theorem dX0_worst_105 : decode cX0_worst 105 = .ok (.aload_n 0, 1) := dk_42 (dk_at dksX0_worst_4 15 rfl rfl)
theorem dX0_worst_106 : decode cX0_worst 106 = .ok (.iload 8, 2) := dk_21 8 (dk_at dksX0_worst_4 16 rfl rfl)
theorem dX0_worst_108 : decode cX0_worst 108 = .ok (.invokevirtual 360, 3) := dk_182 1 104 (dk_at dksX0_worst_4 18 rfl rfl)
theorem dX0_worst_111 : decode cX0_worst 111 = .ok (.iload 6, 2) := dk_21 6 (dk_at dksX0_worst_4 21 rfl rfl)
theorem dX0_worst_113 : decode cX0_worst 113 = .ok (.if_icmp .gt 6, 3) := dk_163 0 6 (dk_at dksX0_worst_5 0 rfl rfl)
theorem dX0_worst_116 : decode cX0_worst 116 = .ok (.goto 15, 3) := dk_167 0 15 (dk_at dksX0_worst_5 3 rfl rfl)
theorem dX0_worst_119 : decode cX0_worst 119 = .ok (.aload_n 0, 1) := dk_42 (dk_at dksX0_worst_5 6 rfl rfl)
theorem dX0_worst_120 : decode cX0_worst 120 = .ok (.iload 8, 2) := dk_21 8 (dk_at dksX0_worst_5 7 rfl rfl)
theorem dX0_worst_122 : decode cX0_worst 122 = .ok (.invokevirtual 360, 3) := dk_182 1 104 (dk_at dksX0_worst_5 9 rfl rfl)
theorem dX0_worst_125 : decode cX0_worst 125 = .ok (.istore 6, 2) := dk_54 6 (dk_at dksX0_worst_5 12 rfl rfl)
theorem dX0_worst_127 : decode cX0_worst 127 = .ok (.iload 8, 2) := dk_21 8 (dk_at dksX0_worst_5 14 rfl rfl)
theorem dX0_worst_129 : decode cX0_worst 129 = .ok (.istore 7, 2) := dk_54 7 (dk_at dksX0_worst_5 16 rfl rfl)
theorem dX0_worst_131 : decode cX0_worst 131 = .ok (.iinc 8 1, 3) := dk_132 8 1 (dk_at dksX0_worst_5 18 rfl rfl)
theorem dX0_worst_134 : decode cX0_worst 134 = .ok (.goto (-57), 3) := dk_167 255 199 (dk_at dksX0_worst_5 21 rfl rfl)
theorem dX0_worst_137 : decode cX0_worst 137 = .ok (.iload_n 3, 1) := dk_29 (dk_at dksX0_worst_6 0 rfl rfl)
theorem dX0_worst_138 : decode cX0_worst 138 = .ok (.ifCond .ne 8, 3) := dk_154 0 8 (dk_at dksX0_worst_6 1 rfl rfl)
theorem dX0_worst_141 : decode cX0_worst 141 = .ok (.iload 7, 2) := dk_21 7 (dk_at dksX0_worst_6 4 rfl rfl)
theorem dX0_worst_143 : decode cX0_worst 143 = .ok (.goto 19, 3) := dk_167 0 19 (dk_at dksX0_worst_6 6 rfl rfl)
theorem dX0_worst_146 : decode cX0_worst 146 = .ok (.iload_n 3, 1) := dk_29 (dk_at dksX0_worst_6 9 rfl rfl)
theorem dX0_worst_147 : decode cX0_worst 147 = .ok (.iconst 1, 1) := dk_4 (dk_at dksX0_worst_6 10 rfl rfl)
theorem dX0_worst_148 : decode cX0_worst 148 = .ok (.if_icmp .ne 12, 3) := dk_160 0 12 (dk_at dksX0_worst_6 11 rfl rfl)
theorem dX0_worst_151 : decode cX0_worst 151 = .ok (.iconst 0, 1) := dk_3 (dk_at dksX0_worst_6 14 rfl rfl)
theorem dX0_worst_152 : decode cX0_worst 152 = .ok (.iload 6, 2) := dk_21 6 (dk_at dksX0_worst_6 15 rfl rfl)
theorem dX0_worst_154 : decode cX0_worst 154 = .ok (.invokestatic 317, 3) := dk_184 1 61 (dk_at dksX0_worst_6 17 rfl rfl)
theorem dX0_worst_157 : decode cX0_worst 157 = .ok (.goto 5, 3) := dk_167 0 5 (dk_at dksX0_worst_6 20 rfl rfl)
theorem dX0_worst_160 : decode cX0_worst 160 = .ok (.iload 5, 2) := dk_21 5 (dk_at dksX0_worst_7 0 rfl rfl)
theorem dX0_worst_162 : decode cX0_worst 162 = .ok (.ireturn, 1) := dk_172 (dk_at dksX0_worst_7 2 rfl rfl)
abbrev cX0_costOf : ByteArray := prog_1_method_47_code
def yX0_costOf : MethodName := ⟨RX0, "costOf", "(I)I"⟩
def dkwX0_costOf_2 : List UInt8 := [96, 184, 0, 139, 42, 180, 0, 23, 180, 0, 216, 8, 46, 42, 180, 0, 66, 27, 50, 28, 46, 104, 96, 172]
abbrev dktX0_costOf_2 : List UInt8 := dkwX0_costOf_2 ++ []
def dkwX0_costOf_1 : List UInt8 := [180, 0, 60, 27, 50, 28, 46, 42, 180, 0, 63, 27, 50, 28, 46, 42, 180, 0, 23, 180, 0, 216, 6, 46]
abbrev dktX0_costOf_1 : List UInt8 := dkwX0_costOf_1 ++ dktX0_costOf_2
def dkwX0_costOf_0 : List UInt8 := [42, 180, 0, 72, 27, 46, 61, 28, 2, 160, 0, 13, 42, 180, 0, 23, 180, 0, 216, 5, 46, 172, 42]
abbrev dktX0_costOf_0 : List UInt8 := dkwX0_costOf_0 ++ dktX0_costOf_1
theorem dksX0_costOf_0 : cX0_costOf.data.toList.drop 0 = dktX0_costOf_0 := by decide +kernel
theorem dksX0_costOf_1 : cX0_costOf.data.toList.drop 23 = dktX0_costOf_1 := dk_seg dksX0_costOf_0 23 rfl rfl
theorem dksX0_costOf_2 : cX0_costOf.data.toList.drop 47 = dktX0_costOf_2 := dk_seg dksX0_costOf_1 24 rfl rfl
theorem dX0_costOf_0 : decode cX0_costOf 0 = .ok (.aload_n 0, 1) := dk_42 (dk_at dksX0_costOf_0 0 rfl rfl)
theorem dX0_costOf_1 : decode cX0_costOf 1 = .ok (.getfield 72, 3) := dk_180 0 72 (dk_at dksX0_costOf_0 1 rfl rfl)
theorem dX0_costOf_4 : decode cX0_costOf 4 = .ok (.iload_n 1, 1) := dk_27 (dk_at dksX0_costOf_0 4 rfl rfl)
theorem dX0_costOf_5 : decode cX0_costOf 5 = .ok (.iaload, 1) := dk_46 (dk_at dksX0_costOf_0 5 rfl rfl)
theorem dX0_costOf_6 : decode cX0_costOf 6 = .ok (.istore_n 2, 1) := dk_61 (dk_at dksX0_costOf_0 6 rfl rfl)
theorem dX0_costOf_7 : decode cX0_costOf 7 = .ok (.iload_n 2, 1) := dk_28 (dk_at dksX0_costOf_0 7 rfl rfl)
theorem dX0_costOf_8 : decode cX0_costOf 8 = .ok (.iconst (-1), 1) := dk_2 (dk_at dksX0_costOf_0 8 rfl rfl)
theorem dX0_costOf_9 : decode cX0_costOf 9 = .ok (.if_icmp .ne 13, 3) := dk_160 0 13 (dk_at dksX0_costOf_0 9 rfl rfl)
theorem dX0_costOf_12 : decode cX0_costOf 12 = .ok (.aload_n 0, 1) := dk_42 (dk_at dksX0_costOf_0 12 rfl rfl)
theorem dX0_costOf_13 : decode cX0_costOf 13 = .ok (.getfield 23, 3) := dk_180 0 23 (dk_at dksX0_costOf_0 13 rfl rfl)
theorem dX0_costOf_16 : decode cX0_costOf 16 = .ok (.getfield 216, 3) := dk_180 0 216 (dk_at dksX0_costOf_0 16 rfl rfl)
theorem dX0_costOf_19 : decode cX0_costOf 19 = .ok (.iconst 2, 1) := dk_5 (dk_at dksX0_costOf_0 19 rfl rfl)
theorem dX0_costOf_20 : decode cX0_costOf 20 = .ok (.iaload, 1) := dk_46 (dk_at dksX0_costOf_0 20 rfl rfl)
theorem dX0_costOf_21 : decode cX0_costOf 21 = .ok (.ireturn, 1) := dk_172 (dk_at dksX0_costOf_0 21 rfl rfl)
theorem dX0_costOf_22 : decode cX0_costOf 22 = .ok (.aload_n 0, 1) := dk_42 (dk_at dksX0_costOf_0 22 rfl rfl)
theorem dX0_costOf_23 : decode cX0_costOf 23 = .ok (.getfield 60, 3) := dk_180 0 60 (dk_at dksX0_costOf_1 0 rfl rfl)
theorem dX0_costOf_26 : decode cX0_costOf 26 = .ok (.iload_n 1, 1) := dk_27 (dk_at dksX0_costOf_1 3 rfl rfl)
theorem dX0_costOf_27 : decode cX0_costOf 27 = .ok (.aaload, 1) := dk_50 (dk_at dksX0_costOf_1 4 rfl rfl)
theorem dX0_costOf_28 : decode cX0_costOf 28 = .ok (.iload_n 2, 1) := dk_28 (dk_at dksX0_costOf_1 5 rfl rfl)
theorem dX0_costOf_29 : decode cX0_costOf 29 = .ok (.iaload, 1) := dk_46 (dk_at dksX0_costOf_1 6 rfl rfl)
theorem dX0_costOf_30 : decode cX0_costOf 30 = .ok (.aload_n 0, 1) := dk_42 (dk_at dksX0_costOf_1 7 rfl rfl)
theorem dX0_costOf_31 : decode cX0_costOf 31 = .ok (.getfield 63, 3) := dk_180 0 63 (dk_at dksX0_costOf_1 8 rfl rfl)
theorem dX0_costOf_34 : decode cX0_costOf 34 = .ok (.iload_n 1, 1) := dk_27 (dk_at dksX0_costOf_1 11 rfl rfl)
theorem dX0_costOf_35 : decode cX0_costOf 35 = .ok (.aaload, 1) := dk_50 (dk_at dksX0_costOf_1 12 rfl rfl)
theorem dX0_costOf_36 : decode cX0_costOf 36 = .ok (.iload_n 2, 1) := dk_28 (dk_at dksX0_costOf_1 13 rfl rfl)
theorem dX0_costOf_37 : decode cX0_costOf 37 = .ok (.iaload, 1) := dk_46 (dk_at dksX0_costOf_1 14 rfl rfl)
theorem dX0_costOf_38 : decode cX0_costOf 38 = .ok (.aload_n 0, 1) := dk_42 (dk_at dksX0_costOf_1 15 rfl rfl)
theorem dX0_costOf_39 : decode cX0_costOf 39 = .ok (.getfield 23, 3) := dk_180 0 23 (dk_at dksX0_costOf_1 16 rfl rfl)
theorem dX0_costOf_42 : decode cX0_costOf 42 = .ok (.getfield 216, 3) := dk_180 0 216 (dk_at dksX0_costOf_1 19 rfl rfl)
theorem dX0_costOf_45 : decode cX0_costOf 45 = .ok (.iconst 3, 1) := dk_6 (dk_at dksX0_costOf_1 22 rfl rfl)
theorem dX0_costOf_46 : decode cX0_costOf 46 = .ok (.iaload, 1) := dk_46 (dk_at dksX0_costOf_1 23 rfl rfl)
theorem dX0_costOf_47 : decode cX0_costOf 47 = .ok (.iadd, 1) := dk_96 (dk_at dksX0_costOf_2 0 rfl rfl)
theorem dX0_costOf_48 : decode cX0_costOf 48 = .ok (.invokestatic 139, 3) := dk_184 0 139 (dk_at dksX0_costOf_2 1 rfl rfl)
theorem dX0_costOf_51 : decode cX0_costOf 51 = .ok (.aload_n 0, 1) := dk_42 (dk_at dksX0_costOf_2 4 rfl rfl)
theorem dX0_costOf_52 : decode cX0_costOf 52 = .ok (.getfield 23, 3) := dk_180 0 23 (dk_at dksX0_costOf_2 5 rfl rfl)
theorem dX0_costOf_55 : decode cX0_costOf 55 = .ok (.getfield 216, 3) := dk_180 0 216 (dk_at dksX0_costOf_2 8 rfl rfl)
theorem dX0_costOf_58 : decode cX0_costOf 58 = .ok (.iconst 5, 1) := dk_8 (dk_at dksX0_costOf_2 11 rfl rfl)
theorem dX0_costOf_59 : decode cX0_costOf 59 = .ok (.iaload, 1) := dk_46 (dk_at dksX0_costOf_2 12 rfl rfl)
theorem dX0_costOf_60 : decode cX0_costOf 60 = .ok (.aload_n 0, 1) := dk_42 (dk_at dksX0_costOf_2 13 rfl rfl)
theorem dX0_costOf_61 : decode cX0_costOf 61 = .ok (.getfield 66, 3) := dk_180 0 66 (dk_at dksX0_costOf_2 14 rfl rfl)
theorem dX0_costOf_64 : decode cX0_costOf 64 = .ok (.iload_n 1, 1) := dk_27 (dk_at dksX0_costOf_2 17 rfl rfl)
theorem dX0_costOf_65 : decode cX0_costOf 65 = .ok (.aaload, 1) := dk_50 (dk_at dksX0_costOf_2 18 rfl rfl)
theorem dX0_costOf_66 : decode cX0_costOf 66 = .ok (.iload_n 2, 1) := dk_28 (dk_at dksX0_costOf_2 19 rfl rfl)
theorem dX0_costOf_67 : decode cX0_costOf 67 = .ok (.iaload, 1) := dk_46 (dk_at dksX0_costOf_2 20 rfl rfl)
theorem dX0_costOf_68 : decode cX0_costOf 68 = .ok (.imul, 1) := dk_104 (dk_at dksX0_costOf_2 21 rfl rfl)
theorem dX0_costOf_69 : decode cX0_costOf 69 = .ok (.iadd, 1) := dk_96 (dk_at dksX0_costOf_2 22 rfl rfl)
theorem dX0_costOf_70 : decode cX0_costOf 70 = .ok (.ireturn, 1) := dk_172 (dk_at dksX0_costOf_2 23 rfl rfl)
abbrev cX0_rank : ByteArray := prog_1_method_50_code
def yX0_rank : MethodName := ⟨RX0, "rank", "(I)I"⟩
def dkwX0_rank_1 : List UInt8 := [180, 0, 88, 27, 46, 172]
abbrev dktX0_rank_1 : List UInt8 := dkwX0_rank_1 ++ []
def dkwX0_rank_0 : List UInt8 := [42, 27, 182, 0, 219, 154, 0, 5, 2, 172, 42, 42, 180, 0, 23, 180, 0, 209, 182, 1, 107, 42]
abbrev dktX0_rank_0 : List UInt8 := dkwX0_rank_0 ++ dktX0_rank_1
theorem dksX0_rank_0 : cX0_rank.data.toList.drop 0 = dktX0_rank_0 := by decide +kernel
theorem dksX0_rank_1 : cX0_rank.data.toList.drop 22 = dktX0_rank_1 := dk_seg dksX0_rank_0 22 rfl rfl
theorem dX0_rank_0 : decode cX0_rank 0 = .ok (.aload_n 0, 1) := dk_42 (dk_at dksX0_rank_0 0 rfl rfl)
theorem dX0_rank_1 : decode cX0_rank 1 = .ok (.iload_n 1, 1) := dk_27 (dk_at dksX0_rank_0 1 rfl rfl)
theorem dX0_rank_2 : decode cX0_rank 2 = .ok (.invokevirtual 219, 3) := dk_182 0 219 (dk_at dksX0_rank_0 2 rfl rfl)
theorem dX0_rank_5 : decode cX0_rank 5 = .ok (.ifCond .ne 5, 3) := dk_154 0 5 (dk_at dksX0_rank_0 5 rfl rfl)
theorem dX0_rank_8 : decode cX0_rank 8 = .ok (.iconst (-1), 1) := dk_2 (dk_at dksX0_rank_0 8 rfl rfl)
theorem dX0_rank_9 : decode cX0_rank 9 = .ok (.ireturn, 1) := dk_172 (dk_at dksX0_rank_0 9 rfl rfl)
theorem dX0_rank_10 : decode cX0_rank 10 = .ok (.aload_n 0, 1) := dk_42 (dk_at dksX0_rank_0 10 rfl rfl)
theorem dX0_rank_11 : decode cX0_rank 11 = .ok (.aload_n 0, 1) := dk_42 (dk_at dksX0_rank_0 11 rfl rfl)
theorem dX0_rank_12 : decode cX0_rank 12 = .ok (.getfield 23, 3) := dk_180 0 23 (dk_at dksX0_rank_0 12 rfl rfl)
theorem dX0_rank_15 : decode cX0_rank 15 = .ok (.getfield 209, 3) := dk_180 0 209 (dk_at dksX0_rank_0 15 rfl rfl)
theorem dX0_rank_18 : decode cX0_rank 18 = .ok (.invokevirtual 363, 3) := dk_182 1 107 (dk_at dksX0_rank_0 18 rfl rfl)
theorem dX0_rank_21 : decode cX0_rank 21 = .ok (.aload_n 0, 1) := dk_42 (dk_at dksX0_rank_0 21 rfl rfl)
theorem dX0_rank_22 : decode cX0_rank 22 = .ok (.getfield 88, 3) := dk_180 0 88 (dk_at dksX0_rank_1 0 rfl rfl)
theorem dX0_rank_25 : decode cX0_rank 25 = .ok (.iload_n 1, 1) := dk_27 (dk_at dksX0_rank_1 3 rfl rfl)
theorem dX0_rank_26 : decode cX0_rank 26 = .ok (.iaload, 1) := dk_46 (dk_at dksX0_rank_1 4 rfl rfl)
theorem dX0_rank_27 : decode cX0_rank 27 = .ok (.ireturn, 1) := dk_172 (dk_at dksX0_rank_1 5 rfl rfl)
abbrev cX0_ranks : ByteArray := prog_1_method_49_code
def yX0_ranks : MethodName := ⟨RX0, "ranks", "(Ljava/util/ArrayList;)V"⟩
def dkwX0_ranks_3 : List UInt8 := [132, 3, 255, 167, 255, 213, 42, 180, 0, 88, 29, 28, 79, 132, 2, 1, 167, 255, 174, 177]
abbrev dktX0_ranks_3 : List UInt8 := dkwX0_ranks_3 ++ []
def dkwX0_ranks_2 : List UInt8 := [180, 0, 85, 28, 46, 164, 0, 23, 42, 180, 0, 88, 29, 42, 180, 0, 88, 29, 4, 100, 46, 79]
abbrev dktX0_ranks_2 : List UInt8 := dkwX0_ranks_2 ++ dktX0_ranks_3
def dkwX0_ranks_1 : List UInt8 := [182, 1, 96, 79, 28, 62, 29, 158, 0, 45, 42, 180, 0, 85, 42, 180, 0, 88, 29, 4, 100, 46, 46, 42]
abbrev dktX0_ranks_1 : List UInt8 := dkwX0_ranks_1 ++ dktX0_ranks_2
def dkwX0_ranks_0 : List UInt8 := [3, 61, 28, 42, 182, 0, 207, 162, 0, 80, 42, 180, 0, 85, 28, 42, 43, 42, 28, 182, 0, 247]
abbrev dktX0_ranks_0 : List UInt8 := dkwX0_ranks_0 ++ dktX0_ranks_1
theorem dksX0_ranks_0 : cX0_ranks.data.toList.drop 0 = dktX0_ranks_0 := by decide +kernel
theorem dksX0_ranks_1 : cX0_ranks.data.toList.drop 22 = dktX0_ranks_1 := dk_seg dksX0_ranks_0 22 rfl rfl
theorem dksX0_ranks_2 : cX0_ranks.data.toList.drop 46 = dktX0_ranks_2 := dk_seg dksX0_ranks_1 24 rfl rfl
theorem dksX0_ranks_3 : cX0_ranks.data.toList.drop 68 = dktX0_ranks_3 := dk_seg dksX0_ranks_2 22 rfl rfl
theorem dX0_ranks_0 : decode cX0_ranks 0 = .ok (.iconst 0, 1) := dk_3 (dk_at dksX0_ranks_0 0 rfl rfl)
theorem dX0_ranks_1 : decode cX0_ranks 1 = .ok (.istore_n 2, 1) := dk_61 (dk_at dksX0_ranks_0 1 rfl rfl)
theorem dX0_ranks_2 : decode cX0_ranks 2 = .ok (.iload_n 2, 1) := dk_28 (dk_at dksX0_ranks_0 2 rfl rfl)
theorem dX0_ranks_3 : decode cX0_ranks 3 = .ok (.aload_n 0, 1) := dk_42 (dk_at dksX0_ranks_0 3 rfl rfl)
theorem dX0_ranks_4 : decode cX0_ranks 4 = .ok (.invokevirtual 207, 3) := dk_182 0 207 (dk_at dksX0_ranks_0 4 rfl rfl)
theorem dX0_ranks_7 : decode cX0_ranks 7 = .ok (.if_icmp .ge 80, 3) := dk_162 0 80 (dk_at dksX0_ranks_0 7 rfl rfl)
theorem dX0_ranks_10 : decode cX0_ranks 10 = .ok (.aload_n 0, 1) := dk_42 (dk_at dksX0_ranks_0 10 rfl rfl)
theorem dX0_ranks_11 : decode cX0_ranks 11 = .ok (.getfield 85, 3) := dk_180 0 85 (dk_at dksX0_ranks_0 11 rfl rfl)
theorem dX0_ranks_14 : decode cX0_ranks 14 = .ok (.iload_n 2, 1) := dk_28 (dk_at dksX0_ranks_0 14 rfl rfl)
theorem dX0_ranks_15 : decode cX0_ranks 15 = .ok (.aload_n 0, 1) := dk_42 (dk_at dksX0_ranks_0 15 rfl rfl)
theorem dX0_ranks_16 : decode cX0_ranks 16 = .ok (.aload_n 1, 1) := dk_43 (dk_at dksX0_ranks_0 16 rfl rfl)
theorem dX0_ranks_17 : decode cX0_ranks 17 = .ok (.aload_n 0, 1) := dk_42 (dk_at dksX0_ranks_0 17 rfl rfl)
theorem dX0_ranks_18 : decode cX0_ranks 18 = .ok (.iload_n 2, 1) := dk_28 (dk_at dksX0_ranks_0 18 rfl rfl)
theorem dX0_ranks_19 : decode cX0_ranks 19 = .ok (.invokevirtual 247, 3) := dk_182 0 247 (dk_at dksX0_ranks_0 19 rfl rfl)
theorem dX0_ranks_22 : decode cX0_ranks 22 = .ok (.invokevirtual 352, 3) := dk_182 1 96 (dk_at dksX0_ranks_1 0 rfl rfl)
theorem dX0_ranks_25 : decode cX0_ranks 25 = .ok (.iastore, 1) := dk_79 (dk_at dksX0_ranks_1 3 rfl rfl)
theorem dX0_ranks_26 : decode cX0_ranks 26 = .ok (.iload_n 2, 1) := dk_28 (dk_at dksX0_ranks_1 4 rfl rfl)
theorem dX0_ranks_27 : decode cX0_ranks 27 = .ok (.istore_n 3, 1) := dk_62 (dk_at dksX0_ranks_1 5 rfl rfl)
theorem dX0_ranks_28 : decode cX0_ranks 28 = .ok (.iload_n 3, 1) := dk_29 (dk_at dksX0_ranks_1 6 rfl rfl)
theorem dX0_ranks_29 : decode cX0_ranks 29 = .ok (.ifCond .le 45, 3) := dk_158 0 45 (dk_at dksX0_ranks_1 7 rfl rfl)
theorem dX0_ranks_32 : decode cX0_ranks 32 = .ok (.aload_n 0, 1) := dk_42 (dk_at dksX0_ranks_1 10 rfl rfl)
theorem dX0_ranks_33 : decode cX0_ranks 33 = .ok (.getfield 85, 3) := dk_180 0 85 (dk_at dksX0_ranks_1 11 rfl rfl)
theorem dX0_ranks_36 : decode cX0_ranks 36 = .ok (.aload_n 0, 1) := dk_42 (dk_at dksX0_ranks_1 14 rfl rfl)
theorem dX0_ranks_37 : decode cX0_ranks 37 = .ok (.getfield 88, 3) := dk_180 0 88 (dk_at dksX0_ranks_1 15 rfl rfl)
theorem dX0_ranks_40 : decode cX0_ranks 40 = .ok (.iload_n 3, 1) := dk_29 (dk_at dksX0_ranks_1 18 rfl rfl)
theorem dX0_ranks_41 : decode cX0_ranks 41 = .ok (.iconst 1, 1) := dk_4 (dk_at dksX0_ranks_1 19 rfl rfl)
theorem dX0_ranks_42 : decode cX0_ranks 42 = .ok (.isub, 1) := dk_100 (dk_at dksX0_ranks_1 20 rfl rfl)
theorem dX0_ranks_43 : decode cX0_ranks 43 = .ok (.iaload, 1) := dk_46 (dk_at dksX0_ranks_1 21 rfl rfl)
theorem dX0_ranks_44 : decode cX0_ranks 44 = .ok (.iaload, 1) := dk_46 (dk_at dksX0_ranks_1 22 rfl rfl)
theorem dX0_ranks_45 : decode cX0_ranks 45 = .ok (.aload_n 0, 1) := dk_42 (dk_at dksX0_ranks_1 23 rfl rfl)
theorem dX0_ranks_46 : decode cX0_ranks 46 = .ok (.getfield 85, 3) := dk_180 0 85 (dk_at dksX0_ranks_2 0 rfl rfl)
theorem dX0_ranks_49 : decode cX0_ranks 49 = .ok (.iload_n 2, 1) := dk_28 (dk_at dksX0_ranks_2 3 rfl rfl)
theorem dX0_ranks_50 : decode cX0_ranks 50 = .ok (.iaload, 1) := dk_46 (dk_at dksX0_ranks_2 4 rfl rfl)
theorem dX0_ranks_51 : decode cX0_ranks 51 = .ok (.if_icmp .le 23, 3) := dk_164 0 23 (dk_at dksX0_ranks_2 5 rfl rfl)
theorem dX0_ranks_54 : decode cX0_ranks 54 = .ok (.aload_n 0, 1) := dk_42 (dk_at dksX0_ranks_2 8 rfl rfl)
theorem dX0_ranks_55 : decode cX0_ranks 55 = .ok (.getfield 88, 3) := dk_180 0 88 (dk_at dksX0_ranks_2 9 rfl rfl)
theorem dX0_ranks_58 : decode cX0_ranks 58 = .ok (.iload_n 3, 1) := dk_29 (dk_at dksX0_ranks_2 12 rfl rfl)
theorem dX0_ranks_59 : decode cX0_ranks 59 = .ok (.aload_n 0, 1) := dk_42 (dk_at dksX0_ranks_2 13 rfl rfl)
theorem dX0_ranks_60 : decode cX0_ranks 60 = .ok (.getfield 88, 3) := dk_180 0 88 (dk_at dksX0_ranks_2 14 rfl rfl)
theorem dX0_ranks_63 : decode cX0_ranks 63 = .ok (.iload_n 3, 1) := dk_29 (dk_at dksX0_ranks_2 17 rfl rfl)
theorem dX0_ranks_64 : decode cX0_ranks 64 = .ok (.iconst 1, 1) := dk_4 (dk_at dksX0_ranks_2 18 rfl rfl)
theorem dX0_ranks_65 : decode cX0_ranks 65 = .ok (.isub, 1) := dk_100 (dk_at dksX0_ranks_2 19 rfl rfl)
theorem dX0_ranks_66 : decode cX0_ranks 66 = .ok (.iaload, 1) := dk_46 (dk_at dksX0_ranks_2 20 rfl rfl)
theorem dX0_ranks_67 : decode cX0_ranks 67 = .ok (.iastore, 1) := dk_79 (dk_at dksX0_ranks_2 21 rfl rfl)
theorem dX0_ranks_68 : decode cX0_ranks 68 = .ok (.iinc 3 (-1), 3) := dk_132 3 255 (dk_at dksX0_ranks_3 0 rfl rfl)
theorem dX0_ranks_71 : decode cX0_ranks 71 = .ok (.goto (-43), 3) := dk_167 255 213 (dk_at dksX0_ranks_3 3 rfl rfl)
theorem dX0_ranks_74 : decode cX0_ranks 74 = .ok (.aload_n 0, 1) := dk_42 (dk_at dksX0_ranks_3 6 rfl rfl)
theorem dX0_ranks_75 : decode cX0_ranks 75 = .ok (.getfield 88, 3) := dk_180 0 88 (dk_at dksX0_ranks_3 7 rfl rfl)
theorem dX0_ranks_78 : decode cX0_ranks 78 = .ok (.iload_n 3, 1) := dk_29 (dk_at dksX0_ranks_3 10 rfl rfl)
theorem dX0_ranks_79 : decode cX0_ranks 79 = .ok (.iload_n 2, 1) := dk_28 (dk_at dksX0_ranks_3 11 rfl rfl)
theorem dX0_ranks_80 : decode cX0_ranks 80 = .ok (.iastore, 1) := dk_79 (dk_at dksX0_ranks_3 12 rfl rfl)
theorem dX0_ranks_81 : decode cX0_ranks 81 = .ok (.iinc 2 1, 3) := dk_132 2 1 (dk_at dksX0_ranks_3 13 rfl rfl)
theorem dX0_ranks_84 : decode cX0_ranks 84 = .ok (.goto (-82), 3) := dk_167 255 174 (dk_at dksX0_ranks_3 16 rfl rfl)
theorem dX0_ranks_87 : decode cX0_ranks 87 = .ok (.return_, 1) := dk_177 (dk_at dksX0_ranks_3 19 rfl rfl)
abbrev cX0_margin : ByteArray := prog_1_method_52_code
def yX0_margin : MethodName := ⟨RX0, "margin", "()I"⟩
def dkwX0_margin_0 : List UInt8 := [42, 182, 0, 207, 5, 162, 0, 9, 19, 1, 111, 167, 0, 7, 42, 182, 1, 112, 172]
abbrev dktX0_margin_0 : List UInt8 := dkwX0_margin_0 ++ []
theorem dksX0_margin_0 : cX0_margin.data.toList.drop 0 = dktX0_margin_0 := by decide +kernel
theorem dX0_margin_0 : decode cX0_margin 0 = .ok (.aload_n 0, 1) := dk_42 (dk_at dksX0_margin_0 0 rfl rfl)
theorem dX0_margin_1 : decode cX0_margin 1 = .ok (.invokevirtual 207, 3) := dk_182 0 207 (dk_at dksX0_margin_0 1 rfl rfl)
theorem dX0_margin_4 : decode cX0_margin 4 = .ok (.iconst 2, 1) := dk_5 (dk_at dksX0_margin_0 4 rfl rfl)
theorem dX0_margin_5 : decode cX0_margin 5 = .ok (.if_icmp .ge 9, 3) := dk_162 0 9 (dk_at dksX0_margin_0 5 rfl rfl)
theorem dX0_margin_8 : decode cX0_margin 8 = .ok (.ldc_w 367, 3) := dk_19 1 111 (dk_at dksX0_margin_0 8 rfl rfl)
theorem dX0_margin_11 : decode cX0_margin 11 = .ok (.goto 7, 3) := dk_167 0 7 (dk_at dksX0_margin_0 11 rfl rfl)
theorem dX0_margin_14 : decode cX0_margin 14 = .ok (.aload_n 0, 1) := dk_42 (dk_at dksX0_margin_0 14 rfl rfl)
theorem dX0_margin_15 : decode cX0_margin 15 = .ok (.invokevirtual 368, 3) := dk_182 1 112 (dk_at dksX0_margin_0 15 rfl rfl)
theorem dX0_margin_18 : decode cX0_margin 18 = .ok (.ireturn, 1) := dk_172 (dk_at dksX0_margin_0 18 rfl rfl)
abbrev cX0_marginNow : ByteArray := prog_1_method_51_code
def yX0_marginNow : MethodName := ⟨RX0, "marginNow", "()I"⟩
def dkwX0_marginNow_1 : List UInt8 := [180, 0, 85, 42, 180, 0, 88, 3, 46, 46, 100, 172]
abbrev dktX0_marginNow_1 : List UInt8 := dkwX0_marginNow_1 ++ []
def dkwX0_marginNow_0 : List UInt8 := [42, 42, 180, 0, 23, 180, 0, 209, 182, 1, 107, 42, 180, 0, 85, 42, 180, 0, 88, 4, 46, 46, 42]
abbrev dktX0_marginNow_0 : List UInt8 := dkwX0_marginNow_0 ++ dktX0_marginNow_1
theorem dksX0_marginNow_0 : cX0_marginNow.data.toList.drop 0 = dktX0_marginNow_0 := by decide +kernel
theorem dksX0_marginNow_1 : cX0_marginNow.data.toList.drop 23 = dktX0_marginNow_1 := dk_seg dksX0_marginNow_0 23 rfl rfl
theorem dX0_marginNow_0 : decode cX0_marginNow 0 = .ok (.aload_n 0, 1) := dk_42 (dk_at dksX0_marginNow_0 0 rfl rfl)
theorem dX0_marginNow_1 : decode cX0_marginNow 1 = .ok (.aload_n 0, 1) := dk_42 (dk_at dksX0_marginNow_0 1 rfl rfl)
theorem dX0_marginNow_2 : decode cX0_marginNow 2 = .ok (.getfield 23, 3) := dk_180 0 23 (dk_at dksX0_marginNow_0 2 rfl rfl)
theorem dX0_marginNow_5 : decode cX0_marginNow 5 = .ok (.getfield 209, 3) := dk_180 0 209 (dk_at dksX0_marginNow_0 5 rfl rfl)
theorem dX0_marginNow_8 : decode cX0_marginNow 8 = .ok (.invokevirtual 363, 3) := dk_182 1 107 (dk_at dksX0_marginNow_0 8 rfl rfl)
theorem dX0_marginNow_11 : decode cX0_marginNow 11 = .ok (.aload_n 0, 1) := dk_42 (dk_at dksX0_marginNow_0 11 rfl rfl)
theorem dX0_marginNow_12 : decode cX0_marginNow 12 = .ok (.getfield 85, 3) := dk_180 0 85 (dk_at dksX0_marginNow_0 12 rfl rfl)
theorem dX0_marginNow_15 : decode cX0_marginNow 15 = .ok (.aload_n 0, 1) := dk_42 (dk_at dksX0_marginNow_0 15 rfl rfl)
theorem dX0_marginNow_16 : decode cX0_marginNow 16 = .ok (.getfield 88, 3) := dk_180 0 88 (dk_at dksX0_marginNow_0 16 rfl rfl)
theorem dX0_marginNow_19 : decode cX0_marginNow 19 = .ok (.iconst 1, 1) := dk_4 (dk_at dksX0_marginNow_0 19 rfl rfl)
theorem dX0_marginNow_20 : decode cX0_marginNow 20 = .ok (.iaload, 1) := dk_46 (dk_at dksX0_marginNow_0 20 rfl rfl)
theorem dX0_marginNow_21 : decode cX0_marginNow 21 = .ok (.iaload, 1) := dk_46 (dk_at dksX0_marginNow_0 21 rfl rfl)
theorem dX0_marginNow_22 : decode cX0_marginNow 22 = .ok (.aload_n 0, 1) := dk_42 (dk_at dksX0_marginNow_0 22 rfl rfl)
theorem dX0_marginNow_23 : decode cX0_marginNow 23 = .ok (.getfield 85, 3) := dk_180 0 85 (dk_at dksX0_marginNow_1 0 rfl rfl)
theorem dX0_marginNow_26 : decode cX0_marginNow 26 = .ok (.aload_n 0, 1) := dk_42 (dk_at dksX0_marginNow_1 3 rfl rfl)
theorem dX0_marginNow_27 : decode cX0_marginNow 27 = .ok (.getfield 88, 3) := dk_180 0 88 (dk_at dksX0_marginNow_1 4 rfl rfl)
theorem dX0_marginNow_30 : decode cX0_marginNow 30 = .ok (.iconst 0, 1) := dk_3 (dk_at dksX0_marginNow_1 7 rfl rfl)
theorem dX0_marginNow_31 : decode cX0_marginNow 31 = .ok (.iaload, 1) := dk_46 (dk_at dksX0_marginNow_1 8 rfl rfl)
theorem dX0_marginNow_32 : decode cX0_marginNow 32 = .ok (.iaload, 1) := dk_46 (dk_at dksX0_marginNow_1 9 rfl rfl)
theorem dX0_marginNow_33 : decode cX0_marginNow 33 = .ok (.isub, 1) := dk_100 (dk_at dksX0_marginNow_1 10 rfl rfl)
theorem dX0_marginNow_34 : decode cX0_marginNow 34 = .ok (.ireturn, 1) := dk_172 (dk_at dksX0_marginNow_1 11 rfl rfl)
abbrev cX0_sure : ByteArray := prog_1_method_53_code
def yX0_sure : MethodName := ⟨RX0, "sure", "()I"⟩
def dkwX0_sure_1 : List UInt8 := [180, 0, 23, 180, 0, 216, 7, 46, 161, 0, 7, 4, 167, 0, 4, 3, 184, 1, 100, 172]
abbrev dktX0_sure_1 : List UInt8 := dkwX0_sure_1 ++ []
def dkwX0_sure_0 : List UInt8 := [42, 182, 0, 207, 154, 0, 7, 2, 167, 0, 35, 42, 182, 0, 207, 4, 159, 0, 19, 42, 182, 1, 112, 42]
abbrev dktX0_sure_0 : List UInt8 := dkwX0_sure_0 ++ dktX0_sure_1
theorem dksX0_sure_0 : cX0_sure.data.toList.drop 0 = dktX0_sure_0 := by decide +kernel
theorem dksX0_sure_1 : cX0_sure.data.toList.drop 24 = dktX0_sure_1 := dk_seg dksX0_sure_0 24 rfl rfl
theorem dX0_sure_0 : decode cX0_sure 0 = .ok (.aload_n 0, 1) := dk_42 (dk_at dksX0_sure_0 0 rfl rfl)
theorem dX0_sure_1 : decode cX0_sure 1 = .ok (.invokevirtual 207, 3) := dk_182 0 207 (dk_at dksX0_sure_0 1 rfl rfl)
theorem dX0_sure_4 : decode cX0_sure 4 = .ok (.ifCond .ne 7, 3) := dk_154 0 7 (dk_at dksX0_sure_0 4 rfl rfl)
theorem dX0_sure_7 : decode cX0_sure 7 = .ok (.iconst (-1), 1) := dk_2 (dk_at dksX0_sure_0 7 rfl rfl)
theorem dX0_sure_8 : decode cX0_sure 8 = .ok (.goto 35, 3) := dk_167 0 35 (dk_at dksX0_sure_0 8 rfl rfl)
theorem dX0_sure_11 : decode cX0_sure 11 = .ok (.aload_n 0, 1) := dk_42 (dk_at dksX0_sure_0 11 rfl rfl)
theorem dX0_sure_12 : decode cX0_sure 12 = .ok (.invokevirtual 207, 3) := dk_182 0 207 (dk_at dksX0_sure_0 12 rfl rfl)
theorem dX0_sure_15 : decode cX0_sure 15 = .ok (.iconst 1, 1) := dk_4 (dk_at dksX0_sure_0 15 rfl rfl)
theorem dX0_sure_16 : decode cX0_sure 16 = .ok (.if_icmp .eq 19, 3) := dk_159 0 19 (dk_at dksX0_sure_0 16 rfl rfl)
theorem dX0_sure_19 : decode cX0_sure 19 = .ok (.aload_n 0, 1) := dk_42 (dk_at dksX0_sure_0 19 rfl rfl)
theorem dX0_sure_20 : decode cX0_sure 20 = .ok (.invokevirtual 368, 3) := dk_182 1 112 (dk_at dksX0_sure_0 20 rfl rfl)
theorem dX0_sure_23 : decode cX0_sure 23 = .ok (.aload_n 0, 1) := dk_42 (dk_at dksX0_sure_0 23 rfl rfl)
theorem dX0_sure_24 : decode cX0_sure 24 = .ok (.getfield 23, 3) := dk_180 0 23 (dk_at dksX0_sure_1 0 rfl rfl)
theorem dX0_sure_27 : decode cX0_sure 27 = .ok (.getfield 216, 3) := dk_180 0 216 (dk_at dksX0_sure_1 3 rfl rfl)
theorem dX0_sure_30 : decode cX0_sure 30 = .ok (.iconst 4, 1) := dk_7 (dk_at dksX0_sure_1 6 rfl rfl)
theorem dX0_sure_31 : decode cX0_sure 31 = .ok (.iaload, 1) := dk_46 (dk_at dksX0_sure_1 7 rfl rfl)
theorem dX0_sure_32 : decode cX0_sure 32 = .ok (.if_icmp .lt 7, 3) := dk_161 0 7 (dk_at dksX0_sure_1 8 rfl rfl)
theorem dX0_sure_35 : decode cX0_sure 35 = .ok (.iconst 1, 1) := dk_4 (dk_at dksX0_sure_1 11 rfl rfl)
theorem dX0_sure_36 : decode cX0_sure 36 = .ok (.goto 4, 3) := dk_167 0 4 (dk_at dksX0_sure_1 12 rfl rfl)
theorem dX0_sure_39 : decode cX0_sure 39 = .ok (.iconst 0, 1) := dk_3 (dk_at dksX0_sure_1 15 rfl rfl)
theorem dX0_sure_40 : decode cX0_sure 40 = .ok (.invokestatic 356, 3) := dk_184 1 100 (dk_at dksX0_sure_1 16 rfl rfl)
theorem dX0_sure_43 : decode cX0_sure 43 = .ok (.ireturn, 1) := dk_172 (dk_at dksX0_sure_1 19 rfl rfl)
abbrev cX0_closest : ByteArray := prog_1_method_55_code
def yX0_closest : MethodName := ⟨RX0, "closest", "(I)I"⟩
def dkwX0_closest_5 : List UInt8 := [21, 4, 172]
abbrev dktX0_closest_5 : List UInt8 := dkwX0_closest_5 ++ []
def dkwX0_closest_4 : List UInt8 := [132, 5, 1, 167, 255, 193, 27, 154, 0, 7, 28, 167, 0, 14, 27, 4, 160, 0, 7, 29, 167, 0, 5]
abbrev dktX0_closest_4 : List UInt8 := dkwX0_closest_4 ++ dktX0_closest_5
def dkwX0_closest_3 : List UInt8 := [21, 4, 161, 0, 6, 167, 0, 13, 21, 5, 61, 21, 6, 62, 21, 7, 54, 4, 132, 6, 1, 167, 255, 214]
abbrev dktX0_closest_3 : List UInt8 := dkwX0_closest_3 ++ dktX0_closest_4
def dkwX0_closest_2 : List UInt8 := [54, 6, 21, 6, 42, 182, 0, 207, 162, 0, 39, 42, 21, 5, 21, 6, 182, 1, 115, 54, 7, 21, 7]
abbrev dktX0_closest_2 : List UInt8 := dkwX0_closest_2 ++ dktX0_closest_3
def dkwX0_closest_1 : List UInt8 := [4, 62, 19, 1, 32, 54, 4, 3, 54, 5, 21, 5, 42, 182, 0, 207, 162, 0, 60, 21, 5, 4, 96]
abbrev dktX0_closest_1 : List UInt8 := dkwX0_closest_1 ++ dktX0_closest_2
def dkwX0_closest_0 : List UInt8 := [42, 182, 0, 207, 5, 161, 0, 15, 27, 133, 9, 20, 0, 212, 184, 0, 166, 154, 0, 5, 2, 172, 3, 61]
abbrev dktX0_closest_0 : List UInt8 := dkwX0_closest_0 ++ dktX0_closest_1
theorem dksX0_closest_0 : cX0_closest.data.toList.drop 0 = dktX0_closest_0 := by decide +kernel
theorem dksX0_closest_1 : cX0_closest.data.toList.drop 24 = dktX0_closest_1 := dk_seg dksX0_closest_0 24 rfl rfl
theorem dksX0_closest_2 : cX0_closest.data.toList.drop 47 = dktX0_closest_2 := dk_seg dksX0_closest_1 23 rfl rfl
theorem dksX0_closest_3 : cX0_closest.data.toList.drop 70 = dktX0_closest_3 := dk_seg dksX0_closest_2 23 rfl rfl
theorem dksX0_closest_4 : cX0_closest.data.toList.drop 94 = dktX0_closest_4 := dk_seg dksX0_closest_3 24 rfl rfl
theorem dksX0_closest_5 : cX0_closest.data.toList.drop 117 = dktX0_closest_5 := dk_seg dksX0_closest_4 23 rfl rfl
theorem dX0_closest_0 : decode cX0_closest 0 = .ok (.aload_n 0, 1) := dk_42 (dk_at dksX0_closest_0 0 rfl rfl)
theorem dX0_closest_1 : decode cX0_closest 1 = .ok (.invokevirtual 207, 3) := dk_182 0 207 (dk_at dksX0_closest_0 1 rfl rfl)
theorem dX0_closest_4 : decode cX0_closest 4 = .ok (.iconst 2, 1) := dk_5 (dk_at dksX0_closest_0 4 rfl rfl)
theorem dX0_closest_5 : decode cX0_closest 5 = .ok (.if_icmp .lt 15, 3) := dk_161 0 15 (dk_at dksX0_closest_0 5 rfl rfl)
theorem dX0_closest_8 : decode cX0_closest 8 = .ok (.iload_n 1, 1) := dk_27 (dk_at dksX0_closest_0 8 rfl rfl)
theorem dX0_closest_9 : decode cX0_closest 9 = .ok (.i2l, 1) := dk_133 (dk_at dksX0_closest_0 9 rfl rfl)
theorem dX0_closest_10 : decode cX0_closest 10 = .ok (.lconst 0, 1) := dk_9 (dk_at dksX0_closest_0 10 rfl rfl)
theorem dX0_closest_11 : decode cX0_closest 11 = .ok (.ldc2_w 212, 3) := dk_20 0 212 (dk_at dksX0_closest_0 11 rfl rfl)
theorem dX0_closest_14 : decode cX0_closest 14 = .ok (.invokestatic 166, 3) := dk_184 0 166 (dk_at dksX0_closest_0 14 rfl rfl)
theorem dX0_closest_17 : decode cX0_closest 17 = .ok (.ifCond .ne 5, 3) := dk_154 0 5 (dk_at dksX0_closest_0 17 rfl rfl)
theorem dX0_closest_20 : decode cX0_closest 20 = .ok (.iconst (-1), 1) := dk_2 (dk_at dksX0_closest_0 20 rfl rfl)
theorem dX0_closest_21 : decode cX0_closest 21 = .ok (.ireturn, 1) := dk_172 (dk_at dksX0_closest_0 21 rfl rfl)
theorem dX0_closest_22 : decode cX0_closest 22 = .ok (.iconst 0, 1) := dk_3 (dk_at dksX0_closest_0 22 rfl rfl)
theorem dX0_closest_23 : decode cX0_closest 23 = .ok (.istore_n 2, 1) := dk_61 (dk_at dksX0_closest_0 23 rfl rfl)
theorem dX0_closest_24 : decode cX0_closest 24 = .ok (.iconst 1, 1) := dk_4 (dk_at dksX0_closest_1 0 rfl rfl)
theorem dX0_closest_25 : decode cX0_closest 25 = .ok (.istore_n 3, 1) := dk_62 (dk_at dksX0_closest_1 1 rfl rfl)
theorem dX0_closest_26 : decode cX0_closest 26 = .ok (.ldc_w 288, 3) := dk_19 1 32 (dk_at dksX0_closest_1 2 rfl rfl)
theorem dX0_closest_29 : decode cX0_closest 29 = .ok (.istore 4, 2) := dk_54 4 (dk_at dksX0_closest_1 5 rfl rfl)
theorem dX0_closest_31 : decode cX0_closest 31 = .ok (.iconst 0, 1) := dk_3 (dk_at dksX0_closest_1 7 rfl rfl)
theorem dX0_closest_32 : decode cX0_closest 32 = .ok (.istore 5, 2) := dk_54 5 (dk_at dksX0_closest_1 8 rfl rfl)
theorem dX0_closest_34 : decode cX0_closest 34 = .ok (.iload 5, 2) := dk_21 5 (dk_at dksX0_closest_1 10 rfl rfl)
theorem dX0_closest_36 : decode cX0_closest 36 = .ok (.aload_n 0, 1) := dk_42 (dk_at dksX0_closest_1 12 rfl rfl)
theorem dX0_closest_37 : decode cX0_closest 37 = .ok (.invokevirtual 207, 3) := dk_182 0 207 (dk_at dksX0_closest_1 13 rfl rfl)
theorem dX0_closest_40 : decode cX0_closest 40 = .ok (.if_icmp .ge 60, 3) := dk_162 0 60 (dk_at dksX0_closest_1 16 rfl rfl)
theorem dX0_closest_43 : decode cX0_closest 43 = .ok (.iload 5, 2) := dk_21 5 (dk_at dksX0_closest_1 19 rfl rfl)
theorem dX0_closest_45 : decode cX0_closest 45 = .ok (.iconst 1, 1) := dk_4 (dk_at dksX0_closest_1 21 rfl rfl)
theorem dX0_closest_46 : decode cX0_closest 46 = .ok (.iadd, 1) := dk_96 (dk_at dksX0_closest_1 22 rfl rfl)
theorem dX0_closest_47 : decode cX0_closest 47 = .ok (.istore 6, 2) := dk_54 6 (dk_at dksX0_closest_2 0 rfl rfl)
theorem dX0_closest_49 : decode cX0_closest 49 = .ok (.iload 6, 2) := dk_21 6 (dk_at dksX0_closest_2 2 rfl rfl)
theorem dX0_closest_51 : decode cX0_closest 51 = .ok (.aload_n 0, 1) := dk_42 (dk_at dksX0_closest_2 4 rfl rfl)
theorem dX0_closest_52 : decode cX0_closest 52 = .ok (.invokevirtual 207, 3) := dk_182 0 207 (dk_at dksX0_closest_2 5 rfl rfl)
theorem dX0_closest_55 : decode cX0_closest 55 = .ok (.if_icmp .ge 39, 3) := dk_162 0 39 (dk_at dksX0_closest_2 8 rfl rfl)
theorem dX0_closest_58 : decode cX0_closest 58 = .ok (.aload_n 0, 1) := dk_42 (dk_at dksX0_closest_2 11 rfl rfl)
theorem dX0_closest_59 : decode cX0_closest 59 = .ok (.iload 5, 2) := dk_21 5 (dk_at dksX0_closest_2 12 rfl rfl)
theorem dX0_closest_61 : decode cX0_closest 61 = .ok (.iload 6, 2) := dk_21 6 (dk_at dksX0_closest_2 14 rfl rfl)
theorem dX0_closest_63 : decode cX0_closest 63 = .ok (.invokevirtual 371, 3) := dk_182 1 115 (dk_at dksX0_closest_2 16 rfl rfl)
theorem dX0_closest_66 : decode cX0_closest 66 = .ok (.istore 7, 2) := dk_54 7 (dk_at dksX0_closest_2 19 rfl rfl)
theorem dX0_closest_68 : decode cX0_closest 68 = .ok (.iload 7, 2) := dk_21 7 (dk_at dksX0_closest_2 21 rfl rfl)
theorem dX0_closest_70 : decode cX0_closest 70 = .ok (.iload 4, 2) := dk_21 4 (dk_at dksX0_closest_3 0 rfl rfl)
theorem dX0_closest_72 : decode cX0_closest 72 = .ok (.if_icmp .lt 6, 3) := dk_161 0 6 (dk_at dksX0_closest_3 2 rfl rfl)
theorem dX0_closest_75 : decode cX0_closest 75 = .ok (.goto 13, 3) := dk_167 0 13 (dk_at dksX0_closest_3 5 rfl rfl)
theorem dX0_closest_78 : decode cX0_closest 78 = .ok (.iload 5, 2) := dk_21 5 (dk_at dksX0_closest_3 8 rfl rfl)
theorem dX0_closest_80 : decode cX0_closest 80 = .ok (.istore_n 2, 1) := dk_61 (dk_at dksX0_closest_3 10 rfl rfl)
theorem dX0_closest_81 : decode cX0_closest 81 = .ok (.iload 6, 2) := dk_21 6 (dk_at dksX0_closest_3 11 rfl rfl)
theorem dX0_closest_83 : decode cX0_closest 83 = .ok (.istore_n 3, 1) := dk_62 (dk_at dksX0_closest_3 13 rfl rfl)
theorem dX0_closest_84 : decode cX0_closest 84 = .ok (.iload 7, 2) := dk_21 7 (dk_at dksX0_closest_3 14 rfl rfl)
theorem dX0_closest_86 : decode cX0_closest 86 = .ok (.istore 4, 2) := dk_54 4 (dk_at dksX0_closest_3 16 rfl rfl)
theorem dX0_closest_88 : decode cX0_closest 88 = .ok (.iinc 6 1, 3) := dk_132 6 1 (dk_at dksX0_closest_3 18 rfl rfl)
theorem dX0_closest_91 : decode cX0_closest 91 = .ok (.goto (-42), 3) := dk_167 255 214 (dk_at dksX0_closest_3 21 rfl rfl)
theorem dX0_closest_94 : decode cX0_closest 94 = .ok (.iinc 5 1, 3) := dk_132 5 1 (dk_at dksX0_closest_4 0 rfl rfl)
theorem dX0_closest_97 : decode cX0_closest 97 = .ok (.goto (-63), 3) := dk_167 255 193 (dk_at dksX0_closest_4 3 rfl rfl)
theorem dX0_closest_100 : decode cX0_closest 100 = .ok (.iload_n 1, 1) := dk_27 (dk_at dksX0_closest_4 6 rfl rfl)
theorem dX0_closest_101 : decode cX0_closest 101 = .ok (.ifCond .ne 7, 3) := dk_154 0 7 (dk_at dksX0_closest_4 7 rfl rfl)
theorem dX0_closest_104 : decode cX0_closest 104 = .ok (.iload_n 2, 1) := dk_28 (dk_at dksX0_closest_4 10 rfl rfl)
theorem dX0_closest_105 : decode cX0_closest 105 = .ok (.goto 14, 3) := dk_167 0 14 (dk_at dksX0_closest_4 11 rfl rfl)
theorem dX0_closest_108 : decode cX0_closest 108 = .ok (.iload_n 1, 1) := dk_27 (dk_at dksX0_closest_4 14 rfl rfl)
theorem dX0_closest_109 : decode cX0_closest 109 = .ok (.iconst 1, 1) := dk_4 (dk_at dksX0_closest_4 15 rfl rfl)
theorem dX0_closest_110 : decode cX0_closest 110 = .ok (.if_icmp .ne 7, 3) := dk_160 0 7 (dk_at dksX0_closest_4 16 rfl rfl)
theorem dX0_closest_113 : decode cX0_closest 113 = .ok (.iload_n 3, 1) := dk_29 (dk_at dksX0_closest_4 19 rfl rfl)
theorem dX0_closest_114 : decode cX0_closest 114 = .ok (.goto 5, 3) := dk_167 0 5 (dk_at dksX0_closest_4 20 rfl rfl)
theorem dX0_closest_117 : decode cX0_closest 117 = .ok (.iload 4, 2) := dk_21 4 (dk_at dksX0_closest_5 0 rfl rfl)
theorem dX0_closest_119 : decode cX0_closest 119 = .ok (.ireturn, 1) := dk_172 (dk_at dksX0_closest_5 2 rfl rfl)
abbrev cX0_between : ByteArray := prog_1_method_54_code
def yX0_between : MethodName := ⟨RX0, "between", "(II)I"⟩
def dkwX0_between_0 : List UInt8 := [42, 42, 27, 182, 0, 247, 42, 28, 182, 0, 247, 182, 1, 96, 172]
abbrev dktX0_between_0 : List UInt8 := dkwX0_between_0 ++ []
theorem dksX0_between_0 : cX0_between.data.toList.drop 0 = dktX0_between_0 := by decide +kernel
theorem dX0_between_0 : decode cX0_between 0 = .ok (.aload_n 0, 1) := dk_42 (dk_at dksX0_between_0 0 rfl rfl)
theorem dX0_between_1 : decode cX0_between 1 = .ok (.aload_n 0, 1) := dk_42 (dk_at dksX0_between_0 1 rfl rfl)
theorem dX0_between_2 : decode cX0_between 2 = .ok (.iload_n 1, 1) := dk_27 (dk_at dksX0_between_0 2 rfl rfl)
theorem dX0_between_3 : decode cX0_between 3 = .ok (.invokevirtual 247, 3) := dk_182 0 247 (dk_at dksX0_between_0 3 rfl rfl)
theorem dX0_between_6 : decode cX0_between 6 = .ok (.aload_n 0, 1) := dk_42 (dk_at dksX0_between_0 6 rfl rfl)
theorem dX0_between_7 : decode cX0_between 7 = .ok (.iload_n 2, 1) := dk_28 (dk_at dksX0_between_0 7 rfl rfl)
theorem dX0_between_8 : decode cX0_between 8 = .ok (.invokevirtual 247, 3) := dk_182 0 247 (dk_at dksX0_between_0 8 rfl rfl)
theorem dX0_between_11 : decode cX0_between 11 = .ok (.invokevirtual 352, 3) := dk_182 1 96 (dk_at dksX0_between_0 11 rfl rfl)
theorem dX0_between_14 : decode cX0_between 14 = .ok (.ireturn, 1) := dk_172 (dk_at dksX0_between_0 14 rfl rfl)
abbrev cX0_nearest : ByteArray := prog_1_method_56_code
def yX0_nearest : MethodName := ⟨RX0, "nearest", "(II)I"⟩
def dkwX0_nearest_4 : List UInt8 := [154, 0, 7, 29, 167, 0, 5, 21, 4, 172]
abbrev dktX0_nearest_4 : List UInt8 := dkwX0_nearest_4 ++ []
def dkwX0_nearest_3 : List UInt8 := [21, 4, 161, 0, 6, 167, 0, 10, 21, 5, 62, 21, 6, 54, 4, 132, 5, 1, 167, 255, 206, 28]
abbrev dktX0_nearest_3 : List UInt8 := dkwX0_nearest_3 ++ dktX0_nearest_4
def dkwX0_nearest_2 : List UInt8 := [21, 5, 27, 160, 0, 9, 19, 1, 32, 167, 0, 10, 42, 27, 21, 5, 182, 1, 115, 54, 6, 21, 6]
abbrev dktX0_nearest_2 : List UInt8 := dkwX0_nearest_2 ++ dktX0_nearest_3
def dkwX0_nearest_1 : List UInt8 := [154, 0, 5, 2, 172, 2, 62, 19, 1, 32, 54, 4, 3, 54, 5, 21, 5, 42, 182, 0, 207, 162, 0, 47]
abbrev dktX0_nearest_1 : List UInt8 := dkwX0_nearest_1 ++ dktX0_nearest_2
def dkwX0_nearest_0 : List UInt8 := [42, 27, 182, 0, 219, 153, 0, 21, 42, 182, 0, 207, 5, 161, 0, 13, 28, 133, 9, 10, 184, 0, 166]
abbrev dktX0_nearest_0 : List UInt8 := dkwX0_nearest_0 ++ dktX0_nearest_1
theorem dksX0_nearest_0 : cX0_nearest.data.toList.drop 0 = dktX0_nearest_0 := by decide +kernel
theorem dksX0_nearest_1 : cX0_nearest.data.toList.drop 23 = dktX0_nearest_1 := dk_seg dksX0_nearest_0 23 rfl rfl
theorem dksX0_nearest_2 : cX0_nearest.data.toList.drop 47 = dktX0_nearest_2 := dk_seg dksX0_nearest_1 24 rfl rfl
theorem dksX0_nearest_3 : cX0_nearest.data.toList.drop 70 = dktX0_nearest_3 := dk_seg dksX0_nearest_2 23 rfl rfl
theorem dksX0_nearest_4 : cX0_nearest.data.toList.drop 92 = dktX0_nearest_4 := dk_seg dksX0_nearest_3 22 rfl rfl
theorem dX0_nearest_0 : decode cX0_nearest 0 = .ok (.aload_n 0, 1) := dk_42 (dk_at dksX0_nearest_0 0 rfl rfl)
theorem dX0_nearest_1 : decode cX0_nearest 1 = .ok (.iload_n 1, 1) := dk_27 (dk_at dksX0_nearest_0 1 rfl rfl)
theorem dX0_nearest_2 : decode cX0_nearest 2 = .ok (.invokevirtual 219, 3) := dk_182 0 219 (dk_at dksX0_nearest_0 2 rfl rfl)
theorem dX0_nearest_5 : decode cX0_nearest 5 = .ok (.ifCond .eq 21, 3) := dk_153 0 21 (dk_at dksX0_nearest_0 5 rfl rfl)
theorem dX0_nearest_8 : decode cX0_nearest 8 = .ok (.aload_n 0, 1) := dk_42 (dk_at dksX0_nearest_0 8 rfl rfl)
theorem dX0_nearest_9 : decode cX0_nearest 9 = .ok (.invokevirtual 207, 3) := dk_182 0 207 (dk_at dksX0_nearest_0 9 rfl rfl)
theorem dX0_nearest_12 : decode cX0_nearest 12 = .ok (.iconst 2, 1) := dk_5 (dk_at dksX0_nearest_0 12 rfl rfl)
theorem dX0_nearest_13 : decode cX0_nearest 13 = .ok (.if_icmp .lt 13, 3) := dk_161 0 13 (dk_at dksX0_nearest_0 13 rfl rfl)
theorem dX0_nearest_16 : decode cX0_nearest 16 = .ok (.iload_n 2, 1) := dk_28 (dk_at dksX0_nearest_0 16 rfl rfl)
theorem dX0_nearest_17 : decode cX0_nearest 17 = .ok (.i2l, 1) := dk_133 (dk_at dksX0_nearest_0 17 rfl rfl)
theorem dX0_nearest_18 : decode cX0_nearest 18 = .ok (.lconst 0, 1) := dk_9 (dk_at dksX0_nearest_0 18 rfl rfl)
theorem dX0_nearest_19 : decode cX0_nearest 19 = .ok (.lconst 1, 1) := dk_10 (dk_at dksX0_nearest_0 19 rfl rfl)
theorem dX0_nearest_20 : decode cX0_nearest 20 = .ok (.invokestatic 166, 3) := dk_184 0 166 (dk_at dksX0_nearest_0 20 rfl rfl)
theorem dX0_nearest_23 : decode cX0_nearest 23 = .ok (.ifCond .ne 5, 3) := dk_154 0 5 (dk_at dksX0_nearest_1 0 rfl rfl)
theorem dX0_nearest_26 : decode cX0_nearest 26 = .ok (.iconst (-1), 1) := dk_2 (dk_at dksX0_nearest_1 3 rfl rfl)
theorem dX0_nearest_27 : decode cX0_nearest 27 = .ok (.ireturn, 1) := dk_172 (dk_at dksX0_nearest_1 4 rfl rfl)
theorem dX0_nearest_28 : decode cX0_nearest 28 = .ok (.iconst (-1), 1) := dk_2 (dk_at dksX0_nearest_1 5 rfl rfl)
theorem dX0_nearest_29 : decode cX0_nearest 29 = .ok (.istore_n 3, 1) := dk_62 (dk_at dksX0_nearest_1 6 rfl rfl)
theorem dX0_nearest_30 : decode cX0_nearest 30 = .ok (.ldc_w 288, 3) := dk_19 1 32 (dk_at dksX0_nearest_1 7 rfl rfl)
theorem dX0_nearest_33 : decode cX0_nearest 33 = .ok (.istore 4, 2) := dk_54 4 (dk_at dksX0_nearest_1 10 rfl rfl)
theorem dX0_nearest_35 : decode cX0_nearest 35 = .ok (.iconst 0, 1) := dk_3 (dk_at dksX0_nearest_1 12 rfl rfl)
theorem dX0_nearest_36 : decode cX0_nearest 36 = .ok (.istore 5, 2) := dk_54 5 (dk_at dksX0_nearest_1 13 rfl rfl)
theorem dX0_nearest_38 : decode cX0_nearest 38 = .ok (.iload 5, 2) := dk_21 5 (dk_at dksX0_nearest_1 15 rfl rfl)
theorem dX0_nearest_40 : decode cX0_nearest 40 = .ok (.aload_n 0, 1) := dk_42 (dk_at dksX0_nearest_1 17 rfl rfl)
theorem dX0_nearest_41 : decode cX0_nearest 41 = .ok (.invokevirtual 207, 3) := dk_182 0 207 (dk_at dksX0_nearest_1 18 rfl rfl)
theorem dX0_nearest_44 : decode cX0_nearest 44 = .ok (.if_icmp .ge 47, 3) := dk_162 0 47 (dk_at dksX0_nearest_1 21 rfl rfl)
theorem dX0_nearest_47 : decode cX0_nearest 47 = .ok (.iload 5, 2) := dk_21 5 (dk_at dksX0_nearest_2 0 rfl rfl)
theorem dX0_nearest_49 : decode cX0_nearest 49 = .ok (.iload_n 1, 1) := dk_27 (dk_at dksX0_nearest_2 2 rfl rfl)
theorem dX0_nearest_50 : decode cX0_nearest 50 = .ok (.if_icmp .ne 9, 3) := dk_160 0 9 (dk_at dksX0_nearest_2 3 rfl rfl)
theorem dX0_nearest_53 : decode cX0_nearest 53 = .ok (.ldc_w 288, 3) := dk_19 1 32 (dk_at dksX0_nearest_2 6 rfl rfl)
theorem dX0_nearest_56 : decode cX0_nearest 56 = .ok (.goto 10, 3) := dk_167 0 10 (dk_at dksX0_nearest_2 9 rfl rfl)
theorem dX0_nearest_59 : decode cX0_nearest 59 = .ok (.aload_n 0, 1) := dk_42 (dk_at dksX0_nearest_2 12 rfl rfl)
theorem dX0_nearest_60 : decode cX0_nearest 60 = .ok (.iload_n 1, 1) := dk_27 (dk_at dksX0_nearest_2 13 rfl rfl)
theorem dX0_nearest_61 : decode cX0_nearest 61 = .ok (.iload 5, 2) := dk_21 5 (dk_at dksX0_nearest_2 14 rfl rfl)
theorem dX0_nearest_63 : decode cX0_nearest 63 = .ok (.invokevirtual 371, 3) := dk_182 1 115 (dk_at dksX0_nearest_2 16 rfl rfl)
theorem dX0_nearest_66 : decode cX0_nearest 66 = .ok (.istore 6, 2) := dk_54 6 (dk_at dksX0_nearest_2 19 rfl rfl)
theorem dX0_nearest_68 : decode cX0_nearest 68 = .ok (.iload 6, 2) := dk_21 6 (dk_at dksX0_nearest_2 21 rfl rfl)
theorem dX0_nearest_70 : decode cX0_nearest 70 = .ok (.iload 4, 2) := dk_21 4 (dk_at dksX0_nearest_3 0 rfl rfl)
theorem dX0_nearest_72 : decode cX0_nearest 72 = .ok (.if_icmp .lt 6, 3) := dk_161 0 6 (dk_at dksX0_nearest_3 2 rfl rfl)
theorem dX0_nearest_75 : decode cX0_nearest 75 = .ok (.goto 10, 3) := dk_167 0 10 (dk_at dksX0_nearest_3 5 rfl rfl)
theorem dX0_nearest_78 : decode cX0_nearest 78 = .ok (.iload 5, 2) := dk_21 5 (dk_at dksX0_nearest_3 8 rfl rfl)
theorem dX0_nearest_80 : decode cX0_nearest 80 = .ok (.istore_n 3, 1) := dk_62 (dk_at dksX0_nearest_3 10 rfl rfl)
theorem dX0_nearest_81 : decode cX0_nearest 81 = .ok (.iload 6, 2) := dk_21 6 (dk_at dksX0_nearest_3 11 rfl rfl)
theorem dX0_nearest_83 : decode cX0_nearest 83 = .ok (.istore 4, 2) := dk_54 4 (dk_at dksX0_nearest_3 13 rfl rfl)
theorem dX0_nearest_85 : decode cX0_nearest 85 = .ok (.iinc 5 1, 3) := dk_132 5 1 (dk_at dksX0_nearest_3 15 rfl rfl)
theorem dX0_nearest_88 : decode cX0_nearest 88 = .ok (.goto (-50), 3) := dk_167 255 206 (dk_at dksX0_nearest_3 18 rfl rfl)
theorem dX0_nearest_91 : decode cX0_nearest 91 = .ok (.iload_n 2, 1) := dk_28 (dk_at dksX0_nearest_3 21 rfl rfl)
theorem dX0_nearest_92 : decode cX0_nearest 92 = .ok (.ifCond .ne 7, 3) := dk_154 0 7 (dk_at dksX0_nearest_4 0 rfl rfl)
theorem dX0_nearest_95 : decode cX0_nearest 95 = .ok (.iload_n 3, 1) := dk_29 (dk_at dksX0_nearest_4 3 rfl rfl)
theorem dX0_nearest_96 : decode cX0_nearest 96 = .ok (.goto 5, 3) := dk_167 0 5 (dk_at dksX0_nearest_4 4 rfl rfl)
theorem dX0_nearest_99 : decode cX0_nearest 99 = .ok (.iload 4, 2) := dk_21 4 (dk_at dksX0_nearest_4 7 rfl rfl)
theorem dX0_nearest_101 : decode cX0_nearest 101 = .ok (.ireturn, 1) := dk_172 (dk_at dksX0_nearest_4 9 rfl rfl)
abbrev cX0_group : ByteArray := prog_1_method_58_code
def yX0_group : MethodName := ⟨RX0, "group", "(I)I"⟩
def dkwX0_group_0 : List UInt8 := [42, 27, 182, 0, 219, 154, 0, 5, 2, 172, 42, 182, 1, 118, 87, 42, 180, 0, 91, 27, 46, 172]
abbrev dktX0_group_0 : List UInt8 := dkwX0_group_0 ++ []
theorem dksX0_group_0 : cX0_group.data.toList.drop 0 = dktX0_group_0 := by decide +kernel
theorem dX0_group_0 : decode cX0_group 0 = .ok (.aload_n 0, 1) := dk_42 (dk_at dksX0_group_0 0 rfl rfl)
theorem dX0_group_1 : decode cX0_group 1 = .ok (.iload_n 1, 1) := dk_27 (dk_at dksX0_group_0 1 rfl rfl)
theorem dX0_group_2 : decode cX0_group 2 = .ok (.invokevirtual 219, 3) := dk_182 0 219 (dk_at dksX0_group_0 2 rfl rfl)
theorem dX0_group_5 : decode cX0_group 5 = .ok (.ifCond .ne 5, 3) := dk_154 0 5 (dk_at dksX0_group_0 5 rfl rfl)
theorem dX0_group_8 : decode cX0_group 8 = .ok (.iconst (-1), 1) := dk_2 (dk_at dksX0_group_0 8 rfl rfl)
theorem dX0_group_9 : decode cX0_group 9 = .ok (.ireturn, 1) := dk_172 (dk_at dksX0_group_0 9 rfl rfl)
theorem dX0_group_10 : decode cX0_group 10 = .ok (.aload_n 0, 1) := dk_42 (dk_at dksX0_group_0 10 rfl rfl)
theorem dX0_group_11 : decode cX0_group 11 = .ok (.invokevirtual 374, 3) := dk_182 1 118 (dk_at dksX0_group_0 11 rfl rfl)
theorem dX0_group_14 : decode cX0_group 14 = .ok (.pop, 1) := dk_87 (dk_at dksX0_group_0 14 rfl rfl)
theorem dX0_group_15 : decode cX0_group 15 = .ok (.aload_n 0, 1) := dk_42 (dk_at dksX0_group_0 15 rfl rfl)
theorem dX0_group_16 : decode cX0_group 16 = .ok (.getfield 91, 3) := dk_180 0 91 (dk_at dksX0_group_0 16 rfl rfl)
theorem dX0_group_19 : decode cX0_group 19 = .ok (.iload_n 1, 1) := dk_27 (dk_at dksX0_group_0 19 rfl rfl)
theorem dX0_group_20 : decode cX0_group 20 = .ok (.iaload, 1) := dk_46 (dk_at dksX0_group_0 20 rfl rfl)
theorem dX0_group_21 : decode cX0_group 21 = .ok (.ireturn, 1) := dk_172 (dk_at dksX0_group_0 21 rfl rfl)
abbrev cX0_laysGroups : ByteArray := prog_1_method_57_code
def yX0_laysGroups : MethodName := ⟨RX0, "laysGroups", "()I"⟩
def dkwX0_laysGroups_7 : List UInt8 := [132, 3, 1, 167, 255, 133, 132, 2, 1, 167, 255, 115, 27, 172]
abbrev dktX0_laysGroups_7 : List UInt8 := dkwX0_laysGroups_7 ++ []
def dkwX0_laysGroups_6 : List UInt8 := [21, 5, 160, 0, 12, 42, 180, 0, 91, 21, 6, 21, 4, 79, 132, 6, 1, 167, 255, 223, 132, 1, 255]
abbrev dktX0_laysGroups_6 : List UInt8 := dkwX0_laysGroups_6 ++ dktX0_laysGroups_7
def dkwX0_laysGroups_5 : List UInt8 := [184, 1, 61, 54, 5, 3, 54, 6, 21, 6, 42, 182, 0, 207, 162, 0, 30, 42, 180, 0, 91, 21, 6, 46]
abbrev dktX0_laysGroups_5 : List UInt8 := dkwX0_laysGroups_5 ++ dktX0_laysGroups_6
def dkwX0_laysGroups_4 : List UInt8 := [42, 180, 0, 91, 29, 46, 184, 0, 139, 54, 4, 42, 180, 0, 91, 28, 46, 42, 180, 0, 91, 29, 46]
abbrev dktX0_laysGroups_4 : List UInt8 := dkwX0_laysGroups_4 ++ dktX0_laysGroups_5
def dkwX0_laysGroups_3 : List UInt8 := [182, 1, 115, 42, 180, 0, 23, 180, 0, 216, 7, 46, 161, 0, 6, 167, 0, 79, 42, 180, 0, 91, 28, 46]
abbrev dktX0_laysGroups_3 : List UInt8 := dkwX0_laysGroups_3 ++ dktX0_laysGroups_4
def dkwX0_laysGroups_2 : List UInt8 := [182, 0, 207, 162, 0, 121, 42, 180, 0, 91, 28, 46, 42, 180, 0, 91, 29, 46, 159, 0, 100, 42, 28, 29]
abbrev dktX0_laysGroups_2 : List UInt8 := dkwX0_laysGroups_2 ++ dktX0_laysGroups_3
def dkwX0_laysGroups_1 : List UInt8 := [132, 2, 1, 167, 255, 238, 3, 61, 28, 42, 182, 0, 207, 162, 0, 139, 28, 4, 96, 62, 29, 42]
abbrev dktX0_laysGroups_1 : List UInt8 := dkwX0_laysGroups_1 ++ dktX0_laysGroups_2
def dkwX0_laysGroups_0 : List UInt8 := [42, 182, 0, 207, 60, 3, 61, 28, 42, 182, 0, 207, 162, 0, 16, 42, 180, 0, 91, 28, 28, 79]
abbrev dktX0_laysGroups_0 : List UInt8 := dkwX0_laysGroups_0 ++ dktX0_laysGroups_1
theorem dksX0_laysGroups_0 : cX0_laysGroups.data.toList.drop 0 = dktX0_laysGroups_0 := by decide +kernel
theorem dksX0_laysGroups_1 : cX0_laysGroups.data.toList.drop 22 = dktX0_laysGroups_1 := dk_seg dksX0_laysGroups_0 22 rfl rfl
theorem dksX0_laysGroups_2 : cX0_laysGroups.data.toList.drop 44 = dktX0_laysGroups_2 := dk_seg dksX0_laysGroups_1 22 rfl rfl
theorem dksX0_laysGroups_3 : cX0_laysGroups.data.toList.drop 68 = dktX0_laysGroups_3 := dk_seg dksX0_laysGroups_2 24 rfl rfl
theorem dksX0_laysGroups_4 : cX0_laysGroups.data.toList.drop 92 = dktX0_laysGroups_4 := dk_seg dksX0_laysGroups_3 24 rfl rfl
theorem dksX0_laysGroups_5 : cX0_laysGroups.data.toList.drop 115 = dktX0_laysGroups_5 := dk_seg dksX0_laysGroups_4 23 rfl rfl
theorem dksX0_laysGroups_6 : cX0_laysGroups.data.toList.drop 139 = dktX0_laysGroups_6 := dk_seg dksX0_laysGroups_5 24 rfl rfl
theorem dksX0_laysGroups_7 : cX0_laysGroups.data.toList.drop 162 = dktX0_laysGroups_7 := dk_seg dksX0_laysGroups_6 23 rfl rfl
theorem dX0_laysGroups_0 : decode cX0_laysGroups 0 = .ok (.aload_n 0, 1) := dk_42 (dk_at dksX0_laysGroups_0 0 rfl rfl)
theorem dX0_laysGroups_1 : decode cX0_laysGroups 1 = .ok (.invokevirtual 207, 3) := dk_182 0 207 (dk_at dksX0_laysGroups_0 1 rfl rfl)
theorem dX0_laysGroups_4 : decode cX0_laysGroups 4 = .ok (.istore_n 1, 1) := dk_60 (dk_at dksX0_laysGroups_0 4 rfl rfl)
theorem dX0_laysGroups_5 : decode cX0_laysGroups 5 = .ok (.iconst 0, 1) := dk_3 (dk_at dksX0_laysGroups_0 5 rfl rfl)
theorem dX0_laysGroups_6 : decode cX0_laysGroups 6 = .ok (.istore_n 2, 1) := dk_61 (dk_at dksX0_laysGroups_0 6 rfl rfl)
theorem dX0_laysGroups_7 : decode cX0_laysGroups 7 = .ok (.iload_n 2, 1) := dk_28 (dk_at dksX0_laysGroups_0 7 rfl rfl)
theorem dX0_laysGroups_8 : decode cX0_laysGroups 8 = .ok (.aload_n 0, 1) := dk_42 (dk_at dksX0_laysGroups_0 8 rfl rfl)
theorem dX0_laysGroups_9 : decode cX0_laysGroups 9 = .ok (.invokevirtual 207, 3) := dk_182 0 207 (dk_at dksX0_laysGroups_0 9 rfl rfl)
theorem dX0_laysGroups_12 : decode cX0_laysGroups 12 = .ok (.if_icmp .ge 16, 3) := dk_162 0 16 (dk_at dksX0_laysGroups_0 12 rfl rfl)
theorem dX0_laysGroups_15 : decode cX0_laysGroups 15 = .ok (.aload_n 0, 1) := dk_42 (dk_at dksX0_laysGroups_0 15 rfl rfl)
theorem dX0_laysGroups_16 : decode cX0_laysGroups 16 = .ok (.getfield 91, 3) := dk_180 0 91 (dk_at dksX0_laysGroups_0 16 rfl rfl)
theorem dX0_laysGroups_19 : decode cX0_laysGroups 19 = .ok (.iload_n 2, 1) := dk_28 (dk_at dksX0_laysGroups_0 19 rfl rfl)
theorem dX0_laysGroups_20 : decode cX0_laysGroups 20 = .ok (.iload_n 2, 1) := dk_28 (dk_at dksX0_laysGroups_0 20 rfl rfl)
theorem dX0_laysGroups_21 : decode cX0_laysGroups 21 = .ok (.iastore, 1) := dk_79 (dk_at dksX0_laysGroups_0 21 rfl rfl)
theorem dX0_laysGroups_22 : decode cX0_laysGroups 22 = .ok (.iinc 2 1, 3) := dk_132 2 1 (dk_at dksX0_laysGroups_1 0 rfl rfl)
theorem dX0_laysGroups_25 : decode cX0_laysGroups 25 = .ok (.goto (-18), 3) := dk_167 255 238 (dk_at dksX0_laysGroups_1 3 rfl rfl)
theorem dX0_laysGroups_28 : decode cX0_laysGroups 28 = .ok (.iconst 0, 1) := dk_3 (dk_at dksX0_laysGroups_1 6 rfl rfl)
theorem dX0_laysGroups_29 : decode cX0_laysGroups 29 = .ok (.istore_n 2, 1) := dk_61 (dk_at dksX0_laysGroups_1 7 rfl rfl)
theorem dX0_laysGroups_30 : decode cX0_laysGroups 30 = .ok (.iload_n 2, 1) := dk_28 (dk_at dksX0_laysGroups_1 8 rfl rfl)
theorem dX0_laysGroups_31 : decode cX0_laysGroups 31 = .ok (.aload_n 0, 1) := dk_42 (dk_at dksX0_laysGroups_1 9 rfl rfl)
theorem dX0_laysGroups_32 : decode cX0_laysGroups 32 = .ok (.invokevirtual 207, 3) := dk_182 0 207 (dk_at dksX0_laysGroups_1 10 rfl rfl)
theorem dX0_laysGroups_35 : decode cX0_laysGroups 35 = .ok (.if_icmp .ge 139, 3) := dk_162 0 139 (dk_at dksX0_laysGroups_1 13 rfl rfl)
theorem dX0_laysGroups_38 : decode cX0_laysGroups 38 = .ok (.iload_n 2, 1) := dk_28 (dk_at dksX0_laysGroups_1 16 rfl rfl)
theorem dX0_laysGroups_39 : decode cX0_laysGroups 39 = .ok (.iconst 1, 1) := dk_4 (dk_at dksX0_laysGroups_1 17 rfl rfl)
theorem dX0_laysGroups_40 : decode cX0_laysGroups 40 = .ok (.iadd, 1) := dk_96 (dk_at dksX0_laysGroups_1 18 rfl rfl)
theorem dX0_laysGroups_41 : decode cX0_laysGroups 41 = .ok (.istore_n 3, 1) := dk_62 (dk_at dksX0_laysGroups_1 19 rfl rfl)
theorem dX0_laysGroups_42 : decode cX0_laysGroups 42 = .ok (.iload_n 3, 1) := dk_29 (dk_at dksX0_laysGroups_1 20 rfl rfl)
theorem dX0_laysGroups_43 : decode cX0_laysGroups 43 = .ok (.aload_n 0, 1) := dk_42 (dk_at dksX0_laysGroups_1 21 rfl rfl)
theorem dX0_laysGroups_44 : decode cX0_laysGroups 44 = .ok (.invokevirtual 207, 3) := dk_182 0 207 (dk_at dksX0_laysGroups_2 0 rfl rfl)
theorem dX0_laysGroups_47 : decode cX0_laysGroups 47 = .ok (.if_icmp .ge 121, 3) := dk_162 0 121 (dk_at dksX0_laysGroups_2 3 rfl rfl)
theorem dX0_laysGroups_50 : decode cX0_laysGroups 50 = .ok (.aload_n 0, 1) := dk_42 (dk_at dksX0_laysGroups_2 6 rfl rfl)
theorem dX0_laysGroups_51 : decode cX0_laysGroups 51 = .ok (.getfield 91, 3) := dk_180 0 91 (dk_at dksX0_laysGroups_2 7 rfl rfl)
theorem dX0_laysGroups_54 : decode cX0_laysGroups 54 = .ok (.iload_n 2, 1) := dk_28 (dk_at dksX0_laysGroups_2 10 rfl rfl)
theorem dX0_laysGroups_55 : decode cX0_laysGroups 55 = .ok (.iaload, 1) := dk_46 (dk_at dksX0_laysGroups_2 11 rfl rfl)
theorem dX0_laysGroups_56 : decode cX0_laysGroups 56 = .ok (.aload_n 0, 1) := dk_42 (dk_at dksX0_laysGroups_2 12 rfl rfl)
theorem dX0_laysGroups_57 : decode cX0_laysGroups 57 = .ok (.getfield 91, 3) := dk_180 0 91 (dk_at dksX0_laysGroups_2 13 rfl rfl)
theorem dX0_laysGroups_60 : decode cX0_laysGroups 60 = .ok (.iload_n 3, 1) := dk_29 (dk_at dksX0_laysGroups_2 16 rfl rfl)
theorem dX0_laysGroups_61 : decode cX0_laysGroups 61 = .ok (.iaload, 1) := dk_46 (dk_at dksX0_laysGroups_2 17 rfl rfl)
theorem dX0_laysGroups_62 : decode cX0_laysGroups 62 = .ok (.if_icmp .eq 100, 3) := dk_159 0 100 (dk_at dksX0_laysGroups_2 18 rfl rfl)
theorem dX0_laysGroups_65 : decode cX0_laysGroups 65 = .ok (.aload_n 0, 1) := dk_42 (dk_at dksX0_laysGroups_2 21 rfl rfl)
theorem dX0_laysGroups_66 : decode cX0_laysGroups 66 = .ok (.iload_n 2, 1) := dk_28 (dk_at dksX0_laysGroups_2 22 rfl rfl)
theorem dX0_laysGroups_67 : decode cX0_laysGroups 67 = .ok (.iload_n 3, 1) := dk_29 (dk_at dksX0_laysGroups_2 23 rfl rfl)
theorem dX0_laysGroups_68 : decode cX0_laysGroups 68 = .ok (.invokevirtual 371, 3) := dk_182 1 115 (dk_at dksX0_laysGroups_3 0 rfl rfl)
theorem dX0_laysGroups_71 : decode cX0_laysGroups 71 = .ok (.aload_n 0, 1) := dk_42 (dk_at dksX0_laysGroups_3 3 rfl rfl)
theorem dX0_laysGroups_72 : decode cX0_laysGroups 72 = .ok (.getfield 23, 3) := dk_180 0 23 (dk_at dksX0_laysGroups_3 4 rfl rfl)
theorem dX0_laysGroups_75 : decode cX0_laysGroups 75 = .ok (.getfield 216, 3) := dk_180 0 216 (dk_at dksX0_laysGroups_3 7 rfl rfl)
theorem dX0_laysGroups_78 : decode cX0_laysGroups 78 = .ok (.iconst 4, 1) := dk_7 (dk_at dksX0_laysGroups_3 10 rfl rfl)
theorem dX0_laysGroups_79 : decode cX0_laysGroups 79 = .ok (.iaload, 1) := dk_46 (dk_at dksX0_laysGroups_3 11 rfl rfl)
theorem dX0_laysGroups_80 : decode cX0_laysGroups 80 = .ok (.if_icmp .lt 6, 3) := dk_161 0 6 (dk_at dksX0_laysGroups_3 12 rfl rfl)
theorem dX0_laysGroups_83 : decode cX0_laysGroups 83 = .ok (.goto 79, 3) := dk_167 0 79 (dk_at dksX0_laysGroups_3 15 rfl rfl)
theorem dX0_laysGroups_86 : decode cX0_laysGroups 86 = .ok (.aload_n 0, 1) := dk_42 (dk_at dksX0_laysGroups_3 18 rfl rfl)
theorem dX0_laysGroups_87 : decode cX0_laysGroups 87 = .ok (.getfield 91, 3) := dk_180 0 91 (dk_at dksX0_laysGroups_3 19 rfl rfl)
theorem dX0_laysGroups_90 : decode cX0_laysGroups 90 = .ok (.iload_n 2, 1) := dk_28 (dk_at dksX0_laysGroups_3 22 rfl rfl)
theorem dX0_laysGroups_91 : decode cX0_laysGroups 91 = .ok (.iaload, 1) := dk_46 (dk_at dksX0_laysGroups_3 23 rfl rfl)
theorem dX0_laysGroups_92 : decode cX0_laysGroups 92 = .ok (.aload_n 0, 1) := dk_42 (dk_at dksX0_laysGroups_4 0 rfl rfl)
theorem dX0_laysGroups_93 : decode cX0_laysGroups 93 = .ok (.getfield 91, 3) := dk_180 0 91 (dk_at dksX0_laysGroups_4 1 rfl rfl)
theorem dX0_laysGroups_96 : decode cX0_laysGroups 96 = .ok (.iload_n 3, 1) := dk_29 (dk_at dksX0_laysGroups_4 4 rfl rfl)
theorem dX0_laysGroups_97 : decode cX0_laysGroups 97 = .ok (.iaload, 1) := dk_46 (dk_at dksX0_laysGroups_4 5 rfl rfl)
theorem dX0_laysGroups_98 : decode cX0_laysGroups 98 = .ok (.invokestatic 139, 3) := dk_184 0 139 (dk_at dksX0_laysGroups_4 6 rfl rfl)
theorem dX0_laysGroups_101 : decode cX0_laysGroups 101 = .ok (.istore 4, 2) := dk_54 4 (dk_at dksX0_laysGroups_4 9 rfl rfl)
theorem dX0_laysGroups_103 : decode cX0_laysGroups 103 = .ok (.aload_n 0, 1) := dk_42 (dk_at dksX0_laysGroups_4 11 rfl rfl)
theorem dX0_laysGroups_104 : decode cX0_laysGroups 104 = .ok (.getfield 91, 3) := dk_180 0 91 (dk_at dksX0_laysGroups_4 12 rfl rfl)
theorem dX0_laysGroups_107 : decode cX0_laysGroups 107 = .ok (.iload_n 2, 1) := dk_28 (dk_at dksX0_laysGroups_4 15 rfl rfl)
theorem dX0_laysGroups_108 : decode cX0_laysGroups 108 = .ok (.iaload, 1) := dk_46 (dk_at dksX0_laysGroups_4 16 rfl rfl)
theorem dX0_laysGroups_109 : decode cX0_laysGroups 109 = .ok (.aload_n 0, 1) := dk_42 (dk_at dksX0_laysGroups_4 17 rfl rfl)
theorem dX0_laysGroups_110 : decode cX0_laysGroups 110 = .ok (.getfield 91, 3) := dk_180 0 91 (dk_at dksX0_laysGroups_4 18 rfl rfl)
theorem dX0_laysGroups_113 : decode cX0_laysGroups 113 = .ok (.iload_n 3, 1) := dk_29 (dk_at dksX0_laysGroups_4 21 rfl rfl)
theorem dX0_laysGroups_114 : decode cX0_laysGroups 114 = .ok (.iaload, 1) := dk_46 (dk_at dksX0_laysGroups_4 22 rfl rfl)
theorem dX0_laysGroups_115 : decode cX0_laysGroups 115 = .ok (.invokestatic 317, 3) := dk_184 1 61 (dk_at dksX0_laysGroups_5 0 rfl rfl)
theorem dX0_laysGroups_118 : decode cX0_laysGroups 118 = .ok (.istore 5, 2) := dk_54 5 (dk_at dksX0_laysGroups_5 3 rfl rfl)
theorem dX0_laysGroups_120 : decode cX0_laysGroups 120 = .ok (.iconst 0, 1) := dk_3 (dk_at dksX0_laysGroups_5 5 rfl rfl)
theorem dX0_laysGroups_121 : decode cX0_laysGroups 121 = .ok (.istore 6, 2) := dk_54 6 (dk_at dksX0_laysGroups_5 6 rfl rfl)
theorem dX0_laysGroups_123 : decode cX0_laysGroups 123 = .ok (.iload 6, 2) := dk_21 6 (dk_at dksX0_laysGroups_5 8 rfl rfl)
theorem dX0_laysGroups_125 : decode cX0_laysGroups 125 = .ok (.aload_n 0, 1) := dk_42 (dk_at dksX0_laysGroups_5 10 rfl rfl)
theorem dX0_laysGroups_126 : decode cX0_laysGroups 126 = .ok (.invokevirtual 207, 3) := dk_182 0 207 (dk_at dksX0_laysGroups_5 11 rfl rfl)
theorem dX0_laysGroups_129 : decode cX0_laysGroups 129 = .ok (.if_icmp .ge 30, 3) := dk_162 0 30 (dk_at dksX0_laysGroups_5 14 rfl rfl)
theorem dX0_laysGroups_132 : decode cX0_laysGroups 132 = .ok (.aload_n 0, 1) := dk_42 (dk_at dksX0_laysGroups_5 17 rfl rfl)
theorem dX0_laysGroups_133 : decode cX0_laysGroups 133 = .ok (.getfield 91, 3) := dk_180 0 91 (dk_at dksX0_laysGroups_5 18 rfl rfl)
theorem dX0_laysGroups_136 : decode cX0_laysGroups 136 = .ok (.iload 6, 2) := dk_21 6 (dk_at dksX0_laysGroups_5 21 rfl rfl)
theorem dX0_laysGroups_138 : decode cX0_laysGroups 138 = .ok (.iaload, 1) := dk_46 (dk_at dksX0_laysGroups_5 23 rfl rfl)
theorem dX0_laysGroups_139 : decode cX0_laysGroups 139 = .ok (.iload 5, 2) := dk_21 5 (dk_at dksX0_laysGroups_6 0 rfl rfl)
theorem dX0_laysGroups_141 : decode cX0_laysGroups 141 = .ok (.if_icmp .ne 12, 3) := dk_160 0 12 (dk_at dksX0_laysGroups_6 2 rfl rfl)
theorem dX0_laysGroups_144 : decode cX0_laysGroups 144 = .ok (.aload_n 0, 1) := dk_42 (dk_at dksX0_laysGroups_6 5 rfl rfl)
theorem dX0_laysGroups_145 : decode cX0_laysGroups 145 = .ok (.getfield 91, 3) := dk_180 0 91 (dk_at dksX0_laysGroups_6 6 rfl rfl)
theorem dX0_laysGroups_148 : decode cX0_laysGroups 148 = .ok (.iload 6, 2) := dk_21 6 (dk_at dksX0_laysGroups_6 9 rfl rfl)
theorem dX0_laysGroups_150 : decode cX0_laysGroups 150 = .ok (.iload 4, 2) := dk_21 4 (dk_at dksX0_laysGroups_6 11 rfl rfl)
theorem dX0_laysGroups_152 : decode cX0_laysGroups 152 = .ok (.iastore, 1) := dk_79 (dk_at dksX0_laysGroups_6 13 rfl rfl)
theorem dX0_laysGroups_153 : decode cX0_laysGroups 153 = .ok (.iinc 6 1, 3) := dk_132 6 1 (dk_at dksX0_laysGroups_6 14 rfl rfl)
theorem dX0_laysGroups_156 : decode cX0_laysGroups 156 = .ok (.goto (-33), 3) := dk_167 255 223 (dk_at dksX0_laysGroups_6 17 rfl rfl)
theorem dX0_laysGroups_159 : decode cX0_laysGroups 159 = .ok (.iinc 1 (-1), 3) := dk_132 1 255 (dk_at dksX0_laysGroups_6 20 rfl rfl)
theorem dX0_laysGroups_162 : decode cX0_laysGroups 162 = .ok (.iinc 3 1, 3) := dk_132 3 1 (dk_at dksX0_laysGroups_7 0 rfl rfl)
theorem dX0_laysGroups_165 : decode cX0_laysGroups 165 = .ok (.goto (-123), 3) := dk_167 255 133 (dk_at dksX0_laysGroups_7 3 rfl rfl)
theorem dX0_laysGroups_168 : decode cX0_laysGroups 168 = .ok (.iinc 2 1, 3) := dk_132 2 1 (dk_at dksX0_laysGroups_7 6 rfl rfl)
theorem dX0_laysGroups_171 : decode cX0_laysGroups 171 = .ok (.goto (-141), 3) := dk_167 255 115 (dk_at dksX0_laysGroups_7 9 rfl rfl)
theorem dX0_laysGroups_174 : decode cX0_laysGroups 174 = .ok (.iload_n 1, 1) := dk_27 (dk_at dksX0_laysGroups_7 12 rfl rfl)
theorem dX0_laysGroups_175 : decode cX0_laysGroups 175 = .ok (.ireturn, 1) := dk_172 (dk_at dksX0_laysGroups_7 13 rfl rfl)
abbrev cX0_groups : ByteArray := prog_1_method_59_code
def yX0_groups : MethodName := ⟨RX0, "groups", "()I"⟩
theorem dX0_groups_0 : decode cX0_groups 0 = .ok (.aload_n 0, 1) := by decide +kernel
theorem dX0_groups_1 : decode cX0_groups 1 = .ok (.invokevirtual 374, 3) := by decide +kernel
theorem dX0_groups_4 : decode cX0_groups 4 = .ok (.ireturn, 1) := by decide +kernel
abbrev cX0_central : ByteArray := prog_1_method_61_code
def yX0_central : MethodName := ⟨RX0, "central", "(I)I"⟩
def dkwX0_central_3 : List UInt8 := [154, 0, 7, 28, 167, 0, 4, 29, 172]
abbrev dktX0_central_3 : List UInt8 := dkwX0_central_3 ++ []
def dkwX0_central_2 : List UInt8 := [21, 5, 29, 161, 0, 6, 167, 0, 9, 21, 4, 61, 21, 5, 62, 132, 4, 1, 167, 255, 221, 27]
abbrev dktX0_central_2 : List UInt8 := dkwX0_central_2 ++ dktX0_central_3
def dkwX0_central_1 : List UInt8 := [182, 1, 121, 62, 4, 54, 4, 21, 4, 42, 182, 0, 207, 162, 0, 32, 42, 21, 4, 182, 1, 121, 54, 5]
abbrev dktX0_central_1 : List UInt8 := dkwX0_central_1 ++ dktX0_central_2
def dkwX0_central_0 : List UInt8 := [42, 182, 0, 207, 153, 0, 13, 27, 133, 9, 10, 184, 0, 166, 154, 0, 5, 2, 172, 3, 61, 42, 3]
abbrev dktX0_central_0 : List UInt8 := dkwX0_central_0 ++ dktX0_central_1
theorem dksX0_central_0 : cX0_central.data.toList.drop 0 = dktX0_central_0 := by decide +kernel
theorem dksX0_central_1 : cX0_central.data.toList.drop 23 = dktX0_central_1 := dk_seg dksX0_central_0 23 rfl rfl
theorem dksX0_central_2 : cX0_central.data.toList.drop 47 = dktX0_central_2 := dk_seg dksX0_central_1 24 rfl rfl
theorem dksX0_central_3 : cX0_central.data.toList.drop 69 = dktX0_central_3 := dk_seg dksX0_central_2 22 rfl rfl
theorem dX0_central_0 : decode cX0_central 0 = .ok (.aload_n 0, 1) := dk_42 (dk_at dksX0_central_0 0 rfl rfl)
theorem dX0_central_1 : decode cX0_central 1 = .ok (.invokevirtual 207, 3) := dk_182 0 207 (dk_at dksX0_central_0 1 rfl rfl)
theorem dX0_central_4 : decode cX0_central 4 = .ok (.ifCond .eq 13, 3) := dk_153 0 13 (dk_at dksX0_central_0 4 rfl rfl)
theorem dX0_central_7 : decode cX0_central 7 = .ok (.iload_n 1, 1) := dk_27 (dk_at dksX0_central_0 7 rfl rfl)
theorem dX0_central_8 : decode cX0_central 8 = .ok (.i2l, 1) := dk_133 (dk_at dksX0_central_0 8 rfl rfl)
theorem dX0_central_9 : decode cX0_central 9 = .ok (.lconst 0, 1) := dk_9 (dk_at dksX0_central_0 9 rfl rfl)
theorem dX0_central_10 : decode cX0_central 10 = .ok (.lconst 1, 1) := dk_10 (dk_at dksX0_central_0 10 rfl rfl)
theorem dX0_central_11 : decode cX0_central 11 = .ok (.invokestatic 166, 3) := dk_184 0 166 (dk_at dksX0_central_0 11 rfl rfl)
theorem dX0_central_14 : decode cX0_central 14 = .ok (.ifCond .ne 5, 3) := dk_154 0 5 (dk_at dksX0_central_0 14 rfl rfl)
theorem dX0_central_17 : decode cX0_central 17 = .ok (.iconst (-1), 1) := dk_2 (dk_at dksX0_central_0 17 rfl rfl)
theorem dX0_central_18 : decode cX0_central 18 = .ok (.ireturn, 1) := dk_172 (dk_at dksX0_central_0 18 rfl rfl)
theorem dX0_central_19 : decode cX0_central 19 = .ok (.iconst 0, 1) := dk_3 (dk_at dksX0_central_0 19 rfl rfl)
theorem dX0_central_20 : decode cX0_central 20 = .ok (.istore_n 2, 1) := dk_61 (dk_at dksX0_central_0 20 rfl rfl)
theorem dX0_central_21 : decode cX0_central 21 = .ok (.aload_n 0, 1) := dk_42 (dk_at dksX0_central_0 21 rfl rfl)
theorem dX0_central_22 : decode cX0_central 22 = .ok (.iconst 0, 1) := dk_3 (dk_at dksX0_central_0 22 rfl rfl)
theorem dX0_central_23 : decode cX0_central 23 = .ok (.invokevirtual 377, 3) := dk_182 1 121 (dk_at dksX0_central_1 0 rfl rfl)
theorem dX0_central_26 : decode cX0_central 26 = .ok (.istore_n 3, 1) := dk_62 (dk_at dksX0_central_1 3 rfl rfl)
theorem dX0_central_27 : decode cX0_central 27 = .ok (.iconst 1, 1) := dk_4 (dk_at dksX0_central_1 4 rfl rfl)
theorem dX0_central_28 : decode cX0_central 28 = .ok (.istore 4, 2) := dk_54 4 (dk_at dksX0_central_1 5 rfl rfl)
theorem dX0_central_30 : decode cX0_central 30 = .ok (.iload 4, 2) := dk_21 4 (dk_at dksX0_central_1 7 rfl rfl)
theorem dX0_central_32 : decode cX0_central 32 = .ok (.aload_n 0, 1) := dk_42 (dk_at dksX0_central_1 9 rfl rfl)
theorem dX0_central_33 : decode cX0_central 33 = .ok (.invokevirtual 207, 3) := dk_182 0 207 (dk_at dksX0_central_1 10 rfl rfl)
theorem dX0_central_36 : decode cX0_central 36 = .ok (.if_icmp .ge 32, 3) := dk_162 0 32 (dk_at dksX0_central_1 13 rfl rfl)
theorem dX0_central_39 : decode cX0_central 39 = .ok (.aload_n 0, 1) := dk_42 (dk_at dksX0_central_1 16 rfl rfl)
theorem dX0_central_40 : decode cX0_central 40 = .ok (.iload 4, 2) := dk_21 4 (dk_at dksX0_central_1 17 rfl rfl)
theorem dX0_central_42 : decode cX0_central 42 = .ok (.invokevirtual 377, 3) := dk_182 1 121 (dk_at dksX0_central_1 19 rfl rfl)
theorem dX0_central_45 : decode cX0_central 45 = .ok (.istore 5, 2) := dk_54 5 (dk_at dksX0_central_1 22 rfl rfl)
theorem dX0_central_47 : decode cX0_central 47 = .ok (.iload 5, 2) := dk_21 5 (dk_at dksX0_central_2 0 rfl rfl)
theorem dX0_central_49 : decode cX0_central 49 = .ok (.iload_n 3, 1) := dk_29 (dk_at dksX0_central_2 2 rfl rfl)
theorem dX0_central_50 : decode cX0_central 50 = .ok (.if_icmp .lt 6, 3) := dk_161 0 6 (dk_at dksX0_central_2 3 rfl rfl)
theorem dX0_central_53 : decode cX0_central 53 = .ok (.goto 9, 3) := dk_167 0 9 (dk_at dksX0_central_2 6 rfl rfl)
theorem dX0_central_56 : decode cX0_central 56 = .ok (.iload 4, 2) := dk_21 4 (dk_at dksX0_central_2 9 rfl rfl)
theorem dX0_central_58 : decode cX0_central 58 = .ok (.istore_n 2, 1) := dk_61 (dk_at dksX0_central_2 11 rfl rfl)
theorem dX0_central_59 : decode cX0_central 59 = .ok (.iload 5, 2) := dk_21 5 (dk_at dksX0_central_2 12 rfl rfl)
theorem dX0_central_61 : decode cX0_central 61 = .ok (.istore_n 3, 1) := dk_62 (dk_at dksX0_central_2 14 rfl rfl)
theorem dX0_central_62 : decode cX0_central 62 = .ok (.iinc 4 1, 3) := dk_132 4 1 (dk_at dksX0_central_2 15 rfl rfl)
theorem dX0_central_65 : decode cX0_central 65 = .ok (.goto (-35), 3) := dk_167 255 221 (dk_at dksX0_central_2 18 rfl rfl)
theorem dX0_central_68 : decode cX0_central 68 = .ok (.iload_n 1, 1) := dk_27 (dk_at dksX0_central_2 21 rfl rfl)
theorem dX0_central_69 : decode cX0_central 69 = .ok (.ifCond .ne 7, 3) := dk_154 0 7 (dk_at dksX0_central_3 0 rfl rfl)
theorem dX0_central_72 : decode cX0_central 72 = .ok (.iload_n 2, 1) := dk_28 (dk_at dksX0_central_3 3 rfl rfl)
theorem dX0_central_73 : decode cX0_central 73 = .ok (.goto 4, 3) := dk_167 0 4 (dk_at dksX0_central_3 4 rfl rfl)
theorem dX0_central_76 : decode cX0_central 76 = .ok (.iload_n 3, 1) := dk_29 (dk_at dksX0_central_3 7 rfl rfl)
theorem dX0_central_77 : decode cX0_central 77 = .ok (.ireturn, 1) := dk_172 (dk_at dksX0_central_3 8 rfl rfl)
abbrev cX0_withOthers : ByteArray := prog_1_method_60_code
def yX0_withOthers : MethodName := ⟨RX0, "withOthers", "(I)I"⟩
def dkwX0_withOthers_1 : List UInt8 := [96, 61, 132, 3, 1, 167, 255, 231, 28, 172]
abbrev dktX0_withOthers_1 : List UInt8 := dkwX0_withOthers_1 ++ []
def dkwX0_withOthers_0 : List UInt8 := [3, 61, 3, 62, 29, 42, 182, 0, 207, 162, 0, 23, 29, 27, 159, 0, 12, 28, 42, 27, 29, 182, 1, 115]
abbrev dktX0_withOthers_0 : List UInt8 := dkwX0_withOthers_0 ++ dktX0_withOthers_1
theorem dksX0_withOthers_0 : cX0_withOthers.data.toList.drop 0 = dktX0_withOthers_0 := by decide +kernel
theorem dksX0_withOthers_1 : cX0_withOthers.data.toList.drop 24 = dktX0_withOthers_1 := dk_seg dksX0_withOthers_0 24 rfl rfl
theorem dX0_withOthers_0 : decode cX0_withOthers 0 = .ok (.iconst 0, 1) := dk_3 (dk_at dksX0_withOthers_0 0 rfl rfl)
theorem dX0_withOthers_1 : decode cX0_withOthers 1 = .ok (.istore_n 2, 1) := dk_61 (dk_at dksX0_withOthers_0 1 rfl rfl)
theorem dX0_withOthers_2 : decode cX0_withOthers 2 = .ok (.iconst 0, 1) := dk_3 (dk_at dksX0_withOthers_0 2 rfl rfl)
theorem dX0_withOthers_3 : decode cX0_withOthers 3 = .ok (.istore_n 3, 1) := dk_62 (dk_at dksX0_withOthers_0 3 rfl rfl)
theorem dX0_withOthers_4 : decode cX0_withOthers 4 = .ok (.iload_n 3, 1) := dk_29 (dk_at dksX0_withOthers_0 4 rfl rfl)
theorem dX0_withOthers_5 : decode cX0_withOthers 5 = .ok (.aload_n 0, 1) := dk_42 (dk_at dksX0_withOthers_0 5 rfl rfl)
theorem dX0_withOthers_6 : decode cX0_withOthers 6 = .ok (.invokevirtual 207, 3) := dk_182 0 207 (dk_at dksX0_withOthers_0 6 rfl rfl)
theorem dX0_withOthers_9 : decode cX0_withOthers 9 = .ok (.if_icmp .ge 23, 3) := dk_162 0 23 (dk_at dksX0_withOthers_0 9 rfl rfl)
theorem dX0_withOthers_12 : decode cX0_withOthers 12 = .ok (.iload_n 3, 1) := dk_29 (dk_at dksX0_withOthers_0 12 rfl rfl)
theorem dX0_withOthers_13 : decode cX0_withOthers 13 = .ok (.iload_n 1, 1) := dk_27 (dk_at dksX0_withOthers_0 13 rfl rfl)
theorem dX0_withOthers_14 : decode cX0_withOthers 14 = .ok (.if_icmp .eq 12, 3) := dk_159 0 12 (dk_at dksX0_withOthers_0 14 rfl rfl)
theorem dX0_withOthers_17 : decode cX0_withOthers 17 = .ok (.iload_n 2, 1) := dk_28 (dk_at dksX0_withOthers_0 17 rfl rfl)
theorem dX0_withOthers_18 : decode cX0_withOthers 18 = .ok (.aload_n 0, 1) := dk_42 (dk_at dksX0_withOthers_0 18 rfl rfl)
theorem dX0_withOthers_19 : decode cX0_withOthers 19 = .ok (.iload_n 1, 1) := dk_27 (dk_at dksX0_withOthers_0 19 rfl rfl)
theorem dX0_withOthers_20 : decode cX0_withOthers 20 = .ok (.iload_n 3, 1) := dk_29 (dk_at dksX0_withOthers_0 20 rfl rfl)
theorem dX0_withOthers_21 : decode cX0_withOthers 21 = .ok (.invokevirtual 371, 3) := dk_182 1 115 (dk_at dksX0_withOthers_0 21 rfl rfl)
theorem dX0_withOthers_24 : decode cX0_withOthers 24 = .ok (.iadd, 1) := dk_96 (dk_at dksX0_withOthers_1 0 rfl rfl)
theorem dX0_withOthers_25 : decode cX0_withOthers 25 = .ok (.istore_n 2, 1) := dk_61 (dk_at dksX0_withOthers_1 1 rfl rfl)
theorem dX0_withOthers_26 : decode cX0_withOthers 26 = .ok (.iinc 3 1, 3) := dk_132 3 1 (dk_at dksX0_withOthers_1 2 rfl rfl)
theorem dX0_withOthers_29 : decode cX0_withOthers 29 = .ok (.goto (-25), 3) := dk_167 255 231 (dk_at dksX0_withOthers_1 5 rfl rfl)
theorem dX0_withOthers_32 : decode cX0_withOthers 32 = .ok (.iload_n 2, 1) := dk_28 (dk_at dksX0_withOthers_1 8 rfl rfl)
theorem dX0_withOthers_33 : decode cX0_withOthers 33 = .ok (.ireturn, 1) := dk_172 (dk_at dksX0_withOthers_1 9 rfl rfl)
abbrev cX0_lifted : ByteArray := prog_1_method_63_code
def yX0_lifted : MethodName := ⟨RX0, "lifted", "(II)I"⟩
def dkwX0_lifted_4 : List UInt8 := [154, 0, 12, 42, 180, 0, 88, 3, 46, 167, 0, 14, 42, 180, 0, 85, 42, 180, 0, 88, 3, 46, 46, 172]
abbrev dktX0_lifted_4 : List UInt8 := dkwX0_lifted_4 ++ []
def dkwX0_lifted_3 : List UInt8 := [180, 0, 85, 42, 180, 0, 88, 4, 46, 46, 42, 180, 0, 85, 42, 180, 0, 88, 3, 46, 46, 100, 172, 28]
abbrev dktX0_lifted_3 : List UInt8 := dkwX0_lifted_3 ++ dktX0_lifted_4
def dkwX0_lifted_2 : List UInt8 := [182, 1, 127, 28, 5, 160, 0, 41, 42, 182, 0, 207, 5, 162, 0, 9, 19, 1, 111, 167, 0, 26, 42]
abbrev dktX0_lifted_2 : List UInt8 := dkwX0_lifted_2 ++ dktX0_lifted_3
def dkwX0_lifted_1 : List UInt8 := [184, 0, 166, 153, 0, 15, 28, 133, 9, 20, 0, 212, 184, 0, 166, 154, 0, 5, 2, 172, 42, 27]
abbrev dktX0_lifted_1 : List UInt8 := dkwX0_lifted_1 ++ dktX0_lifted_2
def dkwX0_lifted_0 : List UInt8 := [42, 182, 0, 207, 153, 0, 37, 27, 133, 9, 42, 180, 0, 23, 180, 0, 209, 182, 0, 203, 4, 100, 133]
abbrev dktX0_lifted_0 : List UInt8 := dkwX0_lifted_0 ++ dktX0_lifted_1
theorem dksX0_lifted_0 : cX0_lifted.data.toList.drop 0 = dktX0_lifted_0 := by decide +kernel
theorem dksX0_lifted_1 : cX0_lifted.data.toList.drop 23 = dktX0_lifted_1 := dk_seg dksX0_lifted_0 23 rfl rfl
theorem dksX0_lifted_2 : cX0_lifted.data.toList.drop 45 = dktX0_lifted_2 := dk_seg dksX0_lifted_1 22 rfl rfl
theorem dksX0_lifted_3 : cX0_lifted.data.toList.drop 68 = dktX0_lifted_3 := dk_seg dksX0_lifted_2 23 rfl rfl
theorem dksX0_lifted_4 : cX0_lifted.data.toList.drop 92 = dktX0_lifted_4 := dk_seg dksX0_lifted_3 24 rfl rfl
theorem dX0_lifted_0 : decode cX0_lifted 0 = .ok (.aload_n 0, 1) := dk_42 (dk_at dksX0_lifted_0 0 rfl rfl)
theorem dX0_lifted_1 : decode cX0_lifted 1 = .ok (.invokevirtual 207, 3) := dk_182 0 207 (dk_at dksX0_lifted_0 1 rfl rfl)
theorem dX0_lifted_4 : decode cX0_lifted 4 = .ok (.ifCond .eq 37, 3) := dk_153 0 37 (dk_at dksX0_lifted_0 4 rfl rfl)
theorem dX0_lifted_7 : decode cX0_lifted 7 = .ok (.iload_n 1, 1) := dk_27 (dk_at dksX0_lifted_0 7 rfl rfl)
theorem dX0_lifted_8 : decode cX0_lifted 8 = .ok (.i2l, 1) := dk_133 (dk_at dksX0_lifted_0 8 rfl rfl)
theorem dX0_lifted_9 : decode cX0_lifted 9 = .ok (.lconst 0, 1) := dk_9 (dk_at dksX0_lifted_0 9 rfl rfl)
theorem dX0_lifted_10 : decode cX0_lifted 10 = .ok (.aload_n 0, 1) := dk_42 (dk_at dksX0_lifted_0 10 rfl rfl)
theorem dX0_lifted_11 : decode cX0_lifted 11 = .ok (.getfield 23, 3) := dk_180 0 23 (dk_at dksX0_lifted_0 11 rfl rfl)
theorem dX0_lifted_14 : decode cX0_lifted 14 = .ok (.getfield 209, 3) := dk_180 0 209 (dk_at dksX0_lifted_0 14 rfl rfl)
theorem dX0_lifted_17 : decode cX0_lifted 17 = .ok (.invokevirtual 203, 3) := dk_182 0 203 (dk_at dksX0_lifted_0 17 rfl rfl)
theorem dX0_lifted_20 : decode cX0_lifted 20 = .ok (.iconst 1, 1) := dk_4 (dk_at dksX0_lifted_0 20 rfl rfl)
theorem dX0_lifted_21 : decode cX0_lifted 21 = .ok (.isub, 1) := dk_100 (dk_at dksX0_lifted_0 21 rfl rfl)
theorem dX0_lifted_22 : decode cX0_lifted 22 = .ok (.i2l, 1) := dk_133 (dk_at dksX0_lifted_0 22 rfl rfl)
theorem dX0_lifted_23 : decode cX0_lifted 23 = .ok (.invokestatic 166, 3) := dk_184 0 166 (dk_at dksX0_lifted_1 0 rfl rfl)
theorem dX0_lifted_26 : decode cX0_lifted 26 = .ok (.ifCond .eq 15, 3) := dk_153 0 15 (dk_at dksX0_lifted_1 3 rfl rfl)
theorem dX0_lifted_29 : decode cX0_lifted 29 = .ok (.iload_n 2, 1) := dk_28 (dk_at dksX0_lifted_1 6 rfl rfl)
theorem dX0_lifted_30 : decode cX0_lifted 30 = .ok (.i2l, 1) := dk_133 (dk_at dksX0_lifted_1 7 rfl rfl)
theorem dX0_lifted_31 : decode cX0_lifted 31 = .ok (.lconst 0, 1) := dk_9 (dk_at dksX0_lifted_1 8 rfl rfl)
theorem dX0_lifted_32 : decode cX0_lifted 32 = .ok (.ldc2_w 212, 3) := dk_20 0 212 (dk_at dksX0_lifted_1 9 rfl rfl)
theorem dX0_lifted_35 : decode cX0_lifted 35 = .ok (.invokestatic 166, 3) := dk_184 0 166 (dk_at dksX0_lifted_1 12 rfl rfl)
theorem dX0_lifted_38 : decode cX0_lifted 38 = .ok (.ifCond .ne 5, 3) := dk_154 0 5 (dk_at dksX0_lifted_1 15 rfl rfl)
theorem dX0_lifted_41 : decode cX0_lifted 41 = .ok (.iconst (-1), 1) := dk_2 (dk_at dksX0_lifted_1 18 rfl rfl)
theorem dX0_lifted_42 : decode cX0_lifted 42 = .ok (.ireturn, 1) := dk_172 (dk_at dksX0_lifted_1 19 rfl rfl)
theorem dX0_lifted_43 : decode cX0_lifted 43 = .ok (.aload_n 0, 1) := dk_42 (dk_at dksX0_lifted_1 20 rfl rfl)
theorem dX0_lifted_44 : decode cX0_lifted 44 = .ok (.iload_n 1, 1) := dk_27 (dk_at dksX0_lifted_1 21 rfl rfl)
theorem dX0_lifted_45 : decode cX0_lifted 45 = .ok (.invokevirtual 383, 3) := dk_182 1 127 (dk_at dksX0_lifted_2 0 rfl rfl)
theorem dX0_lifted_48 : decode cX0_lifted 48 = .ok (.iload_n 2, 1) := dk_28 (dk_at dksX0_lifted_2 3 rfl rfl)
theorem dX0_lifted_49 : decode cX0_lifted 49 = .ok (.iconst 2, 1) := dk_5 (dk_at dksX0_lifted_2 4 rfl rfl)
theorem dX0_lifted_50 : decode cX0_lifted 50 = .ok (.if_icmp .ne 41, 3) := dk_160 0 41 (dk_at dksX0_lifted_2 5 rfl rfl)
theorem dX0_lifted_53 : decode cX0_lifted 53 = .ok (.aload_n 0, 1) := dk_42 (dk_at dksX0_lifted_2 8 rfl rfl)
theorem dX0_lifted_54 : decode cX0_lifted 54 = .ok (.invokevirtual 207, 3) := dk_182 0 207 (dk_at dksX0_lifted_2 9 rfl rfl)
theorem dX0_lifted_57 : decode cX0_lifted 57 = .ok (.iconst 2, 1) := dk_5 (dk_at dksX0_lifted_2 12 rfl rfl)
theorem dX0_lifted_58 : decode cX0_lifted 58 = .ok (.if_icmp .ge 9, 3) := dk_162 0 9 (dk_at dksX0_lifted_2 13 rfl rfl)
theorem dX0_lifted_61 : decode cX0_lifted 61 = .ok (.ldc_w 367, 3) := dk_19 1 111 (dk_at dksX0_lifted_2 16 rfl rfl)
theorem dX0_lifted_64 : decode cX0_lifted 64 = .ok (.goto 26, 3) := dk_167 0 26 (dk_at dksX0_lifted_2 19 rfl rfl)
theorem dX0_lifted_67 : decode cX0_lifted 67 = .ok (.aload_n 0, 1) := dk_42 (dk_at dksX0_lifted_2 22 rfl rfl)
theorem dX0_lifted_68 : decode cX0_lifted 68 = .ok (.getfield 85, 3) := dk_180 0 85 (dk_at dksX0_lifted_3 0 rfl rfl)
theorem dX0_lifted_71 : decode cX0_lifted 71 = .ok (.aload_n 0, 1) := dk_42 (dk_at dksX0_lifted_3 3 rfl rfl)
theorem dX0_lifted_72 : decode cX0_lifted 72 = .ok (.getfield 88, 3) := dk_180 0 88 (dk_at dksX0_lifted_3 4 rfl rfl)
theorem dX0_lifted_75 : decode cX0_lifted 75 = .ok (.iconst 1, 1) := dk_4 (dk_at dksX0_lifted_3 7 rfl rfl)
theorem dX0_lifted_76 : decode cX0_lifted 76 = .ok (.iaload, 1) := dk_46 (dk_at dksX0_lifted_3 8 rfl rfl)
theorem dX0_lifted_77 : decode cX0_lifted 77 = .ok (.iaload, 1) := dk_46 (dk_at dksX0_lifted_3 9 rfl rfl)
theorem dX0_lifted_78 : decode cX0_lifted 78 = .ok (.aload_n 0, 1) := dk_42 (dk_at dksX0_lifted_3 10 rfl rfl)
theorem dX0_lifted_79 : decode cX0_lifted 79 = .ok (.getfield 85, 3) := dk_180 0 85 (dk_at dksX0_lifted_3 11 rfl rfl)
theorem dX0_lifted_82 : decode cX0_lifted 82 = .ok (.aload_n 0, 1) := dk_42 (dk_at dksX0_lifted_3 14 rfl rfl)
theorem dX0_lifted_83 : decode cX0_lifted 83 = .ok (.getfield 88, 3) := dk_180 0 88 (dk_at dksX0_lifted_3 15 rfl rfl)
theorem dX0_lifted_86 : decode cX0_lifted 86 = .ok (.iconst 0, 1) := dk_3 (dk_at dksX0_lifted_3 18 rfl rfl)
theorem dX0_lifted_87 : decode cX0_lifted 87 = .ok (.iaload, 1) := dk_46 (dk_at dksX0_lifted_3 19 rfl rfl)
theorem dX0_lifted_88 : decode cX0_lifted 88 = .ok (.iaload, 1) := dk_46 (dk_at dksX0_lifted_3 20 rfl rfl)
theorem dX0_lifted_89 : decode cX0_lifted 89 = .ok (.isub, 1) := dk_100 (dk_at dksX0_lifted_3 21 rfl rfl)
theorem dX0_lifted_90 : decode cX0_lifted 90 = .ok (.ireturn, 1) := dk_172 (dk_at dksX0_lifted_3 22 rfl rfl)
theorem dX0_lifted_91 : decode cX0_lifted 91 = .ok (.iload_n 2, 1) := dk_28 (dk_at dksX0_lifted_3 23 rfl rfl)
theorem dX0_lifted_92 : decode cX0_lifted 92 = .ok (.ifCond .ne 12, 3) := dk_154 0 12 (dk_at dksX0_lifted_4 0 rfl rfl)
theorem dX0_lifted_95 : decode cX0_lifted 95 = .ok (.aload_n 0, 1) := dk_42 (dk_at dksX0_lifted_4 3 rfl rfl)
theorem dX0_lifted_96 : decode cX0_lifted 96 = .ok (.getfield 88, 3) := dk_180 0 88 (dk_at dksX0_lifted_4 4 rfl rfl)
theorem dX0_lifted_99 : decode cX0_lifted 99 = .ok (.iconst 0, 1) := dk_3 (dk_at dksX0_lifted_4 7 rfl rfl)
theorem dX0_lifted_100 : decode cX0_lifted 100 = .ok (.iaload, 1) := dk_46 (dk_at dksX0_lifted_4 8 rfl rfl)
theorem dX0_lifted_101 : decode cX0_lifted 101 = .ok (.goto 14, 3) := dk_167 0 14 (dk_at dksX0_lifted_4 9 rfl rfl)
theorem dX0_lifted_104 : decode cX0_lifted 104 = .ok (.aload_n 0, 1) := dk_42 (dk_at dksX0_lifted_4 12 rfl rfl)
theorem dX0_lifted_105 : decode cX0_lifted 105 = .ok (.getfield 85, 3) := dk_180 0 85 (dk_at dksX0_lifted_4 13 rfl rfl)
theorem dX0_lifted_108 : decode cX0_lifted 108 = .ok (.aload_n 0, 1) := dk_42 (dk_at dksX0_lifted_4 16 rfl rfl)
theorem dX0_lifted_109 : decode cX0_lifted 109 = .ok (.getfield 88, 3) := dk_180 0 88 (dk_at dksX0_lifted_4 17 rfl rfl)
theorem dX0_lifted_112 : decode cX0_lifted 112 = .ok (.iconst 0, 1) := dk_3 (dk_at dksX0_lifted_4 20 rfl rfl)
theorem dX0_lifted_113 : decode cX0_lifted 113 = .ok (.iaload, 1) := dk_46 (dk_at dksX0_lifted_4 21 rfl rfl)
theorem dX0_lifted_114 : decode cX0_lifted 114 = .ok (.iaload, 1) := dk_46 (dk_at dksX0_lifted_4 22 rfl rfl)
theorem dX0_lifted_115 : decode cX0_lifted 115 = .ok (.ireturn, 1) := dk_172 (dk_at dksX0_lifted_4 23 rfl rfl)
abbrev cX0_ranksBut : ByteArray := prog_1_method_62_code
def yX0_ranksBut : MethodName := ⟨RX0, "ranksBut", "(I)V"⟩
def dkwX0_ranksBut_2 : List UInt8 := [182, 1, 124, 87, 132, 2, 1, 167, 255, 212, 42, 42, 180, 0, 106, 182, 1, 107, 177]
abbrev dktX0_ranksBut_2 : List UInt8 := dkwX0_ranksBut_2 ++ []
def dkwX0_ranksBut_1 : List UInt8 := [27, 159, 0, 25, 42, 180, 0, 106, 42, 180, 0, 23, 180, 0, 209, 28, 182, 0, 224, 192, 0, 251]
abbrev dktX0_ranksBut_1 : List UInt8 := dkwX0_ranksBut_1 ++ dktX0_ranksBut_2
def dkwX0_ranksBut_0 : List UInt8 := [42, 180, 0, 106, 182, 0, 186, 3, 61, 28, 42, 180, 0, 23, 180, 0, 209, 182, 0, 203, 162, 0, 36, 28]
abbrev dktX0_ranksBut_0 : List UInt8 := dkwX0_ranksBut_0 ++ dktX0_ranksBut_1
theorem dksX0_ranksBut_0 : cX0_ranksBut.data.toList.drop 0 = dktX0_ranksBut_0 := by decide +kernel
theorem dksX0_ranksBut_1 : cX0_ranksBut.data.toList.drop 24 = dktX0_ranksBut_1 := dk_seg dksX0_ranksBut_0 24 rfl rfl
theorem dksX0_ranksBut_2 : cX0_ranksBut.data.toList.drop 46 = dktX0_ranksBut_2 := dk_seg dksX0_ranksBut_1 22 rfl rfl
theorem dX0_ranksBut_0 : decode cX0_ranksBut 0 = .ok (.aload_n 0, 1) := dk_42 (dk_at dksX0_ranksBut_0 0 rfl rfl)
theorem dX0_ranksBut_1 : decode cX0_ranksBut 1 = .ok (.getfield 106, 3) := dk_180 0 106 (dk_at dksX0_ranksBut_0 1 rfl rfl)
theorem dX0_ranksBut_4 : decode cX0_ranksBut 4 = .ok (.invokevirtual 186, 3) := dk_182 0 186 (dk_at dksX0_ranksBut_0 4 rfl rfl)
theorem dX0_ranksBut_7 : decode cX0_ranksBut 7 = .ok (.iconst 0, 1) := dk_3 (dk_at dksX0_ranksBut_0 7 rfl rfl)
theorem dX0_ranksBut_8 : decode cX0_ranksBut 8 = .ok (.istore_n 2, 1) := dk_61 (dk_at dksX0_ranksBut_0 8 rfl rfl)
theorem dX0_ranksBut_9 : decode cX0_ranksBut 9 = .ok (.iload_n 2, 1) := dk_28 (dk_at dksX0_ranksBut_0 9 rfl rfl)
theorem dX0_ranksBut_10 : decode cX0_ranksBut 10 = .ok (.aload_n 0, 1) := dk_42 (dk_at dksX0_ranksBut_0 10 rfl rfl)
theorem dX0_ranksBut_11 : decode cX0_ranksBut 11 = .ok (.getfield 23, 3) := dk_180 0 23 (dk_at dksX0_ranksBut_0 11 rfl rfl)
theorem dX0_ranksBut_14 : decode cX0_ranksBut 14 = .ok (.getfield 209, 3) := dk_180 0 209 (dk_at dksX0_ranksBut_0 14 rfl rfl)
theorem dX0_ranksBut_17 : decode cX0_ranksBut 17 = .ok (.invokevirtual 203, 3) := dk_182 0 203 (dk_at dksX0_ranksBut_0 17 rfl rfl)
theorem dX0_ranksBut_20 : decode cX0_ranksBut 20 = .ok (.if_icmp .ge 36, 3) := dk_162 0 36 (dk_at dksX0_ranksBut_0 20 rfl rfl)
theorem dX0_ranksBut_23 : decode cX0_ranksBut 23 = .ok (.iload_n 2, 1) := dk_28 (dk_at dksX0_ranksBut_0 23 rfl rfl)
theorem dX0_ranksBut_24 : decode cX0_ranksBut 24 = .ok (.iload_n 1, 1) := dk_27 (dk_at dksX0_ranksBut_1 0 rfl rfl)
theorem dX0_ranksBut_25 : decode cX0_ranksBut 25 = .ok (.if_icmp .eq 25, 3) := dk_159 0 25 (dk_at dksX0_ranksBut_1 1 rfl rfl)
theorem dX0_ranksBut_28 : decode cX0_ranksBut 28 = .ok (.aload_n 0, 1) := dk_42 (dk_at dksX0_ranksBut_1 4 rfl rfl)
theorem dX0_ranksBut_29 : decode cX0_ranksBut 29 = .ok (.getfield 106, 3) := dk_180 0 106 (dk_at dksX0_ranksBut_1 5 rfl rfl)
theorem dX0_ranksBut_32 : decode cX0_ranksBut 32 = .ok (.aload_n 0, 1) := dk_42 (dk_at dksX0_ranksBut_1 8 rfl rfl)
theorem dX0_ranksBut_33 : decode cX0_ranksBut 33 = .ok (.getfield 23, 3) := dk_180 0 23 (dk_at dksX0_ranksBut_1 9 rfl rfl)
theorem dX0_ranksBut_36 : decode cX0_ranksBut 36 = .ok (.getfield 209, 3) := dk_180 0 209 (dk_at dksX0_ranksBut_1 12 rfl rfl)
theorem dX0_ranksBut_39 : decode cX0_ranksBut 39 = .ok (.iload_n 2, 1) := dk_28 (dk_at dksX0_ranksBut_1 15 rfl rfl)
theorem dX0_ranksBut_40 : decode cX0_ranksBut 40 = .ok (.invokevirtual 224, 3) := dk_182 0 224 (dk_at dksX0_ranksBut_1 16 rfl rfl)
theorem dX0_ranksBut_43 : decode cX0_ranksBut 43 = .ok (.checkcast 251, 3) := dk_192 0 251 (dk_at dksX0_ranksBut_1 19 rfl rfl)
theorem dX0_ranksBut_46 : decode cX0_ranksBut 46 = .ok (.invokevirtual 380, 3) := dk_182 1 124 (dk_at dksX0_ranksBut_2 0 rfl rfl)
theorem dX0_ranksBut_49 : decode cX0_ranksBut 49 = .ok (.pop, 1) := dk_87 (dk_at dksX0_ranksBut_2 3 rfl rfl)
theorem dX0_ranksBut_50 : decode cX0_ranksBut 50 = .ok (.iinc 2 1, 3) := dk_132 2 1 (dk_at dksX0_ranksBut_2 4 rfl rfl)
theorem dX0_ranksBut_53 : decode cX0_ranksBut 53 = .ok (.goto (-44), 3) := dk_167 255 212 (dk_at dksX0_ranksBut_2 7 rfl rfl)
theorem dX0_ranksBut_56 : decode cX0_ranksBut 56 = .ok (.aload_n 0, 1) := dk_42 (dk_at dksX0_ranksBut_2 10 rfl rfl)
theorem dX0_ranksBut_57 : decode cX0_ranksBut 57 = .ok (.aload_n 0, 1) := dk_42 (dk_at dksX0_ranksBut_2 11 rfl rfl)
theorem dX0_ranksBut_58 : decode cX0_ranksBut 58 = .ok (.getfield 106, 3) := dk_180 0 106 (dk_at dksX0_ranksBut_2 12 rfl rfl)
theorem dX0_ranksBut_61 : decode cX0_ranksBut 61 = .ok (.invokevirtual 363, 3) := dk_182 1 107 (dk_at dksX0_ranksBut_2 15 rfl rfl)
theorem dX0_ranksBut_64 : decode cX0_ranksBut 64 = .ok (.return_, 1) := dk_177 (dk_at dksX0_ranksBut_2 18 rfl rfl)
abbrev cX0_weakest : ByteArray := prog_1_method_64_code
def yX0_weakest : MethodName := ⟨RX0, "weakest", "()I"⟩
def dkwX0_weakest_3 : List UInt8 := [180, 0, 85, 42, 180, 0, 88, 3, 46, 46, 61, 132, 3, 1, 167, 255, 202, 27, 172]
abbrev dktX0_weakest_3 : List UInt8 := dkwX0_weakest_3 ++ []
def dkwX0_weakest_2 : List UInt8 := [182, 1, 127, 42, 180, 0, 85, 42, 180, 0, 88, 3, 46, 46, 28, 161, 0, 6, 167, 0, 17, 29, 60, 42]
abbrev dktX0_weakest_2 : List UInt8 := dkwX0_weakest_2 ++ dktX0_weakest_3
def dkwX0_weakest_1 : List UInt8 := [19, 1, 32, 61, 3, 62, 29, 42, 180, 0, 23, 180, 0, 209, 182, 0, 203, 162, 0, 46, 42, 29]
abbrev dktX0_weakest_1 : List UInt8 := dkwX0_weakest_1 ++ dktX0_weakest_2
def dkwX0_weakest_0 : List UInt8 := [42, 182, 0, 207, 153, 0, 16, 42, 180, 0, 23, 180, 0, 209, 182, 1, 130, 153, 0, 5, 2, 172, 2, 60]
abbrev dktX0_weakest_0 : List UInt8 := dkwX0_weakest_0 ++ dktX0_weakest_1
theorem dksX0_weakest_0 : cX0_weakest.data.toList.drop 0 = dktX0_weakest_0 := by decide +kernel
theorem dksX0_weakest_1 : cX0_weakest.data.toList.drop 24 = dktX0_weakest_1 := dk_seg dksX0_weakest_0 24 rfl rfl
theorem dksX0_weakest_2 : cX0_weakest.data.toList.drop 46 = dktX0_weakest_2 := dk_seg dksX0_weakest_1 22 rfl rfl
theorem dksX0_weakest_3 : cX0_weakest.data.toList.drop 70 = dktX0_weakest_3 := dk_seg dksX0_weakest_2 24 rfl rfl
theorem dX0_weakest_0 : decode cX0_weakest 0 = .ok (.aload_n 0, 1) := dk_42 (dk_at dksX0_weakest_0 0 rfl rfl)
theorem dX0_weakest_1 : decode cX0_weakest 1 = .ok (.invokevirtual 207, 3) := dk_182 0 207 (dk_at dksX0_weakest_0 1 rfl rfl)
theorem dX0_weakest_4 : decode cX0_weakest 4 = .ok (.ifCond .eq 16, 3) := dk_153 0 16 (dk_at dksX0_weakest_0 4 rfl rfl)
theorem dX0_weakest_7 : decode cX0_weakest 7 = .ok (.aload_n 0, 1) := dk_42 (dk_at dksX0_weakest_0 7 rfl rfl)
theorem dX0_weakest_8 : decode cX0_weakest 8 = .ok (.getfield 23, 3) := dk_180 0 23 (dk_at dksX0_weakest_0 8 rfl rfl)
theorem dX0_weakest_11 : decode cX0_weakest 11 = .ok (.getfield 209, 3) := dk_180 0 209 (dk_at dksX0_weakest_0 11 rfl rfl)
theorem dX0_weakest_14 : decode cX0_weakest 14 = .ok (.invokevirtual 386, 3) := dk_182 1 130 (dk_at dksX0_weakest_0 14 rfl rfl)
theorem dX0_weakest_17 : decode cX0_weakest 17 = .ok (.ifCond .eq 5, 3) := dk_153 0 5 (dk_at dksX0_weakest_0 17 rfl rfl)
theorem dX0_weakest_20 : decode cX0_weakest 20 = .ok (.iconst (-1), 1) := dk_2 (dk_at dksX0_weakest_0 20 rfl rfl)
theorem dX0_weakest_21 : decode cX0_weakest 21 = .ok (.ireturn, 1) := dk_172 (dk_at dksX0_weakest_0 21 rfl rfl)
theorem dX0_weakest_22 : decode cX0_weakest 22 = .ok (.iconst (-1), 1) := dk_2 (dk_at dksX0_weakest_0 22 rfl rfl)
theorem dX0_weakest_23 : decode cX0_weakest 23 = .ok (.istore_n 1, 1) := dk_60 (dk_at dksX0_weakest_0 23 rfl rfl)
theorem dX0_weakest_24 : decode cX0_weakest 24 = .ok (.ldc_w 288, 3) := dk_19 1 32 (dk_at dksX0_weakest_1 0 rfl rfl)
theorem dX0_weakest_27 : decode cX0_weakest 27 = .ok (.istore_n 2, 1) := dk_61 (dk_at dksX0_weakest_1 3 rfl rfl)
theorem dX0_weakest_28 : decode cX0_weakest 28 = .ok (.iconst 0, 1) := dk_3 (dk_at dksX0_weakest_1 4 rfl rfl)
theorem dX0_weakest_29 : decode cX0_weakest 29 = .ok (.istore_n 3, 1) := dk_62 (dk_at dksX0_weakest_1 5 rfl rfl)
theorem dX0_weakest_30 : decode cX0_weakest 30 = .ok (.iload_n 3, 1) := dk_29 (dk_at dksX0_weakest_1 6 rfl rfl)
theorem dX0_weakest_31 : decode cX0_weakest 31 = .ok (.aload_n 0, 1) := dk_42 (dk_at dksX0_weakest_1 7 rfl rfl)
theorem dX0_weakest_32 : decode cX0_weakest 32 = .ok (.getfield 23, 3) := dk_180 0 23 (dk_at dksX0_weakest_1 8 rfl rfl)
theorem dX0_weakest_35 : decode cX0_weakest 35 = .ok (.getfield 209, 3) := dk_180 0 209 (dk_at dksX0_weakest_1 11 rfl rfl)
theorem dX0_weakest_38 : decode cX0_weakest 38 = .ok (.invokevirtual 203, 3) := dk_182 0 203 (dk_at dksX0_weakest_1 14 rfl rfl)
theorem dX0_weakest_41 : decode cX0_weakest 41 = .ok (.if_icmp .ge 46, 3) := dk_162 0 46 (dk_at dksX0_weakest_1 17 rfl rfl)
theorem dX0_weakest_44 : decode cX0_weakest 44 = .ok (.aload_n 0, 1) := dk_42 (dk_at dksX0_weakest_1 20 rfl rfl)
theorem dX0_weakest_45 : decode cX0_weakest 45 = .ok (.iload_n 3, 1) := dk_29 (dk_at dksX0_weakest_1 21 rfl rfl)
theorem dX0_weakest_46 : decode cX0_weakest 46 = .ok (.invokevirtual 383, 3) := dk_182 1 127 (dk_at dksX0_weakest_2 0 rfl rfl)
theorem dX0_weakest_49 : decode cX0_weakest 49 = .ok (.aload_n 0, 1) := dk_42 (dk_at dksX0_weakest_2 3 rfl rfl)
theorem dX0_weakest_50 : decode cX0_weakest 50 = .ok (.getfield 85, 3) := dk_180 0 85 (dk_at dksX0_weakest_2 4 rfl rfl)
theorem dX0_weakest_53 : decode cX0_weakest 53 = .ok (.aload_n 0, 1) := dk_42 (dk_at dksX0_weakest_2 7 rfl rfl)
theorem dX0_weakest_54 : decode cX0_weakest 54 = .ok (.getfield 88, 3) := dk_180 0 88 (dk_at dksX0_weakest_2 8 rfl rfl)
theorem dX0_weakest_57 : decode cX0_weakest 57 = .ok (.iconst 0, 1) := dk_3 (dk_at dksX0_weakest_2 11 rfl rfl)
theorem dX0_weakest_58 : decode cX0_weakest 58 = .ok (.iaload, 1) := dk_46 (dk_at dksX0_weakest_2 12 rfl rfl)
theorem dX0_weakest_59 : decode cX0_weakest 59 = .ok (.iaload, 1) := dk_46 (dk_at dksX0_weakest_2 13 rfl rfl)
theorem dX0_weakest_60 : decode cX0_weakest 60 = .ok (.iload_n 2, 1) := dk_28 (dk_at dksX0_weakest_2 14 rfl rfl)
theorem dX0_weakest_61 : decode cX0_weakest 61 = .ok (.if_icmp .lt 6, 3) := dk_161 0 6 (dk_at dksX0_weakest_2 15 rfl rfl)
theorem dX0_weakest_64 : decode cX0_weakest 64 = .ok (.goto 17, 3) := dk_167 0 17 (dk_at dksX0_weakest_2 18 rfl rfl)
theorem dX0_weakest_67 : decode cX0_weakest 67 = .ok (.iload_n 3, 1) := dk_29 (dk_at dksX0_weakest_2 21 rfl rfl)
theorem dX0_weakest_68 : decode cX0_weakest 68 = .ok (.istore_n 1, 1) := dk_60 (dk_at dksX0_weakest_2 22 rfl rfl)
theorem dX0_weakest_69 : decode cX0_weakest 69 = .ok (.aload_n 0, 1) := dk_42 (dk_at dksX0_weakest_2 23 rfl rfl)
theorem dX0_weakest_70 : decode cX0_weakest 70 = .ok (.getfield 85, 3) := dk_180 0 85 (dk_at dksX0_weakest_3 0 rfl rfl)
theorem dX0_weakest_73 : decode cX0_weakest 73 = .ok (.aload_n 0, 1) := dk_42 (dk_at dksX0_weakest_3 3 rfl rfl)
theorem dX0_weakest_74 : decode cX0_weakest 74 = .ok (.getfield 88, 3) := dk_180 0 88 (dk_at dksX0_weakest_3 4 rfl rfl)
theorem dX0_weakest_77 : decode cX0_weakest 77 = .ok (.iconst 0, 1) := dk_3 (dk_at dksX0_weakest_3 7 rfl rfl)
theorem dX0_weakest_78 : decode cX0_weakest 78 = .ok (.iaload, 1) := dk_46 (dk_at dksX0_weakest_3 8 rfl rfl)
theorem dX0_weakest_79 : decode cX0_weakest 79 = .ok (.iaload, 1) := dk_46 (dk_at dksX0_weakest_3 9 rfl rfl)
theorem dX0_weakest_80 : decode cX0_weakest 80 = .ok (.istore_n 2, 1) := dk_61 (dk_at dksX0_weakest_3 10 rfl rfl)
theorem dX0_weakest_81 : decode cX0_weakest 81 = .ok (.iinc 3 1, 3) := dk_132 3 1 (dk_at dksX0_weakest_3 11 rfl rfl)
theorem dX0_weakest_84 : decode cX0_weakest 84 = .ok (.goto (-54), 3) := dk_167 255 202 (dk_at dksX0_weakest_3 14 rfl rfl)
theorem dX0_weakest_87 : decode cX0_weakest 87 = .ok (.iload_n 1, 1) := dk_27 (dk_at dksX0_weakest_3 17 rfl rfl)
theorem dX0_weakest_88 : decode cX0_weakest 88 = .ok (.ireturn, 1) := dk_172 (dk_at dksX0_weakest_3 18 rfl rfl)
abbrev cX0_reads : ByteArray := prog_1_method_67_code
def yX0_reads : MethodName := ⟨RX0, "reads", "()I"⟩
def dkwX0_reads_0 : List UInt8 := [42, 182, 1, 138, 153, 0, 12, 42, 180, 0, 94, 3, 46, 167, 0, 4, 2, 172]
abbrev dktX0_reads_0 : List UInt8 := dkwX0_reads_0 ++ []
theorem dksX0_reads_0 : cX0_reads.data.toList.drop 0 = dktX0_reads_0 := by decide +kernel
theorem dX0_reads_0 : decode cX0_reads 0 = .ok (.aload_n 0, 1) := dk_42 (dk_at dksX0_reads_0 0 rfl rfl)
theorem dX0_reads_1 : decode cX0_reads 1 = .ok (.invokevirtual 394, 3) := dk_182 1 138 (dk_at dksX0_reads_0 1 rfl rfl)
theorem dX0_reads_4 : decode cX0_reads 4 = .ok (.ifCond .eq 12, 3) := dk_153 0 12 (dk_at dksX0_reads_0 4 rfl rfl)
theorem dX0_reads_7 : decode cX0_reads 7 = .ok (.aload_n 0, 1) := dk_42 (dk_at dksX0_reads_0 7 rfl rfl)
theorem dX0_reads_8 : decode cX0_reads 8 = .ok (.getfield 94, 3) := dk_180 0 94 (dk_at dksX0_reads_0 8 rfl rfl)
theorem dX0_reads_11 : decode cX0_reads 11 = .ok (.iconst 0, 1) := dk_3 (dk_at dksX0_reads_0 11 rfl rfl)
theorem dX0_reads_12 : decode cX0_reads 12 = .ok (.iaload, 1) := dk_46 (dk_at dksX0_reads_0 12 rfl rfl)
theorem dX0_reads_13 : decode cX0_reads 13 = .ok (.goto 4, 3) := dk_167 0 4 (dk_at dksX0_reads_0 13 rfl rfl)
theorem dX0_reads_16 : decode cX0_reads 16 = .ok (.iconst (-1), 1) := dk_2 (dk_at dksX0_reads_0 16 rfl rfl)
theorem dX0_reads_17 : decode cX0_reads 17 = .ok (.ireturn, 1) := dk_172 (dk_at dksX0_reads_0 17 rfl rfl)
abbrev cX0_laysRead : ByteArray := prog_1_method_66_code
def yX0_laysRead : MethodName := ⟨RX0, "laysRead", "()Z"⟩
def dkwX0_laysRead_3 : List UInt8 := [167, 255, 235, 132, 2, 255, 167, 255, 214, 4, 172]
abbrev dktX0_laysRead_3 : List UInt8 := dkwX0_laysRead_3 ++ []
def dkwX0_laysRead_2 : List UInt8 := [4, 62, 29, 7, 163, 0, 22, 28, 29, 96, 27, 163, 0, 15, 42, 28, 29, 182, 1, 134, 132, 3, 1]
abbrev dktX0_laysRead_2 : List UInt8 := dkwX0_laysRead_2 ++ dktX0_laysRead_3
def dkwX0_laysRead_1 : List UInt8 := [42, 180, 0, 94, 27, 3, 79, 27, 4, 100, 61, 28, 155, 0, 44, 42, 180, 0, 94, 28, 19, 1, 32, 79]
abbrev dktX0_laysRead_1 : List UInt8 := dkwX0_laysRead_1 ++ dktX0_laysRead_2
def dkwX0_laysRead_0 : List UInt8 := [42, 180, 0, 23, 180, 0, 209, 182, 0, 203, 60, 42, 182, 0, 207, 153, 0, 7, 27, 154, 0, 5, 3, 172]
abbrev dktX0_laysRead_0 : List UInt8 := dkwX0_laysRead_0 ++ dktX0_laysRead_1
theorem dksX0_laysRead_0 : cX0_laysRead.data.toList.drop 0 = dktX0_laysRead_0 := by decide +kernel
theorem dksX0_laysRead_1 : cX0_laysRead.data.toList.drop 24 = dktX0_laysRead_1 := dk_seg dksX0_laysRead_0 24 rfl rfl
theorem dksX0_laysRead_2 : cX0_laysRead.data.toList.drop 48 = dktX0_laysRead_2 := dk_seg dksX0_laysRead_1 24 rfl rfl
theorem dksX0_laysRead_3 : cX0_laysRead.data.toList.drop 71 = dktX0_laysRead_3 := dk_seg dksX0_laysRead_2 23 rfl rfl
theorem dX0_laysRead_0 : decode cX0_laysRead 0 = .ok (.aload_n 0, 1) := dk_42 (dk_at dksX0_laysRead_0 0 rfl rfl)
theorem dX0_laysRead_1 : decode cX0_laysRead 1 = .ok (.getfield 23, 3) := dk_180 0 23 (dk_at dksX0_laysRead_0 1 rfl rfl)
theorem dX0_laysRead_4 : decode cX0_laysRead 4 = .ok (.getfield 209, 3) := dk_180 0 209 (dk_at dksX0_laysRead_0 4 rfl rfl)
theorem dX0_laysRead_7 : decode cX0_laysRead 7 = .ok (.invokevirtual 203, 3) := dk_182 0 203 (dk_at dksX0_laysRead_0 7 rfl rfl)
theorem dX0_laysRead_10 : decode cX0_laysRead 10 = .ok (.istore_n 1, 1) := dk_60 (dk_at dksX0_laysRead_0 10 rfl rfl)
theorem dX0_laysRead_11 : decode cX0_laysRead 11 = .ok (.aload_n 0, 1) := dk_42 (dk_at dksX0_laysRead_0 11 rfl rfl)
theorem dX0_laysRead_12 : decode cX0_laysRead 12 = .ok (.invokevirtual 207, 3) := dk_182 0 207 (dk_at dksX0_laysRead_0 12 rfl rfl)
theorem dX0_laysRead_15 : decode cX0_laysRead 15 = .ok (.ifCond .eq 7, 3) := dk_153 0 7 (dk_at dksX0_laysRead_0 15 rfl rfl)
theorem dX0_laysRead_18 : decode cX0_laysRead 18 = .ok (.iload_n 1, 1) := dk_27 (dk_at dksX0_laysRead_0 18 rfl rfl)
theorem dX0_laysRead_19 : decode cX0_laysRead 19 = .ok (.ifCond .ne 5, 3) := dk_154 0 5 (dk_at dksX0_laysRead_0 19 rfl rfl)
theorem dX0_laysRead_22 : decode cX0_laysRead 22 = .ok (.iconst 0, 1) := dk_3 (dk_at dksX0_laysRead_0 22 rfl rfl)
theorem dX0_laysRead_23 : decode cX0_laysRead 23 = .ok (.ireturn, 1) := dk_172 (dk_at dksX0_laysRead_0 23 rfl rfl)
theorem dX0_laysRead_24 : decode cX0_laysRead 24 = .ok (.aload_n 0, 1) := dk_42 (dk_at dksX0_laysRead_1 0 rfl rfl)
theorem dX0_laysRead_25 : decode cX0_laysRead 25 = .ok (.getfield 94, 3) := dk_180 0 94 (dk_at dksX0_laysRead_1 1 rfl rfl)
theorem dX0_laysRead_28 : decode cX0_laysRead 28 = .ok (.iload_n 1, 1) := dk_27 (dk_at dksX0_laysRead_1 4 rfl rfl)
theorem dX0_laysRead_29 : decode cX0_laysRead 29 = .ok (.iconst 0, 1) := dk_3 (dk_at dksX0_laysRead_1 5 rfl rfl)
theorem dX0_laysRead_30 : decode cX0_laysRead 30 = .ok (.iastore, 1) := dk_79 (dk_at dksX0_laysRead_1 6 rfl rfl)
theorem dX0_laysRead_31 : decode cX0_laysRead 31 = .ok (.iload_n 1, 1) := dk_27 (dk_at dksX0_laysRead_1 7 rfl rfl)
theorem dX0_laysRead_32 : decode cX0_laysRead 32 = .ok (.iconst 1, 1) := dk_4 (dk_at dksX0_laysRead_1 8 rfl rfl)
theorem dX0_laysRead_33 : decode cX0_laysRead 33 = .ok (.isub, 1) := dk_100 (dk_at dksX0_laysRead_1 9 rfl rfl)
theorem dX0_laysRead_34 : decode cX0_laysRead 34 = .ok (.istore_n 2, 1) := dk_61 (dk_at dksX0_laysRead_1 10 rfl rfl)
theorem dX0_laysRead_35 : decode cX0_laysRead 35 = .ok (.iload_n 2, 1) := dk_28 (dk_at dksX0_laysRead_1 11 rfl rfl)
theorem dX0_laysRead_36 : decode cX0_laysRead 36 = .ok (.ifCond .lt 44, 3) := dk_155 0 44 (dk_at dksX0_laysRead_1 12 rfl rfl)
theorem dX0_laysRead_39 : decode cX0_laysRead 39 = .ok (.aload_n 0, 1) := dk_42 (dk_at dksX0_laysRead_1 15 rfl rfl)
theorem dX0_laysRead_40 : decode cX0_laysRead 40 = .ok (.getfield 94, 3) := dk_180 0 94 (dk_at dksX0_laysRead_1 16 rfl rfl)
theorem dX0_laysRead_43 : decode cX0_laysRead 43 = .ok (.iload_n 2, 1) := dk_28 (dk_at dksX0_laysRead_1 19 rfl rfl)
theorem dX0_laysRead_44 : decode cX0_laysRead 44 = .ok (.ldc_w 288, 3) := dk_19 1 32 (dk_at dksX0_laysRead_1 20 rfl rfl)
theorem dX0_laysRead_47 : decode cX0_laysRead 47 = .ok (.iastore, 1) := dk_79 (dk_at dksX0_laysRead_1 23 rfl rfl)
theorem dX0_laysRead_48 : decode cX0_laysRead 48 = .ok (.iconst 1, 1) := dk_4 (dk_at dksX0_laysRead_2 0 rfl rfl)
theorem dX0_laysRead_49 : decode cX0_laysRead 49 = .ok (.istore_n 3, 1) := dk_62 (dk_at dksX0_laysRead_2 1 rfl rfl)
theorem dX0_laysRead_50 : decode cX0_laysRead 50 = .ok (.iload_n 3, 1) := dk_29 (dk_at dksX0_laysRead_2 2 rfl rfl)
theorem dX0_laysRead_51 : decode cX0_laysRead 51 = .ok (.iconst 4, 1) := dk_7 (dk_at dksX0_laysRead_2 3 rfl rfl)
theorem dX0_laysRead_52 : decode cX0_laysRead 52 = .ok (.if_icmp .gt 22, 3) := dk_163 0 22 (dk_at dksX0_laysRead_2 4 rfl rfl)
theorem dX0_laysRead_55 : decode cX0_laysRead 55 = .ok (.iload_n 2, 1) := dk_28 (dk_at dksX0_laysRead_2 7 rfl rfl)
theorem dX0_laysRead_56 : decode cX0_laysRead 56 = .ok (.iload_n 3, 1) := dk_29 (dk_at dksX0_laysRead_2 8 rfl rfl)
theorem dX0_laysRead_57 : decode cX0_laysRead 57 = .ok (.iadd, 1) := dk_96 (dk_at dksX0_laysRead_2 9 rfl rfl)
theorem dX0_laysRead_58 : decode cX0_laysRead 58 = .ok (.iload_n 1, 1) := dk_27 (dk_at dksX0_laysRead_2 10 rfl rfl)
theorem dX0_laysRead_59 : decode cX0_laysRead 59 = .ok (.if_icmp .gt 15, 3) := dk_163 0 15 (dk_at dksX0_laysRead_2 11 rfl rfl)
theorem dX0_laysRead_62 : decode cX0_laysRead 62 = .ok (.aload_n 0, 1) := dk_42 (dk_at dksX0_laysRead_2 14 rfl rfl)
theorem dX0_laysRead_63 : decode cX0_laysRead 63 = .ok (.iload_n 2, 1) := dk_28 (dk_at dksX0_laysRead_2 15 rfl rfl)
theorem dX0_laysRead_64 : decode cX0_laysRead 64 = .ok (.iload_n 3, 1) := dk_29 (dk_at dksX0_laysRead_2 16 rfl rfl)
theorem dX0_laysRead_65 : decode cX0_laysRead 65 = .ok (.invokevirtual 390, 3) := dk_182 1 134 (dk_at dksX0_laysRead_2 17 rfl rfl)
theorem dX0_laysRead_68 : decode cX0_laysRead 68 = .ok (.iinc 3 1, 3) := dk_132 3 1 (dk_at dksX0_laysRead_2 20 rfl rfl)
theorem dX0_laysRead_71 : decode cX0_laysRead 71 = .ok (.goto (-21), 3) := dk_167 255 235 (dk_at dksX0_laysRead_3 0 rfl rfl)
theorem dX0_laysRead_74 : decode cX0_laysRead 74 = .ok (.iinc 2 (-1), 3) := dk_132 2 255 (dk_at dksX0_laysRead_3 3 rfl rfl)
theorem dX0_laysRead_77 : decode cX0_laysRead 77 = .ok (.goto (-42), 3) := dk_167 255 214 (dk_at dksX0_laysRead_3 6 rfl rfl)
theorem dX0_laysRead_80 : decode cX0_laysRead 80 = .ok (.iconst 1, 1) := dk_4 (dk_at dksX0_laysRead_3 9 rfl rfl)
theorem dX0_laysRead_81 : decode cX0_laysRead 81 = .ok (.ireturn, 1) := dk_172 (dk_at dksX0_laysRead_3 10 rfl rfl)
abbrev cX0_laysRow : ByteArray := prog_1_method_65_code
def yX0_laysRow : MethodName := ⟨RX0, "laysRow", "(II)V"⟩
def dkwX0_laysRow_5 : List UInt8 := [79, 42, 180, 0, 103, 27, 29, 79, 177]
abbrev dktX0_laysRow_5 : List UInt8 := dkwX0_laysRow_5 ++ []
def dkwX0_laysRow_4 : List UInt8 := [27, 28, 96, 46, 96, 79, 42, 180, 0, 97, 27, 28, 79, 42, 180, 0, 100, 27, 42, 180, 0, 88, 3, 46]
abbrev dktX0_laysRow_4 : List UInt8 := dkwX0_laysRow_4 ++ dktX0_laysRow_5
def dkwX0_laysRow_3 : List UInt8 := [28, 96, 46, 96, 42, 180, 0, 94, 27, 46, 161, 0, 4, 177, 42, 180, 0, 94, 27, 29, 42, 180, 0, 94]
abbrev dktX0_laysRow_3 : List UInt8 := dkwX0_laysRow_3 ++ dktX0_laysRow_4
def dkwX0_laysRow_2 : List UInt8 := [180, 0, 106, 182, 1, 107, 42, 180, 0, 85, 42, 180, 0, 88, 3, 46, 46, 62, 29, 42, 180, 0, 94, 27]
abbrev dktX0_laysRow_2 : List UInt8 := dkwX0_laysRow_2 ++ dktX0_laysRow_3
def dkwX0_laysRow_1 : List UInt8 := [180, 0, 209, 29, 182, 0, 224, 192, 0, 251, 182, 1, 124, 87, 132, 3, 1, 167, 255, 224, 42, 42]
abbrev dktX0_laysRow_1 : List UInt8 := dkwX0_laysRow_1 ++ dktX0_laysRow_2
def dkwX0_laysRow_0 : List UInt8 := [42, 180, 0, 106, 182, 0, 186, 27, 62, 29, 27, 28, 96, 162, 0, 31, 42, 180, 0, 106, 42, 180, 0, 23]
abbrev dktX0_laysRow_0 : List UInt8 := dkwX0_laysRow_0 ++ dktX0_laysRow_1
theorem dksX0_laysRow_0 : cX0_laysRow.data.toList.drop 0 = dktX0_laysRow_0 := by decide +kernel
theorem dksX0_laysRow_1 : cX0_laysRow.data.toList.drop 24 = dktX0_laysRow_1 := dk_seg dksX0_laysRow_0 24 rfl rfl
theorem dksX0_laysRow_2 : cX0_laysRow.data.toList.drop 46 = dktX0_laysRow_2 := dk_seg dksX0_laysRow_1 22 rfl rfl
theorem dksX0_laysRow_3 : cX0_laysRow.data.toList.drop 70 = dktX0_laysRow_3 := dk_seg dksX0_laysRow_2 24 rfl rfl
theorem dksX0_laysRow_4 : cX0_laysRow.data.toList.drop 94 = dktX0_laysRow_4 := dk_seg dksX0_laysRow_3 24 rfl rfl
theorem dksX0_laysRow_5 : cX0_laysRow.data.toList.drop 118 = dktX0_laysRow_5 := dk_seg dksX0_laysRow_4 24 rfl rfl
theorem dX0_laysRow_0 : decode cX0_laysRow 0 = .ok (.aload_n 0, 1) := dk_42 (dk_at dksX0_laysRow_0 0 rfl rfl)
theorem dX0_laysRow_1 : decode cX0_laysRow 1 = .ok (.getfield 106, 3) := dk_180 0 106 (dk_at dksX0_laysRow_0 1 rfl rfl)
theorem dX0_laysRow_4 : decode cX0_laysRow 4 = .ok (.invokevirtual 186, 3) := dk_182 0 186 (dk_at dksX0_laysRow_0 4 rfl rfl)
theorem dX0_laysRow_7 : decode cX0_laysRow 7 = .ok (.iload_n 1, 1) := dk_27 (dk_at dksX0_laysRow_0 7 rfl rfl)
theorem dX0_laysRow_8 : decode cX0_laysRow 8 = .ok (.istore_n 3, 1) := dk_62 (dk_at dksX0_laysRow_0 8 rfl rfl)
theorem dX0_laysRow_9 : decode cX0_laysRow 9 = .ok (.iload_n 3, 1) := dk_29 (dk_at dksX0_laysRow_0 9 rfl rfl)
theorem dX0_laysRow_10 : decode cX0_laysRow 10 = .ok (.iload_n 1, 1) := dk_27 (dk_at dksX0_laysRow_0 10 rfl rfl)
theorem dX0_laysRow_11 : decode cX0_laysRow 11 = .ok (.iload_n 2, 1) := dk_28 (dk_at dksX0_laysRow_0 11 rfl rfl)
theorem dX0_laysRow_12 : decode cX0_laysRow 12 = .ok (.iadd, 1) := dk_96 (dk_at dksX0_laysRow_0 12 rfl rfl)
theorem dX0_laysRow_13 : decode cX0_laysRow 13 = .ok (.if_icmp .ge 31, 3) := dk_162 0 31 (dk_at dksX0_laysRow_0 13 rfl rfl)
theorem dX0_laysRow_16 : decode cX0_laysRow 16 = .ok (.aload_n 0, 1) := dk_42 (dk_at dksX0_laysRow_0 16 rfl rfl)
theorem dX0_laysRow_17 : decode cX0_laysRow 17 = .ok (.getfield 106, 3) := dk_180 0 106 (dk_at dksX0_laysRow_0 17 rfl rfl)
theorem dX0_laysRow_20 : decode cX0_laysRow 20 = .ok (.aload_n 0, 1) := dk_42 (dk_at dksX0_laysRow_0 20 rfl rfl)
theorem dX0_laysRow_21 : decode cX0_laysRow 21 = .ok (.getfield 23, 3) := dk_180 0 23 (dk_at dksX0_laysRow_0 21 rfl rfl)
theorem dX0_laysRow_24 : decode cX0_laysRow 24 = .ok (.getfield 209, 3) := dk_180 0 209 (dk_at dksX0_laysRow_1 0 rfl rfl)
theorem dX0_laysRow_27 : decode cX0_laysRow 27 = .ok (.iload_n 3, 1) := dk_29 (dk_at dksX0_laysRow_1 3 rfl rfl)
theorem dX0_laysRow_28 : decode cX0_laysRow 28 = .ok (.invokevirtual 224, 3) := dk_182 0 224 (dk_at dksX0_laysRow_1 4 rfl rfl)
theorem dX0_laysRow_31 : decode cX0_laysRow 31 = .ok (.checkcast 251, 3) := dk_192 0 251 (dk_at dksX0_laysRow_1 7 rfl rfl)
theorem dX0_laysRow_34 : decode cX0_laysRow 34 = .ok (.invokevirtual 380, 3) := dk_182 1 124 (dk_at dksX0_laysRow_1 10 rfl rfl)
theorem dX0_laysRow_37 : decode cX0_laysRow 37 = .ok (.pop, 1) := dk_87 (dk_at dksX0_laysRow_1 13 rfl rfl)
theorem dX0_laysRow_38 : decode cX0_laysRow 38 = .ok (.iinc 3 1, 3) := dk_132 3 1 (dk_at dksX0_laysRow_1 14 rfl rfl)
theorem dX0_laysRow_41 : decode cX0_laysRow 41 = .ok (.goto (-32), 3) := dk_167 255 224 (dk_at dksX0_laysRow_1 17 rfl rfl)
theorem dX0_laysRow_44 : decode cX0_laysRow 44 = .ok (.aload_n 0, 1) := dk_42 (dk_at dksX0_laysRow_1 20 rfl rfl)
theorem dX0_laysRow_45 : decode cX0_laysRow 45 = .ok (.aload_n 0, 1) := dk_42 (dk_at dksX0_laysRow_1 21 rfl rfl)
theorem dX0_laysRow_46 : decode cX0_laysRow 46 = .ok (.getfield 106, 3) := dk_180 0 106 (dk_at dksX0_laysRow_2 0 rfl rfl)
theorem dX0_laysRow_49 : decode cX0_laysRow 49 = .ok (.invokevirtual 363, 3) := dk_182 1 107 (dk_at dksX0_laysRow_2 3 rfl rfl)
theorem dX0_laysRow_52 : decode cX0_laysRow 52 = .ok (.aload_n 0, 1) := dk_42 (dk_at dksX0_laysRow_2 6 rfl rfl)
theorem dX0_laysRow_53 : decode cX0_laysRow 53 = .ok (.getfield 85, 3) := dk_180 0 85 (dk_at dksX0_laysRow_2 7 rfl rfl)
theorem dX0_laysRow_56 : decode cX0_laysRow 56 = .ok (.aload_n 0, 1) := dk_42 (dk_at dksX0_laysRow_2 10 rfl rfl)
theorem dX0_laysRow_57 : decode cX0_laysRow 57 = .ok (.getfield 88, 3) := dk_180 0 88 (dk_at dksX0_laysRow_2 11 rfl rfl)
theorem dX0_laysRow_60 : decode cX0_laysRow 60 = .ok (.iconst 0, 1) := dk_3 (dk_at dksX0_laysRow_2 14 rfl rfl)
theorem dX0_laysRow_61 : decode cX0_laysRow 61 = .ok (.iaload, 1) := dk_46 (dk_at dksX0_laysRow_2 15 rfl rfl)
theorem dX0_laysRow_62 : decode cX0_laysRow 62 = .ok (.iaload, 1) := dk_46 (dk_at dksX0_laysRow_2 16 rfl rfl)
theorem dX0_laysRow_63 : decode cX0_laysRow 63 = .ok (.istore_n 3, 1) := dk_62 (dk_at dksX0_laysRow_2 17 rfl rfl)
theorem dX0_laysRow_64 : decode cX0_laysRow 64 = .ok (.iload_n 3, 1) := dk_29 (dk_at dksX0_laysRow_2 18 rfl rfl)
theorem dX0_laysRow_65 : decode cX0_laysRow 65 = .ok (.aload_n 0, 1) := dk_42 (dk_at dksX0_laysRow_2 19 rfl rfl)
theorem dX0_laysRow_66 : decode cX0_laysRow 66 = .ok (.getfield 94, 3) := dk_180 0 94 (dk_at dksX0_laysRow_2 20 rfl rfl)
theorem dX0_laysRow_69 : decode cX0_laysRow 69 = .ok (.iload_n 1, 1) := dk_27 (dk_at dksX0_laysRow_2 23 rfl rfl)
theorem dX0_laysRow_70 : decode cX0_laysRow 70 = .ok (.iload_n 2, 1) := dk_28 (dk_at dksX0_laysRow_3 0 rfl rfl)
theorem dX0_laysRow_71 : decode cX0_laysRow 71 = .ok (.iadd, 1) := dk_96 (dk_at dksX0_laysRow_3 1 rfl rfl)
theorem dX0_laysRow_72 : decode cX0_laysRow 72 = .ok (.iaload, 1) := dk_46 (dk_at dksX0_laysRow_3 2 rfl rfl)
theorem dX0_laysRow_73 : decode cX0_laysRow 73 = .ok (.iadd, 1) := dk_96 (dk_at dksX0_laysRow_3 3 rfl rfl)
theorem dX0_laysRow_74 : decode cX0_laysRow 74 = .ok (.aload_n 0, 1) := dk_42 (dk_at dksX0_laysRow_3 4 rfl rfl)
theorem dX0_laysRow_75 : decode cX0_laysRow 75 = .ok (.getfield 94, 3) := dk_180 0 94 (dk_at dksX0_laysRow_3 5 rfl rfl)
theorem dX0_laysRow_78 : decode cX0_laysRow 78 = .ok (.iload_n 1, 1) := dk_27 (dk_at dksX0_laysRow_3 8 rfl rfl)
theorem dX0_laysRow_79 : decode cX0_laysRow 79 = .ok (.iaload, 1) := dk_46 (dk_at dksX0_laysRow_3 9 rfl rfl)
theorem dX0_laysRow_80 : decode cX0_laysRow 80 = .ok (.if_icmp .lt 4, 3) := dk_161 0 4 (dk_at dksX0_laysRow_3 10 rfl rfl)
theorem dX0_laysRow_83 : decode cX0_laysRow 83 = .ok (.return_, 1) := dk_177 (dk_at dksX0_laysRow_3 13 rfl rfl)
theorem dX0_laysRow_84 : decode cX0_laysRow 84 = .ok (.aload_n 0, 1) := dk_42 (dk_at dksX0_laysRow_3 14 rfl rfl)
theorem dX0_laysRow_85 : decode cX0_laysRow 85 = .ok (.getfield 94, 3) := dk_180 0 94 (dk_at dksX0_laysRow_3 15 rfl rfl)
theorem dX0_laysRow_88 : decode cX0_laysRow 88 = .ok (.iload_n 1, 1) := dk_27 (dk_at dksX0_laysRow_3 18 rfl rfl)
theorem dX0_laysRow_89 : decode cX0_laysRow 89 = .ok (.iload_n 3, 1) := dk_29 (dk_at dksX0_laysRow_3 19 rfl rfl)
theorem dX0_laysRow_90 : decode cX0_laysRow 90 = .ok (.aload_n 0, 1) := dk_42 (dk_at dksX0_laysRow_3 20 rfl rfl)
theorem dX0_laysRow_91 : decode cX0_laysRow 91 = .ok (.getfield 94, 3) := dk_180 0 94 (dk_at dksX0_laysRow_3 21 rfl rfl)
theorem dX0_laysRow_94 : decode cX0_laysRow 94 = .ok (.iload_n 1, 1) := dk_27 (dk_at dksX0_laysRow_4 0 rfl rfl)
theorem dX0_laysRow_95 : decode cX0_laysRow 95 = .ok (.iload_n 2, 1) := dk_28 (dk_at dksX0_laysRow_4 1 rfl rfl)
theorem dX0_laysRow_96 : decode cX0_laysRow 96 = .ok (.iadd, 1) := dk_96 (dk_at dksX0_laysRow_4 2 rfl rfl)
theorem dX0_laysRow_97 : decode cX0_laysRow 97 = .ok (.iaload, 1) := dk_46 (dk_at dksX0_laysRow_4 3 rfl rfl)
theorem dX0_laysRow_98 : decode cX0_laysRow 98 = .ok (.iadd, 1) := dk_96 (dk_at dksX0_laysRow_4 4 rfl rfl)
theorem dX0_laysRow_99 : decode cX0_laysRow 99 = .ok (.iastore, 1) := dk_79 (dk_at dksX0_laysRow_4 5 rfl rfl)
theorem dX0_laysRow_100 : decode cX0_laysRow 100 = .ok (.aload_n 0, 1) := dk_42 (dk_at dksX0_laysRow_4 6 rfl rfl)
theorem dX0_laysRow_101 : decode cX0_laysRow 101 = .ok (.getfield 97, 3) := dk_180 0 97 (dk_at dksX0_laysRow_4 7 rfl rfl)
theorem dX0_laysRow_104 : decode cX0_laysRow 104 = .ok (.iload_n 1, 1) := dk_27 (dk_at dksX0_laysRow_4 10 rfl rfl)
theorem dX0_laysRow_105 : decode cX0_laysRow 105 = .ok (.iload_n 2, 1) := dk_28 (dk_at dksX0_laysRow_4 11 rfl rfl)
theorem dX0_laysRow_106 : decode cX0_laysRow 106 = .ok (.iastore, 1) := dk_79 (dk_at dksX0_laysRow_4 12 rfl rfl)
theorem dX0_laysRow_107 : decode cX0_laysRow 107 = .ok (.aload_n 0, 1) := dk_42 (dk_at dksX0_laysRow_4 13 rfl rfl)
theorem dX0_laysRow_108 : decode cX0_laysRow 108 = .ok (.getfield 100, 3) := dk_180 0 100 (dk_at dksX0_laysRow_4 14 rfl rfl)
theorem dX0_laysRow_111 : decode cX0_laysRow 111 = .ok (.iload_n 1, 1) := dk_27 (dk_at dksX0_laysRow_4 17 rfl rfl)
theorem dX0_laysRow_112 : decode cX0_laysRow 112 = .ok (.aload_n 0, 1) := dk_42 (dk_at dksX0_laysRow_4 18 rfl rfl)
theorem dX0_laysRow_113 : decode cX0_laysRow 113 = .ok (.getfield 88, 3) := dk_180 0 88 (dk_at dksX0_laysRow_4 19 rfl rfl)
theorem dX0_laysRow_116 : decode cX0_laysRow 116 = .ok (.iconst 0, 1) := dk_3 (dk_at dksX0_laysRow_4 22 rfl rfl)
theorem dX0_laysRow_117 : decode cX0_laysRow 117 = .ok (.iaload, 1) := dk_46 (dk_at dksX0_laysRow_4 23 rfl rfl)
theorem dX0_laysRow_118 : decode cX0_laysRow 118 = .ok (.iastore, 1) := dk_79 (dk_at dksX0_laysRow_5 0 rfl rfl)
theorem dX0_laysRow_119 : decode cX0_laysRow 119 = .ok (.aload_n 0, 1) := dk_42 (dk_at dksX0_laysRow_5 1 rfl rfl)
theorem dX0_laysRow_120 : decode cX0_laysRow 120 = .ok (.getfield 103, 3) := dk_180 0 103 (dk_at dksX0_laysRow_5 2 rfl rfl)
theorem dX0_laysRow_123 : decode cX0_laysRow 123 = .ok (.iload_n 1, 1) := dk_27 (dk_at dksX0_laysRow_5 5 rfl rfl)
theorem dX0_laysRow_124 : decode cX0_laysRow 124 = .ok (.iload_n 3, 1) := dk_29 (dk_at dksX0_laysRow_5 6 rfl rfl)
theorem dX0_laysRow_125 : decode cX0_laysRow 125 = .ok (.iastore, 1) := dk_79 (dk_at dksX0_laysRow_5 7 rfl rfl)
theorem dX0_laysRow_126 : decode cX0_laysRow 126 = .ok (.return_, 1) := dk_177 (dk_at dksX0_laysRow_5 8 rfl rfl)
abbrev cX0_read : ByteArray := prog_1_method_68_code
def yX0_read : MethodName := ⟨RX0, "read", "(II)I"⟩
def dkwX0_read_4 : List UInt8 := [180, 0, 97, 21, 4, 46, 96, 54, 4, 167, 255, 175, 27, 2, 160, 0, 7, 29, 167, 0, 4, 2, 172]
abbrev dktX0_read_4 : List UInt8 := dkwX0_read_4 ++ []
def dkwX0_read_3 : List UInt8 := [28, 5, 160, 0, 13, 42, 180, 0, 103, 21, 4, 46, 167, 0, 4, 2, 172, 132, 3, 1, 21, 4, 42]
abbrev dktX0_read_3 : List UInt8 := dkwX0_read_3 ++ dktX0_read_4
def dkwX0_read_2 : List UInt8 := [180, 0, 97, 21, 4, 46, 167, 0, 34, 28, 4, 160, 0, 13, 42, 180, 0, 100, 21, 4, 46, 167, 0, 19]
abbrev dktX0_read_2 : List UInt8 := dkwX0_read_2 ++ dktX0_read_3
def dkwX0_read_1 : List UInt8 := [180, 0, 23, 180, 0, 209, 182, 0, 203, 162, 0, 72, 29, 27, 160, 0, 49, 28, 154, 0, 13, 42]
abbrev dktX0_read_1 : List UInt8 := dkwX0_read_1 ++ dktX0_read_2
def dkwX0_read_0 : List UInt8 := [27, 2, 161, 0, 10, 42, 182, 1, 138, 154, 0, 5, 2, 172, 3, 62, 3, 54, 4, 21, 4, 42]
abbrev dktX0_read_0 : List UInt8 := dkwX0_read_0 ++ dktX0_read_1
theorem dksX0_read_0 : cX0_read.data.toList.drop 0 = dktX0_read_0 := by decide +kernel
theorem dksX0_read_1 : cX0_read.data.toList.drop 22 = dktX0_read_1 := dk_seg dksX0_read_0 22 rfl rfl
theorem dksX0_read_2 : cX0_read.data.toList.drop 44 = dktX0_read_2 := dk_seg dksX0_read_1 22 rfl rfl
theorem dksX0_read_3 : cX0_read.data.toList.drop 68 = dktX0_read_3 := dk_seg dksX0_read_2 24 rfl rfl
theorem dksX0_read_4 : cX0_read.data.toList.drop 91 = dktX0_read_4 := dk_seg dksX0_read_3 23 rfl rfl
theorem dX0_read_0 : decode cX0_read 0 = .ok (.iload_n 1, 1) := dk_27 (dk_at dksX0_read_0 0 rfl rfl)
theorem dX0_read_1 : decode cX0_read 1 = .ok (.iconst (-1), 1) := dk_2 (dk_at dksX0_read_0 1 rfl rfl)
theorem dX0_read_2 : decode cX0_read 2 = .ok (.if_icmp .lt 10, 3) := dk_161 0 10 (dk_at dksX0_read_0 2 rfl rfl)
theorem dX0_read_5 : decode cX0_read 5 = .ok (.aload_n 0, 1) := dk_42 (dk_at dksX0_read_0 5 rfl rfl)
theorem dX0_read_6 : decode cX0_read 6 = .ok (.invokevirtual 394, 3) := dk_182 1 138 (dk_at dksX0_read_0 6 rfl rfl)
theorem dX0_read_9 : decode cX0_read 9 = .ok (.ifCond .ne 5, 3) := dk_154 0 5 (dk_at dksX0_read_0 9 rfl rfl)
theorem dX0_read_12 : decode cX0_read 12 = .ok (.iconst (-1), 1) := dk_2 (dk_at dksX0_read_0 12 rfl rfl)
theorem dX0_read_13 : decode cX0_read 13 = .ok (.ireturn, 1) := dk_172 (dk_at dksX0_read_0 13 rfl rfl)
theorem dX0_read_14 : decode cX0_read 14 = .ok (.iconst 0, 1) := dk_3 (dk_at dksX0_read_0 14 rfl rfl)
theorem dX0_read_15 : decode cX0_read 15 = .ok (.istore_n 3, 1) := dk_62 (dk_at dksX0_read_0 15 rfl rfl)
theorem dX0_read_16 : decode cX0_read 16 = .ok (.iconst 0, 1) := dk_3 (dk_at dksX0_read_0 16 rfl rfl)
theorem dX0_read_17 : decode cX0_read 17 = .ok (.istore 4, 2) := dk_54 4 (dk_at dksX0_read_0 17 rfl rfl)
theorem dX0_read_19 : decode cX0_read 19 = .ok (.iload 4, 2) := dk_21 4 (dk_at dksX0_read_0 19 rfl rfl)
theorem dX0_read_21 : decode cX0_read 21 = .ok (.aload_n 0, 1) := dk_42 (dk_at dksX0_read_0 21 rfl rfl)
theorem dX0_read_22 : decode cX0_read 22 = .ok (.getfield 23, 3) := dk_180 0 23 (dk_at dksX0_read_1 0 rfl rfl)
theorem dX0_read_25 : decode cX0_read 25 = .ok (.getfield 209, 3) := dk_180 0 209 (dk_at dksX0_read_1 3 rfl rfl)
theorem dX0_read_28 : decode cX0_read 28 = .ok (.invokevirtual 203, 3) := dk_182 0 203 (dk_at dksX0_read_1 6 rfl rfl)
theorem dX0_read_31 : decode cX0_read 31 = .ok (.if_icmp .ge 72, 3) := dk_162 0 72 (dk_at dksX0_read_1 9 rfl rfl)
theorem dX0_read_34 : decode cX0_read 34 = .ok (.iload_n 3, 1) := dk_29 (dk_at dksX0_read_1 12 rfl rfl)
theorem dX0_read_35 : decode cX0_read 35 = .ok (.iload_n 1, 1) := dk_27 (dk_at dksX0_read_1 13 rfl rfl)
theorem dX0_read_36 : decode cX0_read 36 = .ok (.if_icmp .ne 49, 3) := dk_160 0 49 (dk_at dksX0_read_1 14 rfl rfl)
theorem dX0_read_39 : decode cX0_read 39 = .ok (.iload_n 2, 1) := dk_28 (dk_at dksX0_read_1 17 rfl rfl)
theorem dX0_read_40 : decode cX0_read 40 = .ok (.ifCond .ne 13, 3) := dk_154 0 13 (dk_at dksX0_read_1 18 rfl rfl)
theorem dX0_read_43 : decode cX0_read 43 = .ok (.aload_n 0, 1) := dk_42 (dk_at dksX0_read_1 21 rfl rfl)
theorem dX0_read_44 : decode cX0_read 44 = .ok (.getfield 97, 3) := dk_180 0 97 (dk_at dksX0_read_2 0 rfl rfl)
theorem dX0_read_47 : decode cX0_read 47 = .ok (.iload 4, 2) := dk_21 4 (dk_at dksX0_read_2 3 rfl rfl)
theorem dX0_read_49 : decode cX0_read 49 = .ok (.iaload, 1) := dk_46 (dk_at dksX0_read_2 5 rfl rfl)
theorem dX0_read_50 : decode cX0_read 50 = .ok (.goto 34, 3) := dk_167 0 34 (dk_at dksX0_read_2 6 rfl rfl)
theorem dX0_read_53 : decode cX0_read 53 = .ok (.iload_n 2, 1) := dk_28 (dk_at dksX0_read_2 9 rfl rfl)
theorem dX0_read_54 : decode cX0_read 54 = .ok (.iconst 1, 1) := dk_4 (dk_at dksX0_read_2 10 rfl rfl)
theorem dX0_read_55 : decode cX0_read 55 = .ok (.if_icmp .ne 13, 3) := dk_160 0 13 (dk_at dksX0_read_2 11 rfl rfl)
theorem dX0_read_58 : decode cX0_read 58 = .ok (.aload_n 0, 1) := dk_42 (dk_at dksX0_read_2 14 rfl rfl)
theorem dX0_read_59 : decode cX0_read 59 = .ok (.getfield 100, 3) := dk_180 0 100 (dk_at dksX0_read_2 15 rfl rfl)
theorem dX0_read_62 : decode cX0_read 62 = .ok (.iload 4, 2) := dk_21 4 (dk_at dksX0_read_2 18 rfl rfl)
theorem dX0_read_64 : decode cX0_read 64 = .ok (.iaload, 1) := dk_46 (dk_at dksX0_read_2 20 rfl rfl)
theorem dX0_read_65 : decode cX0_read 65 = .ok (.goto 19, 3) := dk_167 0 19 (dk_at dksX0_read_2 21 rfl rfl)
theorem dX0_read_68 : decode cX0_read 68 = .ok (.iload_n 2, 1) := dk_28 (dk_at dksX0_read_3 0 rfl rfl)
theorem dX0_read_69 : decode cX0_read 69 = .ok (.iconst 2, 1) := dk_5 (dk_at dksX0_read_3 1 rfl rfl)
theorem dX0_read_70 : decode cX0_read 70 = .ok (.if_icmp .ne 13, 3) := dk_160 0 13 (dk_at dksX0_read_3 2 rfl rfl)
theorem dX0_read_73 : decode cX0_read 73 = .ok (.aload_n 0, 1) := dk_42 (dk_at dksX0_read_3 5 rfl rfl)
theorem dX0_read_74 : decode cX0_read 74 = .ok (.getfield 103, 3) := dk_180 0 103 (dk_at dksX0_read_3 6 rfl rfl)
theorem dX0_read_77 : decode cX0_read 77 = .ok (.iload 4, 2) := dk_21 4 (dk_at dksX0_read_3 9 rfl rfl)
theorem dX0_read_79 : decode cX0_read 79 = .ok (.iaload, 1) := dk_46 (dk_at dksX0_read_3 11 rfl rfl)
theorem dX0_read_80 : decode cX0_read 80 = .ok (.goto 4, 3) := dk_167 0 4 (dk_at dksX0_read_3 12 rfl rfl)
theorem dX0_read_83 : decode cX0_read 83 = .ok (.iconst (-1), 1) := dk_2 (dk_at dksX0_read_3 15 rfl rfl)
theorem dX0_read_84 : decode cX0_read 84 = .ok (.ireturn, 1) := dk_172 (dk_at dksX0_read_3 16 rfl rfl)
theorem dX0_read_85 : decode cX0_read 85 = .ok (.iinc 3 1, 3) := dk_132 3 1 (dk_at dksX0_read_3 17 rfl rfl)
theorem dX0_read_88 : decode cX0_read 88 = .ok (.iload 4, 2) := dk_21 4 (dk_at dksX0_read_3 20 rfl rfl)
theorem dX0_read_90 : decode cX0_read 90 = .ok (.aload_n 0, 1) := dk_42 (dk_at dksX0_read_3 22 rfl rfl)
theorem dX0_read_91 : decode cX0_read 91 = .ok (.getfield 97, 3) := dk_180 0 97 (dk_at dksX0_read_4 0 rfl rfl)
theorem dX0_read_94 : decode cX0_read 94 = .ok (.iload 4, 2) := dk_21 4 (dk_at dksX0_read_4 3 rfl rfl)
theorem dX0_read_96 : decode cX0_read 96 = .ok (.iaload, 1) := dk_46 (dk_at dksX0_read_4 5 rfl rfl)
theorem dX0_read_97 : decode cX0_read 97 = .ok (.iadd, 1) := dk_96 (dk_at dksX0_read_4 6 rfl rfl)
theorem dX0_read_98 : decode cX0_read 98 = .ok (.istore 4, 2) := dk_54 4 (dk_at dksX0_read_4 7 rfl rfl)
theorem dX0_read_100 : decode cX0_read 100 = .ok (.goto (-81), 3) := dk_167 255 175 (dk_at dksX0_read_4 9 rfl rfl)
theorem dX0_read_103 : decode cX0_read 103 = .ok (.iload_n 1, 1) := dk_27 (dk_at dksX0_read_4 12 rfl rfl)
theorem dX0_read_104 : decode cX0_read 104 = .ok (.iconst (-1), 1) := dk_2 (dk_at dksX0_read_4 13 rfl rfl)
theorem dX0_read_105 : decode cX0_read 105 = .ok (.if_icmp .ne 7, 3) := dk_160 0 7 (dk_at dksX0_read_4 14 rfl rfl)
theorem dX0_read_108 : decode cX0_read 108 = .ok (.iload_n 3, 1) := dk_29 (dk_at dksX0_read_4 17 rfl rfl)
theorem dX0_read_109 : decode cX0_read 109 = .ok (.goto 4, 3) := dk_167 0 4 (dk_at dksX0_read_4 18 rfl rfl)
theorem dX0_read_112 : decode cX0_read 112 = .ok (.iconst (-1), 1) := dk_2 (dk_at dksX0_read_4 21 rfl rfl)
theorem dX0_read_113 : decode cX0_read 113 = .ok (.ireturn, 1) := dk_172 (dk_at dksX0_read_4 22 rfl rfl)
abbrev cX0_tell : ByteArray := prog_1_method_69_code
def yX0_tell : MethodName := ⟨RX0, "tell", "(I)I"⟩
def dkwX0_tell_2 : List UInt8 := [89, 27, 42, 180, 0, 23, 180, 0, 209, 183, 1, 143, 182, 1, 124, 87, 42, 180, 0, 109, 182, 0, 203, 172]
abbrev dktX0_tell_2 : List UInt8 := dkwX0_tell_2 ++ []
def dkwX0_tell_1 : List UInt8 := [180, 0, 109, 182, 0, 203, 16, 8, 160, 0, 9, 42, 8, 182, 0, 150, 172, 42, 180, 0, 109, 187, 1, 141]
abbrev dktX0_tell_1 : List UInt8 := dkwX0_tell_1 ++ dktX0_tell_2
def dkwX0_tell_0 : List UInt8 := [42, 27, 182, 0, 219, 153, 0, 28, 42, 180, 0, 23, 180, 0, 209, 182, 1, 130, 154, 0, 15, 42]
abbrev dktX0_tell_0 : List UInt8 := dkwX0_tell_0 ++ dktX0_tell_1
theorem dksX0_tell_0 : cX0_tell.data.toList.drop 0 = dktX0_tell_0 := by decide +kernel
theorem dksX0_tell_1 : cX0_tell.data.toList.drop 22 = dktX0_tell_1 := dk_seg dksX0_tell_0 22 rfl rfl
theorem dksX0_tell_2 : cX0_tell.data.toList.drop 46 = dktX0_tell_2 := dk_seg dksX0_tell_1 24 rfl rfl
theorem dX0_tell_0 : decode cX0_tell 0 = .ok (.aload_n 0, 1) := dk_42 (dk_at dksX0_tell_0 0 rfl rfl)
theorem dX0_tell_1 : decode cX0_tell 1 = .ok (.iload_n 1, 1) := dk_27 (dk_at dksX0_tell_0 1 rfl rfl)
theorem dX0_tell_2 : decode cX0_tell 2 = .ok (.invokevirtual 219, 3) := dk_182 0 219 (dk_at dksX0_tell_0 2 rfl rfl)
theorem dX0_tell_5 : decode cX0_tell 5 = .ok (.ifCond .eq 28, 3) := dk_153 0 28 (dk_at dksX0_tell_0 5 rfl rfl)
theorem dX0_tell_8 : decode cX0_tell 8 = .ok (.aload_n 0, 1) := dk_42 (dk_at dksX0_tell_0 8 rfl rfl)
theorem dX0_tell_9 : decode cX0_tell 9 = .ok (.getfield 23, 3) := dk_180 0 23 (dk_at dksX0_tell_0 9 rfl rfl)
theorem dX0_tell_12 : decode cX0_tell 12 = .ok (.getfield 209, 3) := dk_180 0 209 (dk_at dksX0_tell_0 12 rfl rfl)
theorem dX0_tell_15 : decode cX0_tell 15 = .ok (.invokevirtual 386, 3) := dk_182 1 130 (dk_at dksX0_tell_0 15 rfl rfl)
theorem dX0_tell_18 : decode cX0_tell 18 = .ok (.ifCond .ne 15, 3) := dk_154 0 15 (dk_at dksX0_tell_0 18 rfl rfl)
theorem dX0_tell_21 : decode cX0_tell 21 = .ok (.aload_n 0, 1) := dk_42 (dk_at dksX0_tell_0 21 rfl rfl)
theorem dX0_tell_22 : decode cX0_tell 22 = .ok (.getfield 109, 3) := dk_180 0 109 (dk_at dksX0_tell_1 0 rfl rfl)
theorem dX0_tell_25 : decode cX0_tell 25 = .ok (.invokevirtual 203, 3) := dk_182 0 203 (dk_at dksX0_tell_1 3 rfl rfl)
theorem dX0_tell_28 : decode cX0_tell 28 = .ok (.bipush 8, 2) := dk_16 8 (dk_at dksX0_tell_1 6 rfl rfl)
theorem dX0_tell_30 : decode cX0_tell 30 = .ok (.if_icmp .ne 9, 3) := dk_160 0 9 (dk_at dksX0_tell_1 8 rfl rfl)
theorem dX0_tell_33 : decode cX0_tell 33 = .ok (.aload_n 0, 1) := dk_42 (dk_at dksX0_tell_1 11 rfl rfl)
theorem dX0_tell_34 : decode cX0_tell 34 = .ok (.iconst 5, 1) := dk_8 (dk_at dksX0_tell_1 12 rfl rfl)
theorem dX0_tell_35 : decode cX0_tell 35 = .ok (.invokevirtual 150, 3) := dk_182 0 150 (dk_at dksX0_tell_1 13 rfl rfl)
theorem dX0_tell_38 : decode cX0_tell 38 = .ok (.ireturn, 1) := dk_172 (dk_at dksX0_tell_1 16 rfl rfl)
theorem dX0_tell_39 : decode cX0_tell 39 = .ok (.aload_n 0, 1) := dk_42 (dk_at dksX0_tell_1 17 rfl rfl)
theorem dX0_tell_40 : decode cX0_tell 40 = .ok (.getfield 109, 3) := dk_180 0 109 (dk_at dksX0_tell_1 18 rfl rfl)
theorem dX0_tell_43 : decode cX0_tell 43 = .ok (.new 397, 3) := dk_187 1 141 (dk_at dksX0_tell_1 21 rfl rfl)
theorem dX0_tell_46 : decode cX0_tell 46 = .ok (.dup, 1) := dk_89 (dk_at dksX0_tell_2 0 rfl rfl)
theorem dX0_tell_47 : decode cX0_tell 47 = .ok (.iload_n 1, 1) := dk_27 (dk_at dksX0_tell_2 1 rfl rfl)
theorem dX0_tell_48 : decode cX0_tell 48 = .ok (.aload_n 0, 1) := dk_42 (dk_at dksX0_tell_2 2 rfl rfl)
theorem dX0_tell_49 : decode cX0_tell 49 = .ok (.getfield 23, 3) := dk_180 0 23 (dk_at dksX0_tell_2 3 rfl rfl)
theorem dX0_tell_52 : decode cX0_tell 52 = .ok (.getfield 209, 3) := dk_180 0 209 (dk_at dksX0_tell_2 6 rfl rfl)
theorem dX0_tell_55 : decode cX0_tell 55 = .ok (.invokespecial 399, 3) := dk_183 1 143 (dk_at dksX0_tell_2 9 rfl rfl)
theorem dX0_tell_58 : decode cX0_tell 58 = .ok (.invokevirtual 380, 3) := dk_182 1 124 (dk_at dksX0_tell_2 12 rfl rfl)
theorem dX0_tell_61 : decode cX0_tell 61 = .ok (.pop, 1) := dk_87 (dk_at dksX0_tell_2 15 rfl rfl)
theorem dX0_tell_62 : decode cX0_tell 62 = .ok (.aload_n 0, 1) := dk_42 (dk_at dksX0_tell_2 16 rfl rfl)
theorem dX0_tell_63 : decode cX0_tell 63 = .ok (.getfield 109, 3) := dk_180 0 109 (dk_at dksX0_tell_2 17 rfl rfl)
theorem dX0_tell_66 : decode cX0_tell 66 = .ok (.invokevirtual 203, 3) := dk_182 0 203 (dk_at dksX0_tell_2 20 rfl rfl)
theorem dX0_tell_69 : decode cX0_tell 69 = .ok (.ireturn, 1) := dk_172 (dk_at dksX0_tell_2 23 rfl rfl)
abbrev cX0_forgetTold : ByteArray := prog_1_method_70_code
def yX0_forgetTold : MethodName := ⟨RX0, "forgetTold", "()I"⟩
def dkwX0_forgetTold_0 : List UInt8 := [42, 180, 0, 109, 182, 0, 203, 60, 42, 180, 0, 109, 182, 0, 186, 27, 172]
abbrev dktX0_forgetTold_0 : List UInt8 := dkwX0_forgetTold_0 ++ []
theorem dksX0_forgetTold_0 : cX0_forgetTold.data.toList.drop 0 = dktX0_forgetTold_0 := by decide +kernel
theorem dX0_forgetTold_0 : decode cX0_forgetTold 0 = .ok (.aload_n 0, 1) := dk_42 (dk_at dksX0_forgetTold_0 0 rfl rfl)
theorem dX0_forgetTold_1 : decode cX0_forgetTold 1 = .ok (.getfield 109, 3) := dk_180 0 109 (dk_at dksX0_forgetTold_0 1 rfl rfl)
theorem dX0_forgetTold_4 : decode cX0_forgetTold 4 = .ok (.invokevirtual 203, 3) := dk_182 0 203 (dk_at dksX0_forgetTold_0 4 rfl rfl)
theorem dX0_forgetTold_7 : decode cX0_forgetTold 7 = .ok (.istore_n 1, 1) := dk_60 (dk_at dksX0_forgetTold_0 7 rfl rfl)
theorem dX0_forgetTold_8 : decode cX0_forgetTold 8 = .ok (.aload_n 0, 1) := dk_42 (dk_at dksX0_forgetTold_0 8 rfl rfl)
theorem dX0_forgetTold_9 : decode cX0_forgetTold 9 = .ok (.getfield 109, 3) := dk_180 0 109 (dk_at dksX0_forgetTold_0 9 rfl rfl)
theorem dX0_forgetTold_12 : decode cX0_forgetTold 12 = .ok (.invokevirtual 186, 3) := dk_182 0 186 (dk_at dksX0_forgetTold_0 12 rfl rfl)
theorem dX0_forgetTold_15 : decode cX0_forgetTold 15 = .ok (.iload_n 1, 1) := dk_27 (dk_at dksX0_forgetTold_0 15 rfl rfl)
theorem dX0_forgetTold_16 : decode cX0_forgetTold 16 = .ok (.ireturn, 1) := dk_172 (dk_at dksX0_forgetTold_0 16 rfl rfl)
abbrev cX0_toldAs : ByteArray := prog_1_method_72_code
def yX0_toldAs : MethodName := ⟨RX0, "toldAs", "(II)I"⟩
def dkwX0_toldAs_3 : List UInt8 := [45, 180, 1, 146, 172, 45, 180, 1, 149, 182, 1, 153, 172, 42, 45, 182, 1, 154, 172, 2, 172]
abbrev dktX0_toldAs_3 : List UInt8 := dkwX0_toldAs_3 ++ []
def dkwX0_toldAs_2 : List UInt8 := [170, 0, 0, 0, 0, 45, 0, 0, 0, 0, 0, 0, 0, 2, 0, 0, 0, 26, 0, 0, 0, 31, 0, 0, 0, 39]
abbrev dktX0_toldAs_2 : List UInt8 := dkwX0_toldAs_2 ++ dktX0_toldAs_3
def dkwX0_toldAs_1 : List UInt8 := [180, 0, 109, 27, 182, 0, 224, 192, 1, 141, 78, 28]
abbrev dktX0_toldAs_1 : List UInt8 := dkwX0_toldAs_1 ++ dktX0_toldAs_2
def dkwX0_toldAs_0 : List UInt8 := [27, 133, 9, 42, 180, 0, 109, 182, 0, 203, 4, 100, 133, 184, 0, 166, 154, 0, 5, 2, 172, 42]
abbrev dktX0_toldAs_0 : List UInt8 := dkwX0_toldAs_0 ++ dktX0_toldAs_1
theorem dksX0_toldAs_0 : cX0_toldAs.data.toList.drop 0 = dktX0_toldAs_0 := by decide +kernel
theorem dksX0_toldAs_1 : cX0_toldAs.data.toList.drop 22 = dktX0_toldAs_1 := dk_seg dksX0_toldAs_0 22 rfl rfl
theorem dksX0_toldAs_2 : cX0_toldAs.data.toList.drop 34 = dktX0_toldAs_2 := dk_seg dksX0_toldAs_1 12 rfl rfl
theorem dksX0_toldAs_3 : cX0_toldAs.data.toList.drop 60 = dktX0_toldAs_3 := dk_seg dksX0_toldAs_2 26 rfl rfl
theorem dX0_toldAs_0 : decode cX0_toldAs 0 = .ok (.iload_n 1, 1) := dk_27 (dk_at dksX0_toldAs_0 0 rfl rfl)
theorem dX0_toldAs_1 : decode cX0_toldAs 1 = .ok (.i2l, 1) := dk_133 (dk_at dksX0_toldAs_0 1 rfl rfl)
theorem dX0_toldAs_2 : decode cX0_toldAs 2 = .ok (.lconst 0, 1) := dk_9 (dk_at dksX0_toldAs_0 2 rfl rfl)
theorem dX0_toldAs_3 : decode cX0_toldAs 3 = .ok (.aload_n 0, 1) := dk_42 (dk_at dksX0_toldAs_0 3 rfl rfl)
theorem dX0_toldAs_4 : decode cX0_toldAs 4 = .ok (.getfield 109, 3) := dk_180 0 109 (dk_at dksX0_toldAs_0 4 rfl rfl)
theorem dX0_toldAs_7 : decode cX0_toldAs 7 = .ok (.invokevirtual 203, 3) := dk_182 0 203 (dk_at dksX0_toldAs_0 7 rfl rfl)
theorem dX0_toldAs_10 : decode cX0_toldAs 10 = .ok (.iconst 1, 1) := dk_4 (dk_at dksX0_toldAs_0 10 rfl rfl)
theorem dX0_toldAs_11 : decode cX0_toldAs 11 = .ok (.isub, 1) := dk_100 (dk_at dksX0_toldAs_0 11 rfl rfl)
theorem dX0_toldAs_12 : decode cX0_toldAs 12 = .ok (.i2l, 1) := dk_133 (dk_at dksX0_toldAs_0 12 rfl rfl)
theorem dX0_toldAs_13 : decode cX0_toldAs 13 = .ok (.invokestatic 166, 3) := dk_184 0 166 (dk_at dksX0_toldAs_0 13 rfl rfl)
theorem dX0_toldAs_16 : decode cX0_toldAs 16 = .ok (.ifCond .ne 5, 3) := dk_154 0 5 (dk_at dksX0_toldAs_0 16 rfl rfl)
theorem dX0_toldAs_19 : decode cX0_toldAs 19 = .ok (.iconst (-1), 1) := dk_2 (dk_at dksX0_toldAs_0 19 rfl rfl)
theorem dX0_toldAs_20 : decode cX0_toldAs 20 = .ok (.ireturn, 1) := dk_172 (dk_at dksX0_toldAs_0 20 rfl rfl)
theorem dX0_toldAs_21 : decode cX0_toldAs 21 = .ok (.aload_n 0, 1) := dk_42 (dk_at dksX0_toldAs_0 21 rfl rfl)
theorem dX0_toldAs_22 : decode cX0_toldAs 22 = .ok (.getfield 109, 3) := dk_180 0 109 (dk_at dksX0_toldAs_1 0 rfl rfl)
theorem dX0_toldAs_25 : decode cX0_toldAs 25 = .ok (.iload_n 1, 1) := dk_27 (dk_at dksX0_toldAs_1 3 rfl rfl)
theorem dX0_toldAs_26 : decode cX0_toldAs 26 = .ok (.invokevirtual 224, 3) := dk_182 0 224 (dk_at dksX0_toldAs_1 4 rfl rfl)
theorem dX0_toldAs_29 : decode cX0_toldAs 29 = .ok (.checkcast 397, 3) := dk_192 1 141 (dk_at dksX0_toldAs_1 7 rfl rfl)
theorem dX0_toldAs_32 : decode cX0_toldAs 32 = .ok (.astore_n 3, 1) := dk_78 (dk_at dksX0_toldAs_1 10 rfl rfl)
theorem dX0_toldAs_33 : decode cX0_toldAs 33 = .ok (.iload_n 2, 1) := dk_28 (dk_at dksX0_toldAs_1 11 rfl rfl)
theorem dX0_toldAs_34 : decode cX0_toldAs 34 = .ok (.tableswitch 45 0 2 #[26, 31, 39], 26) := by decide +kernel
theorem dX0_toldAs_60 : decode cX0_toldAs 60 = .ok (.aload_n 3, 1) := dk_45 (dk_at dksX0_toldAs_3 0 rfl rfl)
theorem dX0_toldAs_61 : decode cX0_toldAs 61 = .ok (.getfield 402, 3) := dk_180 1 146 (dk_at dksX0_toldAs_3 1 rfl rfl)
theorem dX0_toldAs_64 : decode cX0_toldAs 64 = .ok (.ireturn, 1) := dk_172 (dk_at dksX0_toldAs_3 4 rfl rfl)
theorem dX0_toldAs_65 : decode cX0_toldAs 65 = .ok (.aload_n 3, 1) := dk_45 (dk_at dksX0_toldAs_3 5 rfl rfl)
theorem dX0_toldAs_66 : decode cX0_toldAs 66 = .ok (.getfield 405, 3) := dk_180 1 149 (dk_at dksX0_toldAs_3 6 rfl rfl)
theorem dX0_toldAs_69 : decode cX0_toldAs 69 = .ok (.invokevirtual 409, 3) := dk_182 1 153 (dk_at dksX0_toldAs_3 9 rfl rfl)
theorem dX0_toldAs_72 : decode cX0_toldAs 72 = .ok (.ireturn, 1) := dk_172 (dk_at dksX0_toldAs_3 12 rfl rfl)
theorem dX0_toldAs_73 : decode cX0_toldAs 73 = .ok (.aload_n 0, 1) := dk_42 (dk_at dksX0_toldAs_3 13 rfl rfl)
theorem dX0_toldAs_74 : decode cX0_toldAs 74 = .ok (.aload_n 3, 1) := dk_45 (dk_at dksX0_toldAs_3 14 rfl rfl)
theorem dX0_toldAs_75 : decode cX0_toldAs 75 = .ok (.invokevirtual 410, 3) := dk_182 1 154 (dk_at dksX0_toldAs_3 15 rfl rfl)
theorem dX0_toldAs_78 : decode cX0_toldAs 78 = .ok (.ireturn, 1) := dk_172 (dk_at dksX0_toldAs_3 18 rfl rfl)
theorem dX0_toldAs_79 : decode cX0_toldAs 79 = .ok (.iconst (-1), 1) := dk_2 (dk_at dksX0_toldAs_3 19 rfl rfl)
theorem dX0_toldAs_80 : decode cX0_toldAs 80 = .ok (.ireturn, 1) := dk_172 (dk_at dksX0_toldAs_3 20 rfl rfl)
abbrev cX0_placeOf : ByteArray := prog_1_method_71_code
def yX0_placeOf : MethodName := ⟨RX0, "placeOf", "(LLetterPen$Sample;)I"⟩
def dkwX0_placeOf_1 : List UInt8 := [3, 61, 42, 180, 0, 88, 28, 46, 43, 180, 1, 146, 159, 0, 9, 132, 2, 1, 167, 255, 240, 28, 172]
abbrev dktX0_placeOf_1 : List UInt8 := dkwX0_placeOf_1 ++ []
def dkwX0_placeOf_0 : List UInt8 := [42, 43, 180, 1, 146, 182, 0, 219, 154, 0, 5, 2, 172, 42, 43, 180, 1, 149, 180, 0, 241, 182, 1, 107]
abbrev dktX0_placeOf_0 : List UInt8 := dkwX0_placeOf_0 ++ dktX0_placeOf_1
theorem dksX0_placeOf_0 : cX0_placeOf.data.toList.drop 0 = dktX0_placeOf_0 := by decide +kernel
theorem dksX0_placeOf_1 : cX0_placeOf.data.toList.drop 24 = dktX0_placeOf_1 := dk_seg dksX0_placeOf_0 24 rfl rfl
theorem dX0_placeOf_0 : decode cX0_placeOf 0 = .ok (.aload_n 0, 1) := dk_42 (dk_at dksX0_placeOf_0 0 rfl rfl)
theorem dX0_placeOf_1 : decode cX0_placeOf 1 = .ok (.aload_n 1, 1) := dk_43 (dk_at dksX0_placeOf_0 1 rfl rfl)
theorem dX0_placeOf_2 : decode cX0_placeOf 2 = .ok (.getfield 402, 3) := dk_180 1 146 (dk_at dksX0_placeOf_0 2 rfl rfl)
theorem dX0_placeOf_5 : decode cX0_placeOf 5 = .ok (.invokevirtual 219, 3) := dk_182 0 219 (dk_at dksX0_placeOf_0 5 rfl rfl)
theorem dX0_placeOf_8 : decode cX0_placeOf 8 = .ok (.ifCond .ne 5, 3) := dk_154 0 5 (dk_at dksX0_placeOf_0 8 rfl rfl)
theorem dX0_placeOf_11 : decode cX0_placeOf 11 = .ok (.iconst (-1), 1) := dk_2 (dk_at dksX0_placeOf_0 11 rfl rfl)
theorem dX0_placeOf_12 : decode cX0_placeOf 12 = .ok (.ireturn, 1) := dk_172 (dk_at dksX0_placeOf_0 12 rfl rfl)
theorem dX0_placeOf_13 : decode cX0_placeOf 13 = .ok (.aload_n 0, 1) := dk_42 (dk_at dksX0_placeOf_0 13 rfl rfl)
theorem dX0_placeOf_14 : decode cX0_placeOf 14 = .ok (.aload_n 1, 1) := dk_43 (dk_at dksX0_placeOf_0 14 rfl rfl)
theorem dX0_placeOf_15 : decode cX0_placeOf 15 = .ok (.getfield 405, 3) := dk_180 1 149 (dk_at dksX0_placeOf_0 15 rfl rfl)
theorem dX0_placeOf_18 : decode cX0_placeOf 18 = .ok (.getfield 241, 3) := dk_180 0 241 (dk_at dksX0_placeOf_0 18 rfl rfl)
theorem dX0_placeOf_21 : decode cX0_placeOf 21 = .ok (.invokevirtual 363, 3) := dk_182 1 107 (dk_at dksX0_placeOf_0 21 rfl rfl)
theorem dX0_placeOf_24 : decode cX0_placeOf 24 = .ok (.iconst 0, 1) := dk_3 (dk_at dksX0_placeOf_1 0 rfl rfl)
theorem dX0_placeOf_25 : decode cX0_placeOf 25 = .ok (.istore_n 2, 1) := dk_61 (dk_at dksX0_placeOf_1 1 rfl rfl)
theorem dX0_placeOf_26 : decode cX0_placeOf 26 = .ok (.aload_n 0, 1) := dk_42 (dk_at dksX0_placeOf_1 2 rfl rfl)
theorem dX0_placeOf_27 : decode cX0_placeOf 27 = .ok (.getfield 88, 3) := dk_180 0 88 (dk_at dksX0_placeOf_1 3 rfl rfl)
theorem dX0_placeOf_30 : decode cX0_placeOf 30 = .ok (.iload_n 2, 1) := dk_28 (dk_at dksX0_placeOf_1 6 rfl rfl)
theorem dX0_placeOf_31 : decode cX0_placeOf 31 = .ok (.iaload, 1) := dk_46 (dk_at dksX0_placeOf_1 7 rfl rfl)
theorem dX0_placeOf_32 : decode cX0_placeOf 32 = .ok (.aload_n 1, 1) := dk_43 (dk_at dksX0_placeOf_1 8 rfl rfl)
theorem dX0_placeOf_33 : decode cX0_placeOf 33 = .ok (.getfield 402, 3) := dk_180 1 146 (dk_at dksX0_placeOf_1 9 rfl rfl)
theorem dX0_placeOf_36 : decode cX0_placeOf 36 = .ok (.if_icmp .eq 9, 3) := dk_159 0 9 (dk_at dksX0_placeOf_1 12 rfl rfl)
theorem dX0_placeOf_39 : decode cX0_placeOf 39 = .ok (.iinc 2 1, 3) := dk_132 2 1 (dk_at dksX0_placeOf_1 15 rfl rfl)
theorem dX0_placeOf_42 : decode cX0_placeOf 42 = .ok (.goto (-16), 3) := dk_167 255 240 (dk_at dksX0_placeOf_1 18 rfl rfl)
theorem dX0_placeOf_45 : decode cX0_placeOf 45 = .ok (.iload_n 2, 1) := dk_28 (dk_at dksX0_placeOf_1 21 rfl rfl)
theorem dX0_placeOf_46 : decode cX0_placeOf 46 = .ok (.ireturn, 1) := dk_172 (dk_at dksX0_placeOf_1 22 rfl rfl)
abbrev cX0_fits : ByteArray := prog_1_method_77_code
def yX0_fits : MethodName := ⟨RX0, "fits", "(II)I"⟩
def dkwX0_fits_8 : List UInt8 := [167, 0, 4, 2, 172]
abbrev dktX0_fits_8 : List UInt8 := dkwX0_fits_8 ++ []
def dkwX0_fits_7 : List UInt8 := [28, 160, 0, 6, 21, 5, 172, 132, 4, 1, 132, 5, 1, 167, 255, 225, 28, 2, 160, 0, 8, 21, 4]
abbrev dktX0_fits_7 : List UInt8 := dkwX0_fits_7 ++ dktX0_fits_8
def dkwX0_fits_6 : List UInt8 := [167, 255, 180, 3, 54, 5, 21, 5, 29, 163, 0, 31, 42, 180, 0, 115, 21, 5, 51, 153, 0, 15, 21, 4]
abbrev dktX0_fits_6 : List UInt8 := dkwX0_fits_6 ++ dktX0_fits_7
def dkwX0_fits_5 : List UInt8 := [182, 0, 224, 192, 1, 141, 21, 6, 182, 1, 165, 126, 84, 132, 6, 1, 167, 255, 219, 132, 5, 1]
abbrev dktX0_fits_5 : List UInt8 := dkwX0_fits_5 ++ dktX0_fits_6
def dkwX0_fits_4 : List UInt8 := [3, 54, 6, 21, 6, 29, 163, 0, 37, 42, 180, 0, 115, 21, 6, 92, 51, 42, 42, 180, 0, 109, 21, 5]
abbrev dktX0_fits_4 : List UInt8 := dkwX0_fits_4 ++ dktX0_fits_5
def dkwX0_fits_3 : List UInt8 := [182, 0, 203, 162, 0, 70, 42, 42, 180, 0, 109, 21, 5, 182, 0, 224, 192, 1, 141, 27, 29, 182, 1, 161]
abbrev dktX0_fits_3 : List UInt8 := dkwX0_fits_3 ++ dktX0_fits_4
def dkwX0_fits_2 : List UInt8 := [180, 0, 115, 21, 5, 4, 84, 132, 5, 1, 167, 255, 239, 3, 54, 5, 21, 5, 42, 180, 0, 109]
abbrev dktX0_fits_2 : List UInt8 := dkwX0_fits_2 ++ dktX0_fits_3
def dkwX0_fits_1 : List UInt8 := [162, 0, 5, 2, 172, 27, 184, 1, 158, 62, 3, 54, 4, 3, 54, 5, 21, 5, 29, 163, 0, 17, 42]
abbrev dktX0_fits_1 : List UInt8 := dkwX0_fits_1 ++ dktX0_fits_2
def dkwX0_fits_0 : List UInt8 := [27, 133, 9, 20, 0, 212, 184, 0, 166, 153, 0, 18, 42, 180, 0, 109, 182, 1, 130, 154, 0, 8, 28, 2]
abbrev dktX0_fits_0 : List UInt8 := dkwX0_fits_0 ++ dktX0_fits_1
theorem dksX0_fits_0 : cX0_fits.data.toList.drop 0 = dktX0_fits_0 := by decide +kernel
theorem dksX0_fits_1 : cX0_fits.data.toList.drop 24 = dktX0_fits_1 := dk_seg dksX0_fits_0 24 rfl rfl
theorem dksX0_fits_2 : cX0_fits.data.toList.drop 47 = dktX0_fits_2 := dk_seg dksX0_fits_1 23 rfl rfl
theorem dksX0_fits_3 : cX0_fits.data.toList.drop 69 = dktX0_fits_3 := dk_seg dksX0_fits_2 22 rfl rfl
theorem dksX0_fits_4 : cX0_fits.data.toList.drop 93 = dktX0_fits_4 := dk_seg dksX0_fits_3 24 rfl rfl
theorem dksX0_fits_5 : cX0_fits.data.toList.drop 117 = dktX0_fits_5 := dk_seg dksX0_fits_4 24 rfl rfl
theorem dksX0_fits_6 : cX0_fits.data.toList.drop 139 = dktX0_fits_6 := dk_seg dksX0_fits_5 22 rfl rfl
theorem dksX0_fits_7 : cX0_fits.data.toList.drop 163 = dktX0_fits_7 := dk_seg dksX0_fits_6 24 rfl rfl
theorem dksX0_fits_8 : cX0_fits.data.toList.drop 186 = dktX0_fits_8 := dk_seg dksX0_fits_7 23 rfl rfl
theorem dX0_fits_0 : decode cX0_fits 0 = .ok (.iload_n 1, 1) := dk_27 (dk_at dksX0_fits_0 0 rfl rfl)
theorem dX0_fits_1 : decode cX0_fits 1 = .ok (.i2l, 1) := dk_133 (dk_at dksX0_fits_0 1 rfl rfl)
theorem dX0_fits_2 : decode cX0_fits 2 = .ok (.lconst 0, 1) := dk_9 (dk_at dksX0_fits_0 2 rfl rfl)
theorem dX0_fits_3 : decode cX0_fits 3 = .ok (.ldc2_w 212, 3) := dk_20 0 212 (dk_at dksX0_fits_0 3 rfl rfl)
theorem dX0_fits_6 : decode cX0_fits 6 = .ok (.invokestatic 166, 3) := dk_184 0 166 (dk_at dksX0_fits_0 6 rfl rfl)
theorem dX0_fits_9 : decode cX0_fits 9 = .ok (.ifCond .eq 18, 3) := dk_153 0 18 (dk_at dksX0_fits_0 9 rfl rfl)
theorem dX0_fits_12 : decode cX0_fits 12 = .ok (.aload_n 0, 1) := dk_42 (dk_at dksX0_fits_0 12 rfl rfl)
theorem dX0_fits_13 : decode cX0_fits 13 = .ok (.getfield 109, 3) := dk_180 0 109 (dk_at dksX0_fits_0 13 rfl rfl)
theorem dX0_fits_16 : decode cX0_fits 16 = .ok (.invokevirtual 386, 3) := dk_182 1 130 (dk_at dksX0_fits_0 16 rfl rfl)
theorem dX0_fits_19 : decode cX0_fits 19 = .ok (.ifCond .ne 8, 3) := dk_154 0 8 (dk_at dksX0_fits_0 19 rfl rfl)
theorem dX0_fits_22 : decode cX0_fits 22 = .ok (.iload_n 2, 1) := dk_28 (dk_at dksX0_fits_0 22 rfl rfl)
theorem dX0_fits_23 : decode cX0_fits 23 = .ok (.iconst (-1), 1) := dk_2 (dk_at dksX0_fits_0 23 rfl rfl)
theorem dX0_fits_24 : decode cX0_fits 24 = .ok (.if_icmp .ge 5, 3) := dk_162 0 5 (dk_at dksX0_fits_1 0 rfl rfl)
theorem dX0_fits_27 : decode cX0_fits 27 = .ok (.iconst (-1), 1) := dk_2 (dk_at dksX0_fits_1 3 rfl rfl)
theorem dX0_fits_28 : decode cX0_fits 28 = .ok (.ireturn, 1) := dk_172 (dk_at dksX0_fits_1 4 rfl rfl)
theorem dX0_fits_29 : decode cX0_fits 29 = .ok (.iload_n 1, 1) := dk_27 (dk_at dksX0_fits_1 5 rfl rfl)
theorem dX0_fits_30 : decode cX0_fits 30 = .ok (.invokestatic 414, 3) := dk_184 1 158 (dk_at dksX0_fits_1 6 rfl rfl)
theorem dX0_fits_33 : decode cX0_fits 33 = .ok (.istore_n 3, 1) := dk_62 (dk_at dksX0_fits_1 9 rfl rfl)
theorem dX0_fits_34 : decode cX0_fits 34 = .ok (.iconst 0, 1) := dk_3 (dk_at dksX0_fits_1 10 rfl rfl)
theorem dX0_fits_35 : decode cX0_fits 35 = .ok (.istore 4, 2) := dk_54 4 (dk_at dksX0_fits_1 11 rfl rfl)
theorem dX0_fits_37 : decode cX0_fits 37 = .ok (.iconst 0, 1) := dk_3 (dk_at dksX0_fits_1 13 rfl rfl)
theorem dX0_fits_38 : decode cX0_fits 38 = .ok (.istore 5, 2) := dk_54 5 (dk_at dksX0_fits_1 14 rfl rfl)
theorem dX0_fits_40 : decode cX0_fits 40 = .ok (.iload 5, 2) := dk_21 5 (dk_at dksX0_fits_1 16 rfl rfl)
theorem dX0_fits_42 : decode cX0_fits 42 = .ok (.iload_n 3, 1) := dk_29 (dk_at dksX0_fits_1 18 rfl rfl)
theorem dX0_fits_43 : decode cX0_fits 43 = .ok (.if_icmp .gt 17, 3) := dk_163 0 17 (dk_at dksX0_fits_1 19 rfl rfl)
theorem dX0_fits_46 : decode cX0_fits 46 = .ok (.aload_n 0, 1) := dk_42 (dk_at dksX0_fits_1 22 rfl rfl)
theorem dX0_fits_47 : decode cX0_fits 47 = .ok (.getfield 115, 3) := dk_180 0 115 (dk_at dksX0_fits_2 0 rfl rfl)
theorem dX0_fits_50 : decode cX0_fits 50 = .ok (.iload 5, 2) := dk_21 5 (dk_at dksX0_fits_2 3 rfl rfl)
theorem dX0_fits_52 : decode cX0_fits 52 = .ok (.iconst 1, 1) := dk_4 (dk_at dksX0_fits_2 5 rfl rfl)
theorem dX0_fits_53 : decode cX0_fits 53 = .ok (.bastore, 1) := dk_84 (dk_at dksX0_fits_2 6 rfl rfl)
theorem dX0_fits_54 : decode cX0_fits 54 = .ok (.iinc 5 1, 3) := dk_132 5 1 (dk_at dksX0_fits_2 7 rfl rfl)
theorem dX0_fits_57 : decode cX0_fits 57 = .ok (.goto (-17), 3) := dk_167 255 239 (dk_at dksX0_fits_2 10 rfl rfl)
theorem dX0_fits_60 : decode cX0_fits 60 = .ok (.iconst 0, 1) := dk_3 (dk_at dksX0_fits_2 13 rfl rfl)
theorem dX0_fits_61 : decode cX0_fits 61 = .ok (.istore 5, 2) := dk_54 5 (dk_at dksX0_fits_2 14 rfl rfl)
theorem dX0_fits_63 : decode cX0_fits 63 = .ok (.iload 5, 2) := dk_21 5 (dk_at dksX0_fits_2 16 rfl rfl)
theorem dX0_fits_65 : decode cX0_fits 65 = .ok (.aload_n 0, 1) := dk_42 (dk_at dksX0_fits_2 18 rfl rfl)
theorem dX0_fits_66 : decode cX0_fits 66 = .ok (.getfield 109, 3) := dk_180 0 109 (dk_at dksX0_fits_2 19 rfl rfl)
theorem dX0_fits_69 : decode cX0_fits 69 = .ok (.invokevirtual 203, 3) := dk_182 0 203 (dk_at dksX0_fits_3 0 rfl rfl)
theorem dX0_fits_72 : decode cX0_fits 72 = .ok (.if_icmp .ge 70, 3) := dk_162 0 70 (dk_at dksX0_fits_3 3 rfl rfl)
theorem dX0_fits_75 : decode cX0_fits 75 = .ok (.aload_n 0, 1) := dk_42 (dk_at dksX0_fits_3 6 rfl rfl)
theorem dX0_fits_76 : decode cX0_fits 76 = .ok (.aload_n 0, 1) := dk_42 (dk_at dksX0_fits_3 7 rfl rfl)
theorem dX0_fits_77 : decode cX0_fits 77 = .ok (.getfield 109, 3) := dk_180 0 109 (dk_at dksX0_fits_3 8 rfl rfl)
theorem dX0_fits_80 : decode cX0_fits 80 = .ok (.iload 5, 2) := dk_21 5 (dk_at dksX0_fits_3 11 rfl rfl)
theorem dX0_fits_82 : decode cX0_fits 82 = .ok (.invokevirtual 224, 3) := dk_182 0 224 (dk_at dksX0_fits_3 13 rfl rfl)
theorem dX0_fits_85 : decode cX0_fits 85 = .ok (.checkcast 397, 3) := dk_192 1 141 (dk_at dksX0_fits_3 16 rfl rfl)
theorem dX0_fits_88 : decode cX0_fits 88 = .ok (.iload_n 1, 1) := dk_27 (dk_at dksX0_fits_3 19 rfl rfl)
theorem dX0_fits_89 : decode cX0_fits 89 = .ok (.iload_n 3, 1) := dk_29 (dk_at dksX0_fits_3 20 rfl rfl)
theorem dX0_fits_90 : decode cX0_fits 90 = .ok (.invokevirtual 417, 3) := dk_182 1 161 (dk_at dksX0_fits_3 21 rfl rfl)
theorem dX0_fits_93 : decode cX0_fits 93 = .ok (.iconst 0, 1) := dk_3 (dk_at dksX0_fits_4 0 rfl rfl)
theorem dX0_fits_94 : decode cX0_fits 94 = .ok (.istore 6, 2) := dk_54 6 (dk_at dksX0_fits_4 1 rfl rfl)
theorem dX0_fits_96 : decode cX0_fits 96 = .ok (.iload 6, 2) := dk_21 6 (dk_at dksX0_fits_4 3 rfl rfl)
theorem dX0_fits_98 : decode cX0_fits 98 = .ok (.iload_n 3, 1) := dk_29 (dk_at dksX0_fits_4 5 rfl rfl)
theorem dX0_fits_99 : decode cX0_fits 99 = .ok (.if_icmp .gt 37, 3) := dk_163 0 37 (dk_at dksX0_fits_4 6 rfl rfl)
theorem dX0_fits_102 : decode cX0_fits 102 = .ok (.aload_n 0, 1) := dk_42 (dk_at dksX0_fits_4 9 rfl rfl)
theorem dX0_fits_103 : decode cX0_fits 103 = .ok (.getfield 115, 3) := dk_180 0 115 (dk_at dksX0_fits_4 10 rfl rfl)
theorem dX0_fits_106 : decode cX0_fits 106 = .ok (.iload 6, 2) := dk_21 6 (dk_at dksX0_fits_4 13 rfl rfl)
theorem dX0_fits_108 : decode cX0_fits 108 = .ok (.dup2, 1) := dk_92 (dk_at dksX0_fits_4 15 rfl rfl)
theorem dX0_fits_109 : decode cX0_fits 109 = .ok (.baload, 1) := dk_51 (dk_at dksX0_fits_4 16 rfl rfl)
theorem dX0_fits_110 : decode cX0_fits 110 = .ok (.aload_n 0, 1) := dk_42 (dk_at dksX0_fits_4 17 rfl rfl)
theorem dX0_fits_111 : decode cX0_fits 111 = .ok (.aload_n 0, 1) := dk_42 (dk_at dksX0_fits_4 18 rfl rfl)
theorem dX0_fits_112 : decode cX0_fits 112 = .ok (.getfield 109, 3) := dk_180 0 109 (dk_at dksX0_fits_4 19 rfl rfl)
theorem dX0_fits_115 : decode cX0_fits 115 = .ok (.iload 5, 2) := dk_21 5 (dk_at dksX0_fits_4 22 rfl rfl)
theorem dX0_fits_117 : decode cX0_fits 117 = .ok (.invokevirtual 224, 3) := dk_182 0 224 (dk_at dksX0_fits_5 0 rfl rfl)
theorem dX0_fits_120 : decode cX0_fits 120 = .ok (.checkcast 397, 3) := dk_192 1 141 (dk_at dksX0_fits_5 3 rfl rfl)
theorem dX0_fits_123 : decode cX0_fits 123 = .ok (.iload 6, 2) := dk_21 6 (dk_at dksX0_fits_5 6 rfl rfl)
theorem dX0_fits_125 : decode cX0_fits 125 = .ok (.invokevirtual 421, 3) := dk_182 1 165 (dk_at dksX0_fits_5 8 rfl rfl)
theorem dX0_fits_128 : decode cX0_fits 128 = .ok (.iand, 1) := dk_126 (dk_at dksX0_fits_5 11 rfl rfl)
theorem dX0_fits_129 : decode cX0_fits 129 = .ok (.bastore, 1) := dk_84 (dk_at dksX0_fits_5 12 rfl rfl)
theorem dX0_fits_130 : decode cX0_fits 130 = .ok (.iinc 6 1, 3) := dk_132 6 1 (dk_at dksX0_fits_5 13 rfl rfl)
theorem dX0_fits_133 : decode cX0_fits 133 = .ok (.goto (-37), 3) := dk_167 255 219 (dk_at dksX0_fits_5 16 rfl rfl)
theorem dX0_fits_136 : decode cX0_fits 136 = .ok (.iinc 5 1, 3) := dk_132 5 1 (dk_at dksX0_fits_5 19 rfl rfl)
theorem dX0_fits_139 : decode cX0_fits 139 = .ok (.goto (-76), 3) := dk_167 255 180 (dk_at dksX0_fits_6 0 rfl rfl)
theorem dX0_fits_142 : decode cX0_fits 142 = .ok (.iconst 0, 1) := dk_3 (dk_at dksX0_fits_6 3 rfl rfl)
theorem dX0_fits_143 : decode cX0_fits 143 = .ok (.istore 5, 2) := dk_54 5 (dk_at dksX0_fits_6 4 rfl rfl)
theorem dX0_fits_145 : decode cX0_fits 145 = .ok (.iload 5, 2) := dk_21 5 (dk_at dksX0_fits_6 6 rfl rfl)
theorem dX0_fits_147 : decode cX0_fits 147 = .ok (.iload_n 3, 1) := dk_29 (dk_at dksX0_fits_6 8 rfl rfl)
theorem dX0_fits_148 : decode cX0_fits 148 = .ok (.if_icmp .gt 31, 3) := dk_163 0 31 (dk_at dksX0_fits_6 9 rfl rfl)
theorem dX0_fits_151 : decode cX0_fits 151 = .ok (.aload_n 0, 1) := dk_42 (dk_at dksX0_fits_6 12 rfl rfl)
theorem dX0_fits_152 : decode cX0_fits 152 = .ok (.getfield 115, 3) := dk_180 0 115 (dk_at dksX0_fits_6 13 rfl rfl)
theorem dX0_fits_155 : decode cX0_fits 155 = .ok (.iload 5, 2) := dk_21 5 (dk_at dksX0_fits_6 16 rfl rfl)
theorem dX0_fits_157 : decode cX0_fits 157 = .ok (.baload, 1) := dk_51 (dk_at dksX0_fits_6 18 rfl rfl)
theorem dX0_fits_158 : decode cX0_fits 158 = .ok (.ifCond .eq 15, 3) := dk_153 0 15 (dk_at dksX0_fits_6 19 rfl rfl)
theorem dX0_fits_161 : decode cX0_fits 161 = .ok (.iload 4, 2) := dk_21 4 (dk_at dksX0_fits_6 22 rfl rfl)
theorem dX0_fits_163 : decode cX0_fits 163 = .ok (.iload_n 2, 1) := dk_28 (dk_at dksX0_fits_7 0 rfl rfl)
theorem dX0_fits_164 : decode cX0_fits 164 = .ok (.if_icmp .ne 6, 3) := dk_160 0 6 (dk_at dksX0_fits_7 1 rfl rfl)
theorem dX0_fits_167 : decode cX0_fits 167 = .ok (.iload 5, 2) := dk_21 5 (dk_at dksX0_fits_7 4 rfl rfl)
theorem dX0_fits_169 : decode cX0_fits 169 = .ok (.ireturn, 1) := dk_172 (dk_at dksX0_fits_7 6 rfl rfl)
theorem dX0_fits_170 : decode cX0_fits 170 = .ok (.iinc 4 1, 3) := dk_132 4 1 (dk_at dksX0_fits_7 7 rfl rfl)
theorem dX0_fits_173 : decode cX0_fits 173 = .ok (.iinc 5 1, 3) := dk_132 5 1 (dk_at dksX0_fits_7 10 rfl rfl)
theorem dX0_fits_176 : decode cX0_fits 176 = .ok (.goto (-31), 3) := dk_167 255 225 (dk_at dksX0_fits_7 13 rfl rfl)
theorem dX0_fits_179 : decode cX0_fits 179 = .ok (.iload_n 2, 1) := dk_28 (dk_at dksX0_fits_7 16 rfl rfl)
theorem dX0_fits_180 : decode cX0_fits 180 = .ok (.iconst (-1), 1) := dk_2 (dk_at dksX0_fits_7 17 rfl rfl)
theorem dX0_fits_181 : decode cX0_fits 181 = .ok (.if_icmp .ne 8, 3) := dk_160 0 8 (dk_at dksX0_fits_7 18 rfl rfl)
theorem dX0_fits_184 : decode cX0_fits 184 = .ok (.iload 4, 2) := dk_21 4 (dk_at dksX0_fits_7 21 rfl rfl)
theorem dX0_fits_186 : decode cX0_fits 186 = .ok (.goto 4, 3) := dk_167 0 4 (dk_at dksX0_fits_8 0 rfl rfl)
theorem dX0_fits_189 : decode cX0_fits 189 = .ok (.iconst (-1), 1) := dk_2 (dk_at dksX0_fits_8 3 rfl rfl)
theorem dX0_fits_190 : decode cX0_fits 190 = .ok (.ireturn, 1) := dk_172 (dk_at dksX0_fits_8 4 rfl rfl)
abbrev cX0_mostOf : ByteArray := prog_1_method_74_code
def yX0_mostOf : MethodName := ⟨RX0, "mostOf", "(I)I"⟩
def dkwX0_mostOf_0 : List UInt8 := [26, 5, 160, 0, 8, 16, 16, 167, 0, 5, 16, 40, 172]
abbrev dktX0_mostOf_0 : List UInt8 := dkwX0_mostOf_0 ++ []
theorem dksX0_mostOf_0 : cX0_mostOf.data.toList.drop 0 = dktX0_mostOf_0 := by decide +kernel
theorem dX0_mostOf_0 : decode cX0_mostOf 0 = .ok (.iload_n 0, 1) := dk_26 (dk_at dksX0_mostOf_0 0 rfl rfl)
theorem dX0_mostOf_1 : decode cX0_mostOf 1 = .ok (.iconst 2, 1) := dk_5 (dk_at dksX0_mostOf_0 1 rfl rfl)
theorem dX0_mostOf_2 : decode cX0_mostOf 2 = .ok (.if_icmp .ne 8, 3) := dk_160 0 8 (dk_at dksX0_mostOf_0 2 rfl rfl)
theorem dX0_mostOf_5 : decode cX0_mostOf 5 = .ok (.bipush 16, 2) := dk_16 16 (dk_at dksX0_mostOf_0 5 rfl rfl)
theorem dX0_mostOf_7 : decode cX0_mostOf 7 = .ok (.goto 5, 3) := dk_167 0 5 (dk_at dksX0_mostOf_0 7 rfl rfl)
theorem dX0_mostOf_10 : decode cX0_mostOf 10 = .ok (.bipush 40, 2) := dk_16 40 (dk_at dksX0_mostOf_0 10 rfl rfl)
theorem dX0_mostOf_12 : decode cX0_mostOf 12 = .ok (.ireturn, 1) := dk_172 (dk_at dksX0_mostOf_0 12 rfl rfl)
abbrev cX0_laysValued : ByteArray := prog_1_method_73_code
def yX0_laysValued : MethodName := ⟨RX0, "laysValued", "(LLetterPen$Sample;II)V"⟩
def dkwX0_laysValued_6 : List UInt8 := [132, 4, 1, 167, 255, 114, 177]
abbrev dktX0_laysValued_6 : List UInt8 := dkwX0_laysValued_6 ++ []
def dkwX0_laysValued_5 : List UInt8 := [167, 0, 12, 42, 180, 0, 23, 180, 0, 216, 6, 46, 182, 1, 92, 79, 132, 7, 1, 167, 255, 171]
abbrev dktX0_laysValued_5 : List UInt8 := dkwX0_laysValued_5 ++ dktX0_laysValued_6
def dkwX0_laysValued_4 : List UInt8 := [154, 0, 8, 21, 7, 167, 0, 12, 42, 180, 0, 23, 180, 0, 216, 5, 46, 28, 4, 160, 0, 8, 21, 7]
abbrev dktX0_laysValued_4 : List UInt8 := dkwX0_laysValued_4 ++ dktX0_laysValued_5
def dkwX0_laysValued_3 : List UInt8 := [182, 1, 88, 42, 180, 0, 112, 21, 7, 50, 21, 4, 42, 25, 5, 182, 0, 203, 25, 6, 182, 0, 203, 28]
abbrev dktX0_laysValued_3 : List UInt8 := dkwX0_laysValued_3 ++ dktX0_laysValued_4
def dkwX0_laysValued_2 : List UInt8 := [182, 1, 88, 3, 54, 7, 21, 7, 29, 163, 0, 85, 28, 5, 160, 0, 13, 42, 25, 5, 25, 6, 21, 7]
abbrev dktX0_laysValued_2 : List UInt8 := dkwX0_laysValued_2 ++ dktX0_laysValued_3
def dkwX0_laysValued_1 : List UInt8 := [182, 0, 247, 58, 6, 28, 5, 162, 0, 20, 42, 25, 5, 25, 6, 42, 180, 0, 23, 180, 0, 216, 4, 46]
abbrev dktX0_laysValued_1 : List UInt8 := dkwX0_laysValued_1 ++ dktX0_laysValued_2
def dkwX0_laysValued_0 : List UInt8 := [3, 54, 4, 21, 4, 42, 182, 0, 207, 162, 0, 139, 43, 180, 1, 149, 180, 0, 241, 58, 5, 42, 21, 4]
abbrev dktX0_laysValued_0 : List UInt8 := dkwX0_laysValued_0 ++ dktX0_laysValued_1
theorem dksX0_laysValued_0 : cX0_laysValued.data.toList.drop 0 = dktX0_laysValued_0 := by decide +kernel
theorem dksX0_laysValued_1 : cX0_laysValued.data.toList.drop 24 = dktX0_laysValued_1 := dk_seg dksX0_laysValued_0 24 rfl rfl
theorem dksX0_laysValued_2 : cX0_laysValued.data.toList.drop 48 = dktX0_laysValued_2 := dk_seg dksX0_laysValued_1 24 rfl rfl
theorem dksX0_laysValued_3 : cX0_laysValued.data.toList.drop 72 = dktX0_laysValued_3 := dk_seg dksX0_laysValued_2 24 rfl rfl
theorem dksX0_laysValued_4 : cX0_laysValued.data.toList.drop 96 = dktX0_laysValued_4 := dk_seg dksX0_laysValued_3 24 rfl rfl
theorem dksX0_laysValued_5 : cX0_laysValued.data.toList.drop 120 = dktX0_laysValued_5 := dk_seg dksX0_laysValued_4 24 rfl rfl
theorem dksX0_laysValued_6 : cX0_laysValued.data.toList.drop 142 = dktX0_laysValued_6 := dk_seg dksX0_laysValued_5 22 rfl rfl
theorem dX0_laysValued_0 : decode cX0_laysValued 0 = .ok (.iconst 0, 1) := dk_3 (dk_at dksX0_laysValued_0 0 rfl rfl)
theorem dX0_laysValued_1 : decode cX0_laysValued 1 = .ok (.istore 4, 2) := dk_54 4 (dk_at dksX0_laysValued_0 1 rfl rfl)
theorem dX0_laysValued_3 : decode cX0_laysValued 3 = .ok (.iload 4, 2) := dk_21 4 (dk_at dksX0_laysValued_0 3 rfl rfl)
theorem dX0_laysValued_5 : decode cX0_laysValued 5 = .ok (.aload_n 0, 1) := dk_42 (dk_at dksX0_laysValued_0 5 rfl rfl)
theorem dX0_laysValued_6 : decode cX0_laysValued 6 = .ok (.invokevirtual 207, 3) := dk_182 0 207 (dk_at dksX0_laysValued_0 6 rfl rfl)
theorem dX0_laysValued_9 : decode cX0_laysValued 9 = .ok (.if_icmp .ge 139, 3) := dk_162 0 139 (dk_at dksX0_laysValued_0 9 rfl rfl)
theorem dX0_laysValued_12 : decode cX0_laysValued 12 = .ok (.aload_n 1, 1) := dk_43 (dk_at dksX0_laysValued_0 12 rfl rfl)
theorem dX0_laysValued_13 : decode cX0_laysValued 13 = .ok (.getfield 405, 3) := dk_180 1 149 (dk_at dksX0_laysValued_0 13 rfl rfl)
theorem dX0_laysValued_16 : decode cX0_laysValued 16 = .ok (.getfield 241, 3) := dk_180 0 241 (dk_at dksX0_laysValued_0 16 rfl rfl)
theorem dX0_laysValued_19 : decode cX0_laysValued 19 = .ok (.astore 5, 2) := dk_58 5 (dk_at dksX0_laysValued_0 19 rfl rfl)
theorem dX0_laysValued_21 : decode cX0_laysValued 21 = .ok (.aload_n 0, 1) := dk_42 (dk_at dksX0_laysValued_0 21 rfl rfl)
theorem dX0_laysValued_22 : decode cX0_laysValued 22 = .ok (.iload 4, 2) := dk_21 4 (dk_at dksX0_laysValued_0 22 rfl rfl)
theorem dX0_laysValued_24 : decode cX0_laysValued 24 = .ok (.invokevirtual 247, 3) := dk_182 0 247 (dk_at dksX0_laysValued_1 0 rfl rfl)
theorem dX0_laysValued_27 : decode cX0_laysValued 27 = .ok (.astore 6, 2) := dk_58 6 (dk_at dksX0_laysValued_1 3 rfl rfl)
theorem dX0_laysValued_29 : decode cX0_laysValued 29 = .ok (.iload_n 2, 1) := dk_28 (dk_at dksX0_laysValued_1 5 rfl rfl)
theorem dX0_laysValued_30 : decode cX0_laysValued 30 = .ok (.iconst 2, 1) := dk_5 (dk_at dksX0_laysValued_1 6 rfl rfl)
theorem dX0_laysValued_31 : decode cX0_laysValued 31 = .ok (.if_icmp .ge 20, 3) := dk_162 0 20 (dk_at dksX0_laysValued_1 7 rfl rfl)
theorem dX0_laysValued_34 : decode cX0_laysValued 34 = .ok (.aload_n 0, 1) := dk_42 (dk_at dksX0_laysValued_1 10 rfl rfl)
theorem dX0_laysValued_35 : decode cX0_laysValued 35 = .ok (.aload 5, 2) := dk_25 5 (dk_at dksX0_laysValued_1 11 rfl rfl)
theorem dX0_laysValued_37 : decode cX0_laysValued 37 = .ok (.aload 6, 2) := dk_25 6 (dk_at dksX0_laysValued_1 13 rfl rfl)
theorem dX0_laysValued_39 : decode cX0_laysValued 39 = .ok (.aload_n 0, 1) := dk_42 (dk_at dksX0_laysValued_1 15 rfl rfl)
theorem dX0_laysValued_40 : decode cX0_laysValued 40 = .ok (.getfield 23, 3) := dk_180 0 23 (dk_at dksX0_laysValued_1 16 rfl rfl)
theorem dX0_laysValued_43 : decode cX0_laysValued 43 = .ok (.getfield 216, 3) := dk_180 0 216 (dk_at dksX0_laysValued_1 19 rfl rfl)
theorem dX0_laysValued_46 : decode cX0_laysValued 46 = .ok (.iconst 1, 1) := dk_4 (dk_at dksX0_laysValued_1 22 rfl rfl)
theorem dX0_laysValued_47 : decode cX0_laysValued 47 = .ok (.iaload, 1) := dk_46 (dk_at dksX0_laysValued_1 23 rfl rfl)
theorem dX0_laysValued_48 : decode cX0_laysValued 48 = .ok (.invokevirtual 344, 3) := dk_182 1 88 (dk_at dksX0_laysValued_2 0 rfl rfl)
theorem dX0_laysValued_51 : decode cX0_laysValued 51 = .ok (.iconst 0, 1) := dk_3 (dk_at dksX0_laysValued_2 3 rfl rfl)
theorem dX0_laysValued_52 : decode cX0_laysValued 52 = .ok (.istore 7, 2) := dk_54 7 (dk_at dksX0_laysValued_2 4 rfl rfl)
theorem dX0_laysValued_54 : decode cX0_laysValued 54 = .ok (.iload 7, 2) := dk_21 7 (dk_at dksX0_laysValued_2 6 rfl rfl)
theorem dX0_laysValued_56 : decode cX0_laysValued 56 = .ok (.iload_n 3, 1) := dk_29 (dk_at dksX0_laysValued_2 8 rfl rfl)
theorem dX0_laysValued_57 : decode cX0_laysValued 57 = .ok (.if_icmp .gt 85, 3) := dk_163 0 85 (dk_at dksX0_laysValued_2 9 rfl rfl)
theorem dX0_laysValued_60 : decode cX0_laysValued 60 = .ok (.iload_n 2, 1) := dk_28 (dk_at dksX0_laysValued_2 12 rfl rfl)
theorem dX0_laysValued_61 : decode cX0_laysValued 61 = .ok (.iconst 2, 1) := dk_5 (dk_at dksX0_laysValued_2 13 rfl rfl)
theorem dX0_laysValued_62 : decode cX0_laysValued 62 = .ok (.if_icmp .ne 13, 3) := dk_160 0 13 (dk_at dksX0_laysValued_2 14 rfl rfl)
theorem dX0_laysValued_65 : decode cX0_laysValued 65 = .ok (.aload_n 0, 1) := dk_42 (dk_at dksX0_laysValued_2 17 rfl rfl)
theorem dX0_laysValued_66 : decode cX0_laysValued 66 = .ok (.aload 5, 2) := dk_25 5 (dk_at dksX0_laysValued_2 18 rfl rfl)
theorem dX0_laysValued_68 : decode cX0_laysValued 68 = .ok (.aload 6, 2) := dk_25 6 (dk_at dksX0_laysValued_2 20 rfl rfl)
theorem dX0_laysValued_70 : decode cX0_laysValued 70 = .ok (.iload 7, 2) := dk_21 7 (dk_at dksX0_laysValued_2 22 rfl rfl)
theorem dX0_laysValued_72 : decode cX0_laysValued 72 = .ok (.invokevirtual 344, 3) := dk_182 1 88 (dk_at dksX0_laysValued_3 0 rfl rfl)
theorem dX0_laysValued_75 : decode cX0_laysValued 75 = .ok (.aload_n 0, 1) := dk_42 (dk_at dksX0_laysValued_3 3 rfl rfl)
theorem dX0_laysValued_76 : decode cX0_laysValued 76 = .ok (.getfield 112, 3) := dk_180 0 112 (dk_at dksX0_laysValued_3 4 rfl rfl)
theorem dX0_laysValued_79 : decode cX0_laysValued 79 = .ok (.iload 7, 2) := dk_21 7 (dk_at dksX0_laysValued_3 7 rfl rfl)
theorem dX0_laysValued_81 : decode cX0_laysValued 81 = .ok (.aaload, 1) := dk_50 (dk_at dksX0_laysValued_3 9 rfl rfl)
theorem dX0_laysValued_82 : decode cX0_laysValued 82 = .ok (.iload 4, 2) := dk_21 4 (dk_at dksX0_laysValued_3 10 rfl rfl)
theorem dX0_laysValued_84 : decode cX0_laysValued 84 = .ok (.aload_n 0, 1) := dk_42 (dk_at dksX0_laysValued_3 12 rfl rfl)
theorem dX0_laysValued_85 : decode cX0_laysValued 85 = .ok (.aload 5, 2) := dk_25 5 (dk_at dksX0_laysValued_3 13 rfl rfl)
theorem dX0_laysValued_87 : decode cX0_laysValued 87 = .ok (.invokevirtual 203, 3) := dk_182 0 203 (dk_at dksX0_laysValued_3 15 rfl rfl)
theorem dX0_laysValued_90 : decode cX0_laysValued 90 = .ok (.aload 6, 2) := dk_25 6 (dk_at dksX0_laysValued_3 18 rfl rfl)
theorem dX0_laysValued_92 : decode cX0_laysValued 92 = .ok (.invokevirtual 203, 3) := dk_182 0 203 (dk_at dksX0_laysValued_3 20 rfl rfl)
theorem dX0_laysValued_95 : decode cX0_laysValued 95 = .ok (.iload_n 2, 1) := dk_28 (dk_at dksX0_laysValued_3 23 rfl rfl)
theorem dX0_laysValued_96 : decode cX0_laysValued 96 = .ok (.ifCond .ne 8, 3) := dk_154 0 8 (dk_at dksX0_laysValued_4 0 rfl rfl)
theorem dX0_laysValued_99 : decode cX0_laysValued 99 = .ok (.iload 7, 2) := dk_21 7 (dk_at dksX0_laysValued_4 3 rfl rfl)
theorem dX0_laysValued_101 : decode cX0_laysValued 101 = .ok (.goto 12, 3) := dk_167 0 12 (dk_at dksX0_laysValued_4 5 rfl rfl)
theorem dX0_laysValued_104 : decode cX0_laysValued 104 = .ok (.aload_n 0, 1) := dk_42 (dk_at dksX0_laysValued_4 8 rfl rfl)
theorem dX0_laysValued_105 : decode cX0_laysValued 105 = .ok (.getfield 23, 3) := dk_180 0 23 (dk_at dksX0_laysValued_4 9 rfl rfl)
theorem dX0_laysValued_108 : decode cX0_laysValued 108 = .ok (.getfield 216, 3) := dk_180 0 216 (dk_at dksX0_laysValued_4 12 rfl rfl)
theorem dX0_laysValued_111 : decode cX0_laysValued 111 = .ok (.iconst 2, 1) := dk_5 (dk_at dksX0_laysValued_4 15 rfl rfl)
theorem dX0_laysValued_112 : decode cX0_laysValued 112 = .ok (.iaload, 1) := dk_46 (dk_at dksX0_laysValued_4 16 rfl rfl)
theorem dX0_laysValued_113 : decode cX0_laysValued 113 = .ok (.iload_n 2, 1) := dk_28 (dk_at dksX0_laysValued_4 17 rfl rfl)
theorem dX0_laysValued_114 : decode cX0_laysValued 114 = .ok (.iconst 1, 1) := dk_4 (dk_at dksX0_laysValued_4 18 rfl rfl)
theorem dX0_laysValued_115 : decode cX0_laysValued 115 = .ok (.if_icmp .ne 8, 3) := dk_160 0 8 (dk_at dksX0_laysValued_4 19 rfl rfl)
theorem dX0_laysValued_118 : decode cX0_laysValued 118 = .ok (.iload 7, 2) := dk_21 7 (dk_at dksX0_laysValued_4 22 rfl rfl)
theorem dX0_laysValued_120 : decode cX0_laysValued 120 = .ok (.goto 12, 3) := dk_167 0 12 (dk_at dksX0_laysValued_5 0 rfl rfl)
theorem dX0_laysValued_123 : decode cX0_laysValued 123 = .ok (.aload_n 0, 1) := dk_42 (dk_at dksX0_laysValued_5 3 rfl rfl)
theorem dX0_laysValued_124 : decode cX0_laysValued 124 = .ok (.getfield 23, 3) := dk_180 0 23 (dk_at dksX0_laysValued_5 4 rfl rfl)
theorem dX0_laysValued_127 : decode cX0_laysValued 127 = .ok (.getfield 216, 3) := dk_180 0 216 (dk_at dksX0_laysValued_5 7 rfl rfl)
theorem dX0_laysValued_130 : decode cX0_laysValued 130 = .ok (.iconst 3, 1) := dk_6 (dk_at dksX0_laysValued_5 10 rfl rfl)
theorem dX0_laysValued_131 : decode cX0_laysValued 131 = .ok (.iaload, 1) := dk_46 (dk_at dksX0_laysValued_5 11 rfl rfl)
theorem dX0_laysValued_132 : decode cX0_laysValued 132 = .ok (.invokevirtual 348, 3) := dk_182 1 92 (dk_at dksX0_laysValued_5 12 rfl rfl)
theorem dX0_laysValued_135 : decode cX0_laysValued 135 = .ok (.iastore, 1) := dk_79 (dk_at dksX0_laysValued_5 15 rfl rfl)
theorem dX0_laysValued_136 : decode cX0_laysValued 136 = .ok (.iinc 7 1, 3) := dk_132 7 1 (dk_at dksX0_laysValued_5 16 rfl rfl)
theorem dX0_laysValued_139 : decode cX0_laysValued 139 = .ok (.goto (-85), 3) := dk_167 255 171 (dk_at dksX0_laysValued_5 19 rfl rfl)
theorem dX0_laysValued_142 : decode cX0_laysValued 142 = .ok (.iinc 4 1, 3) := dk_132 4 1 (dk_at dksX0_laysValued_6 0 rfl rfl)
theorem dX0_laysValued_145 : decode cX0_laysValued 145 = .ok (.goto (-142), 3) := dk_167 255 114 (dk_at dksX0_laysValued_6 3 rfl rfl)
theorem dX0_laysValued_148 : decode cX0_laysValued 148 = .ok (.return_, 1) := dk_177 (dk_at dksX0_laysValued_6 6 rfl rfl)
abbrev cX0_isFirst : ByteArray := prog_1_method_76_code
def yX0_isFirst : MethodName := ⟨RX0, "isFirst", "(LLetterPen$Sample;I)Z"⟩
def dkwX0_isFirst_3 : List UInt8 := [180, 1, 146, 162, 0, 5, 3, 172, 132, 3, 1, 167, 255, 191, 4, 172]
abbrev dktX0_isFirst_3 : List UInt8 := dkwX0_isFirst_3 ++ []
def dkwX0_isFirst_2 : List UInt8 := [180, 0, 112, 28, 50, 29, 46, 42, 180, 0, 112, 28, 50, 43, 180, 1, 146, 46, 160, 0, 13, 29, 43]
abbrev dktX0_isFirst_2 : List UInt8 := dkwX0_isFirst_2 ++ dktX0_isFirst_3
def dkwX0_isFirst_1 : List UInt8 := [180, 0, 112, 28, 50, 29, 46, 42, 180, 0, 112, 28, 50, 43, 180, 1, 146, 46, 161, 0, 33, 42]
abbrev dktX0_isFirst_1 : List UInt8 := dkwX0_isFirst_1 ++ dktX0_isFirst_2
def dkwX0_isFirst_0 : List UInt8 := [42, 43, 180, 1, 146, 182, 0, 219, 154, 0, 5, 3, 172, 3, 62, 29, 42, 182, 0, 207, 162, 0, 63, 42]
abbrev dktX0_isFirst_0 : List UInt8 := dkwX0_isFirst_0 ++ dktX0_isFirst_1
theorem dksX0_isFirst_0 : cX0_isFirst.data.toList.drop 0 = dktX0_isFirst_0 := by decide +kernel
theorem dksX0_isFirst_1 : cX0_isFirst.data.toList.drop 24 = dktX0_isFirst_1 := dk_seg dksX0_isFirst_0 24 rfl rfl
theorem dksX0_isFirst_2 : cX0_isFirst.data.toList.drop 46 = dktX0_isFirst_2 := dk_seg dksX0_isFirst_1 22 rfl rfl
theorem dksX0_isFirst_3 : cX0_isFirst.data.toList.drop 69 = dktX0_isFirst_3 := dk_seg dksX0_isFirst_2 23 rfl rfl
theorem dX0_isFirst_0 : decode cX0_isFirst 0 = .ok (.aload_n 0, 1) := dk_42 (dk_at dksX0_isFirst_0 0 rfl rfl)
theorem dX0_isFirst_1 : decode cX0_isFirst 1 = .ok (.aload_n 1, 1) := dk_43 (dk_at dksX0_isFirst_0 1 rfl rfl)
theorem dX0_isFirst_2 : decode cX0_isFirst 2 = .ok (.getfield 402, 3) := dk_180 1 146 (dk_at dksX0_isFirst_0 2 rfl rfl)
theorem dX0_isFirst_5 : decode cX0_isFirst 5 = .ok (.invokevirtual 219, 3) := dk_182 0 219 (dk_at dksX0_isFirst_0 5 rfl rfl)
theorem dX0_isFirst_8 : decode cX0_isFirst 8 = .ok (.ifCond .ne 5, 3) := dk_154 0 5 (dk_at dksX0_isFirst_0 8 rfl rfl)
theorem dX0_isFirst_11 : decode cX0_isFirst 11 = .ok (.iconst 0, 1) := dk_3 (dk_at dksX0_isFirst_0 11 rfl rfl)
theorem dX0_isFirst_12 : decode cX0_isFirst 12 = .ok (.ireturn, 1) := dk_172 (dk_at dksX0_isFirst_0 12 rfl rfl)
theorem dX0_isFirst_13 : decode cX0_isFirst 13 = .ok (.iconst 0, 1) := dk_3 (dk_at dksX0_isFirst_0 13 rfl rfl)
theorem dX0_isFirst_14 : decode cX0_isFirst 14 = .ok (.istore_n 3, 1) := dk_62 (dk_at dksX0_isFirst_0 14 rfl rfl)
theorem dX0_isFirst_15 : decode cX0_isFirst 15 = .ok (.iload_n 3, 1) := dk_29 (dk_at dksX0_isFirst_0 15 rfl rfl)
theorem dX0_isFirst_16 : decode cX0_isFirst 16 = .ok (.aload_n 0, 1) := dk_42 (dk_at dksX0_isFirst_0 16 rfl rfl)
theorem dX0_isFirst_17 : decode cX0_isFirst 17 = .ok (.invokevirtual 207, 3) := dk_182 0 207 (dk_at dksX0_isFirst_0 17 rfl rfl)
theorem dX0_isFirst_20 : decode cX0_isFirst 20 = .ok (.if_icmp .ge 63, 3) := dk_162 0 63 (dk_at dksX0_isFirst_0 20 rfl rfl)
theorem dX0_isFirst_23 : decode cX0_isFirst 23 = .ok (.aload_n 0, 1) := dk_42 (dk_at dksX0_isFirst_0 23 rfl rfl)
theorem dX0_isFirst_24 : decode cX0_isFirst 24 = .ok (.getfield 112, 3) := dk_180 0 112 (dk_at dksX0_isFirst_1 0 rfl rfl)
theorem dX0_isFirst_27 : decode cX0_isFirst 27 = .ok (.iload_n 2, 1) := dk_28 (dk_at dksX0_isFirst_1 3 rfl rfl)
theorem dX0_isFirst_28 : decode cX0_isFirst 28 = .ok (.aaload, 1) := dk_50 (dk_at dksX0_isFirst_1 4 rfl rfl)
theorem dX0_isFirst_29 : decode cX0_isFirst 29 = .ok (.iload_n 3, 1) := dk_29 (dk_at dksX0_isFirst_1 5 rfl rfl)
theorem dX0_isFirst_30 : decode cX0_isFirst 30 = .ok (.iaload, 1) := dk_46 (dk_at dksX0_isFirst_1 6 rfl rfl)
theorem dX0_isFirst_31 : decode cX0_isFirst 31 = .ok (.aload_n 0, 1) := dk_42 (dk_at dksX0_isFirst_1 7 rfl rfl)
theorem dX0_isFirst_32 : decode cX0_isFirst 32 = .ok (.getfield 112, 3) := dk_180 0 112 (dk_at dksX0_isFirst_1 8 rfl rfl)
theorem dX0_isFirst_35 : decode cX0_isFirst 35 = .ok (.iload_n 2, 1) := dk_28 (dk_at dksX0_isFirst_1 11 rfl rfl)
theorem dX0_isFirst_36 : decode cX0_isFirst 36 = .ok (.aaload, 1) := dk_50 (dk_at dksX0_isFirst_1 12 rfl rfl)
theorem dX0_isFirst_37 : decode cX0_isFirst 37 = .ok (.aload_n 1, 1) := dk_43 (dk_at dksX0_isFirst_1 13 rfl rfl)
theorem dX0_isFirst_38 : decode cX0_isFirst 38 = .ok (.getfield 402, 3) := dk_180 1 146 (dk_at dksX0_isFirst_1 14 rfl rfl)
theorem dX0_isFirst_41 : decode cX0_isFirst 41 = .ok (.iaload, 1) := dk_46 (dk_at dksX0_isFirst_1 17 rfl rfl)
theorem dX0_isFirst_42 : decode cX0_isFirst 42 = .ok (.if_icmp .lt 33, 3) := dk_161 0 33 (dk_at dksX0_isFirst_1 18 rfl rfl)
theorem dX0_isFirst_45 : decode cX0_isFirst 45 = .ok (.aload_n 0, 1) := dk_42 (dk_at dksX0_isFirst_1 21 rfl rfl)
theorem dX0_isFirst_46 : decode cX0_isFirst 46 = .ok (.getfield 112, 3) := dk_180 0 112 (dk_at dksX0_isFirst_2 0 rfl rfl)
theorem dX0_isFirst_49 : decode cX0_isFirst 49 = .ok (.iload_n 2, 1) := dk_28 (dk_at dksX0_isFirst_2 3 rfl rfl)
theorem dX0_isFirst_50 : decode cX0_isFirst 50 = .ok (.aaload, 1) := dk_50 (dk_at dksX0_isFirst_2 4 rfl rfl)
theorem dX0_isFirst_51 : decode cX0_isFirst 51 = .ok (.iload_n 3, 1) := dk_29 (dk_at dksX0_isFirst_2 5 rfl rfl)
theorem dX0_isFirst_52 : decode cX0_isFirst 52 = .ok (.iaload, 1) := dk_46 (dk_at dksX0_isFirst_2 6 rfl rfl)
theorem dX0_isFirst_53 : decode cX0_isFirst 53 = .ok (.aload_n 0, 1) := dk_42 (dk_at dksX0_isFirst_2 7 rfl rfl)
theorem dX0_isFirst_54 : decode cX0_isFirst 54 = .ok (.getfield 112, 3) := dk_180 0 112 (dk_at dksX0_isFirst_2 8 rfl rfl)
theorem dX0_isFirst_57 : decode cX0_isFirst 57 = .ok (.iload_n 2, 1) := dk_28 (dk_at dksX0_isFirst_2 11 rfl rfl)
theorem dX0_isFirst_58 : decode cX0_isFirst 58 = .ok (.aaload, 1) := dk_50 (dk_at dksX0_isFirst_2 12 rfl rfl)
theorem dX0_isFirst_59 : decode cX0_isFirst 59 = .ok (.aload_n 1, 1) := dk_43 (dk_at dksX0_isFirst_2 13 rfl rfl)
theorem dX0_isFirst_60 : decode cX0_isFirst 60 = .ok (.getfield 402, 3) := dk_180 1 146 (dk_at dksX0_isFirst_2 14 rfl rfl)
theorem dX0_isFirst_63 : decode cX0_isFirst 63 = .ok (.iaload, 1) := dk_46 (dk_at dksX0_isFirst_2 17 rfl rfl)
theorem dX0_isFirst_64 : decode cX0_isFirst 64 = .ok (.if_icmp .ne 13, 3) := dk_160 0 13 (dk_at dksX0_isFirst_2 18 rfl rfl)
theorem dX0_isFirst_67 : decode cX0_isFirst 67 = .ok (.iload_n 3, 1) := dk_29 (dk_at dksX0_isFirst_2 21 rfl rfl)
theorem dX0_isFirst_68 : decode cX0_isFirst 68 = .ok (.aload_n 1, 1) := dk_43 (dk_at dksX0_isFirst_2 22 rfl rfl)
theorem dX0_isFirst_69 : decode cX0_isFirst 69 = .ok (.getfield 402, 3) := dk_180 1 146 (dk_at dksX0_isFirst_3 0 rfl rfl)
theorem dX0_isFirst_72 : decode cX0_isFirst 72 = .ok (.if_icmp .ge 5, 3) := dk_162 0 5 (dk_at dksX0_isFirst_3 3 rfl rfl)
theorem dX0_isFirst_75 : decode cX0_isFirst 75 = .ok (.iconst 0, 1) := dk_3 (dk_at dksX0_isFirst_3 6 rfl rfl)
theorem dX0_isFirst_76 : decode cX0_isFirst 76 = .ok (.ireturn, 1) := dk_172 (dk_at dksX0_isFirst_3 7 rfl rfl)
theorem dX0_isFirst_77 : decode cX0_isFirst 77 = .ok (.iinc 3 1, 3) := dk_132 3 1 (dk_at dksX0_isFirst_3 8 rfl rfl)
theorem dX0_isFirst_80 : decode cX0_isFirst 80 = .ok (.goto (-65), 3) := dk_167 255 191 (dk_at dksX0_isFirst_3 11 rfl rfl)
theorem dX0_isFirst_83 : decode cX0_isFirst 83 = .ok (.iconst 1, 1) := dk_4 (dk_at dksX0_isFirst_3 14 rfl rfl)
theorem dX0_isFirst_84 : decode cX0_isFirst 84 = .ok (.ireturn, 1) := dk_172 (dk_at dksX0_isFirst_3 15 rfl rfl)
abbrev cX0_best : ByteArray := prog_1_method_78_code
def yX0_best : MethodName := ⟨RX0, "best", "(II)I"⟩
def dkwX0_best_9 : List UInt8 := [132, 5, 1, 167, 255, 226, 28, 154, 0, 8, 21, 4, 167, 0, 10, 42, 180, 0, 119, 21, 4, 46, 172]
abbrev dktX0_best_9 : List UInt8 := dkwX0_best_9 ++ []
def dkwX0_best_8 : List UInt8 := [163, 0, 30, 42, 180, 0, 119, 21, 5, 46, 42, 180, 0, 119, 21, 4, 46, 164, 0, 7, 21, 5, 54, 4]
abbrev dktX0_best_8 : List UInt8 := dkwX0_best_8 ++ dktX0_best_9
def dkwX0_best_7 : List UInt8 := [184, 0, 139, 79, 132, 7, 1, 167, 255, 222, 132, 5, 1, 167, 255, 163, 4, 54, 5, 21, 5, 29]
abbrev dktX0_best_7 : List UInt8 := dkwX0_best_7 ++ dktX0_best_8
def dkwX0_best_6 : List UInt8 := [163, 0, 34, 42, 180, 0, 119, 21, 7, 42, 180, 0, 119, 21, 7, 46, 42, 25, 6, 21, 7, 182, 1, 169]
abbrev dktX0_best_6 : List UInt8 := dkwX0_best_6 ++ dktX0_best_7
def dkwX0_best_5 : List UInt8 := [182, 0, 219, 154, 0, 7, 19, 1, 111, 172, 42, 25, 6, 27, 29, 182, 1, 161, 3, 54, 7, 21, 7, 29]
abbrev dktX0_best_5 : List UInt8 := dkwX0_best_5 ++ dktX0_best_6
def dkwX0_best_4 : List UInt8 := [162, 0, 87, 42, 180, 0, 109, 21, 5, 182, 0, 224, 192, 1, 141, 58, 6, 42, 25, 6, 180, 1, 146]
abbrev dktX0_best_4 : List UInt8 := dkwX0_best_4 ++ dktX0_best_5
def dkwX0_best_3 : List UInt8 := [19, 1, 32, 79, 132, 5, 1, 167, 255, 237, 3, 54, 5, 21, 5, 42, 180, 0, 109, 182, 0, 203]
abbrev dktX0_best_3 : List UInt8 := dkwX0_best_3 ++ dktX0_best_4
def dkwX0_best_2 : List UInt8 := [184, 1, 158, 62, 3, 54, 4, 3, 54, 5, 21, 5, 29, 163, 0, 19, 42, 180, 0, 119, 21, 5]
abbrev dktX0_best_2 : List UInt8 := dkwX0_best_2 ++ dktX0_best_3
def dkwX0_best_1 : List UInt8 := [180, 0, 109, 182, 1, 130, 154, 0, 11, 42, 182, 0, 207, 5, 162, 0, 7, 19, 1, 111, 172, 27]
abbrev dktX0_best_1 : List UInt8 := dkwX0_best_1 ++ dktX0_best_2
def dkwX0_best_0 : List UInt8 := [27, 133, 9, 20, 0, 212, 184, 0, 166, 153, 0, 31, 28, 133, 9, 10, 184, 0, 166, 153, 0, 21, 42]
abbrev dktX0_best_0 : List UInt8 := dkwX0_best_0 ++ dktX0_best_1
theorem dksX0_best_0 : cX0_best.data.toList.drop 0 = dktX0_best_0 := by decide +kernel
theorem dksX0_best_1 : cX0_best.data.toList.drop 23 = dktX0_best_1 := dk_seg dksX0_best_0 23 rfl rfl
theorem dksX0_best_2 : cX0_best.data.toList.drop 45 = dktX0_best_2 := dk_seg dksX0_best_1 22 rfl rfl
theorem dksX0_best_3 : cX0_best.data.toList.drop 67 = dktX0_best_3 := dk_seg dksX0_best_2 22 rfl rfl
theorem dksX0_best_4 : cX0_best.data.toList.drop 89 = dktX0_best_4 := dk_seg dksX0_best_3 22 rfl rfl
theorem dksX0_best_5 : cX0_best.data.toList.drop 112 = dktX0_best_5 := dk_seg dksX0_best_4 23 rfl rfl
theorem dksX0_best_6 : cX0_best.data.toList.drop 136 = dktX0_best_6 := dk_seg dksX0_best_5 24 rfl rfl
theorem dksX0_best_7 : cX0_best.data.toList.drop 160 = dktX0_best_7 := dk_seg dksX0_best_6 24 rfl rfl
theorem dksX0_best_8 : cX0_best.data.toList.drop 182 = dktX0_best_8 := dk_seg dksX0_best_7 22 rfl rfl
theorem dksX0_best_9 : cX0_best.data.toList.drop 206 = dktX0_best_9 := dk_seg dksX0_best_8 24 rfl rfl
theorem dX0_best_0 : decode cX0_best 0 = .ok (.iload_n 1, 1) := dk_27 (dk_at dksX0_best_0 0 rfl rfl)
theorem dX0_best_1 : decode cX0_best 1 = .ok (.i2l, 1) := dk_133 (dk_at dksX0_best_0 1 rfl rfl)
theorem dX0_best_2 : decode cX0_best 2 = .ok (.lconst 0, 1) := dk_9 (dk_at dksX0_best_0 2 rfl rfl)
theorem dX0_best_3 : decode cX0_best 3 = .ok (.ldc2_w 212, 3) := dk_20 0 212 (dk_at dksX0_best_0 3 rfl rfl)
theorem dX0_best_6 : decode cX0_best 6 = .ok (.invokestatic 166, 3) := dk_184 0 166 (dk_at dksX0_best_0 6 rfl rfl)
theorem dX0_best_9 : decode cX0_best 9 = .ok (.ifCond .eq 31, 3) := dk_153 0 31 (dk_at dksX0_best_0 9 rfl rfl)
theorem dX0_best_12 : decode cX0_best 12 = .ok (.iload_n 2, 1) := dk_28 (dk_at dksX0_best_0 12 rfl rfl)
theorem dX0_best_13 : decode cX0_best 13 = .ok (.i2l, 1) := dk_133 (dk_at dksX0_best_0 13 rfl rfl)
theorem dX0_best_14 : decode cX0_best 14 = .ok (.lconst 0, 1) := dk_9 (dk_at dksX0_best_0 14 rfl rfl)
theorem dX0_best_15 : decode cX0_best 15 = .ok (.lconst 1, 1) := dk_10 (dk_at dksX0_best_0 15 rfl rfl)
theorem dX0_best_16 : decode cX0_best 16 = .ok (.invokestatic 166, 3) := dk_184 0 166 (dk_at dksX0_best_0 16 rfl rfl)
theorem dX0_best_19 : decode cX0_best 19 = .ok (.ifCond .eq 21, 3) := dk_153 0 21 (dk_at dksX0_best_0 19 rfl rfl)
theorem dX0_best_22 : decode cX0_best 22 = .ok (.aload_n 0, 1) := dk_42 (dk_at dksX0_best_0 22 rfl rfl)
theorem dX0_best_23 : decode cX0_best 23 = .ok (.getfield 109, 3) := dk_180 0 109 (dk_at dksX0_best_1 0 rfl rfl)
theorem dX0_best_26 : decode cX0_best 26 = .ok (.invokevirtual 386, 3) := dk_182 1 130 (dk_at dksX0_best_1 3 rfl rfl)
theorem dX0_best_29 : decode cX0_best 29 = .ok (.ifCond .ne 11, 3) := dk_154 0 11 (dk_at dksX0_best_1 6 rfl rfl)
theorem dX0_best_32 : decode cX0_best 32 = .ok (.aload_n 0, 1) := dk_42 (dk_at dksX0_best_1 9 rfl rfl)
theorem dX0_best_33 : decode cX0_best 33 = .ok (.invokevirtual 207, 3) := dk_182 0 207 (dk_at dksX0_best_1 10 rfl rfl)
theorem dX0_best_36 : decode cX0_best 36 = .ok (.iconst 2, 1) := dk_5 (dk_at dksX0_best_1 13 rfl rfl)
theorem dX0_best_37 : decode cX0_best 37 = .ok (.if_icmp .ge 7, 3) := dk_162 0 7 (dk_at dksX0_best_1 14 rfl rfl)
theorem dX0_best_40 : decode cX0_best 40 = .ok (.ldc_w 367, 3) := dk_19 1 111 (dk_at dksX0_best_1 17 rfl rfl)
theorem dX0_best_43 : decode cX0_best 43 = .ok (.ireturn, 1) := dk_172 (dk_at dksX0_best_1 20 rfl rfl)
theorem dX0_best_44 : decode cX0_best 44 = .ok (.iload_n 1, 1) := dk_27 (dk_at dksX0_best_1 21 rfl rfl)
theorem dX0_best_45 : decode cX0_best 45 = .ok (.invokestatic 414, 3) := dk_184 1 158 (dk_at dksX0_best_2 0 rfl rfl)
theorem dX0_best_48 : decode cX0_best 48 = .ok (.istore_n 3, 1) := dk_62 (dk_at dksX0_best_2 3 rfl rfl)
theorem dX0_best_49 : decode cX0_best 49 = .ok (.iconst 0, 1) := dk_3 (dk_at dksX0_best_2 4 rfl rfl)
theorem dX0_best_50 : decode cX0_best 50 = .ok (.istore 4, 2) := dk_54 4 (dk_at dksX0_best_2 5 rfl rfl)
theorem dX0_best_52 : decode cX0_best 52 = .ok (.iconst 0, 1) := dk_3 (dk_at dksX0_best_2 7 rfl rfl)
theorem dX0_best_53 : decode cX0_best 53 = .ok (.istore 5, 2) := dk_54 5 (dk_at dksX0_best_2 8 rfl rfl)
theorem dX0_best_55 : decode cX0_best 55 = .ok (.iload 5, 2) := dk_21 5 (dk_at dksX0_best_2 10 rfl rfl)
theorem dX0_best_57 : decode cX0_best 57 = .ok (.iload_n 3, 1) := dk_29 (dk_at dksX0_best_2 12 rfl rfl)
theorem dX0_best_58 : decode cX0_best 58 = .ok (.if_icmp .gt 19, 3) := dk_163 0 19 (dk_at dksX0_best_2 13 rfl rfl)
theorem dX0_best_61 : decode cX0_best 61 = .ok (.aload_n 0, 1) := dk_42 (dk_at dksX0_best_2 16 rfl rfl)
theorem dX0_best_62 : decode cX0_best 62 = .ok (.getfield 119, 3) := dk_180 0 119 (dk_at dksX0_best_2 17 rfl rfl)
theorem dX0_best_65 : decode cX0_best 65 = .ok (.iload 5, 2) := dk_21 5 (dk_at dksX0_best_2 20 rfl rfl)
theorem dX0_best_67 : decode cX0_best 67 = .ok (.ldc_w 288, 3) := dk_19 1 32 (dk_at dksX0_best_3 0 rfl rfl)
theorem dX0_best_70 : decode cX0_best 70 = .ok (.iastore, 1) := dk_79 (dk_at dksX0_best_3 3 rfl rfl)
theorem dX0_best_71 : decode cX0_best 71 = .ok (.iinc 5 1, 3) := dk_132 5 1 (dk_at dksX0_best_3 4 rfl rfl)
theorem dX0_best_74 : decode cX0_best 74 = .ok (.goto (-19), 3) := dk_167 255 237 (dk_at dksX0_best_3 7 rfl rfl)
theorem dX0_best_77 : decode cX0_best 77 = .ok (.iconst 0, 1) := dk_3 (dk_at dksX0_best_3 10 rfl rfl)
theorem dX0_best_78 : decode cX0_best 78 = .ok (.istore 5, 2) := dk_54 5 (dk_at dksX0_best_3 11 rfl rfl)
theorem dX0_best_80 : decode cX0_best 80 = .ok (.iload 5, 2) := dk_21 5 (dk_at dksX0_best_3 13 rfl rfl)
theorem dX0_best_82 : decode cX0_best 82 = .ok (.aload_n 0, 1) := dk_42 (dk_at dksX0_best_3 15 rfl rfl)
theorem dX0_best_83 : decode cX0_best 83 = .ok (.getfield 109, 3) := dk_180 0 109 (dk_at dksX0_best_3 16 rfl rfl)
theorem dX0_best_86 : decode cX0_best 86 = .ok (.invokevirtual 203, 3) := dk_182 0 203 (dk_at dksX0_best_3 19 rfl rfl)
theorem dX0_best_89 : decode cX0_best 89 = .ok (.if_icmp .ge 87, 3) := dk_162 0 87 (dk_at dksX0_best_4 0 rfl rfl)
theorem dX0_best_92 : decode cX0_best 92 = .ok (.aload_n 0, 1) := dk_42 (dk_at dksX0_best_4 3 rfl rfl)
theorem dX0_best_93 : decode cX0_best 93 = .ok (.getfield 109, 3) := dk_180 0 109 (dk_at dksX0_best_4 4 rfl rfl)
theorem dX0_best_96 : decode cX0_best 96 = .ok (.iload 5, 2) := dk_21 5 (dk_at dksX0_best_4 7 rfl rfl)
theorem dX0_best_98 : decode cX0_best 98 = .ok (.invokevirtual 224, 3) := dk_182 0 224 (dk_at dksX0_best_4 9 rfl rfl)
theorem dX0_best_101 : decode cX0_best 101 = .ok (.checkcast 397, 3) := dk_192 1 141 (dk_at dksX0_best_4 12 rfl rfl)
theorem dX0_best_104 : decode cX0_best 104 = .ok (.astore 6, 2) := dk_58 6 (dk_at dksX0_best_4 15 rfl rfl)
theorem dX0_best_106 : decode cX0_best 106 = .ok (.aload_n 0, 1) := dk_42 (dk_at dksX0_best_4 17 rfl rfl)
theorem dX0_best_107 : decode cX0_best 107 = .ok (.aload 6, 2) := dk_25 6 (dk_at dksX0_best_4 18 rfl rfl)
theorem dX0_best_109 : decode cX0_best 109 = .ok (.getfield 402, 3) := dk_180 1 146 (dk_at dksX0_best_4 20 rfl rfl)
theorem dX0_best_112 : decode cX0_best 112 = .ok (.invokevirtual 219, 3) := dk_182 0 219 (dk_at dksX0_best_5 0 rfl rfl)
theorem dX0_best_115 : decode cX0_best 115 = .ok (.ifCond .ne 7, 3) := dk_154 0 7 (dk_at dksX0_best_5 3 rfl rfl)
theorem dX0_best_118 : decode cX0_best 118 = .ok (.ldc_w 367, 3) := dk_19 1 111 (dk_at dksX0_best_5 6 rfl rfl)
theorem dX0_best_121 : decode cX0_best 121 = .ok (.ireturn, 1) := dk_172 (dk_at dksX0_best_5 9 rfl rfl)
theorem dX0_best_122 : decode cX0_best 122 = .ok (.aload_n 0, 1) := dk_42 (dk_at dksX0_best_5 10 rfl rfl)
theorem dX0_best_123 : decode cX0_best 123 = .ok (.aload 6, 2) := dk_25 6 (dk_at dksX0_best_5 11 rfl rfl)
theorem dX0_best_125 : decode cX0_best 125 = .ok (.iload_n 1, 1) := dk_27 (dk_at dksX0_best_5 13 rfl rfl)
theorem dX0_best_126 : decode cX0_best 126 = .ok (.iload_n 3, 1) := dk_29 (dk_at dksX0_best_5 14 rfl rfl)
theorem dX0_best_127 : decode cX0_best 127 = .ok (.invokevirtual 417, 3) := dk_182 1 161 (dk_at dksX0_best_5 15 rfl rfl)
theorem dX0_best_130 : decode cX0_best 130 = .ok (.iconst 0, 1) := dk_3 (dk_at dksX0_best_5 18 rfl rfl)
theorem dX0_best_131 : decode cX0_best 131 = .ok (.istore 7, 2) := dk_54 7 (dk_at dksX0_best_5 19 rfl rfl)
theorem dX0_best_133 : decode cX0_best 133 = .ok (.iload 7, 2) := dk_21 7 (dk_at dksX0_best_5 21 rfl rfl)
theorem dX0_best_135 : decode cX0_best 135 = .ok (.iload_n 3, 1) := dk_29 (dk_at dksX0_best_5 23 rfl rfl)
theorem dX0_best_136 : decode cX0_best 136 = .ok (.if_icmp .gt 34, 3) := dk_163 0 34 (dk_at dksX0_best_6 0 rfl rfl)
theorem dX0_best_139 : decode cX0_best 139 = .ok (.aload_n 0, 1) := dk_42 (dk_at dksX0_best_6 3 rfl rfl)
theorem dX0_best_140 : decode cX0_best 140 = .ok (.getfield 119, 3) := dk_180 0 119 (dk_at dksX0_best_6 4 rfl rfl)
theorem dX0_best_143 : decode cX0_best 143 = .ok (.iload 7, 2) := dk_21 7 (dk_at dksX0_best_6 7 rfl rfl)
theorem dX0_best_145 : decode cX0_best 145 = .ok (.aload_n 0, 1) := dk_42 (dk_at dksX0_best_6 9 rfl rfl)
theorem dX0_best_146 : decode cX0_best 146 = .ok (.getfield 119, 3) := dk_180 0 119 (dk_at dksX0_best_6 10 rfl rfl)
theorem dX0_best_149 : decode cX0_best 149 = .ok (.iload 7, 2) := dk_21 7 (dk_at dksX0_best_6 13 rfl rfl)
theorem dX0_best_151 : decode cX0_best 151 = .ok (.iaload, 1) := dk_46 (dk_at dksX0_best_6 15 rfl rfl)
theorem dX0_best_152 : decode cX0_best 152 = .ok (.aload_n 0, 1) := dk_42 (dk_at dksX0_best_6 16 rfl rfl)
theorem dX0_best_153 : decode cX0_best 153 = .ok (.aload 6, 2) := dk_25 6 (dk_at dksX0_best_6 17 rfl rfl)
theorem dX0_best_155 : decode cX0_best 155 = .ok (.iload 7, 2) := dk_21 7 (dk_at dksX0_best_6 19 rfl rfl)
theorem dX0_best_157 : decode cX0_best 157 = .ok (.invokevirtual 425, 3) := dk_182 1 169 (dk_at dksX0_best_6 21 rfl rfl)
theorem dX0_best_160 : decode cX0_best 160 = .ok (.invokestatic 139, 3) := dk_184 0 139 (dk_at dksX0_best_7 0 rfl rfl)
theorem dX0_best_163 : decode cX0_best 163 = .ok (.iastore, 1) := dk_79 (dk_at dksX0_best_7 3 rfl rfl)
theorem dX0_best_164 : decode cX0_best 164 = .ok (.iinc 7 1, 3) := dk_132 7 1 (dk_at dksX0_best_7 4 rfl rfl)
theorem dX0_best_167 : decode cX0_best 167 = .ok (.goto (-34), 3) := dk_167 255 222 (dk_at dksX0_best_7 7 rfl rfl)
theorem dX0_best_170 : decode cX0_best 170 = .ok (.iinc 5 1, 3) := dk_132 5 1 (dk_at dksX0_best_7 10 rfl rfl)
theorem dX0_best_173 : decode cX0_best 173 = .ok (.goto (-93), 3) := dk_167 255 163 (dk_at dksX0_best_7 13 rfl rfl)
theorem dX0_best_176 : decode cX0_best 176 = .ok (.iconst 1, 1) := dk_4 (dk_at dksX0_best_7 16 rfl rfl)
theorem dX0_best_177 : decode cX0_best 177 = .ok (.istore 5, 2) := dk_54 5 (dk_at dksX0_best_7 17 rfl rfl)
theorem dX0_best_179 : decode cX0_best 179 = .ok (.iload 5, 2) := dk_21 5 (dk_at dksX0_best_7 19 rfl rfl)
theorem dX0_best_181 : decode cX0_best 181 = .ok (.iload_n 3, 1) := dk_29 (dk_at dksX0_best_7 21 rfl rfl)
theorem dX0_best_182 : decode cX0_best 182 = .ok (.if_icmp .gt 30, 3) := dk_163 0 30 (dk_at dksX0_best_8 0 rfl rfl)
theorem dX0_best_185 : decode cX0_best 185 = .ok (.aload_n 0, 1) := dk_42 (dk_at dksX0_best_8 3 rfl rfl)
theorem dX0_best_186 : decode cX0_best 186 = .ok (.getfield 119, 3) := dk_180 0 119 (dk_at dksX0_best_8 4 rfl rfl)
theorem dX0_best_189 : decode cX0_best 189 = .ok (.iload 5, 2) := dk_21 5 (dk_at dksX0_best_8 7 rfl rfl)
theorem dX0_best_191 : decode cX0_best 191 = .ok (.iaload, 1) := dk_46 (dk_at dksX0_best_8 9 rfl rfl)
theorem dX0_best_192 : decode cX0_best 192 = .ok (.aload_n 0, 1) := dk_42 (dk_at dksX0_best_8 10 rfl rfl)
theorem dX0_best_193 : decode cX0_best 193 = .ok (.getfield 119, 3) := dk_180 0 119 (dk_at dksX0_best_8 11 rfl rfl)
theorem dX0_best_196 : decode cX0_best 196 = .ok (.iload 4, 2) := dk_21 4 (dk_at dksX0_best_8 14 rfl rfl)
theorem dX0_best_198 : decode cX0_best 198 = .ok (.iaload, 1) := dk_46 (dk_at dksX0_best_8 16 rfl rfl)
theorem dX0_best_199 : decode cX0_best 199 = .ok (.if_icmp .le 7, 3) := dk_164 0 7 (dk_at dksX0_best_8 17 rfl rfl)
theorem dX0_best_202 : decode cX0_best 202 = .ok (.iload 5, 2) := dk_21 5 (dk_at dksX0_best_8 20 rfl rfl)
theorem dX0_best_204 : decode cX0_best 204 = .ok (.istore 4, 2) := dk_54 4 (dk_at dksX0_best_8 22 rfl rfl)
theorem dX0_best_206 : decode cX0_best 206 = .ok (.iinc 5 1, 3) := dk_132 5 1 (dk_at dksX0_best_9 0 rfl rfl)
theorem dX0_best_209 : decode cX0_best 209 = .ok (.goto (-30), 3) := dk_167 255 226 (dk_at dksX0_best_9 3 rfl rfl)
theorem dX0_best_212 : decode cX0_best 212 = .ok (.iload_n 2, 1) := dk_28 (dk_at dksX0_best_9 6 rfl rfl)
theorem dX0_best_213 : decode cX0_best 213 = .ok (.ifCond .ne 8, 3) := dk_154 0 8 (dk_at dksX0_best_9 7 rfl rfl)
theorem dX0_best_216 : decode cX0_best 216 = .ok (.iload 4, 2) := dk_21 4 (dk_at dksX0_best_9 10 rfl rfl)
theorem dX0_best_218 : decode cX0_best 218 = .ok (.goto 10, 3) := dk_167 0 10 (dk_at dksX0_best_9 12 rfl rfl)
theorem dX0_best_221 : decode cX0_best 221 = .ok (.aload_n 0, 1) := dk_42 (dk_at dksX0_best_9 15 rfl rfl)
theorem dX0_best_222 : decode cX0_best 222 = .ok (.getfield 119, 3) := dk_180 0 119 (dk_at dksX0_best_9 16 rfl rfl)
theorem dX0_best_225 : decode cX0_best 225 = .ok (.iload 4, 2) := dk_21 4 (dk_at dksX0_best_9 19 rfl rfl)
theorem dX0_best_227 : decode cX0_best 227 = .ok (.iaload, 1) := dk_46 (dk_at dksX0_best_9 21 rfl rfl)
theorem dX0_best_228 : decode cX0_best 228 = .ok (.ireturn, 1) := dk_172 (dk_at dksX0_best_9 22 rfl rfl)
abbrev cX0_rightBy : ByteArray := prog_1_method_75_code
def yX0_rightBy : MethodName := ⟨RX0, "rightBy", "(LLetterPen$Sample;I)I"⟩
def dkwX0_rightBy_2 : List UInt8 := [42, 180, 0, 112, 28, 50, 43, 180, 1, 146, 46, 100, 172]
abbrev dktX0_rightBy_2 : List UInt8 := dkwX0_rightBy_2 ++ []
def dkwX0_rightBy_1 : List UInt8 := [159, 0, 17, 29, 42, 180, 0, 112, 28, 50, 21, 4, 46, 184, 0, 139, 62, 132, 4, 1, 167, 255, 221, 29]
abbrev dktX0_rightBy_1 : List UInt8 := dkwX0_rightBy_1 ++ dktX0_rightBy_2
def dkwX0_rightBy_0 : List UInt8 := [19, 1, 32, 62, 3, 54, 4, 21, 4, 42, 182, 0, 207, 162, 0, 32, 21, 4, 43, 180, 1, 146]
abbrev dktX0_rightBy_0 : List UInt8 := dkwX0_rightBy_0 ++ dktX0_rightBy_1
theorem dksX0_rightBy_0 : cX0_rightBy.data.toList.drop 0 = dktX0_rightBy_0 := by decide +kernel
theorem dksX0_rightBy_1 : cX0_rightBy.data.toList.drop 22 = dktX0_rightBy_1 := dk_seg dksX0_rightBy_0 22 rfl rfl
theorem dksX0_rightBy_2 : cX0_rightBy.data.toList.drop 46 = dktX0_rightBy_2 := dk_seg dksX0_rightBy_1 24 rfl rfl
theorem dX0_rightBy_0 : decode cX0_rightBy 0 = .ok (.ldc_w 288, 3) := dk_19 1 32 (dk_at dksX0_rightBy_0 0 rfl rfl)
theorem dX0_rightBy_3 : decode cX0_rightBy 3 = .ok (.istore_n 3, 1) := dk_62 (dk_at dksX0_rightBy_0 3 rfl rfl)
theorem dX0_rightBy_4 : decode cX0_rightBy 4 = .ok (.iconst 0, 1) := dk_3 (dk_at dksX0_rightBy_0 4 rfl rfl)
theorem dX0_rightBy_5 : decode cX0_rightBy 5 = .ok (.istore 4, 2) := dk_54 4 (dk_at dksX0_rightBy_0 5 rfl rfl)
theorem dX0_rightBy_7 : decode cX0_rightBy 7 = .ok (.iload 4, 2) := dk_21 4 (dk_at dksX0_rightBy_0 7 rfl rfl)
theorem dX0_rightBy_9 : decode cX0_rightBy 9 = .ok (.aload_n 0, 1) := dk_42 (dk_at dksX0_rightBy_0 9 rfl rfl)
theorem dX0_rightBy_10 : decode cX0_rightBy 10 = .ok (.invokevirtual 207, 3) := dk_182 0 207 (dk_at dksX0_rightBy_0 10 rfl rfl)
theorem dX0_rightBy_13 : decode cX0_rightBy 13 = .ok (.if_icmp .ge 32, 3) := dk_162 0 32 (dk_at dksX0_rightBy_0 13 rfl rfl)
theorem dX0_rightBy_16 : decode cX0_rightBy 16 = .ok (.iload 4, 2) := dk_21 4 (dk_at dksX0_rightBy_0 16 rfl rfl)
theorem dX0_rightBy_18 : decode cX0_rightBy 18 = .ok (.aload_n 1, 1) := dk_43 (dk_at dksX0_rightBy_0 18 rfl rfl)
theorem dX0_rightBy_19 : decode cX0_rightBy 19 = .ok (.getfield 402, 3) := dk_180 1 146 (dk_at dksX0_rightBy_0 19 rfl rfl)
theorem dX0_rightBy_22 : decode cX0_rightBy 22 = .ok (.if_icmp .eq 17, 3) := dk_159 0 17 (dk_at dksX0_rightBy_1 0 rfl rfl)
theorem dX0_rightBy_25 : decode cX0_rightBy 25 = .ok (.iload_n 3, 1) := dk_29 (dk_at dksX0_rightBy_1 3 rfl rfl)
theorem dX0_rightBy_26 : decode cX0_rightBy 26 = .ok (.aload_n 0, 1) := dk_42 (dk_at dksX0_rightBy_1 4 rfl rfl)
theorem dX0_rightBy_27 : decode cX0_rightBy 27 = .ok (.getfield 112, 3) := dk_180 0 112 (dk_at dksX0_rightBy_1 5 rfl rfl)
theorem dX0_rightBy_30 : decode cX0_rightBy 30 = .ok (.iload_n 2, 1) := dk_28 (dk_at dksX0_rightBy_1 8 rfl rfl)
theorem dX0_rightBy_31 : decode cX0_rightBy 31 = .ok (.aaload, 1) := dk_50 (dk_at dksX0_rightBy_1 9 rfl rfl)
theorem dX0_rightBy_32 : decode cX0_rightBy 32 = .ok (.iload 4, 2) := dk_21 4 (dk_at dksX0_rightBy_1 10 rfl rfl)
theorem dX0_rightBy_34 : decode cX0_rightBy 34 = .ok (.iaload, 1) := dk_46 (dk_at dksX0_rightBy_1 12 rfl rfl)
theorem dX0_rightBy_35 : decode cX0_rightBy 35 = .ok (.invokestatic 139, 3) := dk_184 0 139 (dk_at dksX0_rightBy_1 13 rfl rfl)
theorem dX0_rightBy_38 : decode cX0_rightBy 38 = .ok (.istore_n 3, 1) := dk_62 (dk_at dksX0_rightBy_1 16 rfl rfl)
theorem dX0_rightBy_39 : decode cX0_rightBy 39 = .ok (.iinc 4 1, 3) := dk_132 4 1 (dk_at dksX0_rightBy_1 17 rfl rfl)
theorem dX0_rightBy_42 : decode cX0_rightBy 42 = .ok (.goto (-35), 3) := dk_167 255 221 (dk_at dksX0_rightBy_1 20 rfl rfl)
theorem dX0_rightBy_45 : decode cX0_rightBy 45 = .ok (.iload_n 3, 1) := dk_29 (dk_at dksX0_rightBy_1 23 rfl rfl)
theorem dX0_rightBy_46 : decode cX0_rightBy 46 = .ok (.aload_n 0, 1) := dk_42 (dk_at dksX0_rightBy_2 0 rfl rfl)
theorem dX0_rightBy_47 : decode cX0_rightBy 47 = .ok (.getfield 112, 3) := dk_180 0 112 (dk_at dksX0_rightBy_2 1 rfl rfl)
theorem dX0_rightBy_50 : decode cX0_rightBy 50 = .ok (.iload_n 2, 1) := dk_28 (dk_at dksX0_rightBy_2 4 rfl rfl)
theorem dX0_rightBy_51 : decode cX0_rightBy 51 = .ok (.aaload, 1) := dk_50 (dk_at dksX0_rightBy_2 5 rfl rfl)
theorem dX0_rightBy_52 : decode cX0_rightBy 52 = .ok (.aload_n 1, 1) := dk_43 (dk_at dksX0_rightBy_2 6 rfl rfl)
theorem dX0_rightBy_53 : decode cX0_rightBy 53 = .ok (.getfield 402, 3) := dk_180 1 146 (dk_at dksX0_rightBy_2 7 rfl rfl)
theorem dX0_rightBy_56 : decode cX0_rightBy 56 = .ok (.iaload, 1) := dk_46 (dk_at dksX0_rightBy_2 10 rfl rfl)
theorem dX0_rightBy_57 : decode cX0_rightBy 57 = .ok (.isub, 1) := dk_100 (dk_at dksX0_rightBy_2 11 rfl rfl)
theorem dX0_rightBy_58 : decode cX0_rightBy 58 = .ok (.ireturn, 1) := dk_172 (dk_at dksX0_rightBy_2 12 rfl rfl)
abbrev cX0_undo : ByteArray := prog_1_method_80_code
def yX0_undo : MethodName := ⟨RX0, "undo", "()Z"⟩
def dkwX0_undo_2 : List UInt8 := [181, 0, 23, 4, 172]
abbrev dktX0_undo_2 : List UInt8 := dkwX0_undo_2 ++ []
def dkwX0_undo_1 : List UInt8 := [182, 1, 124, 87, 42, 42, 180, 0, 30, 42, 180, 0, 30, 182, 0, 203, 4, 100, 182, 1, 173, 192, 0, 20]
abbrev dktX0_undo_1 : List UInt8 := dkwX0_undo_1 ++ dktX0_undo_2
def dkwX0_undo_0 : List UInt8 := [42, 180, 0, 30, 182, 1, 130, 153, 0, 9, 42, 7, 182, 0, 160, 172, 42, 180, 0, 34, 42, 180, 0, 23]
abbrev dktX0_undo_0 : List UInt8 := dkwX0_undo_0 ++ dktX0_undo_1
theorem dksX0_undo_0 : cX0_undo.data.toList.drop 0 = dktX0_undo_0 := by decide +kernel
theorem dksX0_undo_1 : cX0_undo.data.toList.drop 24 = dktX0_undo_1 := dk_seg dksX0_undo_0 24 rfl rfl
theorem dksX0_undo_2 : cX0_undo.data.toList.drop 48 = dktX0_undo_2 := dk_seg dksX0_undo_1 24 rfl rfl
theorem dX0_undo_0 : decode cX0_undo 0 = .ok (.aload_n 0, 1) := dk_42 (dk_at dksX0_undo_0 0 rfl rfl)
theorem dX0_undo_1 : decode cX0_undo 1 = .ok (.getfield 30, 3) := dk_180 0 30 (dk_at dksX0_undo_0 1 rfl rfl)
theorem dX0_undo_4 : decode cX0_undo 4 = .ok (.invokevirtual 386, 3) := dk_182 1 130 (dk_at dksX0_undo_0 4 rfl rfl)
theorem dX0_undo_7 : decode cX0_undo 7 = .ok (.ifCond .eq 9, 3) := dk_153 0 9 (dk_at dksX0_undo_0 7 rfl rfl)
theorem dX0_undo_10 : decode cX0_undo 10 = .ok (.aload_n 0, 1) := dk_42 (dk_at dksX0_undo_0 10 rfl rfl)
theorem dX0_undo_11 : decode cX0_undo 11 = .ok (.iconst 4, 1) := dk_7 (dk_at dksX0_undo_0 11 rfl rfl)
theorem dX0_undo_12 : decode cX0_undo 12 = .ok (.invokevirtual 160, 3) := dk_182 0 160 (dk_at dksX0_undo_0 12 rfl rfl)
theorem dX0_undo_15 : decode cX0_undo 15 = .ok (.ireturn, 1) := dk_172 (dk_at dksX0_undo_0 15 rfl rfl)
theorem dX0_undo_16 : decode cX0_undo 16 = .ok (.aload_n 0, 1) := dk_42 (dk_at dksX0_undo_0 16 rfl rfl)
theorem dX0_undo_17 : decode cX0_undo 17 = .ok (.getfield 34, 3) := dk_180 0 34 (dk_at dksX0_undo_0 17 rfl rfl)
theorem dX0_undo_20 : decode cX0_undo 20 = .ok (.aload_n 0, 1) := dk_42 (dk_at dksX0_undo_0 20 rfl rfl)
theorem dX0_undo_21 : decode cX0_undo 21 = .ok (.getfield 23, 3) := dk_180 0 23 (dk_at dksX0_undo_0 21 rfl rfl)
theorem dX0_undo_24 : decode cX0_undo 24 = .ok (.invokevirtual 380, 3) := dk_182 1 124 (dk_at dksX0_undo_1 0 rfl rfl)
theorem dX0_undo_27 : decode cX0_undo 27 = .ok (.pop, 1) := dk_87 (dk_at dksX0_undo_1 3 rfl rfl)
theorem dX0_undo_28 : decode cX0_undo 28 = .ok (.aload_n 0, 1) := dk_42 (dk_at dksX0_undo_1 4 rfl rfl)
theorem dX0_undo_29 : decode cX0_undo 29 = .ok (.aload_n 0, 1) := dk_42 (dk_at dksX0_undo_1 5 rfl rfl)
theorem dX0_undo_30 : decode cX0_undo 30 = .ok (.getfield 30, 3) := dk_180 0 30 (dk_at dksX0_undo_1 6 rfl rfl)
theorem dX0_undo_33 : decode cX0_undo 33 = .ok (.aload_n 0, 1) := dk_42 (dk_at dksX0_undo_1 9 rfl rfl)
theorem dX0_undo_34 : decode cX0_undo 34 = .ok (.getfield 30, 3) := dk_180 0 30 (dk_at dksX0_undo_1 10 rfl rfl)
theorem dX0_undo_37 : decode cX0_undo 37 = .ok (.invokevirtual 203, 3) := dk_182 0 203 (dk_at dksX0_undo_1 13 rfl rfl)
theorem dX0_undo_40 : decode cX0_undo 40 = .ok (.iconst 1, 1) := dk_4 (dk_at dksX0_undo_1 16 rfl rfl)
theorem dX0_undo_41 : decode cX0_undo 41 = .ok (.isub, 1) := dk_100 (dk_at dksX0_undo_1 17 rfl rfl)
theorem dX0_undo_42 : decode cX0_undo 42 = .ok (.invokevirtual 429, 3) := dk_182 1 173 (dk_at dksX0_undo_1 18 rfl rfl)
theorem dX0_undo_45 : decode cX0_undo 45 = .ok (.checkcast 20, 3) := dk_192 0 20 (dk_at dksX0_undo_1 21 rfl rfl)
theorem dX0_undo_48 : decode cX0_undo 48 = .ok (.putfield 23, 3) := dk_181 0 23 (dk_at dksX0_undo_2 0 rfl rfl)
theorem dX0_undo_51 : decode cX0_undo 51 = .ok (.iconst 1, 1) := dk_4 (dk_at dksX0_undo_2 3 rfl rfl)
theorem dX0_undo_52 : decode cX0_undo 52 = .ok (.ireturn, 1) := dk_172 (dk_at dksX0_undo_2 4 rfl rfl)
abbrev cX0_stroke : ByteArray := prog_1_method_81_code
def yX0_stroke : MethodName := ⟨RX0, "stroke", "()I"⟩
def dkwX0_stroke_6 : List UInt8 := [180, 0, 23, 180, 0, 209, 182, 0, 203, 4, 100, 172]
abbrev dktX0_stroke_6 : List UInt8 := dkwX0_stroke_6 ++ []
def dkwX0_stroke_5 : List UInt8 := [180, 0, 23, 180, 0, 209, 187, 0, 251, 89, 42, 180, 0, 17, 27, 183, 1, 187, 182, 1, 124, 87, 42]
abbrev dktX0_stroke_5 : List UInt8 := dkwX0_stroke_5 ++ dktX0_stroke_6
def dkwX0_stroke_4 : List UInt8 := [79, 132, 3, 1, 167, 255, 211, 28, 154, 0, 9, 42, 5, 182, 0, 150, 172, 42, 182, 1, 184, 42]
abbrev dktX0_stroke_4 : List UInt8 := dkwX0_stroke_4 ++ dktX0_stroke_5
def dkwX0_stroke_3 : List UInt8 := [163, 0, 7, 4, 167, 0, 4, 3, 61, 28, 153, 0, 15, 42, 180, 0, 17, 29, 42, 180, 0, 9, 29, 52]
abbrev dktX0_stroke_3 : List UInt8 := dkwX0_stroke_3 ++ dktX0_stroke_4
def dkwX0_stroke_2 : List UInt8 := [167, 0, 4, 3, 61, 3, 62, 29, 27, 162, 0, 46, 28, 153, 0, 42, 42, 180, 0, 9, 29, 52, 16, 99]
abbrev dktX0_stroke_2 : List UInt8 := dkwX0_stroke_2 ++ dktX0_stroke_3
def dkwX0_stroke_1 : List UInt8 := [162, 0, 27, 27, 133, 20, 1, 180, 20, 1, 182, 184, 0, 166, 153, 0, 13, 27, 5, 112, 154, 0, 7, 4]
abbrev dktX0_stroke_1 : List UInt8 := dkwX0_stroke_1 ++ dktX0_stroke_2
def dkwX0_stroke_0 : List UInt8 := [42, 180, 0, 153, 60, 42, 3, 181, 0, 153, 42, 180, 0, 23, 180, 0, 209, 182, 0, 203, 16, 8]
abbrev dktX0_stroke_0 : List UInt8 := dkwX0_stroke_0 ++ dktX0_stroke_1
theorem dksX0_stroke_0 : cX0_stroke.data.toList.drop 0 = dktX0_stroke_0 := by decide +kernel
theorem dksX0_stroke_1 : cX0_stroke.data.toList.drop 22 = dktX0_stroke_1 := dk_seg dksX0_stroke_0 22 rfl rfl
theorem dksX0_stroke_2 : cX0_stroke.data.toList.drop 46 = dktX0_stroke_2 := dk_seg dksX0_stroke_1 24 rfl rfl
theorem dksX0_stroke_3 : cX0_stroke.data.toList.drop 70 = dktX0_stroke_3 := dk_seg dksX0_stroke_2 24 rfl rfl
theorem dksX0_stroke_4 : cX0_stroke.data.toList.drop 94 = dktX0_stroke_4 := dk_seg dksX0_stroke_3 24 rfl rfl
theorem dksX0_stroke_5 : cX0_stroke.data.toList.drop 116 = dktX0_stroke_5 := dk_seg dksX0_stroke_4 22 rfl rfl
theorem dksX0_stroke_6 : cX0_stroke.data.toList.drop 139 = dktX0_stroke_6 := dk_seg dksX0_stroke_5 23 rfl rfl
theorem dX0_stroke_0 : decode cX0_stroke 0 = .ok (.aload_n 0, 1) := dk_42 (dk_at dksX0_stroke_0 0 rfl rfl)
theorem dX0_stroke_1 : decode cX0_stroke 1 = .ok (.getfield 153, 3) := dk_180 0 153 (dk_at dksX0_stroke_0 1 rfl rfl)
theorem dX0_stroke_4 : decode cX0_stroke 4 = .ok (.istore_n 1, 1) := dk_60 (dk_at dksX0_stroke_0 4 rfl rfl)
theorem dX0_stroke_5 : decode cX0_stroke 5 = .ok (.aload_n 0, 1) := dk_42 (dk_at dksX0_stroke_0 5 rfl rfl)
theorem dX0_stroke_6 : decode cX0_stroke 6 = .ok (.iconst 0, 1) := dk_3 (dk_at dksX0_stroke_0 6 rfl rfl)
theorem dX0_stroke_7 : decode cX0_stroke 7 = .ok (.putfield 153, 3) := dk_181 0 153 (dk_at dksX0_stroke_0 7 rfl rfl)
theorem dX0_stroke_10 : decode cX0_stroke 10 = .ok (.aload_n 0, 1) := dk_42 (dk_at dksX0_stroke_0 10 rfl rfl)
theorem dX0_stroke_11 : decode cX0_stroke 11 = .ok (.getfield 23, 3) := dk_180 0 23 (dk_at dksX0_stroke_0 11 rfl rfl)
theorem dX0_stroke_14 : decode cX0_stroke 14 = .ok (.getfield 209, 3) := dk_180 0 209 (dk_at dksX0_stroke_0 14 rfl rfl)
theorem dX0_stroke_17 : decode cX0_stroke 17 = .ok (.invokevirtual 203, 3) := dk_182 0 203 (dk_at dksX0_stroke_0 17 rfl rfl)
theorem dX0_stroke_20 : decode cX0_stroke 20 = .ok (.bipush 8, 2) := dk_16 8 (dk_at dksX0_stroke_0 20 rfl rfl)
theorem dX0_stroke_22 : decode cX0_stroke 22 = .ok (.if_icmp .ge 27, 3) := dk_162 0 27 (dk_at dksX0_stroke_1 0 rfl rfl)
theorem dX0_stroke_25 : decode cX0_stroke 25 = .ok (.iload_n 1, 1) := dk_27 (dk_at dksX0_stroke_1 3 rfl rfl)
theorem dX0_stroke_26 : decode cX0_stroke 26 = .ok (.i2l, 1) := dk_133 (dk_at dksX0_stroke_1 4 rfl rfl)
theorem dX0_stroke_27 : decode cX0_stroke 27 = .ok (.ldc2_w 436, 3) := dk_20 1 180 (dk_at dksX0_stroke_1 5 rfl rfl)
theorem dX0_stroke_30 : decode cX0_stroke 30 = .ok (.ldc2_w 438, 3) := dk_20 1 182 (dk_at dksX0_stroke_1 8 rfl rfl)
theorem dX0_stroke_33 : decode cX0_stroke 33 = .ok (.invokestatic 166, 3) := dk_184 0 166 (dk_at dksX0_stroke_1 11 rfl rfl)
theorem dX0_stroke_36 : decode cX0_stroke 36 = .ok (.ifCond .eq 13, 3) := dk_153 0 13 (dk_at dksX0_stroke_1 14 rfl rfl)
theorem dX0_stroke_39 : decode cX0_stroke 39 = .ok (.iload_n 1, 1) := dk_27 (dk_at dksX0_stroke_1 17 rfl rfl)
theorem dX0_stroke_40 : decode cX0_stroke 40 = .ok (.iconst 2, 1) := dk_5 (dk_at dksX0_stroke_1 18 rfl rfl)
theorem dX0_stroke_41 : decode cX0_stroke 41 = .ok (.irem, 1) := dk_112 (dk_at dksX0_stroke_1 19 rfl rfl)
theorem dX0_stroke_42 : decode cX0_stroke 42 = .ok (.ifCond .ne 7, 3) := dk_154 0 7 (dk_at dksX0_stroke_1 20 rfl rfl)
theorem dX0_stroke_45 : decode cX0_stroke 45 = .ok (.iconst 1, 1) := dk_4 (dk_at dksX0_stroke_1 23 rfl rfl)
theorem dX0_stroke_46 : decode cX0_stroke 46 = .ok (.goto 4, 3) := dk_167 0 4 (dk_at dksX0_stroke_2 0 rfl rfl)
theorem dX0_stroke_49 : decode cX0_stroke 49 = .ok (.iconst 0, 1) := dk_3 (dk_at dksX0_stroke_2 3 rfl rfl)
theorem dX0_stroke_50 : decode cX0_stroke 50 = .ok (.istore_n 2, 1) := dk_61 (dk_at dksX0_stroke_2 4 rfl rfl)
theorem dX0_stroke_51 : decode cX0_stroke 51 = .ok (.iconst 0, 1) := dk_3 (dk_at dksX0_stroke_2 5 rfl rfl)
theorem dX0_stroke_52 : decode cX0_stroke 52 = .ok (.istore_n 3, 1) := dk_62 (dk_at dksX0_stroke_2 6 rfl rfl)
theorem dX0_stroke_53 : decode cX0_stroke 53 = .ok (.iload_n 3, 1) := dk_29 (dk_at dksX0_stroke_2 7 rfl rfl)
theorem dX0_stroke_54 : decode cX0_stroke 54 = .ok (.iload_n 1, 1) := dk_27 (dk_at dksX0_stroke_2 8 rfl rfl)
theorem dX0_stroke_55 : decode cX0_stroke 55 = .ok (.if_icmp .ge 46, 3) := dk_162 0 46 (dk_at dksX0_stroke_2 9 rfl rfl)
theorem dX0_stroke_58 : decode cX0_stroke 58 = .ok (.iload_n 2, 1) := dk_28 (dk_at dksX0_stroke_2 12 rfl rfl)
theorem dX0_stroke_59 : decode cX0_stroke 59 = .ok (.ifCond .eq 42, 3) := dk_153 0 42 (dk_at dksX0_stroke_2 13 rfl rfl)
theorem dX0_stroke_62 : decode cX0_stroke 62 = .ok (.aload_n 0, 1) := dk_42 (dk_at dksX0_stroke_2 16 rfl rfl)
theorem dX0_stroke_63 : decode cX0_stroke 63 = .ok (.getfield 9, 3) := dk_180 0 9 (dk_at dksX0_stroke_2 17 rfl rfl)
theorem dX0_stroke_66 : decode cX0_stroke 66 = .ok (.iload_n 3, 1) := dk_29 (dk_at dksX0_stroke_2 20 rfl rfl)
theorem dX0_stroke_67 : decode cX0_stroke 67 = .ok (.caload, 1) := dk_52 (dk_at dksX0_stroke_2 21 rfl rfl)
theorem dX0_stroke_68 : decode cX0_stroke 68 = .ok (.bipush 99, 2) := dk_16 99 (dk_at dksX0_stroke_2 22 rfl rfl)
theorem dX0_stroke_70 : decode cX0_stroke 70 = .ok (.if_icmp .gt 7, 3) := dk_163 0 7 (dk_at dksX0_stroke_3 0 rfl rfl)
theorem dX0_stroke_73 : decode cX0_stroke 73 = .ok (.iconst 1, 1) := dk_4 (dk_at dksX0_stroke_3 3 rfl rfl)
theorem dX0_stroke_74 : decode cX0_stroke 74 = .ok (.goto 4, 3) := dk_167 0 4 (dk_at dksX0_stroke_3 4 rfl rfl)
theorem dX0_stroke_77 : decode cX0_stroke 77 = .ok (.iconst 0, 1) := dk_3 (dk_at dksX0_stroke_3 7 rfl rfl)
theorem dX0_stroke_78 : decode cX0_stroke 78 = .ok (.istore_n 2, 1) := dk_61 (dk_at dksX0_stroke_3 8 rfl rfl)
theorem dX0_stroke_79 : decode cX0_stroke 79 = .ok (.iload_n 2, 1) := dk_28 (dk_at dksX0_stroke_3 9 rfl rfl)
theorem dX0_stroke_80 : decode cX0_stroke 80 = .ok (.ifCond .eq 15, 3) := dk_153 0 15 (dk_at dksX0_stroke_3 10 rfl rfl)
theorem dX0_stroke_83 : decode cX0_stroke 83 = .ok (.aload_n 0, 1) := dk_42 (dk_at dksX0_stroke_3 13 rfl rfl)
theorem dX0_stroke_84 : decode cX0_stroke 84 = .ok (.getfield 17, 3) := dk_180 0 17 (dk_at dksX0_stroke_3 14 rfl rfl)
theorem dX0_stroke_87 : decode cX0_stroke 87 = .ok (.iload_n 3, 1) := dk_29 (dk_at dksX0_stroke_3 17 rfl rfl)
theorem dX0_stroke_88 : decode cX0_stroke 88 = .ok (.aload_n 0, 1) := dk_42 (dk_at dksX0_stroke_3 18 rfl rfl)
theorem dX0_stroke_89 : decode cX0_stroke 89 = .ok (.getfield 9, 3) := dk_180 0 9 (dk_at dksX0_stroke_3 19 rfl rfl)
theorem dX0_stroke_92 : decode cX0_stroke 92 = .ok (.iload_n 3, 1) := dk_29 (dk_at dksX0_stroke_3 22 rfl rfl)
theorem dX0_stroke_93 : decode cX0_stroke 93 = .ok (.caload, 1) := dk_52 (dk_at dksX0_stroke_3 23 rfl rfl)
theorem dX0_stroke_94 : decode cX0_stroke 94 = .ok (.iastore, 1) := dk_79 (dk_at dksX0_stroke_4 0 rfl rfl)
theorem dX0_stroke_95 : decode cX0_stroke 95 = .ok (.iinc 3 1, 3) := dk_132 3 1 (dk_at dksX0_stroke_4 1 rfl rfl)
theorem dX0_stroke_98 : decode cX0_stroke 98 = .ok (.goto (-45), 3) := dk_167 255 211 (dk_at dksX0_stroke_4 4 rfl rfl)
theorem dX0_stroke_101 : decode cX0_stroke 101 = .ok (.iload_n 2, 1) := dk_28 (dk_at dksX0_stroke_4 7 rfl rfl)
theorem dX0_stroke_102 : decode cX0_stroke 102 = .ok (.ifCond .ne 9, 3) := dk_154 0 9 (dk_at dksX0_stroke_4 8 rfl rfl)
theorem dX0_stroke_105 : decode cX0_stroke 105 = .ok (.aload_n 0, 1) := dk_42 (dk_at dksX0_stroke_4 11 rfl rfl)
theorem dX0_stroke_106 : decode cX0_stroke 106 = .ok (.iconst 2, 1) := dk_5 (dk_at dksX0_stroke_4 12 rfl rfl)
theorem dX0_stroke_107 : decode cX0_stroke 107 = .ok (.invokevirtual 150, 3) := dk_182 0 150 (dk_at dksX0_stroke_4 13 rfl rfl)
theorem dX0_stroke_110 : decode cX0_stroke 110 = .ok (.ireturn, 1) := dk_172 (dk_at dksX0_stroke_4 16 rfl rfl)
theorem dX0_stroke_111 : decode cX0_stroke 111 = .ok (.aload_n 0, 1) := dk_42 (dk_at dksX0_stroke_4 17 rfl rfl)
theorem dX0_stroke_112 : decode cX0_stroke 112 = .ok (.invokevirtual 440, 3) := dk_182 1 184 (dk_at dksX0_stroke_4 18 rfl rfl)
theorem dX0_stroke_115 : decode cX0_stroke 115 = .ok (.aload_n 0, 1) := dk_42 (dk_at dksX0_stroke_4 21 rfl rfl)
theorem dX0_stroke_116 : decode cX0_stroke 116 = .ok (.getfield 23, 3) := dk_180 0 23 (dk_at dksX0_stroke_5 0 rfl rfl)
theorem dX0_stroke_119 : decode cX0_stroke 119 = .ok (.getfield 209, 3) := dk_180 0 209 (dk_at dksX0_stroke_5 3 rfl rfl)
theorem dX0_stroke_122 : decode cX0_stroke 122 = .ok (.new 251, 3) := dk_187 0 251 (dk_at dksX0_stroke_5 6 rfl rfl)
theorem dX0_stroke_125 : decode cX0_stroke 125 = .ok (.dup, 1) := dk_89 (dk_at dksX0_stroke_5 9 rfl rfl)
theorem dX0_stroke_126 : decode cX0_stroke 126 = .ok (.aload_n 0, 1) := dk_42 (dk_at dksX0_stroke_5 10 rfl rfl)
theorem dX0_stroke_127 : decode cX0_stroke 127 = .ok (.getfield 17, 3) := dk_180 0 17 (dk_at dksX0_stroke_5 11 rfl rfl)
theorem dX0_stroke_130 : decode cX0_stroke 130 = .ok (.iload_n 1, 1) := dk_27 (dk_at dksX0_stroke_5 14 rfl rfl)
theorem dX0_stroke_131 : decode cX0_stroke 131 = .ok (.invokespecial 443, 3) := dk_183 1 187 (dk_at dksX0_stroke_5 15 rfl rfl)
theorem dX0_stroke_134 : decode cX0_stroke 134 = .ok (.invokevirtual 380, 3) := dk_182 1 124 (dk_at dksX0_stroke_5 18 rfl rfl)
theorem dX0_stroke_137 : decode cX0_stroke 137 = .ok (.pop, 1) := dk_87 (dk_at dksX0_stroke_5 21 rfl rfl)
theorem dX0_stroke_138 : decode cX0_stroke 138 = .ok (.aload_n 0, 1) := dk_42 (dk_at dksX0_stroke_5 22 rfl rfl)
theorem dX0_stroke_139 : decode cX0_stroke 139 = .ok (.getfield 23, 3) := dk_180 0 23 (dk_at dksX0_stroke_6 0 rfl rfl)
theorem dX0_stroke_142 : decode cX0_stroke 142 = .ok (.getfield 209, 3) := dk_180 0 209 (dk_at dksX0_stroke_6 3 rfl rfl)
theorem dX0_stroke_145 : decode cX0_stroke 145 = .ok (.invokevirtual 203, 3) := dk_182 0 203 (dk_at dksX0_stroke_6 6 rfl rfl)
theorem dX0_stroke_148 : decode cX0_stroke 148 = .ok (.iconst 1, 1) := dk_4 (dk_at dksX0_stroke_6 9 rfl rfl)
theorem dX0_stroke_149 : decode cX0_stroke 149 = .ok (.isub, 1) := dk_100 (dk_at dksX0_stroke_6 10 rfl rfl)
theorem dX0_stroke_150 : decode cX0_stroke 150 = .ok (.ireturn, 1) := dk_172 (dk_at dksX0_stroke_6 11 rfl rfl)
abbrev cX0_keeps : ByteArray := prog_1_method_79_code
def yX0_keeps : MethodName := ⟨RX0, "keeps", "()V"⟩
def dkwX0_keeps_3 : List UInt8 := [42, 180, 0, 23, 182, 1, 176, 182, 1, 124, 87, 177]
abbrev dktX0_keeps_3 : List UInt8 := dkwX0_keeps_3 ++ []
def dkwX0_keeps_2 : List UInt8 := [180, 0, 34, 42, 180, 0, 34, 182, 0, 203, 4, 100, 182, 1, 173, 192, 0, 20, 76, 42, 180, 0, 30, 43]
abbrev dktX0_keeps_2 : List UInt8 := dkwX0_keeps_2 ++ dktX0_keeps_3
def dkwX0_keeps_1 : List UInt8 := [167, 0, 42, 42, 180, 0, 34, 182, 1, 130, 153, 0, 13, 187, 0, 20, 89, 183, 0, 22, 167, 0, 22, 42]
abbrev dktX0_keeps_1 : List UInt8 := dkwX0_keeps_1 ++ dktX0_keeps_2
def dkwX0_keeps_0 : List UInt8 := [42, 180, 0, 30, 182, 0, 203, 16, 20, 160, 0, 17, 42, 180, 0, 30, 3, 182, 1, 173, 192, 0, 20]
abbrev dktX0_keeps_0 : List UInt8 := dkwX0_keeps_0 ++ dktX0_keeps_1
theorem dksX0_keeps_0 : cX0_keeps.data.toList.drop 0 = dktX0_keeps_0 := by decide +kernel
theorem dksX0_keeps_1 : cX0_keeps.data.toList.drop 23 = dktX0_keeps_1 := dk_seg dksX0_keeps_0 23 rfl rfl
theorem dksX0_keeps_2 : cX0_keeps.data.toList.drop 47 = dktX0_keeps_2 := dk_seg dksX0_keeps_1 24 rfl rfl
theorem dksX0_keeps_3 : cX0_keeps.data.toList.drop 71 = dktX0_keeps_3 := dk_seg dksX0_keeps_2 24 rfl rfl
theorem dX0_keeps_0 : decode cX0_keeps 0 = .ok (.aload_n 0, 1) := dk_42 (dk_at dksX0_keeps_0 0 rfl rfl)
theorem dX0_keeps_1 : decode cX0_keeps 1 = .ok (.getfield 30, 3) := dk_180 0 30 (dk_at dksX0_keeps_0 1 rfl rfl)
theorem dX0_keeps_4 : decode cX0_keeps 4 = .ok (.invokevirtual 203, 3) := dk_182 0 203 (dk_at dksX0_keeps_0 4 rfl rfl)
theorem dX0_keeps_7 : decode cX0_keeps 7 = .ok (.bipush 20, 2) := dk_16 20 (dk_at dksX0_keeps_0 7 rfl rfl)
theorem dX0_keeps_9 : decode cX0_keeps 9 = .ok (.if_icmp .ne 17, 3) := dk_160 0 17 (dk_at dksX0_keeps_0 9 rfl rfl)
theorem dX0_keeps_12 : decode cX0_keeps 12 = .ok (.aload_n 0, 1) := dk_42 (dk_at dksX0_keeps_0 12 rfl rfl)
theorem dX0_keeps_13 : decode cX0_keeps 13 = .ok (.getfield 30, 3) := dk_180 0 30 (dk_at dksX0_keeps_0 13 rfl rfl)
theorem dX0_keeps_16 : decode cX0_keeps 16 = .ok (.iconst 0, 1) := dk_3 (dk_at dksX0_keeps_0 16 rfl rfl)
theorem dX0_keeps_17 : decode cX0_keeps 17 = .ok (.invokevirtual 429, 3) := dk_182 1 173 (dk_at dksX0_keeps_0 17 rfl rfl)
theorem dX0_keeps_20 : decode cX0_keeps 20 = .ok (.checkcast 20, 3) := dk_192 0 20 (dk_at dksX0_keeps_0 20 rfl rfl)
theorem dX0_keeps_23 : decode cX0_keeps 23 = .ok (.goto 42, 3) := dk_167 0 42 (dk_at dksX0_keeps_1 0 rfl rfl)
theorem dX0_keeps_26 : decode cX0_keeps 26 = .ok (.aload_n 0, 1) := dk_42 (dk_at dksX0_keeps_1 3 rfl rfl)
theorem dX0_keeps_27 : decode cX0_keeps 27 = .ok (.getfield 34, 3) := dk_180 0 34 (dk_at dksX0_keeps_1 4 rfl rfl)
theorem dX0_keeps_30 : decode cX0_keeps 30 = .ok (.invokevirtual 386, 3) := dk_182 1 130 (dk_at dksX0_keeps_1 7 rfl rfl)
theorem dX0_keeps_33 : decode cX0_keeps 33 = .ok (.ifCond .eq 13, 3) := dk_153 0 13 (dk_at dksX0_keeps_1 10 rfl rfl)
theorem dX0_keeps_36 : decode cX0_keeps 36 = .ok (.new 20, 3) := dk_187 0 20 (dk_at dksX0_keeps_1 13 rfl rfl)
theorem dX0_keeps_39 : decode cX0_keeps 39 = .ok (.dup, 1) := dk_89 (dk_at dksX0_keeps_1 16 rfl rfl)
theorem dX0_keeps_40 : decode cX0_keeps 40 = .ok (.invokespecial 22, 3) := dk_183 0 22 (dk_at dksX0_keeps_1 17 rfl rfl)
theorem dX0_keeps_43 : decode cX0_keeps 43 = .ok (.goto 22, 3) := dk_167 0 22 (dk_at dksX0_keeps_1 20 rfl rfl)
theorem dX0_keeps_46 : decode cX0_keeps 46 = .ok (.aload_n 0, 1) := dk_42 (dk_at dksX0_keeps_1 23 rfl rfl)
theorem dX0_keeps_47 : decode cX0_keeps 47 = .ok (.getfield 34, 3) := dk_180 0 34 (dk_at dksX0_keeps_2 0 rfl rfl)
theorem dX0_keeps_50 : decode cX0_keeps 50 = .ok (.aload_n 0, 1) := dk_42 (dk_at dksX0_keeps_2 3 rfl rfl)
theorem dX0_keeps_51 : decode cX0_keeps 51 = .ok (.getfield 34, 3) := dk_180 0 34 (dk_at dksX0_keeps_2 4 rfl rfl)
theorem dX0_keeps_54 : decode cX0_keeps 54 = .ok (.invokevirtual 203, 3) := dk_182 0 203 (dk_at dksX0_keeps_2 7 rfl rfl)
theorem dX0_keeps_57 : decode cX0_keeps 57 = .ok (.iconst 1, 1) := dk_4 (dk_at dksX0_keeps_2 10 rfl rfl)
theorem dX0_keeps_58 : decode cX0_keeps 58 = .ok (.isub, 1) := dk_100 (dk_at dksX0_keeps_2 11 rfl rfl)
theorem dX0_keeps_59 : decode cX0_keeps 59 = .ok (.invokevirtual 429, 3) := dk_182 1 173 (dk_at dksX0_keeps_2 12 rfl rfl)
theorem dX0_keeps_62 : decode cX0_keeps 62 = .ok (.checkcast 20, 3) := dk_192 0 20 (dk_at dksX0_keeps_2 15 rfl rfl)
theorem dX0_keeps_65 : decode cX0_keeps 65 = .ok (.astore_n 1, 1) := dk_76 (dk_at dksX0_keeps_2 18 rfl rfl)
theorem dX0_keeps_66 : decode cX0_keeps 66 = .ok (.aload_n 0, 1) := dk_42 (dk_at dksX0_keeps_2 19 rfl rfl)
theorem dX0_keeps_67 : decode cX0_keeps 67 = .ok (.getfield 30, 3) := dk_180 0 30 (dk_at dksX0_keeps_2 20 rfl rfl)
theorem dX0_keeps_70 : decode cX0_keeps 70 = .ok (.aload_n 1, 1) := dk_43 (dk_at dksX0_keeps_2 23 rfl rfl)
theorem dX0_keeps_71 : decode cX0_keeps 71 = .ok (.aload_n 0, 1) := dk_42 (dk_at dksX0_keeps_3 0 rfl rfl)
theorem dX0_keeps_72 : decode cX0_keeps 72 = .ok (.getfield 23, 3) := dk_180 0 23 (dk_at dksX0_keeps_3 1 rfl rfl)
theorem dX0_keeps_75 : decode cX0_keeps 75 = .ok (.invokevirtual 432, 3) := dk_182 1 176 (dk_at dksX0_keeps_3 4 rfl rfl)
theorem dX0_keeps_78 : decode cX0_keeps 78 = .ok (.invokevirtual 380, 3) := dk_182 1 124 (dk_at dksX0_keeps_3 7 rfl rfl)
theorem dX0_keeps_81 : decode cX0_keeps 81 = .ok (.pop, 1) := dk_87 (dk_at dksX0_keeps_3 10 rfl rfl)
theorem dX0_keeps_82 : decode cX0_keeps 82 = .ok (.return_, 1) := dk_177 (dk_at dksX0_keeps_3 11 rfl rfl)
abbrev cX0_lift : ByteArray := prog_1_method_82_code
def yX0_lift : MethodName := ⟨RX0, "lift", "(I)Z"⟩
def dkwX0_lift_1 : List UInt8 := [182, 0, 160, 172, 42, 182, 1, 184, 42, 180, 0, 23, 180, 0, 209, 27, 182, 1, 173, 87, 4, 172]
abbrev dktX0_lift_1 : List UInt8 := dkwX0_lift_1 ++ []
def dkwX0_lift_0 : List UInt8 := [27, 133, 9, 42, 180, 0, 23, 180, 0, 209, 182, 0, 203, 4, 100, 133, 184, 0, 166, 154, 0, 9, 42, 5]
abbrev dktX0_lift_0 : List UInt8 := dkwX0_lift_0 ++ dktX0_lift_1
theorem dksX0_lift_0 : cX0_lift.data.toList.drop 0 = dktX0_lift_0 := by decide +kernel
theorem dksX0_lift_1 : cX0_lift.data.toList.drop 24 = dktX0_lift_1 := dk_seg dksX0_lift_0 24 rfl rfl
theorem dX0_lift_0 : decode cX0_lift 0 = .ok (.iload_n 1, 1) := dk_27 (dk_at dksX0_lift_0 0 rfl rfl)
theorem dX0_lift_1 : decode cX0_lift 1 = .ok (.i2l, 1) := dk_133 (dk_at dksX0_lift_0 1 rfl rfl)
theorem dX0_lift_2 : decode cX0_lift 2 = .ok (.lconst 0, 1) := dk_9 (dk_at dksX0_lift_0 2 rfl rfl)
theorem dX0_lift_3 : decode cX0_lift 3 = .ok (.aload_n 0, 1) := dk_42 (dk_at dksX0_lift_0 3 rfl rfl)
theorem dX0_lift_4 : decode cX0_lift 4 = .ok (.getfield 23, 3) := dk_180 0 23 (dk_at dksX0_lift_0 4 rfl rfl)
theorem dX0_lift_7 : decode cX0_lift 7 = .ok (.getfield 209, 3) := dk_180 0 209 (dk_at dksX0_lift_0 7 rfl rfl)
theorem dX0_lift_10 : decode cX0_lift 10 = .ok (.invokevirtual 203, 3) := dk_182 0 203 (dk_at dksX0_lift_0 10 rfl rfl)
theorem dX0_lift_13 : decode cX0_lift 13 = .ok (.iconst 1, 1) := dk_4 (dk_at dksX0_lift_0 13 rfl rfl)
theorem dX0_lift_14 : decode cX0_lift 14 = .ok (.isub, 1) := dk_100 (dk_at dksX0_lift_0 14 rfl rfl)
theorem dX0_lift_15 : decode cX0_lift 15 = .ok (.i2l, 1) := dk_133 (dk_at dksX0_lift_0 15 rfl rfl)
theorem dX0_lift_16 : decode cX0_lift 16 = .ok (.invokestatic 166, 3) := dk_184 0 166 (dk_at dksX0_lift_0 16 rfl rfl)
theorem dX0_lift_19 : decode cX0_lift 19 = .ok (.ifCond .ne 9, 3) := dk_154 0 9 (dk_at dksX0_lift_0 19 rfl rfl)
theorem dX0_lift_22 : decode cX0_lift 22 = .ok (.aload_n 0, 1) := dk_42 (dk_at dksX0_lift_0 22 rfl rfl)
theorem dX0_lift_23 : decode cX0_lift 23 = .ok (.iconst 2, 1) := dk_5 (dk_at dksX0_lift_0 23 rfl rfl)
theorem dX0_lift_24 : decode cX0_lift 24 = .ok (.invokevirtual 160, 3) := dk_182 0 160 (dk_at dksX0_lift_1 0 rfl rfl)
theorem dX0_lift_27 : decode cX0_lift 27 = .ok (.ireturn, 1) := dk_172 (dk_at dksX0_lift_1 3 rfl rfl)
theorem dX0_lift_28 : decode cX0_lift 28 = .ok (.aload_n 0, 1) := dk_42 (dk_at dksX0_lift_1 4 rfl rfl)
theorem dX0_lift_29 : decode cX0_lift 29 = .ok (.invokevirtual 440, 3) := dk_182 1 184 (dk_at dksX0_lift_1 5 rfl rfl)
theorem dX0_lift_32 : decode cX0_lift 32 = .ok (.aload_n 0, 1) := dk_42 (dk_at dksX0_lift_1 8 rfl rfl)
theorem dX0_lift_33 : decode cX0_lift 33 = .ok (.getfield 23, 3) := dk_180 0 23 (dk_at dksX0_lift_1 9 rfl rfl)
theorem dX0_lift_36 : decode cX0_lift 36 = .ok (.getfield 209, 3) := dk_180 0 209 (dk_at dksX0_lift_1 12 rfl rfl)
theorem dX0_lift_39 : decode cX0_lift 39 = .ok (.iload_n 1, 1) := dk_27 (dk_at dksX0_lift_1 15 rfl rfl)
theorem dX0_lift_40 : decode cX0_lift 40 = .ok (.invokevirtual 429, 3) := dk_182 1 173 (dk_at dksX0_lift_1 16 rfl rfl)
theorem dX0_lift_43 : decode cX0_lift 43 = .ok (.pop, 1) := dk_87 (dk_at dksX0_lift_1 19 rfl rfl)
theorem dX0_lift_44 : decode cX0_lift 44 = .ok (.iconst 1, 1) := dk_4 (dk_at dksX0_lift_1 20 rfl rfl)
theorem dX0_lift_45 : decode cX0_lift 45 = .ok (.ireturn, 1) := dk_172 (dk_at dksX0_lift_1 21 rfl rfl)
abbrev cX0_clear : ByteArray := prog_1_method_83_code
def yX0_clear : MethodName := ⟨RX0, "clear", "()I"⟩
def dkwX0_clear_1 : List UInt8 := [182, 1, 184, 42, 180, 0, 23, 180, 0, 209, 182, 0, 186, 27, 172]
abbrev dktX0_clear_1 : List UInt8 := dkwX0_clear_1 ++ []
def dkwX0_clear_0 : List UInt8 := [42, 180, 0, 23, 180, 0, 209, 182, 0, 203, 60, 27, 154, 0, 9, 42, 5, 182, 0, 150, 172, 42]
abbrev dktX0_clear_0 : List UInt8 := dkwX0_clear_0 ++ dktX0_clear_1
theorem dksX0_clear_0 : cX0_clear.data.toList.drop 0 = dktX0_clear_0 := by decide +kernel
theorem dksX0_clear_1 : cX0_clear.data.toList.drop 22 = dktX0_clear_1 := dk_seg dksX0_clear_0 22 rfl rfl
theorem dX0_clear_0 : decode cX0_clear 0 = .ok (.aload_n 0, 1) := dk_42 (dk_at dksX0_clear_0 0 rfl rfl)
theorem dX0_clear_1 : decode cX0_clear 1 = .ok (.getfield 23, 3) := dk_180 0 23 (dk_at dksX0_clear_0 1 rfl rfl)
theorem dX0_clear_4 : decode cX0_clear 4 = .ok (.getfield 209, 3) := dk_180 0 209 (dk_at dksX0_clear_0 4 rfl rfl)
theorem dX0_clear_7 : decode cX0_clear 7 = .ok (.invokevirtual 203, 3) := dk_182 0 203 (dk_at dksX0_clear_0 7 rfl rfl)
theorem dX0_clear_10 : decode cX0_clear 10 = .ok (.istore_n 1, 1) := dk_60 (dk_at dksX0_clear_0 10 rfl rfl)
theorem dX0_clear_11 : decode cX0_clear 11 = .ok (.iload_n 1, 1) := dk_27 (dk_at dksX0_clear_0 11 rfl rfl)
theorem dX0_clear_12 : decode cX0_clear 12 = .ok (.ifCond .ne 9, 3) := dk_154 0 9 (dk_at dksX0_clear_0 12 rfl rfl)
theorem dX0_clear_15 : decode cX0_clear 15 = .ok (.aload_n 0, 1) := dk_42 (dk_at dksX0_clear_0 15 rfl rfl)
theorem dX0_clear_16 : decode cX0_clear 16 = .ok (.iconst 2, 1) := dk_5 (dk_at dksX0_clear_0 16 rfl rfl)
theorem dX0_clear_17 : decode cX0_clear 17 = .ok (.invokevirtual 150, 3) := dk_182 0 150 (dk_at dksX0_clear_0 17 rfl rfl)
theorem dX0_clear_20 : decode cX0_clear 20 = .ok (.ireturn, 1) := dk_172 (dk_at dksX0_clear_0 20 rfl rfl)
theorem dX0_clear_21 : decode cX0_clear 21 = .ok (.aload_n 0, 1) := dk_42 (dk_at dksX0_clear_0 21 rfl rfl)
theorem dX0_clear_22 : decode cX0_clear 22 = .ok (.invokevirtual 440, 3) := dk_182 1 184 (dk_at dksX0_clear_1 0 rfl rfl)
theorem dX0_clear_25 : decode cX0_clear 25 = .ok (.aload_n 0, 1) := dk_42 (dk_at dksX0_clear_1 3 rfl rfl)
theorem dX0_clear_26 : decode cX0_clear 26 = .ok (.getfield 23, 3) := dk_180 0 23 (dk_at dksX0_clear_1 4 rfl rfl)
theorem dX0_clear_29 : decode cX0_clear 29 = .ok (.getfield 209, 3) := dk_180 0 209 (dk_at dksX0_clear_1 7 rfl rfl)
theorem dX0_clear_32 : decode cX0_clear 32 = .ok (.invokevirtual 186, 3) := dk_182 0 186 (dk_at dksX0_clear_1 10 rfl rfl)
theorem dX0_clear_35 : decode cX0_clear 35 = .ok (.iload_n 1, 1) := dk_27 (dk_at dksX0_clear_1 13 rfl rfl)
theorem dX0_clear_36 : decode cX0_clear 36 = .ok (.ireturn, 1) := dk_172 (dk_at dksX0_clear_1 14 rfl rfl)
abbrev cX0_learn : ByteArray := prog_1_method_84_code
def yX0_learn : MethodName := ⟨RX0, "learn", "()I"⟩
def dkwX0_learn_3 : List UInt8 := [182, 0, 207, 4, 100, 172]
abbrev dktX0_learn_3 : List UInt8 := dkwX0_learn_3 ++ []
def dkwX0_learn_2 : List UInt8 := [180, 0, 200, 187, 0, 228, 89, 42, 180, 0, 23, 180, 0, 209, 183, 1, 190, 182, 1, 124, 87, 42]
abbrev dktX0_learn_2 : List UInt8 := dkwX0_learn_2 ++ dktX0_learn_3
def dkwX0_learn_1 : List UInt8 := [182, 0, 207, 16, 8, 160, 0, 9, 42, 6, 182, 0, 150, 172, 42, 182, 1, 184, 42, 180, 0, 23]
abbrev dktX0_learn_1 : List UInt8 := dkwX0_learn_1 ++ dktX0_learn_2
def dkwX0_learn_0 : List UInt8 := [42, 180, 0, 23, 180, 0, 209, 182, 0, 203, 133, 10, 20, 1, 180, 184, 0, 166, 153, 0, 12, 42]
abbrev dktX0_learn_0 : List UInt8 := dkwX0_learn_0 ++ dktX0_learn_1
theorem dksX0_learn_0 : cX0_learn.data.toList.drop 0 = dktX0_learn_0 := by decide +kernel
theorem dksX0_learn_1 : cX0_learn.data.toList.drop 22 = dktX0_learn_1 := dk_seg dksX0_learn_0 22 rfl rfl
theorem dksX0_learn_2 : cX0_learn.data.toList.drop 44 = dktX0_learn_2 := dk_seg dksX0_learn_1 22 rfl rfl
theorem dksX0_learn_3 : cX0_learn.data.toList.drop 66 = dktX0_learn_3 := dk_seg dksX0_learn_2 22 rfl rfl
theorem dX0_learn_0 : decode cX0_learn 0 = .ok (.aload_n 0, 1) := dk_42 (dk_at dksX0_learn_0 0 rfl rfl)
theorem dX0_learn_1 : decode cX0_learn 1 = .ok (.getfield 23, 3) := dk_180 0 23 (dk_at dksX0_learn_0 1 rfl rfl)
theorem dX0_learn_4 : decode cX0_learn 4 = .ok (.getfield 209, 3) := dk_180 0 209 (dk_at dksX0_learn_0 4 rfl rfl)
theorem dX0_learn_7 : decode cX0_learn 7 = .ok (.invokevirtual 203, 3) := dk_182 0 203 (dk_at dksX0_learn_0 7 rfl rfl)
theorem dX0_learn_10 : decode cX0_learn 10 = .ok (.i2l, 1) := dk_133 (dk_at dksX0_learn_0 10 rfl rfl)
theorem dX0_learn_11 : decode cX0_learn 11 = .ok (.lconst 1, 1) := dk_10 (dk_at dksX0_learn_0 11 rfl rfl)
theorem dX0_learn_12 : decode cX0_learn 12 = .ok (.ldc2_w 436, 3) := dk_20 1 180 (dk_at dksX0_learn_0 12 rfl rfl)
theorem dX0_learn_15 : decode cX0_learn 15 = .ok (.invokestatic 166, 3) := dk_184 0 166 (dk_at dksX0_learn_0 15 rfl rfl)
theorem dX0_learn_18 : decode cX0_learn 18 = .ok (.ifCond .eq 12, 3) := dk_153 0 12 (dk_at dksX0_learn_0 18 rfl rfl)
theorem dX0_learn_21 : decode cX0_learn 21 = .ok (.aload_n 0, 1) := dk_42 (dk_at dksX0_learn_0 21 rfl rfl)
theorem dX0_learn_22 : decode cX0_learn 22 = .ok (.invokevirtual 207, 3) := dk_182 0 207 (dk_at dksX0_learn_1 0 rfl rfl)
theorem dX0_learn_25 : decode cX0_learn 25 = .ok (.bipush 8, 2) := dk_16 8 (dk_at dksX0_learn_1 3 rfl rfl)
theorem dX0_learn_27 : decode cX0_learn 27 = .ok (.if_icmp .ne 9, 3) := dk_160 0 9 (dk_at dksX0_learn_1 5 rfl rfl)
theorem dX0_learn_30 : decode cX0_learn 30 = .ok (.aload_n 0, 1) := dk_42 (dk_at dksX0_learn_1 8 rfl rfl)
theorem dX0_learn_31 : decode cX0_learn 31 = .ok (.iconst 3, 1) := dk_6 (dk_at dksX0_learn_1 9 rfl rfl)
theorem dX0_learn_32 : decode cX0_learn 32 = .ok (.invokevirtual 150, 3) := dk_182 0 150 (dk_at dksX0_learn_1 10 rfl rfl)
theorem dX0_learn_35 : decode cX0_learn 35 = .ok (.ireturn, 1) := dk_172 (dk_at dksX0_learn_1 13 rfl rfl)
theorem dX0_learn_36 : decode cX0_learn 36 = .ok (.aload_n 0, 1) := dk_42 (dk_at dksX0_learn_1 14 rfl rfl)
theorem dX0_learn_37 : decode cX0_learn 37 = .ok (.invokevirtual 440, 3) := dk_182 1 184 (dk_at dksX0_learn_1 15 rfl rfl)
theorem dX0_learn_40 : decode cX0_learn 40 = .ok (.aload_n 0, 1) := dk_42 (dk_at dksX0_learn_1 18 rfl rfl)
theorem dX0_learn_41 : decode cX0_learn 41 = .ok (.getfield 23, 3) := dk_180 0 23 (dk_at dksX0_learn_1 19 rfl rfl)
theorem dX0_learn_44 : decode cX0_learn 44 = .ok (.getfield 200, 3) := dk_180 0 200 (dk_at dksX0_learn_2 0 rfl rfl)
theorem dX0_learn_47 : decode cX0_learn 47 = .ok (.new 228, 3) := dk_187 0 228 (dk_at dksX0_learn_2 3 rfl rfl)
theorem dX0_learn_50 : decode cX0_learn 50 = .ok (.dup, 1) := dk_89 (dk_at dksX0_learn_2 6 rfl rfl)
theorem dX0_learn_51 : decode cX0_learn 51 = .ok (.aload_n 0, 1) := dk_42 (dk_at dksX0_learn_2 7 rfl rfl)
theorem dX0_learn_52 : decode cX0_learn 52 = .ok (.getfield 23, 3) := dk_180 0 23 (dk_at dksX0_learn_2 8 rfl rfl)
theorem dX0_learn_55 : decode cX0_learn 55 = .ok (.getfield 209, 3) := dk_180 0 209 (dk_at dksX0_learn_2 11 rfl rfl)
theorem dX0_learn_58 : decode cX0_learn 58 = .ok (.invokespecial 446, 3) := dk_183 1 190 (dk_at dksX0_learn_2 14 rfl rfl)
theorem dX0_learn_61 : decode cX0_learn 61 = .ok (.invokevirtual 380, 3) := dk_182 1 124 (dk_at dksX0_learn_2 17 rfl rfl)
theorem dX0_learn_64 : decode cX0_learn 64 = .ok (.pop, 1) := dk_87 (dk_at dksX0_learn_2 20 rfl rfl)
theorem dX0_learn_65 : decode cX0_learn 65 = .ok (.aload_n 0, 1) := dk_42 (dk_at dksX0_learn_2 21 rfl rfl)
theorem dX0_learn_66 : decode cX0_learn 66 = .ok (.invokevirtual 207, 3) := dk_182 0 207 (dk_at dksX0_learn_3 0 rfl rfl)
theorem dX0_learn_69 : decode cX0_learn 69 = .ok (.iconst 1, 1) := dk_4 (dk_at dksX0_learn_3 3 rfl rfl)
theorem dX0_learn_70 : decode cX0_learn 70 = .ok (.isub, 1) := dk_100 (dk_at dksX0_learn_3 4 rfl rfl)
theorem dX0_learn_71 : decode cX0_learn 71 = .ok (.ireturn, 1) := dk_172 (dk_at dksX0_learn_3 5 rfl rfl)
abbrev cX0_forget : ByteArray := prog_1_method_85_code
def yX0_forget : MethodName := ⟨RX0, "forget", "(I)Z"⟩
def dkwX0_forget_1 : List UInt8 := [180, 0, 200, 27, 182, 1, 173, 87, 4, 172]
abbrev dktX0_forget_1 : List UInt8 := dkwX0_forget_1 ++ []
def dkwX0_forget_0 : List UInt8 := [42, 27, 182, 0, 219, 154, 0, 9, 42, 6, 182, 0, 160, 172, 42, 182, 1, 184, 42, 180, 0, 23]
abbrev dktX0_forget_0 : List UInt8 := dkwX0_forget_0 ++ dktX0_forget_1
theorem dksX0_forget_0 : cX0_forget.data.toList.drop 0 = dktX0_forget_0 := by decide +kernel
theorem dksX0_forget_1 : cX0_forget.data.toList.drop 22 = dktX0_forget_1 := dk_seg dksX0_forget_0 22 rfl rfl
theorem dX0_forget_0 : decode cX0_forget 0 = .ok (.aload_n 0, 1) := dk_42 (dk_at dksX0_forget_0 0 rfl rfl)
theorem dX0_forget_1 : decode cX0_forget 1 = .ok (.iload_n 1, 1) := dk_27 (dk_at dksX0_forget_0 1 rfl rfl)
theorem dX0_forget_2 : decode cX0_forget 2 = .ok (.invokevirtual 219, 3) := dk_182 0 219 (dk_at dksX0_forget_0 2 rfl rfl)
theorem dX0_forget_5 : decode cX0_forget 5 = .ok (.ifCond .ne 9, 3) := dk_154 0 9 (dk_at dksX0_forget_0 5 rfl rfl)
theorem dX0_forget_8 : decode cX0_forget 8 = .ok (.aload_n 0, 1) := dk_42 (dk_at dksX0_forget_0 8 rfl rfl)
theorem dX0_forget_9 : decode cX0_forget 9 = .ok (.iconst 3, 1) := dk_6 (dk_at dksX0_forget_0 9 rfl rfl)
theorem dX0_forget_10 : decode cX0_forget 10 = .ok (.invokevirtual 160, 3) := dk_182 0 160 (dk_at dksX0_forget_0 10 rfl rfl)
theorem dX0_forget_13 : decode cX0_forget 13 = .ok (.ireturn, 1) := dk_172 (dk_at dksX0_forget_0 13 rfl rfl)
theorem dX0_forget_14 : decode cX0_forget 14 = .ok (.aload_n 0, 1) := dk_42 (dk_at dksX0_forget_0 14 rfl rfl)
theorem dX0_forget_15 : decode cX0_forget 15 = .ok (.invokevirtual 440, 3) := dk_182 1 184 (dk_at dksX0_forget_0 15 rfl rfl)
theorem dX0_forget_18 : decode cX0_forget 18 = .ok (.aload_n 0, 1) := dk_42 (dk_at dksX0_forget_0 18 rfl rfl)
theorem dX0_forget_19 : decode cX0_forget 19 = .ok (.getfield 23, 3) := dk_180 0 23 (dk_at dksX0_forget_0 19 rfl rfl)
theorem dX0_forget_22 : decode cX0_forget 22 = .ok (.getfield 200, 3) := dk_180 0 200 (dk_at dksX0_forget_1 0 rfl rfl)
theorem dX0_forget_25 : decode cX0_forget 25 = .ok (.iload_n 1, 1) := dk_27 (dk_at dksX0_forget_1 3 rfl rfl)
theorem dX0_forget_26 : decode cX0_forget 26 = .ok (.invokevirtual 429, 3) := dk_182 1 173 (dk_at dksX0_forget_1 4 rfl rfl)
theorem dX0_forget_29 : decode cX0_forget 29 = .ok (.pop, 1) := dk_87 (dk_at dksX0_forget_1 7 rfl rfl)
theorem dX0_forget_30 : decode cX0_forget 30 = .ok (.iconst 1, 1) := dk_4 (dk_at dksX0_forget_1 8 rfl rfl)
theorem dX0_forget_31 : decode cX0_forget 31 = .ok (.ireturn, 1) := dk_172 (dk_at dksX0_forget_1 9 rfl rfl)
abbrev cX0_set : ByteArray := prog_1_method_86_code
def yX0_set : MethodName := ⟨RX0, "set", "(II)Z"⟩
def dkwX0_set_2 : List UInt8 := [182, 0, 160, 172, 42, 182, 1, 184, 42, 180, 0, 23, 180, 0, 216, 27, 28, 79, 4, 172]
abbrev dktX0_set_2 : List UInt8 := dkwX0_set_2 ++ []
def dkwX0_set_1 : List UInt8 := [46, 133, 184, 0, 166, 153, 0, 16, 42, 180, 0, 23, 180, 0, 216, 27, 46, 28, 160, 0, 9, 42, 6]
abbrev dktX0_set_1 : List UInt8 := dkwX0_set_1 ++ dktX0_set_2
def dkwX0_set_0 : List UInt8 := [27, 133, 9, 20, 0, 164, 184, 0, 166, 153, 0, 36, 28, 133, 178, 1, 192, 27, 46, 133, 178, 1, 195, 27]
abbrev dktX0_set_0 : List UInt8 := dkwX0_set_0 ++ dktX0_set_1
theorem dksX0_set_0 : cX0_set.data.toList.drop 0 = dktX0_set_0 := by decide +kernel
theorem dksX0_set_1 : cX0_set.data.toList.drop 24 = dktX0_set_1 := dk_seg dksX0_set_0 24 rfl rfl
theorem dksX0_set_2 : cX0_set.data.toList.drop 47 = dktX0_set_2 := dk_seg dksX0_set_1 23 rfl rfl
theorem dX0_set_0 : decode cX0_set 0 = .ok (.iload_n 1, 1) := dk_27 (dk_at dksX0_set_0 0 rfl rfl)
theorem dX0_set_1 : decode cX0_set 1 = .ok (.i2l, 1) := dk_133 (dk_at dksX0_set_0 1 rfl rfl)
theorem dX0_set_2 : decode cX0_set 2 = .ok (.lconst 0, 1) := dk_9 (dk_at dksX0_set_0 2 rfl rfl)
theorem dX0_set_3 : decode cX0_set 3 = .ok (.ldc2_w 164, 3) := dk_20 0 164 (dk_at dksX0_set_0 3 rfl rfl)
theorem dX0_set_6 : decode cX0_set 6 = .ok (.invokestatic 166, 3) := dk_184 0 166 (dk_at dksX0_set_0 6 rfl rfl)
theorem dX0_set_9 : decode cX0_set 9 = .ok (.ifCond .eq 36, 3) := dk_153 0 36 (dk_at dksX0_set_0 9 rfl rfl)
theorem dX0_set_12 : decode cX0_set 12 = .ok (.iload_n 2, 1) := dk_28 (dk_at dksX0_set_0 12 rfl rfl)
theorem dX0_set_13 : decode cX0_set 13 = .ok (.i2l, 1) := dk_133 (dk_at dksX0_set_0 13 rfl rfl)
theorem dX0_set_14 : decode cX0_set 14 = .ok (.getstatic 448, 3) := dk_178 1 192 (dk_at dksX0_set_0 14 rfl rfl)
theorem dX0_set_17 : decode cX0_set 17 = .ok (.iload_n 1, 1) := dk_27 (dk_at dksX0_set_0 17 rfl rfl)
theorem dX0_set_18 : decode cX0_set 18 = .ok (.iaload, 1) := dk_46 (dk_at dksX0_set_0 18 rfl rfl)
theorem dX0_set_19 : decode cX0_set 19 = .ok (.i2l, 1) := dk_133 (dk_at dksX0_set_0 19 rfl rfl)
theorem dX0_set_20 : decode cX0_set 20 = .ok (.getstatic 451, 3) := dk_178 1 195 (dk_at dksX0_set_0 20 rfl rfl)
theorem dX0_set_23 : decode cX0_set 23 = .ok (.iload_n 1, 1) := dk_27 (dk_at dksX0_set_0 23 rfl rfl)
theorem dX0_set_24 : decode cX0_set 24 = .ok (.iaload, 1) := dk_46 (dk_at dksX0_set_1 0 rfl rfl)
theorem dX0_set_25 : decode cX0_set 25 = .ok (.i2l, 1) := dk_133 (dk_at dksX0_set_1 1 rfl rfl)
theorem dX0_set_26 : decode cX0_set 26 = .ok (.invokestatic 166, 3) := dk_184 0 166 (dk_at dksX0_set_1 2 rfl rfl)
theorem dX0_set_29 : decode cX0_set 29 = .ok (.ifCond .eq 16, 3) := dk_153 0 16 (dk_at dksX0_set_1 5 rfl rfl)
theorem dX0_set_32 : decode cX0_set 32 = .ok (.aload_n 0, 1) := dk_42 (dk_at dksX0_set_1 8 rfl rfl)
theorem dX0_set_33 : decode cX0_set 33 = .ok (.getfield 23, 3) := dk_180 0 23 (dk_at dksX0_set_1 9 rfl rfl)
theorem dX0_set_36 : decode cX0_set 36 = .ok (.getfield 216, 3) := dk_180 0 216 (dk_at dksX0_set_1 12 rfl rfl)
theorem dX0_set_39 : decode cX0_set 39 = .ok (.iload_n 1, 1) := dk_27 (dk_at dksX0_set_1 15 rfl rfl)
theorem dX0_set_40 : decode cX0_set 40 = .ok (.iaload, 1) := dk_46 (dk_at dksX0_set_1 16 rfl rfl)
theorem dX0_set_41 : decode cX0_set 41 = .ok (.iload_n 2, 1) := dk_28 (dk_at dksX0_set_1 17 rfl rfl)
theorem dX0_set_42 : decode cX0_set 42 = .ok (.if_icmp .ne 9, 3) := dk_160 0 9 (dk_at dksX0_set_1 18 rfl rfl)
theorem dX0_set_45 : decode cX0_set 45 = .ok (.aload_n 0, 1) := dk_42 (dk_at dksX0_set_1 21 rfl rfl)
theorem dX0_set_46 : decode cX0_set 46 = .ok (.iconst 3, 1) := dk_6 (dk_at dksX0_set_1 22 rfl rfl)
theorem dX0_set_47 : decode cX0_set 47 = .ok (.invokevirtual 160, 3) := dk_182 0 160 (dk_at dksX0_set_2 0 rfl rfl)
theorem dX0_set_50 : decode cX0_set 50 = .ok (.ireturn, 1) := dk_172 (dk_at dksX0_set_2 3 rfl rfl)
theorem dX0_set_51 : decode cX0_set 51 = .ok (.aload_n 0, 1) := dk_42 (dk_at dksX0_set_2 4 rfl rfl)
theorem dX0_set_52 : decode cX0_set 52 = .ok (.invokevirtual 440, 3) := dk_182 1 184 (dk_at dksX0_set_2 5 rfl rfl)
theorem dX0_set_55 : decode cX0_set 55 = .ok (.aload_n 0, 1) := dk_42 (dk_at dksX0_set_2 8 rfl rfl)
theorem dX0_set_56 : decode cX0_set 56 = .ok (.getfield 23, 3) := dk_180 0 23 (dk_at dksX0_set_2 9 rfl rfl)
theorem dX0_set_59 : decode cX0_set 59 = .ok (.getfield 216, 3) := dk_180 0 216 (dk_at dksX0_set_2 12 rfl rfl)
theorem dX0_set_62 : decode cX0_set 62 = .ok (.iload_n 1, 1) := dk_27 (dk_at dksX0_set_2 15 rfl rfl)
theorem dX0_set_63 : decode cX0_set 63 = .ok (.iload_n 2, 1) := dk_28 (dk_at dksX0_set_2 16 rfl rfl)
theorem dX0_set_64 : decode cX0_set 64 = .ok (.iastore, 1) := dk_79 (dk_at dksX0_set_2 17 rfl rfl)
theorem dX0_set_65 : decode cX0_set 65 = .ok (.iconst 1, 1) := dk_4 (dk_at dksX0_set_2 18 rfl rfl)
theorem dX0_set_66 : decode cX0_set 66 = .ok (.ireturn, 1) := dk_172 (dk_at dksX0_set_2 19 rfl rfl)
abbrev cX0_seed : ByteArray := prog_1_method_87_code
def yX0_seed : MethodName := ⟨RX0, "seed", "(I)Z"⟩
def dkwX0_seed_0 : List UInt8 := [27, 156, 0, 9, 42, 8, 182, 0, 160, 172, 42, 27, 133, 181, 0, 122, 4, 172]
abbrev dktX0_seed_0 : List UInt8 := dkwX0_seed_0 ++ []
theorem dksX0_seed_0 : cX0_seed.data.toList.drop 0 = dktX0_seed_0 := by decide +kernel
theorem dX0_seed_0 : decode cX0_seed 0 = .ok (.iload_n 1, 1) := dk_27 (dk_at dksX0_seed_0 0 rfl rfl)
theorem dX0_seed_1 : decode cX0_seed 1 = .ok (.ifCond .ge 9, 3) := dk_156 0 9 (dk_at dksX0_seed_0 1 rfl rfl)
theorem dX0_seed_4 : decode cX0_seed 4 = .ok (.aload_n 0, 1) := dk_42 (dk_at dksX0_seed_0 4 rfl rfl)
theorem dX0_seed_5 : decode cX0_seed 5 = .ok (.iconst 5, 1) := dk_8 (dk_at dksX0_seed_0 5 rfl rfl)
theorem dX0_seed_6 : decode cX0_seed 6 = .ok (.invokevirtual 160, 3) := dk_182 0 160 (dk_at dksX0_seed_0 6 rfl rfl)
theorem dX0_seed_9 : decode cX0_seed 9 = .ok (.ireturn, 1) := dk_172 (dk_at dksX0_seed_0 9 rfl rfl)
theorem dX0_seed_10 : decode cX0_seed 10 = .ok (.aload_n 0, 1) := dk_42 (dk_at dksX0_seed_0 10 rfl rfl)
theorem dX0_seed_11 : decode cX0_seed 11 = .ok (.iload_n 1, 1) := dk_27 (dk_at dksX0_seed_0 11 rfl rfl)
theorem dX0_seed_12 : decode cX0_seed 12 = .ok (.i2l, 1) := dk_133 (dk_at dksX0_seed_0 12 rfl rfl)
theorem dX0_seed_13 : decode cX0_seed 13 = .ok (.putfield 122, 3) := dk_181 0 122 (dk_at dksX0_seed_0 13 rfl rfl)
theorem dX0_seed_16 : decode cX0_seed 16 = .ok (.iconst 1, 1) := dk_4 (dk_at dksX0_seed_0 16 rfl rfl)
theorem dX0_seed_17 : decode cX0_seed 17 = .ok (.ireturn, 1) := dk_172 (dk_at dksX0_seed_0 17 rfl rfl)
abbrev cX0_wobble : ByteArray := prog_1_method_90_code
def yX0_wobble : MethodName := ⟨RX0, "wobble", "(I)I"⟩
def dkwX0_wobble_4 : List UInt8 := [182, 0, 224, 192, 0, 251, 27, 182, 1, 211, 182, 1, 215, 87, 132, 3, 1, 167, 255, 188, 28, 172]
abbrev dktX0_wobble_4 : List UInt8 := dkwX0_wobble_4 ++ []
def dkwX0_wobble_3 : List UInt8 := [182, 1, 5, 96, 61, 42, 180, 0, 23, 180, 0, 209, 29, 42, 42, 180, 0, 23, 180, 0, 209, 29]
abbrev dktX0_wobble_3 : List UInt8 := dkwX0_wobble_3 ++ dktX0_wobble_4
def dkwX0_wobble_2 : List UInt8 := [180, 0, 209, 182, 0, 203, 162, 0, 60, 28, 42, 180, 0, 23, 180, 0, 209, 29, 182, 0, 224, 192, 0, 251]
abbrev dktX0_wobble_2 : List UInt8 := dkwX0_wobble_2 ++ dktX0_wobble_3
def dkwX0_wobble_1 : List UInt8 := [153, 0, 9, 42, 5, 182, 0, 150, 172, 42, 182, 1, 184, 3, 61, 3, 62, 29, 42, 180, 0, 23]
abbrev dktX0_wobble_1 : List UInt8 := dkwX0_wobble_1 ++ dktX0_wobble_2
def dkwX0_wobble_0 : List UInt8 := [27, 133, 10, 20, 1, 209, 184, 0, 166, 153, 0, 16, 42, 180, 0, 23, 180, 0, 209, 182, 1, 130]
abbrev dktX0_wobble_0 : List UInt8 := dkwX0_wobble_0 ++ dktX0_wobble_1
theorem dksX0_wobble_0 : cX0_wobble.data.toList.drop 0 = dktX0_wobble_0 := by decide +kernel
theorem dksX0_wobble_1 : cX0_wobble.data.toList.drop 22 = dktX0_wobble_1 := dk_seg dksX0_wobble_0 22 rfl rfl
theorem dksX0_wobble_2 : cX0_wobble.data.toList.drop 44 = dktX0_wobble_2 := dk_seg dksX0_wobble_1 22 rfl rfl
theorem dksX0_wobble_3 : cX0_wobble.data.toList.drop 68 = dktX0_wobble_3 := dk_seg dksX0_wobble_2 24 rfl rfl
theorem dksX0_wobble_4 : cX0_wobble.data.toList.drop 90 = dktX0_wobble_4 := dk_seg dksX0_wobble_3 22 rfl rfl
theorem dX0_wobble_0 : decode cX0_wobble 0 = .ok (.iload_n 1, 1) := dk_27 (dk_at dksX0_wobble_0 0 rfl rfl)
theorem dX0_wobble_1 : decode cX0_wobble 1 = .ok (.i2l, 1) := dk_133 (dk_at dksX0_wobble_0 1 rfl rfl)
theorem dX0_wobble_2 : decode cX0_wobble 2 = .ok (.lconst 1, 1) := dk_10 (dk_at dksX0_wobble_0 2 rfl rfl)
theorem dX0_wobble_3 : decode cX0_wobble 3 = .ok (.ldc2_w 465, 3) := dk_20 1 209 (dk_at dksX0_wobble_0 3 rfl rfl)
theorem dX0_wobble_6 : decode cX0_wobble 6 = .ok (.invokestatic 166, 3) := dk_184 0 166 (dk_at dksX0_wobble_0 6 rfl rfl)
theorem dX0_wobble_9 : decode cX0_wobble 9 = .ok (.ifCond .eq 16, 3) := dk_153 0 16 (dk_at dksX0_wobble_0 9 rfl rfl)
theorem dX0_wobble_12 : decode cX0_wobble 12 = .ok (.aload_n 0, 1) := dk_42 (dk_at dksX0_wobble_0 12 rfl rfl)
theorem dX0_wobble_13 : decode cX0_wobble 13 = .ok (.getfield 23, 3) := dk_180 0 23 (dk_at dksX0_wobble_0 13 rfl rfl)
theorem dX0_wobble_16 : decode cX0_wobble 16 = .ok (.getfield 209, 3) := dk_180 0 209 (dk_at dksX0_wobble_0 16 rfl rfl)
theorem dX0_wobble_19 : decode cX0_wobble 19 = .ok (.invokevirtual 386, 3) := dk_182 1 130 (dk_at dksX0_wobble_0 19 rfl rfl)
theorem dX0_wobble_22 : decode cX0_wobble 22 = .ok (.ifCond .eq 9, 3) := dk_153 0 9 (dk_at dksX0_wobble_1 0 rfl rfl)
theorem dX0_wobble_25 : decode cX0_wobble 25 = .ok (.aload_n 0, 1) := dk_42 (dk_at dksX0_wobble_1 3 rfl rfl)
theorem dX0_wobble_26 : decode cX0_wobble 26 = .ok (.iconst 2, 1) := dk_5 (dk_at dksX0_wobble_1 4 rfl rfl)
theorem dX0_wobble_27 : decode cX0_wobble 27 = .ok (.invokevirtual 150, 3) := dk_182 0 150 (dk_at dksX0_wobble_1 5 rfl rfl)
theorem dX0_wobble_30 : decode cX0_wobble 30 = .ok (.ireturn, 1) := dk_172 (dk_at dksX0_wobble_1 8 rfl rfl)
theorem dX0_wobble_31 : decode cX0_wobble 31 = .ok (.aload_n 0, 1) := dk_42 (dk_at dksX0_wobble_1 9 rfl rfl)
theorem dX0_wobble_32 : decode cX0_wobble 32 = .ok (.invokevirtual 440, 3) := dk_182 1 184 (dk_at dksX0_wobble_1 10 rfl rfl)
theorem dX0_wobble_35 : decode cX0_wobble 35 = .ok (.iconst 0, 1) := dk_3 (dk_at dksX0_wobble_1 13 rfl rfl)
theorem dX0_wobble_36 : decode cX0_wobble 36 = .ok (.istore_n 2, 1) := dk_61 (dk_at dksX0_wobble_1 14 rfl rfl)
theorem dX0_wobble_37 : decode cX0_wobble 37 = .ok (.iconst 0, 1) := dk_3 (dk_at dksX0_wobble_1 15 rfl rfl)
theorem dX0_wobble_38 : decode cX0_wobble 38 = .ok (.istore_n 3, 1) := dk_62 (dk_at dksX0_wobble_1 16 rfl rfl)
theorem dX0_wobble_39 : decode cX0_wobble 39 = .ok (.iload_n 3, 1) := dk_29 (dk_at dksX0_wobble_1 17 rfl rfl)
theorem dX0_wobble_40 : decode cX0_wobble 40 = .ok (.aload_n 0, 1) := dk_42 (dk_at dksX0_wobble_1 18 rfl rfl)
theorem dX0_wobble_41 : decode cX0_wobble 41 = .ok (.getfield 23, 3) := dk_180 0 23 (dk_at dksX0_wobble_1 19 rfl rfl)
theorem dX0_wobble_44 : decode cX0_wobble 44 = .ok (.getfield 209, 3) := dk_180 0 209 (dk_at dksX0_wobble_2 0 rfl rfl)
theorem dX0_wobble_47 : decode cX0_wobble 47 = .ok (.invokevirtual 203, 3) := dk_182 0 203 (dk_at dksX0_wobble_2 3 rfl rfl)
theorem dX0_wobble_50 : decode cX0_wobble 50 = .ok (.if_icmp .ge 60, 3) := dk_162 0 60 (dk_at dksX0_wobble_2 6 rfl rfl)
theorem dX0_wobble_53 : decode cX0_wobble 53 = .ok (.iload_n 2, 1) := dk_28 (dk_at dksX0_wobble_2 9 rfl rfl)
theorem dX0_wobble_54 : decode cX0_wobble 54 = .ok (.aload_n 0, 1) := dk_42 (dk_at dksX0_wobble_2 10 rfl rfl)
theorem dX0_wobble_55 : decode cX0_wobble 55 = .ok (.getfield 23, 3) := dk_180 0 23 (dk_at dksX0_wobble_2 11 rfl rfl)
theorem dX0_wobble_58 : decode cX0_wobble 58 = .ok (.getfield 209, 3) := dk_180 0 209 (dk_at dksX0_wobble_2 14 rfl rfl)
theorem dX0_wobble_61 : decode cX0_wobble 61 = .ok (.iload_n 3, 1) := dk_29 (dk_at dksX0_wobble_2 17 rfl rfl)
theorem dX0_wobble_62 : decode cX0_wobble 62 = .ok (.invokevirtual 224, 3) := dk_182 0 224 (dk_at dksX0_wobble_2 18 rfl rfl)
theorem dX0_wobble_65 : decode cX0_wobble 65 = .ok (.checkcast 251, 3) := dk_192 0 251 (dk_at dksX0_wobble_2 21 rfl rfl)
theorem dX0_wobble_68 : decode cX0_wobble 68 = .ok (.invokevirtual 261, 3) := dk_182 1 5 (dk_at dksX0_wobble_3 0 rfl rfl)
theorem dX0_wobble_71 : decode cX0_wobble 71 = .ok (.iadd, 1) := dk_96 (dk_at dksX0_wobble_3 3 rfl rfl)
theorem dX0_wobble_72 : decode cX0_wobble 72 = .ok (.istore_n 2, 1) := dk_61 (dk_at dksX0_wobble_3 4 rfl rfl)
theorem dX0_wobble_73 : decode cX0_wobble 73 = .ok (.aload_n 0, 1) := dk_42 (dk_at dksX0_wobble_3 5 rfl rfl)
theorem dX0_wobble_74 : decode cX0_wobble 74 = .ok (.getfield 23, 3) := dk_180 0 23 (dk_at dksX0_wobble_3 6 rfl rfl)
theorem dX0_wobble_77 : decode cX0_wobble 77 = .ok (.getfield 209, 3) := dk_180 0 209 (dk_at dksX0_wobble_3 9 rfl rfl)
theorem dX0_wobble_80 : decode cX0_wobble 80 = .ok (.iload_n 3, 1) := dk_29 (dk_at dksX0_wobble_3 12 rfl rfl)
theorem dX0_wobble_81 : decode cX0_wobble 81 = .ok (.aload_n 0, 1) := dk_42 (dk_at dksX0_wobble_3 13 rfl rfl)
theorem dX0_wobble_82 : decode cX0_wobble 82 = .ok (.aload_n 0, 1) := dk_42 (dk_at dksX0_wobble_3 14 rfl rfl)
theorem dX0_wobble_83 : decode cX0_wobble 83 = .ok (.getfield 23, 3) := dk_180 0 23 (dk_at dksX0_wobble_3 15 rfl rfl)
theorem dX0_wobble_86 : decode cX0_wobble 86 = .ok (.getfield 209, 3) := dk_180 0 209 (dk_at dksX0_wobble_3 18 rfl rfl)
theorem dX0_wobble_89 : decode cX0_wobble 89 = .ok (.iload_n 3, 1) := dk_29 (dk_at dksX0_wobble_3 21 rfl rfl)
theorem dX0_wobble_90 : decode cX0_wobble 90 = .ok (.invokevirtual 224, 3) := dk_182 0 224 (dk_at dksX0_wobble_4 0 rfl rfl)
theorem dX0_wobble_93 : decode cX0_wobble 93 = .ok (.checkcast 251, 3) := dk_192 0 251 (dk_at dksX0_wobble_4 3 rfl rfl)
theorem dX0_wobble_96 : decode cX0_wobble 96 = .ok (.iload_n 1, 1) := dk_27 (dk_at dksX0_wobble_4 6 rfl rfl)
theorem dX0_wobble_97 : decode cX0_wobble 97 = .ok (.invokevirtual 467, 3) := dk_182 1 211 (dk_at dksX0_wobble_4 7 rfl rfl)
theorem dX0_wobble_100 : decode cX0_wobble 100 = .ok (.invokevirtual 471, 3) := dk_182 1 215 (dk_at dksX0_wobble_4 10 rfl rfl)
theorem dX0_wobble_103 : decode cX0_wobble 103 = .ok (.pop, 1) := dk_87 (dk_at dksX0_wobble_4 13 rfl rfl)
theorem dX0_wobble_104 : decode cX0_wobble 104 = .ok (.iinc 3 1, 3) := dk_132 3 1 (dk_at dksX0_wobble_4 14 rfl rfl)
theorem dX0_wobble_107 : decode cX0_wobble 107 = .ok (.goto (-68), 3) := dk_167 255 188 (dk_at dksX0_wobble_4 17 rfl rfl)
theorem dX0_wobble_110 : decode cX0_wobble 110 = .ok (.iload_n 2, 1) := dk_28 (dk_at dksX0_wobble_4 20 rfl rfl)
theorem dX0_wobble_111 : decode cX0_wobble 111 = .ok (.ireturn, 1) := dk_172 (dk_at dksX0_wobble_4 21 rfl rfl)
abbrev cX0_wobbled : ByteArray := prog_1_method_89_code
def yX0_wobbled : MethodName := ⟨RX0, "wobbled", "(LLetterPen$Stroke;I)LLetterPen$Stroke;"⟩
def dkwX0_wobbled_2 : List UInt8 := [167, 255, 211, 187, 0, 251, 89, 42, 180, 0, 17, 43, 180, 1, 8, 190, 183, 1, 187, 176]
abbrev dktX0_wobbled_2 : List UInt8 := dkwX0_wobbled_2 ++ []
def dkwX0_wobbled_1 : List UInt8 := [46, 42, 5, 28, 104, 4, 96, 182, 1, 206, 96, 28, 100, 184, 0, 139, 184, 1, 61, 79, 132, 3, 1]
abbrev dktX0_wobbled_1 : List UInt8 := dkwX0_wobbled_1 ++ dktX0_wobbled_2
def dkwX0_wobbled_0 : List UInt8 := [3, 62, 29, 43, 180, 1, 8, 190, 162, 0, 42, 42, 180, 0, 17, 29, 3, 16, 99, 43, 180, 1, 8, 29]
abbrev dktX0_wobbled_0 : List UInt8 := dkwX0_wobbled_0 ++ dktX0_wobbled_1
theorem dksX0_wobbled_0 : cX0_wobbled.data.toList.drop 0 = dktX0_wobbled_0 := by decide +kernel
theorem dksX0_wobbled_1 : cX0_wobbled.data.toList.drop 24 = dktX0_wobbled_1 := dk_seg dksX0_wobbled_0 24 rfl rfl
theorem dksX0_wobbled_2 : cX0_wobbled.data.toList.drop 47 = dktX0_wobbled_2 := dk_seg dksX0_wobbled_1 23 rfl rfl
theorem dX0_wobbled_0 : decode cX0_wobbled 0 = .ok (.iconst 0, 1) := dk_3 (dk_at dksX0_wobbled_0 0 rfl rfl)
theorem dX0_wobbled_1 : decode cX0_wobbled 1 = .ok (.istore_n 3, 1) := dk_62 (dk_at dksX0_wobbled_0 1 rfl rfl)
theorem dX0_wobbled_2 : decode cX0_wobbled 2 = .ok (.iload_n 3, 1) := dk_29 (dk_at dksX0_wobbled_0 2 rfl rfl)
theorem dX0_wobbled_3 : decode cX0_wobbled 3 = .ok (.aload_n 1, 1) := dk_43 (dk_at dksX0_wobbled_0 3 rfl rfl)
theorem dX0_wobbled_4 : decode cX0_wobbled 4 = .ok (.getfield 264, 3) := dk_180 1 8 (dk_at dksX0_wobbled_0 4 rfl rfl)
theorem dX0_wobbled_7 : decode cX0_wobbled 7 = .ok (.arraylength, 1) := dk_190 (dk_at dksX0_wobbled_0 7 rfl rfl)
theorem dX0_wobbled_8 : decode cX0_wobbled 8 = .ok (.if_icmp .ge 42, 3) := dk_162 0 42 (dk_at dksX0_wobbled_0 8 rfl rfl)
theorem dX0_wobbled_11 : decode cX0_wobbled 11 = .ok (.aload_n 0, 1) := dk_42 (dk_at dksX0_wobbled_0 11 rfl rfl)
theorem dX0_wobbled_12 : decode cX0_wobbled 12 = .ok (.getfield 17, 3) := dk_180 0 17 (dk_at dksX0_wobbled_0 12 rfl rfl)
theorem dX0_wobbled_15 : decode cX0_wobbled 15 = .ok (.iload_n 3, 1) := dk_29 (dk_at dksX0_wobbled_0 15 rfl rfl)
theorem dX0_wobbled_16 : decode cX0_wobbled 16 = .ok (.iconst 0, 1) := dk_3 (dk_at dksX0_wobbled_0 16 rfl rfl)
theorem dX0_wobbled_17 : decode cX0_wobbled 17 = .ok (.bipush 99, 2) := dk_16 99 (dk_at dksX0_wobbled_0 17 rfl rfl)
theorem dX0_wobbled_19 : decode cX0_wobbled 19 = .ok (.aload_n 1, 1) := dk_43 (dk_at dksX0_wobbled_0 19 rfl rfl)
theorem dX0_wobbled_20 : decode cX0_wobbled 20 = .ok (.getfield 264, 3) := dk_180 1 8 (dk_at dksX0_wobbled_0 20 rfl rfl)
theorem dX0_wobbled_23 : decode cX0_wobbled 23 = .ok (.iload_n 3, 1) := dk_29 (dk_at dksX0_wobbled_0 23 rfl rfl)
theorem dX0_wobbled_24 : decode cX0_wobbled 24 = .ok (.iaload, 1) := dk_46 (dk_at dksX0_wobbled_1 0 rfl rfl)
theorem dX0_wobbled_25 : decode cX0_wobbled 25 = .ok (.aload_n 0, 1) := dk_42 (dk_at dksX0_wobbled_1 1 rfl rfl)
theorem dX0_wobbled_26 : decode cX0_wobbled 26 = .ok (.iconst 2, 1) := dk_5 (dk_at dksX0_wobbled_1 2 rfl rfl)
theorem dX0_wobbled_27 : decode cX0_wobbled 27 = .ok (.iload_n 2, 1) := dk_28 (dk_at dksX0_wobbled_1 3 rfl rfl)
theorem dX0_wobbled_28 : decode cX0_wobbled 28 = .ok (.imul, 1) := dk_104 (dk_at dksX0_wobbled_1 4 rfl rfl)
theorem dX0_wobbled_29 : decode cX0_wobbled 29 = .ok (.iconst 1, 1) := dk_4 (dk_at dksX0_wobbled_1 5 rfl rfl)
theorem dX0_wobbled_30 : decode cX0_wobbled 30 = .ok (.iadd, 1) := dk_96 (dk_at dksX0_wobbled_1 6 rfl rfl)
theorem dX0_wobbled_31 : decode cX0_wobbled 31 = .ok (.invokevirtual 462, 3) := dk_182 1 206 (dk_at dksX0_wobbled_1 7 rfl rfl)
theorem dX0_wobbled_34 : decode cX0_wobbled 34 = .ok (.iadd, 1) := dk_96 (dk_at dksX0_wobbled_1 10 rfl rfl)
theorem dX0_wobbled_35 : decode cX0_wobbled 35 = .ok (.iload_n 2, 1) := dk_28 (dk_at dksX0_wobbled_1 11 rfl rfl)
theorem dX0_wobbled_36 : decode cX0_wobbled 36 = .ok (.isub, 1) := dk_100 (dk_at dksX0_wobbled_1 12 rfl rfl)
theorem dX0_wobbled_37 : decode cX0_wobbled 37 = .ok (.invokestatic 139, 3) := dk_184 0 139 (dk_at dksX0_wobbled_1 13 rfl rfl)
theorem dX0_wobbled_40 : decode cX0_wobbled 40 = .ok (.invokestatic 317, 3) := dk_184 1 61 (dk_at dksX0_wobbled_1 16 rfl rfl)
theorem dX0_wobbled_43 : decode cX0_wobbled 43 = .ok (.iastore, 1) := dk_79 (dk_at dksX0_wobbled_1 19 rfl rfl)
theorem dX0_wobbled_44 : decode cX0_wobbled 44 = .ok (.iinc 3 1, 3) := dk_132 3 1 (dk_at dksX0_wobbled_1 20 rfl rfl)
theorem dX0_wobbled_47 : decode cX0_wobbled 47 = .ok (.goto (-45), 3) := dk_167 255 211 (dk_at dksX0_wobbled_2 0 rfl rfl)
theorem dX0_wobbled_50 : decode cX0_wobbled 50 = .ok (.new 251, 3) := dk_187 0 251 (dk_at dksX0_wobbled_2 3 rfl rfl)
theorem dX0_wobbled_53 : decode cX0_wobbled 53 = .ok (.dup, 1) := dk_89 (dk_at dksX0_wobbled_2 6 rfl rfl)
theorem dX0_wobbled_54 : decode cX0_wobbled 54 = .ok (.aload_n 0, 1) := dk_42 (dk_at dksX0_wobbled_2 7 rfl rfl)
theorem dX0_wobbled_55 : decode cX0_wobbled 55 = .ok (.getfield 17, 3) := dk_180 0 17 (dk_at dksX0_wobbled_2 8 rfl rfl)
theorem dX0_wobbled_58 : decode cX0_wobbled 58 = .ok (.aload_n 1, 1) := dk_43 (dk_at dksX0_wobbled_2 11 rfl rfl)
theorem dX0_wobbled_59 : decode cX0_wobbled 59 = .ok (.getfield 264, 3) := dk_180 1 8 (dk_at dksX0_wobbled_2 12 rfl rfl)
theorem dX0_wobbled_62 : decode cX0_wobbled 62 = .ok (.arraylength, 1) := dk_190 (dk_at dksX0_wobbled_2 15 rfl rfl)
theorem dX0_wobbled_63 : decode cX0_wobbled 63 = .ok (.invokespecial 443, 3) := dk_183 1 187 (dk_at dksX0_wobbled_2 16 rfl rfl)
theorem dX0_wobbled_66 : decode cX0_wobbled 66 = .ok (.areturn, 1) := dk_176 (dk_at dksX0_wobbled_2 19 rfl rfl)
abbrev cX0_drawOf : ByteArray := prog_1_method_88_code
def yX0_drawOf : MethodName := ⟨RX0, "drawOf", "(I)I"⟩
def dkwX0_drawOf_1 : List UInt8 := [20, 1, 204, 109, 27, 133, 113, 136, 172]
abbrev dktX0_drawOf_1 : List UInt8 := dkwX0_drawOf_1 ++ []
def dkwX0_drawOf_0 : List UInt8 := [42, 20, 1, 198, 42, 180, 0, 122, 105, 20, 1, 200, 97, 20, 1, 202, 113, 181, 0, 122, 42, 180, 0, 122]
abbrev dktX0_drawOf_0 : List UInt8 := dkwX0_drawOf_0 ++ dktX0_drawOf_1
theorem dksX0_drawOf_0 : cX0_drawOf.data.toList.drop 0 = dktX0_drawOf_0 := by decide +kernel
theorem dksX0_drawOf_1 : cX0_drawOf.data.toList.drop 24 = dktX0_drawOf_1 := dk_seg dksX0_drawOf_0 24 rfl rfl
theorem dX0_drawOf_0 : decode cX0_drawOf 0 = .ok (.aload_n 0, 1) := dk_42 (dk_at dksX0_drawOf_0 0 rfl rfl)
theorem dX0_drawOf_1 : decode cX0_drawOf 1 = .ok (.ldc2_w 454, 3) := dk_20 1 198 (dk_at dksX0_drawOf_0 1 rfl rfl)
theorem dX0_drawOf_4 : decode cX0_drawOf 4 = .ok (.aload_n 0, 1) := dk_42 (dk_at dksX0_drawOf_0 4 rfl rfl)
theorem dX0_drawOf_5 : decode cX0_drawOf 5 = .ok (.getfield 122, 3) := dk_180 0 122 (dk_at dksX0_drawOf_0 5 rfl rfl)
theorem dX0_drawOf_8 : decode cX0_drawOf 8 = .ok (.lmul, 1) := dk_105 (dk_at dksX0_drawOf_0 8 rfl rfl)
theorem dX0_drawOf_9 : decode cX0_drawOf 9 = .ok (.ldc2_w 456, 3) := dk_20 1 200 (dk_at dksX0_drawOf_0 9 rfl rfl)
theorem dX0_drawOf_12 : decode cX0_drawOf 12 = .ok (.ladd, 1) := dk_97 (dk_at dksX0_drawOf_0 12 rfl rfl)
theorem dX0_drawOf_13 : decode cX0_drawOf 13 = .ok (.ldc2_w 458, 3) := dk_20 1 202 (dk_at dksX0_drawOf_0 13 rfl rfl)
theorem dX0_drawOf_16 : decode cX0_drawOf 16 = .ok (.lrem, 1) := dk_113 (dk_at dksX0_drawOf_0 16 rfl rfl)
theorem dX0_drawOf_17 : decode cX0_drawOf 17 = .ok (.putfield 122, 3) := dk_181 0 122 (dk_at dksX0_drawOf_0 17 rfl rfl)
theorem dX0_drawOf_20 : decode cX0_drawOf 20 = .ok (.aload_n 0, 1) := dk_42 (dk_at dksX0_drawOf_0 20 rfl rfl)
theorem dX0_drawOf_21 : decode cX0_drawOf 21 = .ok (.getfield 122, 3) := dk_180 0 122 (dk_at dksX0_drawOf_0 21 rfl rfl)
theorem dX0_drawOf_24 : decode cX0_drawOf 24 = .ok (.ldc2_w 460, 3) := dk_20 1 204 (dk_at dksX0_drawOf_1 0 rfl rfl)
theorem dX0_drawOf_27 : decode cX0_drawOf 27 = .ok (.ldiv, 1) := dk_109 (dk_at dksX0_drawOf_1 3 rfl rfl)
theorem dX0_drawOf_28 : decode cX0_drawOf 28 = .ok (.iload_n 1, 1) := dk_27 (dk_at dksX0_drawOf_1 4 rfl rfl)
theorem dX0_drawOf_29 : decode cX0_drawOf 29 = .ok (.i2l, 1) := dk_133 (dk_at dksX0_drawOf_1 5 rfl rfl)
theorem dX0_drawOf_30 : decode cX0_drawOf 30 = .ok (.lrem, 1) := dk_113 (dk_at dksX0_drawOf_1 6 rfl rfl)
theorem dX0_drawOf_31 : decode cX0_drawOf 31 = .ok (.l2i, 1) := dk_136 (dk_at dksX0_drawOf_1 7 rfl rfl)
theorem dX0_drawOf_32 : decode cX0_drawOf 32 = .ok (.ireturn, 1) := dk_172 (dk_at dksX0_drawOf_1 8 rfl rfl)
abbrev cX0_image : ByteArray := prog_1_method_93_code
def yX0_image : MethodName := ⟨RX0, "image", "()I"⟩
def dkwX0_image_5 : List UInt8 := [42, 180, 1, 219, 172]
abbrev dktX0_image_5 : List UInt8 := dkwX0_image_5 ++ []
def dkwX0_image_4 : List UInt8 := [167, 255, 234, 132, 1, 1, 167, 255, 179, 42, 42, 180, 0, 126, 42, 180, 1, 219, 184, 1, 225, 182, 1, 222]
abbrev dktX0_image_4 : List UInt8 := dkwX0_image_4 ++ dktX0_image_5
def dkwX0_image_3 : List UInt8 := [21, 5, 21, 4, 162, 0, 21, 45, 21, 5, 46, 54, 6, 42, 21, 6, 182, 1, 222, 132, 5, 1]
abbrev dktX0_image_3 : List UInt8 := dkwX0_image_3 ++ dktX0_image_4
def dkwX0_image_2 : List UInt8 := [192, 0, 251, 77, 42, 44, 182, 1, 5, 182, 1, 222, 44, 180, 1, 8, 78, 45, 190, 54, 4, 3, 54, 5]
abbrev dktX0_image_2 : List UInt8 := dkwX0_image_2 ++ dktX0_image_3
def dkwX0_image_1 : List UInt8 := [180, 0, 23, 180, 0, 209, 182, 0, 203, 162, 0, 69, 42, 180, 0, 23, 180, 0, 209, 27, 182, 0, 224]
abbrev dktX0_image_1 : List UInt8 := dkwX0_image_1 ++ dktX0_image_2
def dkwX0_image_0 : List UInt8 := [42, 3, 181, 1, 219, 42, 42, 180, 0, 23, 180, 0, 209, 182, 0, 203, 182, 1, 222, 3, 60, 27, 42]
abbrev dktX0_image_0 : List UInt8 := dkwX0_image_0 ++ dktX0_image_1
theorem dksX0_image_0 : cX0_image.data.toList.drop 0 = dktX0_image_0 := by decide +kernel
theorem dksX0_image_1 : cX0_image.data.toList.drop 23 = dktX0_image_1 := dk_seg dksX0_image_0 23 rfl rfl
theorem dksX0_image_2 : cX0_image.data.toList.drop 46 = dktX0_image_2 := dk_seg dksX0_image_1 23 rfl rfl
theorem dksX0_image_3 : cX0_image.data.toList.drop 70 = dktX0_image_3 := dk_seg dksX0_image_2 24 rfl rfl
theorem dksX0_image_4 : cX0_image.data.toList.drop 92 = dktX0_image_4 := dk_seg dksX0_image_3 22 rfl rfl
theorem dksX0_image_5 : cX0_image.data.toList.drop 116 = dktX0_image_5 := dk_seg dksX0_image_4 24 rfl rfl
theorem dX0_image_0 : decode cX0_image 0 = .ok (.aload_n 0, 1) := dk_42 (dk_at dksX0_image_0 0 rfl rfl)
theorem dX0_image_1 : decode cX0_image 1 = .ok (.iconst 0, 1) := dk_3 (dk_at dksX0_image_0 1 rfl rfl)
theorem dX0_image_2 : decode cX0_image 2 = .ok (.putfield 475, 3) := dk_181 1 219 (dk_at dksX0_image_0 2 rfl rfl)
theorem dX0_image_5 : decode cX0_image 5 = .ok (.aload_n 0, 1) := dk_42 (dk_at dksX0_image_0 5 rfl rfl)
theorem dX0_image_6 : decode cX0_image 6 = .ok (.aload_n 0, 1) := dk_42 (dk_at dksX0_image_0 6 rfl rfl)
theorem dX0_image_7 : decode cX0_image 7 = .ok (.getfield 23, 3) := dk_180 0 23 (dk_at dksX0_image_0 7 rfl rfl)
theorem dX0_image_10 : decode cX0_image 10 = .ok (.getfield 209, 3) := dk_180 0 209 (dk_at dksX0_image_0 10 rfl rfl)
theorem dX0_image_13 : decode cX0_image 13 = .ok (.invokevirtual 203, 3) := dk_182 0 203 (dk_at dksX0_image_0 13 rfl rfl)
theorem dX0_image_16 : decode cX0_image 16 = .ok (.invokevirtual 478, 3) := dk_182 1 222 (dk_at dksX0_image_0 16 rfl rfl)
theorem dX0_image_19 : decode cX0_image 19 = .ok (.iconst 0, 1) := dk_3 (dk_at dksX0_image_0 19 rfl rfl)
theorem dX0_image_20 : decode cX0_image 20 = .ok (.istore_n 1, 1) := dk_60 (dk_at dksX0_image_0 20 rfl rfl)
theorem dX0_image_21 : decode cX0_image 21 = .ok (.iload_n 1, 1) := dk_27 (dk_at dksX0_image_0 21 rfl rfl)
theorem dX0_image_22 : decode cX0_image 22 = .ok (.aload_n 0, 1) := dk_42 (dk_at dksX0_image_0 22 rfl rfl)
theorem dX0_image_23 : decode cX0_image 23 = .ok (.getfield 23, 3) := dk_180 0 23 (dk_at dksX0_image_1 0 rfl rfl)
theorem dX0_image_26 : decode cX0_image 26 = .ok (.getfield 209, 3) := dk_180 0 209 (dk_at dksX0_image_1 3 rfl rfl)
theorem dX0_image_29 : decode cX0_image 29 = .ok (.invokevirtual 203, 3) := dk_182 0 203 (dk_at dksX0_image_1 6 rfl rfl)
theorem dX0_image_32 : decode cX0_image 32 = .ok (.if_icmp .ge 69, 3) := dk_162 0 69 (dk_at dksX0_image_1 9 rfl rfl)
theorem dX0_image_35 : decode cX0_image 35 = .ok (.aload_n 0, 1) := dk_42 (dk_at dksX0_image_1 12 rfl rfl)
theorem dX0_image_36 : decode cX0_image 36 = .ok (.getfield 23, 3) := dk_180 0 23 (dk_at dksX0_image_1 13 rfl rfl)
theorem dX0_image_39 : decode cX0_image 39 = .ok (.getfield 209, 3) := dk_180 0 209 (dk_at dksX0_image_1 16 rfl rfl)
theorem dX0_image_42 : decode cX0_image 42 = .ok (.iload_n 1, 1) := dk_27 (dk_at dksX0_image_1 19 rfl rfl)
theorem dX0_image_43 : decode cX0_image 43 = .ok (.invokevirtual 224, 3) := dk_182 0 224 (dk_at dksX0_image_1 20 rfl rfl)
theorem dX0_image_46 : decode cX0_image 46 = .ok (.checkcast 251, 3) := dk_192 0 251 (dk_at dksX0_image_2 0 rfl rfl)
theorem dX0_image_49 : decode cX0_image 49 = .ok (.astore_n 2, 1) := dk_77 (dk_at dksX0_image_2 3 rfl rfl)
theorem dX0_image_50 : decode cX0_image 50 = .ok (.aload_n 0, 1) := dk_42 (dk_at dksX0_image_2 4 rfl rfl)
theorem dX0_image_51 : decode cX0_image 51 = .ok (.aload_n 2, 1) := dk_44 (dk_at dksX0_image_2 5 rfl rfl)
theorem dX0_image_52 : decode cX0_image 52 = .ok (.invokevirtual 261, 3) := dk_182 1 5 (dk_at dksX0_image_2 6 rfl rfl)
theorem dX0_image_55 : decode cX0_image 55 = .ok (.invokevirtual 478, 3) := dk_182 1 222 (dk_at dksX0_image_2 9 rfl rfl)
theorem dX0_image_58 : decode cX0_image 58 = .ok (.aload_n 2, 1) := dk_44 (dk_at dksX0_image_2 12 rfl rfl)
theorem dX0_image_59 : decode cX0_image 59 = .ok (.getfield 264, 3) := dk_180 1 8 (dk_at dksX0_image_2 13 rfl rfl)
theorem dX0_image_62 : decode cX0_image 62 = .ok (.astore_n 3, 1) := dk_78 (dk_at dksX0_image_2 16 rfl rfl)
theorem dX0_image_63 : decode cX0_image 63 = .ok (.aload_n 3, 1) := dk_45 (dk_at dksX0_image_2 17 rfl rfl)
theorem dX0_image_64 : decode cX0_image 64 = .ok (.arraylength, 1) := dk_190 (dk_at dksX0_image_2 18 rfl rfl)
theorem dX0_image_65 : decode cX0_image 65 = .ok (.istore 4, 2) := dk_54 4 (dk_at dksX0_image_2 19 rfl rfl)
theorem dX0_image_67 : decode cX0_image 67 = .ok (.iconst 0, 1) := dk_3 (dk_at dksX0_image_2 21 rfl rfl)
theorem dX0_image_68 : decode cX0_image 68 = .ok (.istore 5, 2) := dk_54 5 (dk_at dksX0_image_2 22 rfl rfl)
theorem dX0_image_70 : decode cX0_image 70 = .ok (.iload 5, 2) := dk_21 5 (dk_at dksX0_image_3 0 rfl rfl)
theorem dX0_image_72 : decode cX0_image 72 = .ok (.iload 4, 2) := dk_21 4 (dk_at dksX0_image_3 2 rfl rfl)
theorem dX0_image_74 : decode cX0_image 74 = .ok (.if_icmp .ge 21, 3) := dk_162 0 21 (dk_at dksX0_image_3 4 rfl rfl)
theorem dX0_image_77 : decode cX0_image 77 = .ok (.aload_n 3, 1) := dk_45 (dk_at dksX0_image_3 7 rfl rfl)
theorem dX0_image_78 : decode cX0_image 78 = .ok (.iload 5, 2) := dk_21 5 (dk_at dksX0_image_3 8 rfl rfl)
theorem dX0_image_80 : decode cX0_image 80 = .ok (.iaload, 1) := dk_46 (dk_at dksX0_image_3 10 rfl rfl)
theorem dX0_image_81 : decode cX0_image 81 = .ok (.istore 6, 2) := dk_54 6 (dk_at dksX0_image_3 11 rfl rfl)
theorem dX0_image_83 : decode cX0_image 83 = .ok (.aload_n 0, 1) := dk_42 (dk_at dksX0_image_3 13 rfl rfl)
theorem dX0_image_84 : decode cX0_image 84 = .ok (.iload 6, 2) := dk_21 6 (dk_at dksX0_image_3 14 rfl rfl)
theorem dX0_image_86 : decode cX0_image 86 = .ok (.invokevirtual 478, 3) := dk_182 1 222 (dk_at dksX0_image_3 16 rfl rfl)
theorem dX0_image_89 : decode cX0_image 89 = .ok (.iinc 5 1, 3) := dk_132 5 1 (dk_at dksX0_image_3 19 rfl rfl)
theorem dX0_image_92 : decode cX0_image 92 = .ok (.goto (-22), 3) := dk_167 255 234 (dk_at dksX0_image_4 0 rfl rfl)
theorem dX0_image_95 : decode cX0_image 95 = .ok (.iinc 1 1, 3) := dk_132 1 1 (dk_at dksX0_image_4 3 rfl rfl)
theorem dX0_image_98 : decode cX0_image 98 = .ok (.goto (-77), 3) := dk_167 255 179 (dk_at dksX0_image_4 6 rfl rfl)
theorem dX0_image_101 : decode cX0_image 101 = .ok (.aload_n 0, 1) := dk_42 (dk_at dksX0_image_4 9 rfl rfl)
theorem dX0_image_102 : decode cX0_image 102 = .ok (.aload_n 0, 1) := dk_42 (dk_at dksX0_image_4 10 rfl rfl)
theorem dX0_image_103 : decode cX0_image 103 = .ok (.getfield 126, 3) := dk_180 0 126 (dk_at dksX0_image_4 11 rfl rfl)
theorem dX0_image_106 : decode cX0_image 106 = .ok (.aload_n 0, 1) := dk_42 (dk_at dksX0_image_4 14 rfl rfl)
theorem dX0_image_107 : decode cX0_image 107 = .ok (.getfield 475, 3) := dk_180 1 219 (dk_at dksX0_image_4 15 rfl rfl)
theorem dX0_image_110 : decode cX0_image 110 = .ok (.invokestatic 481, 3) := dk_184 1 225 (dk_at dksX0_image_4 18 rfl rfl)
theorem dX0_image_113 : decode cX0_image 113 = .ok (.invokevirtual 478, 3) := dk_182 1 222 (dk_at dksX0_image_4 21 rfl rfl)
theorem dX0_image_116 : decode cX0_image 116 = .ok (.aload_n 0, 1) := dk_42 (dk_at dksX0_image_5 0 rfl rfl)
theorem dX0_image_117 : decode cX0_image 117 = .ok (.getfield 475, 3) := dk_180 1 219 (dk_at dksX0_image_5 1 rfl rfl)
theorem dX0_image_120 : decode cX0_image 120 = .ok (.ireturn, 1) := dk_172 (dk_at dksX0_image_5 4 rfl rfl)
abbrev cX0_writes : ByteArray := prog_1_method_91_code
def yX0_writes : MethodName := ⟨RX0, "writes", "(I)V"⟩
def dkwX0_writes_0 : List UInt8 := [42, 180, 0, 126, 42, 180, 1, 219, 27, 146, 85, 42, 89, 180, 1, 219, 4, 96, 181, 1, 219, 177]
abbrev dktX0_writes_0 : List UInt8 := dkwX0_writes_0 ++ []
theorem dksX0_writes_0 : cX0_writes.data.toList.drop 0 = dktX0_writes_0 := by decide +kernel
theorem dX0_writes_0 : decode cX0_writes 0 = .ok (.aload_n 0, 1) := dk_42 (dk_at dksX0_writes_0 0 rfl rfl)
theorem dX0_writes_1 : decode cX0_writes 1 = .ok (.getfield 126, 3) := dk_180 0 126 (dk_at dksX0_writes_0 1 rfl rfl)
theorem dX0_writes_4 : decode cX0_writes 4 = .ok (.aload_n 0, 1) := dk_42 (dk_at dksX0_writes_0 4 rfl rfl)
theorem dX0_writes_5 : decode cX0_writes 5 = .ok (.getfield 475, 3) := dk_180 1 219 (dk_at dksX0_writes_0 5 rfl rfl)
theorem dX0_writes_8 : decode cX0_writes 8 = .ok (.iload_n 1, 1) := dk_27 (dk_at dksX0_writes_0 8 rfl rfl)
theorem dX0_writes_9 : decode cX0_writes 9 = .ok (.i2c, 1) := dk_146 (dk_at dksX0_writes_0 9 rfl rfl)
theorem dX0_writes_10 : decode cX0_writes 10 = .ok (.castore, 1) := dk_85 (dk_at dksX0_writes_0 10 rfl rfl)
theorem dX0_writes_11 : decode cX0_writes 11 = .ok (.aload_n 0, 1) := dk_42 (dk_at dksX0_writes_0 11 rfl rfl)
theorem dX0_writes_12 : decode cX0_writes 12 = .ok (.dup, 1) := dk_89 (dk_at dksX0_writes_0 12 rfl rfl)
theorem dX0_writes_13 : decode cX0_writes 13 = .ok (.getfield 475, 3) := dk_180 1 219 (dk_at dksX0_writes_0 13 rfl rfl)
theorem dX0_writes_16 : decode cX0_writes 16 = .ok (.iconst 1, 1) := dk_4 (dk_at dksX0_writes_0 16 rfl rfl)
theorem dX0_writes_17 : decode cX0_writes 17 = .ok (.iadd, 1) := dk_96 (dk_at dksX0_writes_0 17 rfl rfl)
theorem dX0_writes_18 : decode cX0_writes 18 = .ok (.putfield 475, 3) := dk_181 1 219 (dk_at dksX0_writes_0 18 rfl rfl)
theorem dX0_writes_21 : decode cX0_writes 21 = .ok (.return_, 1) := dk_177 (dk_at dksX0_writes_0 21 rfl rfl)
abbrev cX0_last : ByteArray := prog_1_method_92_code
def yX0_last : MethodName := ⟨RX0, "last", "([CI)I"⟩
def dkwX0_last_1 : List UInt8 := [132, 3, 1, 167, 255, 236, 28, 172]
abbrev dktX0_last_1 : List UInt8 := dkwX0_last_1 ++ []
def dkwX0_last_0 : List UInt8 := [17, 0, 157, 61, 3, 62, 29, 27, 162, 0, 21, 6, 28, 104, 42, 29, 52, 96, 17, 0, 251, 112, 61]
abbrev dktX0_last_0 : List UInt8 := dkwX0_last_0 ++ dktX0_last_1
theorem dksX0_last_0 : cX0_last.data.toList.drop 0 = dktX0_last_0 := by decide +kernel
theorem dksX0_last_1 : cX0_last.data.toList.drop 23 = dktX0_last_1 := dk_seg dksX0_last_0 23 rfl rfl
theorem dX0_last_0 : decode cX0_last 0 = .ok (.sipush 157, 3) := dk_17 0 157 (dk_at dksX0_last_0 0 rfl rfl)
theorem dX0_last_3 : decode cX0_last 3 = .ok (.istore_n 2, 1) := dk_61 (dk_at dksX0_last_0 3 rfl rfl)
theorem dX0_last_4 : decode cX0_last 4 = .ok (.iconst 0, 1) := dk_3 (dk_at dksX0_last_0 4 rfl rfl)
theorem dX0_last_5 : decode cX0_last 5 = .ok (.istore_n 3, 1) := dk_62 (dk_at dksX0_last_0 5 rfl rfl)
theorem dX0_last_6 : decode cX0_last 6 = .ok (.iload_n 3, 1) := dk_29 (dk_at dksX0_last_0 6 rfl rfl)
theorem dX0_last_7 : decode cX0_last 7 = .ok (.iload_n 1, 1) := dk_27 (dk_at dksX0_last_0 7 rfl rfl)
theorem dX0_last_8 : decode cX0_last 8 = .ok (.if_icmp .ge 21, 3) := dk_162 0 21 (dk_at dksX0_last_0 8 rfl rfl)
theorem dX0_last_11 : decode cX0_last 11 = .ok (.iconst 3, 1) := dk_6 (dk_at dksX0_last_0 11 rfl rfl)
theorem dX0_last_12 : decode cX0_last 12 = .ok (.iload_n 2, 1) := dk_28 (dk_at dksX0_last_0 12 rfl rfl)
theorem dX0_last_13 : decode cX0_last 13 = .ok (.imul, 1) := dk_104 (dk_at dksX0_last_0 13 rfl rfl)
theorem dX0_last_14 : decode cX0_last 14 = .ok (.aload_n 0, 1) := dk_42 (dk_at dksX0_last_0 14 rfl rfl)
theorem dX0_last_15 : decode cX0_last 15 = .ok (.iload_n 3, 1) := dk_29 (dk_at dksX0_last_0 15 rfl rfl)
theorem dX0_last_16 : decode cX0_last 16 = .ok (.caload, 1) := dk_52 (dk_at dksX0_last_0 16 rfl rfl)
theorem dX0_last_17 : decode cX0_last 17 = .ok (.iadd, 1) := dk_96 (dk_at dksX0_last_0 17 rfl rfl)
theorem dX0_last_18 : decode cX0_last 18 = .ok (.sipush 251, 3) := dk_17 0 251 (dk_at dksX0_last_0 18 rfl rfl)
theorem dX0_last_21 : decode cX0_last 21 = .ok (.irem, 1) := dk_112 (dk_at dksX0_last_0 21 rfl rfl)
theorem dX0_last_22 : decode cX0_last 22 = .ok (.istore_n 2, 1) := dk_61 (dk_at dksX0_last_0 22 rfl rfl)
theorem dX0_last_23 : decode cX0_last 23 = .ok (.iinc 3 1, 3) := dk_132 3 1 (dk_at dksX0_last_1 0 rfl rfl)
theorem dX0_last_26 : decode cX0_last 26 = .ok (.goto (-20), 3) := dk_167 255 236 (dk_at dksX0_last_1 3 rfl rfl)
theorem dX0_last_29 : decode cX0_last 29 = .ok (.iload_n 2, 1) := dk_28 (dk_at dksX0_last_1 6 rfl rfl)
theorem dX0_last_30 : decode cX0_last 30 = .ok (.ireturn, 1) := dk_172 (dk_at dksX0_last_1 7 rfl rfl)
abbrev cX0_octet : ByteArray := prog_1_method_94_code
def yX0_octet : MethodName := ⟨RX0, "octet", "(I)I"⟩
def dkwX0_octet_1 : List UInt8 := [167, 0, 4, 2, 172]
abbrev dktX0_octet_1 : List UInt8 := dkwX0_octet_1 ++ []
def dkwX0_octet_0 : List UInt8 := [27, 133, 9, 42, 180, 1, 219, 4, 100, 133, 184, 0, 166, 153, 0, 12, 42, 180, 0, 126, 27, 52]
abbrev dktX0_octet_0 : List UInt8 := dkwX0_octet_0 ++ dktX0_octet_1
theorem dksX0_octet_0 : cX0_octet.data.toList.drop 0 = dktX0_octet_0 := by decide +kernel
theorem dksX0_octet_1 : cX0_octet.data.toList.drop 22 = dktX0_octet_1 := dk_seg dksX0_octet_0 22 rfl rfl
theorem dX0_octet_0 : decode cX0_octet 0 = .ok (.iload_n 1, 1) := dk_27 (dk_at dksX0_octet_0 0 rfl rfl)
theorem dX0_octet_1 : decode cX0_octet 1 = .ok (.i2l, 1) := dk_133 (dk_at dksX0_octet_0 1 rfl rfl)
theorem dX0_octet_2 : decode cX0_octet 2 = .ok (.lconst 0, 1) := dk_9 (dk_at dksX0_octet_0 2 rfl rfl)
theorem dX0_octet_3 : decode cX0_octet 3 = .ok (.aload_n 0, 1) := dk_42 (dk_at dksX0_octet_0 3 rfl rfl)
theorem dX0_octet_4 : decode cX0_octet 4 = .ok (.getfield 475, 3) := dk_180 1 219 (dk_at dksX0_octet_0 4 rfl rfl)
theorem dX0_octet_7 : decode cX0_octet 7 = .ok (.iconst 1, 1) := dk_4 (dk_at dksX0_octet_0 7 rfl rfl)
theorem dX0_octet_8 : decode cX0_octet 8 = .ok (.isub, 1) := dk_100 (dk_at dksX0_octet_0 8 rfl rfl)
theorem dX0_octet_9 : decode cX0_octet 9 = .ok (.i2l, 1) := dk_133 (dk_at dksX0_octet_0 9 rfl rfl)
theorem dX0_octet_10 : decode cX0_octet 10 = .ok (.invokestatic 166, 3) := dk_184 0 166 (dk_at dksX0_octet_0 10 rfl rfl)
theorem dX0_octet_13 : decode cX0_octet 13 = .ok (.ifCond .eq 12, 3) := dk_153 0 12 (dk_at dksX0_octet_0 13 rfl rfl)
theorem dX0_octet_16 : decode cX0_octet 16 = .ok (.aload_n 0, 1) := dk_42 (dk_at dksX0_octet_0 16 rfl rfl)
theorem dX0_octet_17 : decode cX0_octet 17 = .ok (.getfield 126, 3) := dk_180 0 126 (dk_at dksX0_octet_0 17 rfl rfl)
theorem dX0_octet_20 : decode cX0_octet 20 = .ok (.iload_n 1, 1) := dk_27 (dk_at dksX0_octet_0 20 rfl rfl)
theorem dX0_octet_21 : decode cX0_octet 21 = .ok (.caload, 1) := dk_52 (dk_at dksX0_octet_0 21 rfl rfl)
theorem dX0_octet_22 : decode cX0_octet 22 = .ok (.goto 4, 3) := dk_167 0 4 (dk_at dksX0_octet_1 0 rfl rfl)
theorem dX0_octet_25 : decode cX0_octet 25 = .ok (.iconst (-1), 1) := dk_2 (dk_at dksX0_octet_1 3 rfl rfl)
theorem dX0_octet_26 : decode cX0_octet 26 = .ok (.ireturn, 1) := dk_172 (dk_at dksX0_octet_1 4 rfl rfl)
abbrev cX0_on : ByteArray := prog_1_method_96_code
def yX0_on : MethodName := ⟨RX0, "on", "()Z"⟩
def dkwX0_on_4 : List UInt8 := [182, 1, 235, 87, 42, 180, 0, 30, 182, 0, 186, 4, 172]
abbrev dktX0_on_4 : List UInt8 := dkwX0_on_4 ++ []
def dkwX0_on_3 : List UInt8 := [172, 42, 180, 0, 23, 180, 0, 209, 182, 0, 186, 42, 180, 0, 23, 180, 0, 209, 42, 180, 0, 106]
abbrev dktX0_on_3 : List UInt8 := dkwX0_on_3 ++ dktX0_on_4
def dkwX0_on_2 : List UInt8 := [100, 184, 1, 225, 160, 0, 15, 42, 42, 180, 0, 106, 27, 182, 1, 231, 154, 0, 9, 42, 8, 182, 0, 160]
abbrev dktX0_on_2 : List UInt8 := dkwX0_on_2 ++ dktX0_on_3
def dkwX0_on_1 : List UInt8 := [180, 0, 9, 3, 52, 16, 8, 163, 0, 36, 42, 180, 0, 9, 27, 4, 100, 52, 42, 180, 0, 9, 27, 4]
abbrev dktX0_on_1 : List UInt8 := dkwX0_on_1 ++ dktX0_on_2
def dkwX0_on_0 : List UInt8 := [42, 180, 0, 153, 60, 42, 3, 181, 0, 153, 42, 180, 0, 106, 182, 0, 186, 27, 5, 161, 0, 47, 42]
abbrev dktX0_on_0 : List UInt8 := dkwX0_on_0 ++ dktX0_on_1
theorem dksX0_on_0 : cX0_on.data.toList.drop 0 = dktX0_on_0 := by decide +kernel
theorem dksX0_on_1 : cX0_on.data.toList.drop 23 = dktX0_on_1 := dk_seg dksX0_on_0 23 rfl rfl
theorem dksX0_on_2 : cX0_on.data.toList.drop 47 = dktX0_on_2 := dk_seg dksX0_on_1 24 rfl rfl
theorem dksX0_on_3 : cX0_on.data.toList.drop 71 = dktX0_on_3 := dk_seg dksX0_on_2 24 rfl rfl
theorem dksX0_on_4 : cX0_on.data.toList.drop 93 = dktX0_on_4 := dk_seg dksX0_on_3 22 rfl rfl
theorem dX0_on_0 : decode cX0_on 0 = .ok (.aload_n 0, 1) := dk_42 (dk_at dksX0_on_0 0 rfl rfl)
theorem dX0_on_1 : decode cX0_on 1 = .ok (.getfield 153, 3) := dk_180 0 153 (dk_at dksX0_on_0 1 rfl rfl)
theorem dX0_on_4 : decode cX0_on 4 = .ok (.istore_n 1, 1) := dk_60 (dk_at dksX0_on_0 4 rfl rfl)
theorem dX0_on_5 : decode cX0_on 5 = .ok (.aload_n 0, 1) := dk_42 (dk_at dksX0_on_0 5 rfl rfl)
theorem dX0_on_6 : decode cX0_on 6 = .ok (.iconst 0, 1) := dk_3 (dk_at dksX0_on_0 6 rfl rfl)
theorem dX0_on_7 : decode cX0_on 7 = .ok (.putfield 153, 3) := dk_181 0 153 (dk_at dksX0_on_0 7 rfl rfl)
theorem dX0_on_10 : decode cX0_on 10 = .ok (.aload_n 0, 1) := dk_42 (dk_at dksX0_on_0 10 rfl rfl)
theorem dX0_on_11 : decode cX0_on 11 = .ok (.getfield 106, 3) := dk_180 0 106 (dk_at dksX0_on_0 11 rfl rfl)
theorem dX0_on_14 : decode cX0_on 14 = .ok (.invokevirtual 186, 3) := dk_182 0 186 (dk_at dksX0_on_0 14 rfl rfl)
theorem dX0_on_17 : decode cX0_on 17 = .ok (.iload_n 1, 1) := dk_27 (dk_at dksX0_on_0 17 rfl rfl)
theorem dX0_on_18 : decode cX0_on 18 = .ok (.iconst 2, 1) := dk_5 (dk_at dksX0_on_0 18 rfl rfl)
theorem dX0_on_19 : decode cX0_on 19 = .ok (.if_icmp .lt 47, 3) := dk_161 0 47 (dk_at dksX0_on_0 19 rfl rfl)
theorem dX0_on_22 : decode cX0_on 22 = .ok (.aload_n 0, 1) := dk_42 (dk_at dksX0_on_0 22 rfl rfl)
theorem dX0_on_23 : decode cX0_on 23 = .ok (.getfield 9, 3) := dk_180 0 9 (dk_at dksX0_on_1 0 rfl rfl)
theorem dX0_on_26 : decode cX0_on 26 = .ok (.iconst 0, 1) := dk_3 (dk_at dksX0_on_1 3 rfl rfl)
theorem dX0_on_27 : decode cX0_on 27 = .ok (.caload, 1) := dk_52 (dk_at dksX0_on_1 4 rfl rfl)
theorem dX0_on_28 : decode cX0_on 28 = .ok (.bipush 8, 2) := dk_16 8 (dk_at dksX0_on_1 5 rfl rfl)
theorem dX0_on_30 : decode cX0_on 30 = .ok (.if_icmp .gt 36, 3) := dk_163 0 36 (dk_at dksX0_on_1 7 rfl rfl)
theorem dX0_on_33 : decode cX0_on 33 = .ok (.aload_n 0, 1) := dk_42 (dk_at dksX0_on_1 10 rfl rfl)
theorem dX0_on_34 : decode cX0_on 34 = .ok (.getfield 9, 3) := dk_180 0 9 (dk_at dksX0_on_1 11 rfl rfl)
theorem dX0_on_37 : decode cX0_on 37 = .ok (.iload_n 1, 1) := dk_27 (dk_at dksX0_on_1 14 rfl rfl)
theorem dX0_on_38 : decode cX0_on 38 = .ok (.iconst 1, 1) := dk_4 (dk_at dksX0_on_1 15 rfl rfl)
theorem dX0_on_39 : decode cX0_on 39 = .ok (.isub, 1) := dk_100 (dk_at dksX0_on_1 16 rfl rfl)
theorem dX0_on_40 : decode cX0_on 40 = .ok (.caload, 1) := dk_52 (dk_at dksX0_on_1 17 rfl rfl)
theorem dX0_on_41 : decode cX0_on 41 = .ok (.aload_n 0, 1) := dk_42 (dk_at dksX0_on_1 18 rfl rfl)
theorem dX0_on_42 : decode cX0_on 42 = .ok (.getfield 9, 3) := dk_180 0 9 (dk_at dksX0_on_1 19 rfl rfl)
theorem dX0_on_45 : decode cX0_on 45 = .ok (.iload_n 1, 1) := dk_27 (dk_at dksX0_on_1 22 rfl rfl)
theorem dX0_on_46 : decode cX0_on 46 = .ok (.iconst 1, 1) := dk_4 (dk_at dksX0_on_1 23 rfl rfl)
theorem dX0_on_47 : decode cX0_on 47 = .ok (.isub, 1) := dk_100 (dk_at dksX0_on_2 0 rfl rfl)
theorem dX0_on_48 : decode cX0_on 48 = .ok (.invokestatic 481, 3) := dk_184 1 225 (dk_at dksX0_on_2 1 rfl rfl)
theorem dX0_on_51 : decode cX0_on 51 = .ok (.if_icmp .ne 15, 3) := dk_160 0 15 (dk_at dksX0_on_2 4 rfl rfl)
theorem dX0_on_54 : decode cX0_on 54 = .ok (.aload_n 0, 1) := dk_42 (dk_at dksX0_on_2 7 rfl rfl)
theorem dX0_on_55 : decode cX0_on 55 = .ok (.aload_n 0, 1) := dk_42 (dk_at dksX0_on_2 8 rfl rfl)
theorem dX0_on_56 : decode cX0_on 56 = .ok (.getfield 106, 3) := dk_180 0 106 (dk_at dksX0_on_2 9 rfl rfl)
theorem dX0_on_59 : decode cX0_on 59 = .ok (.iload_n 1, 1) := dk_27 (dk_at dksX0_on_2 12 rfl rfl)
theorem dX0_on_60 : decode cX0_on 60 = .ok (.invokevirtual 487, 3) := dk_182 1 231 (dk_at dksX0_on_2 13 rfl rfl)
theorem dX0_on_63 : decode cX0_on 63 = .ok (.ifCond .ne 9, 3) := dk_154 0 9 (dk_at dksX0_on_2 16 rfl rfl)
theorem dX0_on_66 : decode cX0_on 66 = .ok (.aload_n 0, 1) := dk_42 (dk_at dksX0_on_2 19 rfl rfl)
theorem dX0_on_67 : decode cX0_on 67 = .ok (.iconst 5, 1) := dk_8 (dk_at dksX0_on_2 20 rfl rfl)
theorem dX0_on_68 : decode cX0_on 68 = .ok (.invokevirtual 160, 3) := dk_182 0 160 (dk_at dksX0_on_2 21 rfl rfl)
theorem dX0_on_71 : decode cX0_on 71 = .ok (.ireturn, 1) := dk_172 (dk_at dksX0_on_3 0 rfl rfl)
theorem dX0_on_72 : decode cX0_on 72 = .ok (.aload_n 0, 1) := dk_42 (dk_at dksX0_on_3 1 rfl rfl)
theorem dX0_on_73 : decode cX0_on 73 = .ok (.getfield 23, 3) := dk_180 0 23 (dk_at dksX0_on_3 2 rfl rfl)
theorem dX0_on_76 : decode cX0_on 76 = .ok (.getfield 209, 3) := dk_180 0 209 (dk_at dksX0_on_3 5 rfl rfl)
theorem dX0_on_79 : decode cX0_on 79 = .ok (.invokevirtual 186, 3) := dk_182 0 186 (dk_at dksX0_on_3 8 rfl rfl)
theorem dX0_on_82 : decode cX0_on 82 = .ok (.aload_n 0, 1) := dk_42 (dk_at dksX0_on_3 11 rfl rfl)
theorem dX0_on_83 : decode cX0_on 83 = .ok (.getfield 23, 3) := dk_180 0 23 (dk_at dksX0_on_3 12 rfl rfl)
theorem dX0_on_86 : decode cX0_on 86 = .ok (.getfield 209, 3) := dk_180 0 209 (dk_at dksX0_on_3 15 rfl rfl)
theorem dX0_on_89 : decode cX0_on 89 = .ok (.aload_n 0, 1) := dk_42 (dk_at dksX0_on_3 18 rfl rfl)
theorem dX0_on_90 : decode cX0_on 90 = .ok (.getfield 106, 3) := dk_180 0 106 (dk_at dksX0_on_3 19 rfl rfl)
theorem dX0_on_93 : decode cX0_on 93 = .ok (.invokevirtual 491, 3) := dk_182 1 235 (dk_at dksX0_on_4 0 rfl rfl)
theorem dX0_on_96 : decode cX0_on 96 = .ok (.pop, 1) := dk_87 (dk_at dksX0_on_4 3 rfl rfl)
theorem dX0_on_97 : decode cX0_on 97 = .ok (.aload_n 0, 1) := dk_42 (dk_at dksX0_on_4 4 rfl rfl)
theorem dX0_on_98 : decode cX0_on 98 = .ok (.getfield 30, 3) := dk_180 0 30 (dk_at dksX0_on_4 5 rfl rfl)
theorem dX0_on_101 : decode cX0_on 101 = .ok (.invokevirtual 186, 3) := dk_182 0 186 (dk_at dksX0_on_4 8 rfl rfl)
theorem dX0_on_104 : decode cX0_on 104 = .ok (.iconst 1, 1) := dk_4 (dk_at dksX0_on_4 11 rfl rfl)
theorem dX0_on_105 : decode cX0_on 105 = .ok (.ireturn, 1) := dk_172 (dk_at dksX0_on_4 12 rfl rfl)
abbrev cX0_areStrokes : ByteArray := prog_1_method_95_code
def yX0_areStrokes : MethodName := ⟨RX0, "areStrokes", "(Ljava/util/ArrayList;I)Z"⟩
def dkwX0_areStrokes_7 : List UInt8 := [167, 0, 4, 3, 172]
abbrev dktX0_areStrokes_7 : List UInt8 := dkwX0_areStrokes_7 ++ []
def dkwX0_areStrokes_6 : List UInt8 := [87, 29, 4, 21, 5, 96, 96, 62, 132, 4, 1, 167, 255, 109, 29, 28, 4, 100, 160, 0, 7, 4]
abbrev dktX0_areStrokes_6 : List UInt8 := dkwX0_areStrokes_6 ++ dktX0_areStrokes_7
def dkwX0_areStrokes_5 : List UInt8 := [79, 132, 6, 1, 167, 255, 210, 43, 187, 0, 251, 89, 42, 180, 0, 17, 21, 5, 183, 1, 187, 182, 1, 124]
abbrev dktX0_areStrokes_5 : List UInt8 := dkwX0_areStrokes_5 ++ dktX0_areStrokes_6
def dkwX0_areStrokes_4 : List UInt8 := [16, 99, 164, 0, 5, 3, 172, 42, 180, 0, 17, 21, 6, 42, 180, 0, 9, 29, 4, 96, 21, 6, 96, 52]
abbrev dktX0_areStrokes_4 : List UInt8 := dkwX0_areStrokes_4 ++ dktX0_areStrokes_5
def dkwX0_areStrokes_3 : List UInt8 := [54, 5, 3, 54, 6, 21, 6, 21, 5, 162, 0, 45, 42, 180, 0, 9, 29, 4, 96, 21, 6, 96, 52]
abbrev dktX0_areStrokes_3 : List UInt8 := dkwX0_areStrokes_3 ++ dktX0_areStrokes_4
def dkwX0_areStrokes_2 : List UInt8 := [180, 0, 9, 29, 52, 104, 96, 28, 4, 100, 164, 0, 5, 3, 172, 5, 42, 180, 0, 9, 29, 52, 104]
abbrev dktX0_areStrokes_2 : List UInt8 := dkwX0_areStrokes_2 ++ dktX0_areStrokes_3
def dkwX0_areStrokes_1 : List UInt8 := [180, 0, 9, 29, 52, 133, 20, 0, 212, 20, 1, 229, 184, 0, 166, 153, 0, 21, 29, 4, 96, 5, 42]
abbrev dktX0_areStrokes_1 : List UInt8 := dkwX0_areStrokes_1 ++ dktX0_areStrokes_2
def dkwX0_areStrokes_0 : List UInt8 := [4, 62, 3, 54, 4, 21, 4, 42, 180, 0, 9, 3, 52, 162, 0, 142, 29, 28, 4, 100, 162, 0, 40, 42]
abbrev dktX0_areStrokes_0 : List UInt8 := dkwX0_areStrokes_0 ++ dktX0_areStrokes_1
theorem dksX0_areStrokes_0 : cX0_areStrokes.data.toList.drop 0 = dktX0_areStrokes_0 := by decide +kernel
theorem dksX0_areStrokes_1 : cX0_areStrokes.data.toList.drop 24 = dktX0_areStrokes_1 := dk_seg dksX0_areStrokes_0 24 rfl rfl
theorem dksX0_areStrokes_2 : cX0_areStrokes.data.toList.drop 47 = dktX0_areStrokes_2 := dk_seg dksX0_areStrokes_1 23 rfl rfl
theorem dksX0_areStrokes_3 : cX0_areStrokes.data.toList.drop 70 = dktX0_areStrokes_3 := dk_seg dksX0_areStrokes_2 23 rfl rfl
theorem dksX0_areStrokes_4 : cX0_areStrokes.data.toList.drop 93 = dktX0_areStrokes_4 := dk_seg dksX0_areStrokes_3 23 rfl rfl
theorem dksX0_areStrokes_5 : cX0_areStrokes.data.toList.drop 117 = dktX0_areStrokes_5 := dk_seg dksX0_areStrokes_4 24 rfl rfl
theorem dksX0_areStrokes_6 : cX0_areStrokes.data.toList.drop 141 = dktX0_areStrokes_6 := dk_seg dksX0_areStrokes_5 24 rfl rfl
theorem dksX0_areStrokes_7 : cX0_areStrokes.data.toList.drop 163 = dktX0_areStrokes_7 := dk_seg dksX0_areStrokes_6 22 rfl rfl
theorem dX0_areStrokes_0 : decode cX0_areStrokes 0 = .ok (.iconst 1, 1) := dk_4 (dk_at dksX0_areStrokes_0 0 rfl rfl)
theorem dX0_areStrokes_1 : decode cX0_areStrokes 1 = .ok (.istore_n 3, 1) := dk_62 (dk_at dksX0_areStrokes_0 1 rfl rfl)
theorem dX0_areStrokes_2 : decode cX0_areStrokes 2 = .ok (.iconst 0, 1) := dk_3 (dk_at dksX0_areStrokes_0 2 rfl rfl)
theorem dX0_areStrokes_3 : decode cX0_areStrokes 3 = .ok (.istore 4, 2) := dk_54 4 (dk_at dksX0_areStrokes_0 3 rfl rfl)
theorem dX0_areStrokes_5 : decode cX0_areStrokes 5 = .ok (.iload 4, 2) := dk_21 4 (dk_at dksX0_areStrokes_0 5 rfl rfl)
theorem dX0_areStrokes_7 : decode cX0_areStrokes 7 = .ok (.aload_n 0, 1) := dk_42 (dk_at dksX0_areStrokes_0 7 rfl rfl)
theorem dX0_areStrokes_8 : decode cX0_areStrokes 8 = .ok (.getfield 9, 3) := dk_180 0 9 (dk_at dksX0_areStrokes_0 8 rfl rfl)
theorem dX0_areStrokes_11 : decode cX0_areStrokes 11 = .ok (.iconst 0, 1) := dk_3 (dk_at dksX0_areStrokes_0 11 rfl rfl)
theorem dX0_areStrokes_12 : decode cX0_areStrokes 12 = .ok (.caload, 1) := dk_52 (dk_at dksX0_areStrokes_0 12 rfl rfl)
theorem dX0_areStrokes_13 : decode cX0_areStrokes 13 = .ok (.if_icmp .ge 142, 3) := dk_162 0 142 (dk_at dksX0_areStrokes_0 13 rfl rfl)
theorem dX0_areStrokes_16 : decode cX0_areStrokes 16 = .ok (.iload_n 3, 1) := dk_29 (dk_at dksX0_areStrokes_0 16 rfl rfl)
theorem dX0_areStrokes_17 : decode cX0_areStrokes 17 = .ok (.iload_n 2, 1) := dk_28 (dk_at dksX0_areStrokes_0 17 rfl rfl)
theorem dX0_areStrokes_18 : decode cX0_areStrokes 18 = .ok (.iconst 1, 1) := dk_4 (dk_at dksX0_areStrokes_0 18 rfl rfl)
theorem dX0_areStrokes_19 : decode cX0_areStrokes 19 = .ok (.isub, 1) := dk_100 (dk_at dksX0_areStrokes_0 19 rfl rfl)
theorem dX0_areStrokes_20 : decode cX0_areStrokes 20 = .ok (.if_icmp .ge 40, 3) := dk_162 0 40 (dk_at dksX0_areStrokes_0 20 rfl rfl)
theorem dX0_areStrokes_23 : decode cX0_areStrokes 23 = .ok (.aload_n 0, 1) := dk_42 (dk_at dksX0_areStrokes_0 23 rfl rfl)
theorem dX0_areStrokes_24 : decode cX0_areStrokes 24 = .ok (.getfield 9, 3) := dk_180 0 9 (dk_at dksX0_areStrokes_1 0 rfl rfl)
theorem dX0_areStrokes_27 : decode cX0_areStrokes 27 = .ok (.iload_n 3, 1) := dk_29 (dk_at dksX0_areStrokes_1 3 rfl rfl)
theorem dX0_areStrokes_28 : decode cX0_areStrokes 28 = .ok (.caload, 1) := dk_52 (dk_at dksX0_areStrokes_1 4 rfl rfl)
theorem dX0_areStrokes_29 : decode cX0_areStrokes 29 = .ok (.i2l, 1) := dk_133 (dk_at dksX0_areStrokes_1 5 rfl rfl)
theorem dX0_areStrokes_30 : decode cX0_areStrokes 30 = .ok (.ldc2_w 212, 3) := dk_20 0 212 (dk_at dksX0_areStrokes_1 6 rfl rfl)
theorem dX0_areStrokes_33 : decode cX0_areStrokes 33 = .ok (.ldc2_w 485, 3) := dk_20 1 229 (dk_at dksX0_areStrokes_1 9 rfl rfl)
theorem dX0_areStrokes_36 : decode cX0_areStrokes 36 = .ok (.invokestatic 166, 3) := dk_184 0 166 (dk_at dksX0_areStrokes_1 12 rfl rfl)
theorem dX0_areStrokes_39 : decode cX0_areStrokes 39 = .ok (.ifCond .eq 21, 3) := dk_153 0 21 (dk_at dksX0_areStrokes_1 15 rfl rfl)
theorem dX0_areStrokes_42 : decode cX0_areStrokes 42 = .ok (.iload_n 3, 1) := dk_29 (dk_at dksX0_areStrokes_1 18 rfl rfl)
theorem dX0_areStrokes_43 : decode cX0_areStrokes 43 = .ok (.iconst 1, 1) := dk_4 (dk_at dksX0_areStrokes_1 19 rfl rfl)
theorem dX0_areStrokes_44 : decode cX0_areStrokes 44 = .ok (.iadd, 1) := dk_96 (dk_at dksX0_areStrokes_1 20 rfl rfl)
theorem dX0_areStrokes_45 : decode cX0_areStrokes 45 = .ok (.iconst 2, 1) := dk_5 (dk_at dksX0_areStrokes_1 21 rfl rfl)
theorem dX0_areStrokes_46 : decode cX0_areStrokes 46 = .ok (.aload_n 0, 1) := dk_42 (dk_at dksX0_areStrokes_1 22 rfl rfl)
theorem dX0_areStrokes_47 : decode cX0_areStrokes 47 = .ok (.getfield 9, 3) := dk_180 0 9 (dk_at dksX0_areStrokes_2 0 rfl rfl)
theorem dX0_areStrokes_50 : decode cX0_areStrokes 50 = .ok (.iload_n 3, 1) := dk_29 (dk_at dksX0_areStrokes_2 3 rfl rfl)
theorem dX0_areStrokes_51 : decode cX0_areStrokes 51 = .ok (.caload, 1) := dk_52 (dk_at dksX0_areStrokes_2 4 rfl rfl)
theorem dX0_areStrokes_52 : decode cX0_areStrokes 52 = .ok (.imul, 1) := dk_104 (dk_at dksX0_areStrokes_2 5 rfl rfl)
theorem dX0_areStrokes_53 : decode cX0_areStrokes 53 = .ok (.iadd, 1) := dk_96 (dk_at dksX0_areStrokes_2 6 rfl rfl)
theorem dX0_areStrokes_54 : decode cX0_areStrokes 54 = .ok (.iload_n 2, 1) := dk_28 (dk_at dksX0_areStrokes_2 7 rfl rfl)
theorem dX0_areStrokes_55 : decode cX0_areStrokes 55 = .ok (.iconst 1, 1) := dk_4 (dk_at dksX0_areStrokes_2 8 rfl rfl)
theorem dX0_areStrokes_56 : decode cX0_areStrokes 56 = .ok (.isub, 1) := dk_100 (dk_at dksX0_areStrokes_2 9 rfl rfl)
theorem dX0_areStrokes_57 : decode cX0_areStrokes 57 = .ok (.if_icmp .le 5, 3) := dk_164 0 5 (dk_at dksX0_areStrokes_2 10 rfl rfl)
theorem dX0_areStrokes_60 : decode cX0_areStrokes 60 = .ok (.iconst 0, 1) := dk_3 (dk_at dksX0_areStrokes_2 13 rfl rfl)
theorem dX0_areStrokes_61 : decode cX0_areStrokes 61 = .ok (.ireturn, 1) := dk_172 (dk_at dksX0_areStrokes_2 14 rfl rfl)
theorem dX0_areStrokes_62 : decode cX0_areStrokes 62 = .ok (.iconst 2, 1) := dk_5 (dk_at dksX0_areStrokes_2 15 rfl rfl)
theorem dX0_areStrokes_63 : decode cX0_areStrokes 63 = .ok (.aload_n 0, 1) := dk_42 (dk_at dksX0_areStrokes_2 16 rfl rfl)
theorem dX0_areStrokes_64 : decode cX0_areStrokes 64 = .ok (.getfield 9, 3) := dk_180 0 9 (dk_at dksX0_areStrokes_2 17 rfl rfl)
theorem dX0_areStrokes_67 : decode cX0_areStrokes 67 = .ok (.iload_n 3, 1) := dk_29 (dk_at dksX0_areStrokes_2 20 rfl rfl)
theorem dX0_areStrokes_68 : decode cX0_areStrokes 68 = .ok (.caload, 1) := dk_52 (dk_at dksX0_areStrokes_2 21 rfl rfl)
theorem dX0_areStrokes_69 : decode cX0_areStrokes 69 = .ok (.imul, 1) := dk_104 (dk_at dksX0_areStrokes_2 22 rfl rfl)
theorem dX0_areStrokes_70 : decode cX0_areStrokes 70 = .ok (.istore 5, 2) := dk_54 5 (dk_at dksX0_areStrokes_3 0 rfl rfl)
theorem dX0_areStrokes_72 : decode cX0_areStrokes 72 = .ok (.iconst 0, 1) := dk_3 (dk_at dksX0_areStrokes_3 2 rfl rfl)
theorem dX0_areStrokes_73 : decode cX0_areStrokes 73 = .ok (.istore 6, 2) := dk_54 6 (dk_at dksX0_areStrokes_3 3 rfl rfl)
theorem dX0_areStrokes_75 : decode cX0_areStrokes 75 = .ok (.iload 6, 2) := dk_21 6 (dk_at dksX0_areStrokes_3 5 rfl rfl)
theorem dX0_areStrokes_77 : decode cX0_areStrokes 77 = .ok (.iload 5, 2) := dk_21 5 (dk_at dksX0_areStrokes_3 7 rfl rfl)
theorem dX0_areStrokes_79 : decode cX0_areStrokes 79 = .ok (.if_icmp .ge 45, 3) := dk_162 0 45 (dk_at dksX0_areStrokes_3 9 rfl rfl)
theorem dX0_areStrokes_82 : decode cX0_areStrokes 82 = .ok (.aload_n 0, 1) := dk_42 (dk_at dksX0_areStrokes_3 12 rfl rfl)
theorem dX0_areStrokes_83 : decode cX0_areStrokes 83 = .ok (.getfield 9, 3) := dk_180 0 9 (dk_at dksX0_areStrokes_3 13 rfl rfl)
theorem dX0_areStrokes_86 : decode cX0_areStrokes 86 = .ok (.iload_n 3, 1) := dk_29 (dk_at dksX0_areStrokes_3 16 rfl rfl)
theorem dX0_areStrokes_87 : decode cX0_areStrokes 87 = .ok (.iconst 1, 1) := dk_4 (dk_at dksX0_areStrokes_3 17 rfl rfl)
theorem dX0_areStrokes_88 : decode cX0_areStrokes 88 = .ok (.iadd, 1) := dk_96 (dk_at dksX0_areStrokes_3 18 rfl rfl)
theorem dX0_areStrokes_89 : decode cX0_areStrokes 89 = .ok (.iload 6, 2) := dk_21 6 (dk_at dksX0_areStrokes_3 19 rfl rfl)
theorem dX0_areStrokes_91 : decode cX0_areStrokes 91 = .ok (.iadd, 1) := dk_96 (dk_at dksX0_areStrokes_3 21 rfl rfl)
theorem dX0_areStrokes_92 : decode cX0_areStrokes 92 = .ok (.caload, 1) := dk_52 (dk_at dksX0_areStrokes_3 22 rfl rfl)
theorem dX0_areStrokes_93 : decode cX0_areStrokes 93 = .ok (.bipush 99, 2) := dk_16 99 (dk_at dksX0_areStrokes_4 0 rfl rfl)
theorem dX0_areStrokes_95 : decode cX0_areStrokes 95 = .ok (.if_icmp .le 5, 3) := dk_164 0 5 (dk_at dksX0_areStrokes_4 2 rfl rfl)
theorem dX0_areStrokes_98 : decode cX0_areStrokes 98 = .ok (.iconst 0, 1) := dk_3 (dk_at dksX0_areStrokes_4 5 rfl rfl)
theorem dX0_areStrokes_99 : decode cX0_areStrokes 99 = .ok (.ireturn, 1) := dk_172 (dk_at dksX0_areStrokes_4 6 rfl rfl)
theorem dX0_areStrokes_100 : decode cX0_areStrokes 100 = .ok (.aload_n 0, 1) := dk_42 (dk_at dksX0_areStrokes_4 7 rfl rfl)
theorem dX0_areStrokes_101 : decode cX0_areStrokes 101 = .ok (.getfield 17, 3) := dk_180 0 17 (dk_at dksX0_areStrokes_4 8 rfl rfl)
theorem dX0_areStrokes_104 : decode cX0_areStrokes 104 = .ok (.iload 6, 2) := dk_21 6 (dk_at dksX0_areStrokes_4 11 rfl rfl)
theorem dX0_areStrokes_106 : decode cX0_areStrokes 106 = .ok (.aload_n 0, 1) := dk_42 (dk_at dksX0_areStrokes_4 13 rfl rfl)
theorem dX0_areStrokes_107 : decode cX0_areStrokes 107 = .ok (.getfield 9, 3) := dk_180 0 9 (dk_at dksX0_areStrokes_4 14 rfl rfl)
theorem dX0_areStrokes_110 : decode cX0_areStrokes 110 = .ok (.iload_n 3, 1) := dk_29 (dk_at dksX0_areStrokes_4 17 rfl rfl)
theorem dX0_areStrokes_111 : decode cX0_areStrokes 111 = .ok (.iconst 1, 1) := dk_4 (dk_at dksX0_areStrokes_4 18 rfl rfl)
theorem dX0_areStrokes_112 : decode cX0_areStrokes 112 = .ok (.iadd, 1) := dk_96 (dk_at dksX0_areStrokes_4 19 rfl rfl)
theorem dX0_areStrokes_113 : decode cX0_areStrokes 113 = .ok (.iload 6, 2) := dk_21 6 (dk_at dksX0_areStrokes_4 20 rfl rfl)
theorem dX0_areStrokes_115 : decode cX0_areStrokes 115 = .ok (.iadd, 1) := dk_96 (dk_at dksX0_areStrokes_4 22 rfl rfl)
theorem dX0_areStrokes_116 : decode cX0_areStrokes 116 = .ok (.caload, 1) := dk_52 (dk_at dksX0_areStrokes_4 23 rfl rfl)
theorem dX0_areStrokes_117 : decode cX0_areStrokes 117 = .ok (.iastore, 1) := dk_79 (dk_at dksX0_areStrokes_5 0 rfl rfl)
theorem dX0_areStrokes_118 : decode cX0_areStrokes 118 = .ok (.iinc 6 1, 3) := dk_132 6 1 (dk_at dksX0_areStrokes_5 1 rfl rfl)
theorem dX0_areStrokes_121 : decode cX0_areStrokes 121 = .ok (.goto (-46), 3) := dk_167 255 210 (dk_at dksX0_areStrokes_5 4 rfl rfl)
theorem dX0_areStrokes_124 : decode cX0_areStrokes 124 = .ok (.aload_n 1, 1) := dk_43 (dk_at dksX0_areStrokes_5 7 rfl rfl)
theorem dX0_areStrokes_125 : decode cX0_areStrokes 125 = .ok (.new 251, 3) := dk_187 0 251 (dk_at dksX0_areStrokes_5 8 rfl rfl)
theorem dX0_areStrokes_128 : decode cX0_areStrokes 128 = .ok (.dup, 1) := dk_89 (dk_at dksX0_areStrokes_5 11 rfl rfl)
theorem dX0_areStrokes_129 : decode cX0_areStrokes 129 = .ok (.aload_n 0, 1) := dk_42 (dk_at dksX0_areStrokes_5 12 rfl rfl)
theorem dX0_areStrokes_130 : decode cX0_areStrokes 130 = .ok (.getfield 17, 3) := dk_180 0 17 (dk_at dksX0_areStrokes_5 13 rfl rfl)
theorem dX0_areStrokes_133 : decode cX0_areStrokes 133 = .ok (.iload 5, 2) := dk_21 5 (dk_at dksX0_areStrokes_5 16 rfl rfl)
theorem dX0_areStrokes_135 : decode cX0_areStrokes 135 = .ok (.invokespecial 443, 3) := dk_183 1 187 (dk_at dksX0_areStrokes_5 18 rfl rfl)
theorem dX0_areStrokes_138 : decode cX0_areStrokes 138 = .ok (.invokevirtual 380, 3) := dk_182 1 124 (dk_at dksX0_areStrokes_5 21 rfl rfl)
theorem dX0_areStrokes_141 : decode cX0_areStrokes 141 = .ok (.pop, 1) := dk_87 (dk_at dksX0_areStrokes_6 0 rfl rfl)
theorem dX0_areStrokes_142 : decode cX0_areStrokes 142 = .ok (.iload_n 3, 1) := dk_29 (dk_at dksX0_areStrokes_6 1 rfl rfl)
theorem dX0_areStrokes_143 : decode cX0_areStrokes 143 = .ok (.iconst 1, 1) := dk_4 (dk_at dksX0_areStrokes_6 2 rfl rfl)
theorem dX0_areStrokes_144 : decode cX0_areStrokes 144 = .ok (.iload 5, 2) := dk_21 5 (dk_at dksX0_areStrokes_6 3 rfl rfl)
theorem dX0_areStrokes_146 : decode cX0_areStrokes 146 = .ok (.iadd, 1) := dk_96 (dk_at dksX0_areStrokes_6 5 rfl rfl)
theorem dX0_areStrokes_147 : decode cX0_areStrokes 147 = .ok (.iadd, 1) := dk_96 (dk_at dksX0_areStrokes_6 6 rfl rfl)
theorem dX0_areStrokes_148 : decode cX0_areStrokes 148 = .ok (.istore_n 3, 1) := dk_62 (dk_at dksX0_areStrokes_6 7 rfl rfl)
theorem dX0_areStrokes_149 : decode cX0_areStrokes 149 = .ok (.iinc 4 1, 3) := dk_132 4 1 (dk_at dksX0_areStrokes_6 8 rfl rfl)
theorem dX0_areStrokes_152 : decode cX0_areStrokes 152 = .ok (.goto (-147), 3) := dk_167 255 109 (dk_at dksX0_areStrokes_6 11 rfl rfl)
theorem dX0_areStrokes_155 : decode cX0_areStrokes 155 = .ok (.iload_n 3, 1) := dk_29 (dk_at dksX0_areStrokes_6 14 rfl rfl)
theorem dX0_areStrokes_156 : decode cX0_areStrokes 156 = .ok (.iload_n 2, 1) := dk_28 (dk_at dksX0_areStrokes_6 15 rfl rfl)
theorem dX0_areStrokes_157 : decode cX0_areStrokes 157 = .ok (.iconst 1, 1) := dk_4 (dk_at dksX0_areStrokes_6 16 rfl rfl)
theorem dX0_areStrokes_158 : decode cX0_areStrokes 158 = .ok (.isub, 1) := dk_100 (dk_at dksX0_areStrokes_6 17 rfl rfl)
theorem dX0_areStrokes_159 : decode cX0_areStrokes 159 = .ok (.if_icmp .ne 7, 3) := dk_160 0 7 (dk_at dksX0_areStrokes_6 18 rfl rfl)
theorem dX0_areStrokes_162 : decode cX0_areStrokes 162 = .ok (.iconst 1, 1) := dk_4 (dk_at dksX0_areStrokes_6 21 rfl rfl)
theorem dX0_areStrokes_163 : decode cX0_areStrokes 163 = .ok (.goto 4, 3) := dk_167 0 4 (dk_at dksX0_areStrokes_7 0 rfl rfl)
theorem dX0_areStrokes_166 : decode cX0_areStrokes 166 = .ok (.iconst 0, 1) := dk_3 (dk_at dksX0_areStrokes_7 3 rfl rfl)
theorem dX0_areStrokes_167 : decode cX0_areStrokes 167 = .ok (.ireturn, 1) := dk_172 (dk_at dksX0_areStrokes_7 4 rfl rfl)
theorem q123 : (Jvm.Cond.initialized "LetterPen") ∈ lw_all := lw_g (lw_at lw_m1 1 rfl) rfl
theorem q149 : (Jvm.Cond.instantiable "LetterPen" (38 : Nat)) ∈ lw_all := lw_g (lw_at lw_m1 27 rfl) rfl
theorem q151 : (Jvm.Cond.instanceMethod ({ cls := "LetterPen", name := "<init>", desc := "()V" } : Jvm.MethodName)) ∈ lw_all := lw_g (lw_at lw_m1 29 rfl) rfl
theorem q152 : (Jvm.Cond.code ({ cls := "LetterPen", name := "<init>", desc := "()V" } : Jvm.MethodName) prog_1_method_1_code (1 : Nat) (Option.none : Option Jvm.ClassFile.FieldType)) ∈ lw_all := lw_g (lw_at lw_m1 30 rfl) rfl
theorem q153 : (Jvm.Cond.methodLink "LetterPen" (1 : Nat) ({ cls := "java/lang/Object", name := "<init>", desc := "()V" } : Jvm.MethodName)) ∈ lw_all := lw_g (lw_at lw_m1 31 rfl) rfl
theorem q156 : (Jvm.Cond.classLink "LetterPen" (20 : Nat) "LetterPen$State") ∈ lw_all := lw_g (lw_at lw_m1 34 rfl) rfl
theorem q158 : (Jvm.Cond.methodLinkNest "LetterPen" (22 : Nat) ({ cls := "LetterPen$State", name := "<init>", desc := "()V" } : Jvm.MethodName) "LetterPen") ∈ lw_tbl := lw_at lw_m1 36 rfl
theorem q191 : (Jvm.Cond.laysStatic "LetterPen" "BEGUN" "[I") ∈ lw_tbl := lw_at lw_m1 69 rfl
theorem q197 : (Jvm.Cond.fieldLink "LetterPen" (200 : Nat) "LetterPen$State" "models" "Ljava/util/ArrayList;") ∈ lw_all := lw_g (lw_at lw_m1 75 rfl) rfl
theorem q200 : (Jvm.Cond.fieldLink "LetterPen" (209 : Nat) "LetterPen$State" "ink" "Ljava/util/ArrayList;") ∈ lw_all := lw_g (lw_at lw_m1 78 rfl) rfl
theorem q203 : (Jvm.Cond.fieldLink "LetterPen" (216 : Nat) "LetterPen$State" "values" "[I") ∈ lw_all := lw_g (lw_at lw_m1 81 rfl) rfl
theorem q211 : (Jvm.Cond.classLink "LetterPen" (27 : Nat) "java/util/ArrayList") ∈ lw_all := lw_g (lw_at lw_m1 89 rfl) rfl
theorem q212 : (Jvm.Cond.methodLink "LetterPen" (29 : Nat) ({ cls := "java/util/ArrayList", name := "<init>", desc := "()V" } : Jvm.MethodName)) ∈ lw_all := lw_g (lw_at lw_m1 90 rfl) rfl
theorem q213 : (Jvm.Cond.privateMethod ({ cls := "LetterPen", name := "lambda$new$0", desc := "(II)I" } : Jvm.MethodName)) ∈ lw_tbl := lw_at lw_m1 91 rfl
theorem q214 : (Jvm.Cond.instanceMethod ({ cls := "LetterPen", name := "lambda$new$0", desc := "(II)I" } : Jvm.MethodName)) ∈ lw_all := lw_g (lw_at lw_m1 92 rfl) rfl
theorem q215 : (Jvm.Cond.code ({ cls := "LetterPen", name := "lambda$new$0", desc := "(II)I" } : Jvm.MethodName) prog_1_method_97_code (3 : Nat) (Option.some Jvm.ClassFile.FieldType.int)) ∈ lw_all := lw_g (lw_at lw_m1 93 rfl) rfl
theorem q216 : (Jvm.Cond.methodLink "LetterPen" (274 : Nat) ({ cls := "LetterPen", name := "apart", desc := "(II)I" } : Jvm.MethodName)) ∈ lw_all := lw_g (lw_at lw_m1 94 rfl) rfl
theorem q217 : (Jvm.Cond.static ({ cls := "LetterPen", name := "apart", desc := "(II)I" } : Jvm.MethodName)) ∈ lw_all := lw_g (lw_at lw_m1 95 rfl) rfl
theorem q218 : (Jvm.Cond.code ({ cls := "LetterPen", name := "apart", desc := "(II)I" } : Jvm.MethodName) prog_1_method_7_code (3 : Nat) (Option.some Jvm.ClassFile.FieldType.int)) ∈ lw_all := lw_g (lw_at lw_m1 96 rfl) rfl
theorem q219 : (Jvm.Cond.methodLink "LetterPen" (146 : Nat) ({ cls := "java/lang/Math", name := "abs", desc := "(I)I" } : Jvm.MethodName)) ∈ lw_all := lw_g (lw_at lw_m1 97 rfl) rfl
theorem q222 : (Jvm.Cond.methodLink "LetterPen" (139 : Nat) ({ cls := "java/lang/Math", name := "min", desc := "(II)I" } : Jvm.MethodName)) ∈ lw_all := lw_g (lw_at lw_m1 100 rfl) rfl
theorem q225 : (Jvm.Cond.classLink "LetterPen" (49 : Nat) "[[I") ∈ lw_all := lw_g (lw_at lw_m1 103 rfl) rfl
theorem q227 : (Jvm.Cond.classLink "LetterPen" (75 : Nat) "LetterPen$Box") ∈ lw_all := lw_g (lw_at lw_m1 105 rfl) rfl
theorem q229 : (Jvm.Cond.methodLinkNest "LetterPen" (77 : Nat) ({ cls := "LetterPen$Box", name := "<init>", desc := "()V" } : Jvm.MethodName) "LetterPen") ∈ lw_tbl := lw_at lw_m1 107 rfl
theorem q244 : (Jvm.Cond.fieldLink "LetterPen" (9 : Nat) "LetterPen" "tape" "[C") ∈ lw_all := lw_g (lw_at lw_m1 122 rfl) rfl
theorem q246 : (Jvm.Cond.fieldLink "LetterPen" (153 : Nat) "LetterPen" "taped" "I") ∈ lw_all := lw_g (lw_at lw_m1 124 rfl) rfl
theorem q247 : (Jvm.Cond.fieldLink "LetterPen" (13 : Nat) "LetterPen" "refusals" "[I") ∈ lw_all := lw_g (lw_at lw_m1 125 rfl) rfl
theorem q248 : (Jvm.Cond.fieldLink "LetterPen" (17 : Nat) "LetterPen" "read" "[I") ∈ lw_all := lw_g (lw_at lw_m1 126 rfl) rfl
theorem q250 : (Jvm.Cond.fieldLink "LetterPen" (23 : Nat) "LetterPen" "now" "LLetterPen$State;") ∈ lw_all := lw_g (lw_at lw_m1 128 rfl) rfl
theorem q251 : (Jvm.Cond.fieldLink "LetterPen" (30 : Nat) "LetterPen" "behind" "Ljava/util/ArrayList;") ∈ lw_all := lw_g (lw_at lw_m1 129 rfl) rfl
theorem q252 : (Jvm.Cond.fieldLink "LetterPen" (34 : Nat) "LetterPen" "unused" "Ljava/util/ArrayList;") ∈ lw_all := lw_g (lw_at lw_m1 130 rfl) rfl
theorem q253 : (Jvm.Cond.fieldLink "LetterPen" (183 : Nat) "LetterPen" "faultKind" "I") ∈ lw_all := lw_g (lw_at lw_m1 131 rfl) rfl
theorem q254 : (Jvm.Cond.fieldLink "LetterPen" (37 : Nat) "LetterPen" "faultPlace" "I") ∈ lw_all := lw_g (lw_at lw_m1 132 rfl) rfl
theorem q255 : (Jvm.Cond.fieldLink "LetterPen" (293 : Nat) "LetterPen" "rowA" "[I") ∈ lw_all := lw_g (lw_at lw_m1 133 rfl) rfl
theorem q256 : (Jvm.Cond.fieldLink "LetterPen" (299 : Nat) "LetterPen" "rowB" "[I") ∈ lw_all := lw_g (lw_at lw_m1 134 rfl) rfl
theorem q257 : (Jvm.Cond.fieldLink "LetterPen" (45 : Nat) "LetterPen" "codesApart" "LLetterPen$Cost;") ∈ lw_all := lw_g (lw_at lw_m1 135 rfl) rfl
theorem q258 : (Jvm.Cond.fieldLink "LetterPen" (51 : Nat) "LetterPen" "least" "[[I") ∈ lw_all := lw_g (lw_at lw_m1 136 rfl) rfl
theorem q259 : (Jvm.Cond.fieldLink "LetterPen" (54 : Nat) "LetterPen" "wayA" "[I") ∈ lw_all := lw_g (lw_at lw_m1 137 rfl) rfl
theorem q260 : (Jvm.Cond.fieldLink "LetterPen" (57 : Nat) "LetterPen" "wayB" "[I") ∈ lw_all := lw_g (lw_at lw_m1 138 rfl) rfl
theorem q261 : (Jvm.Cond.fieldLink "LetterPen" (60 : Nat) "LetterPen" "forth" "[[I") ∈ lw_all := lw_g (lw_at lw_m1 139 rfl) rfl
theorem q262 : (Jvm.Cond.fieldLink "LetterPen" (63 : Nat) "LetterPen" "back" "[[I") ∈ lw_all := lw_g (lw_at lw_m1 140 rfl) rfl
theorem q263 : (Jvm.Cond.fieldLink "LetterPen" (66 : Nat) "LetterPen" "offs" "[[I") ∈ lw_all := lw_g (lw_at lw_m1 141 rfl) rfl
theorem q264 : (Jvm.Cond.fieldLink "LetterPen" (69 : Nat) "LetterPen" "partners" "[I") ∈ lw_all := lw_g (lw_at lw_m1 142 rfl) rfl
theorem q265 : (Jvm.Cond.fieldLink "LetterPen" (72 : Nat) "LetterPen" "best" "[I") ∈ lw_all := lw_g (lw_at lw_m1 143 rfl) rfl
theorem q266 : (Jvm.Cond.fieldLink "LetterPen" (78 : Nat) "LetterPen" "boxA" "LLetterPen$Box;") ∈ lw_all := lw_g (lw_at lw_m1 144 rfl) rfl
theorem q267 : (Jvm.Cond.fieldLink "LetterPen" (82 : Nat) "LetterPen" "boxB" "LLetterPen$Box;") ∈ lw_all := lw_g (lw_at lw_m1 145 rfl) rfl
theorem q268 : (Jvm.Cond.fieldLink "LetterPen" (331 : Nat) "LetterPen" "bestScore" "I") ∈ lw_all := lw_g (lw_at lw_m1 146 rfl) rfl
theorem q269 : (Jvm.Cond.fieldLink "LetterPen" (85 : Nat) "LetterPen" "scores" "[I") ∈ lw_all := lw_g (lw_at lw_m1 147 rfl) rfl
theorem q270 : (Jvm.Cond.fieldLink "LetterPen" (88 : Nat) "LetterPen" "ranked" "[I") ∈ lw_all := lw_g (lw_at lw_m1 148 rfl) rfl
theorem q271 : (Jvm.Cond.fieldLink "LetterPen" (91 : Nat) "LetterPen" "groups" "[I") ∈ lw_all := lw_g (lw_at lw_m1 149 rfl) rfl
theorem q272 : (Jvm.Cond.fieldLink "LetterPen" (94 : Nat) "LetterPen" "costs" "[I") ∈ lw_all := lw_g (lw_at lw_m1 150 rfl) rfl
theorem q273 : (Jvm.Cond.fieldLink "LetterPen" (97 : Nat) "LetterPen" "rowLong" "[I") ∈ lw_all := lw_g (lw_at lw_m1 151 rfl) rfl
theorem q274 : (Jvm.Cond.fieldLink "LetterPen" (100 : Nat) "LetterPen" "rowModel" "[I") ∈ lw_all := lw_g (lw_at lw_m1 152 rfl) rfl
theorem q275 : (Jvm.Cond.fieldLink "LetterPen" (103 : Nat) "LetterPen" "rowScore" "[I") ∈ lw_all := lw_g (lw_at lw_m1 153 rfl) rfl
theorem q276 : (Jvm.Cond.fieldLink "LetterPen" (106 : Nat) "LetterPen" "row" "Ljava/util/ArrayList;") ∈ lw_all := lw_g (lw_at lw_m1 154 rfl) rfl
theorem q277 : (Jvm.Cond.fieldLink "LetterPen" (109 : Nat) "LetterPen" "samples" "Ljava/util/ArrayList;") ∈ lw_all := lw_g (lw_at lw_m1 155 rfl) rfl
theorem q278 : (Jvm.Cond.fieldLink "LetterPen" (112 : Nat) "LetterPen" "valued" "[[I") ∈ lw_all := lw_g (lw_at lw_m1 156 rfl) rfl
theorem q279 : (Jvm.Cond.fieldLink "LetterPen" (115 : Nat) "LetterPen" "isFit" "[Z") ∈ lw_all := lw_g (lw_at lw_m1 157 rfl) rfl
theorem q280 : (Jvm.Cond.fieldLink "LetterPen" (119 : Nat) "LetterPen" "right" "[I") ∈ lw_all := lw_g (lw_at lw_m1 158 rfl) rfl
theorem q281 : (Jvm.Cond.fieldLink "LetterPen" (122 : Nat) "LetterPen" "seeded" "J") ∈ lw_all := lw_g (lw_at lw_m1 159 rfl) rfl
theorem q282 : (Jvm.Cond.fieldLink "LetterPen" (126 : Nat) "LetterPen" "image" "[C") ∈ lw_all := lw_g (lw_at lw_m1 160 rfl) rfl
theorem q283 : (Jvm.Cond.fieldLink "LetterPen" (475 : Nat) "LetterPen" "octets" "I") ∈ lw_all := lw_g (lw_at lw_m1 161 rfl) rfl
theorem q284 : (Jvm.Cond.laysFinal "LetterPen" "LetterPen" "tape" "[C") ∈ lw_all := lw_g (lw_at lw_m1 162 rfl) rfl
theorem q285 : (Jvm.Cond.soleField "LetterPen" "tape") ∈ lw_all := lw_g (lw_at lw_m1 163 rfl) rfl
theorem q286 : (Jvm.Cond.lays "LetterPen" "LetterPen" "taped" "I") ∈ lw_all := lw_g (lw_at lw_m1 164 rfl) rfl
theorem q287 : (Jvm.Cond.soleField "LetterPen" "taped") ∈ lw_all := lw_g (lw_at lw_m1 165 rfl) rfl
theorem q288 : (Jvm.Cond.laysFinal "LetterPen" "LetterPen" "refusals" "[I") ∈ lw_all := lw_g (lw_at lw_m1 166 rfl) rfl
theorem q289 : (Jvm.Cond.soleField "LetterPen" "refusals") ∈ lw_all := lw_g (lw_at lw_m1 167 rfl) rfl
theorem q290 : (Jvm.Cond.laysFinal "LetterPen" "LetterPen" "read" "[I") ∈ lw_all := lw_g (lw_at lw_m1 168 rfl) rfl
theorem q291 : (Jvm.Cond.soleField "LetterPen" "read") ∈ lw_all := lw_g (lw_at lw_m1 169 rfl) rfl
theorem q292 : (Jvm.Cond.lays "LetterPen" "LetterPen" "now" "LLetterPen$State;") ∈ lw_all := lw_g (lw_at lw_m1 170 rfl) rfl
theorem q293 : (Jvm.Cond.soleField "LetterPen" "now") ∈ lw_all := lw_g (lw_at lw_m1 171 rfl) rfl
theorem q294 : (Jvm.Cond.laysFinal "LetterPen" "LetterPen" "behind" "Ljava/util/ArrayList;") ∈ lw_all := lw_g (lw_at lw_m1 172 rfl) rfl
theorem q295 : (Jvm.Cond.soleField "LetterPen" "behind") ∈ lw_all := lw_g (lw_at lw_m1 173 rfl) rfl
theorem q296 : (Jvm.Cond.laysFinal "LetterPen" "LetterPen" "unused" "Ljava/util/ArrayList;") ∈ lw_all := lw_g (lw_at lw_m1 174 rfl) rfl
theorem q297 : (Jvm.Cond.soleField "LetterPen" "unused") ∈ lw_all := lw_g (lw_at lw_m1 175 rfl) rfl
theorem q298 : (Jvm.Cond.lays "LetterPen" "LetterPen" "faultKind" "I") ∈ lw_all := lw_g (lw_at lw_m1 176 rfl) rfl
theorem q299 : (Jvm.Cond.soleField "LetterPen" "faultKind") ∈ lw_all := lw_g (lw_at lw_m1 177 rfl) rfl
theorem q300 : (Jvm.Cond.lays "LetterPen" "LetterPen" "faultPlace" "I") ∈ lw_all := lw_g (lw_at lw_m1 178 rfl) rfl
theorem q301 : (Jvm.Cond.soleField "LetterPen" "faultPlace") ∈ lw_all := lw_g (lw_at lw_m1 179 rfl) rfl
theorem q302 : (Jvm.Cond.lays "LetterPen" "LetterPen" "rowA" "[I") ∈ lw_all := lw_g (lw_at lw_m1 180 rfl) rfl
theorem q303 : (Jvm.Cond.soleField "LetterPen" "rowA") ∈ lw_all := lw_g (lw_at lw_m1 181 rfl) rfl
theorem q304 : (Jvm.Cond.lays "LetterPen" "LetterPen" "rowB" "[I") ∈ lw_all := lw_g (lw_at lw_m1 182 rfl) rfl
theorem q305 : (Jvm.Cond.soleField "LetterPen" "rowB") ∈ lw_all := lw_g (lw_at lw_m1 183 rfl) rfl
theorem q306 : (Jvm.Cond.laysFinal "LetterPen" "LetterPen" "codesApart" "LLetterPen$Cost;") ∈ lw_all := lw_g (lw_at lw_m1 184 rfl) rfl
theorem q307 : (Jvm.Cond.soleField "LetterPen" "codesApart") ∈ lw_all := lw_g (lw_at lw_m1 185 rfl) rfl
theorem q308 : (Jvm.Cond.laysFinal "LetterPen" "LetterPen" "least" "[[I") ∈ lw_all := lw_g (lw_at lw_m1 186 rfl) rfl
theorem q309 : (Jvm.Cond.soleField "LetterPen" "least") ∈ lw_all := lw_g (lw_at lw_m1 187 rfl) rfl
theorem q310 : (Jvm.Cond.laysFinal "LetterPen" "LetterPen" "wayA" "[I") ∈ lw_all := lw_g (lw_at lw_m1 188 rfl) rfl
theorem q311 : (Jvm.Cond.soleField "LetterPen" "wayA") ∈ lw_all := lw_g (lw_at lw_m1 189 rfl) rfl
theorem q312 : (Jvm.Cond.laysFinal "LetterPen" "LetterPen" "wayB" "[I") ∈ lw_all := lw_g (lw_at lw_m1 190 rfl) rfl
theorem q313 : (Jvm.Cond.soleField "LetterPen" "wayB") ∈ lw_all := lw_g (lw_at lw_m1 191 rfl) rfl
theorem q314 : (Jvm.Cond.laysFinal "LetterPen" "LetterPen" "forth" "[[I") ∈ lw_all := lw_g (lw_at lw_m1 192 rfl) rfl
theorem q315 : (Jvm.Cond.soleField "LetterPen" "forth") ∈ lw_all := lw_g (lw_at lw_m1 193 rfl) rfl
theorem q316 : (Jvm.Cond.laysFinal "LetterPen" "LetterPen" "back" "[[I") ∈ lw_all := lw_g (lw_at lw_m1 194 rfl) rfl
theorem q317 : (Jvm.Cond.soleField "LetterPen" "back") ∈ lw_all := lw_g (lw_at lw_m1 195 rfl) rfl
theorem q318 : (Jvm.Cond.laysFinal "LetterPen" "LetterPen" "offs" "[[I") ∈ lw_all := lw_g (lw_at lw_m1 196 rfl) rfl
theorem q319 : (Jvm.Cond.soleField "LetterPen" "offs") ∈ lw_all := lw_g (lw_at lw_m1 197 rfl) rfl
theorem q320 : (Jvm.Cond.laysFinal "LetterPen" "LetterPen" "partners" "[I") ∈ lw_all := lw_g (lw_at lw_m1 198 rfl) rfl
theorem q321 : (Jvm.Cond.soleField "LetterPen" "partners") ∈ lw_all := lw_g (lw_at lw_m1 199 rfl) rfl
theorem q322 : (Jvm.Cond.laysFinal "LetterPen" "LetterPen" "best" "[I") ∈ lw_all := lw_g (lw_at lw_m1 200 rfl) rfl
theorem q323 : (Jvm.Cond.soleField "LetterPen" "best") ∈ lw_all := lw_g (lw_at lw_m1 201 rfl) rfl
theorem q324 : (Jvm.Cond.laysFinal "LetterPen" "LetterPen" "boxA" "LLetterPen$Box;") ∈ lw_all := lw_g (lw_at lw_m1 202 rfl) rfl
theorem q325 : (Jvm.Cond.soleField "LetterPen" "boxA") ∈ lw_all := lw_g (lw_at lw_m1 203 rfl) rfl
theorem q326 : (Jvm.Cond.laysFinal "LetterPen" "LetterPen" "boxB" "LLetterPen$Box;") ∈ lw_all := lw_g (lw_at lw_m1 204 rfl) rfl
theorem q327 : (Jvm.Cond.soleField "LetterPen" "boxB") ∈ lw_all := lw_g (lw_at lw_m1 205 rfl) rfl
theorem q328 : (Jvm.Cond.lays "LetterPen" "LetterPen" "bestScore" "I") ∈ lw_all := lw_g (lw_at lw_m1 206 rfl) rfl
theorem q329 : (Jvm.Cond.soleField "LetterPen" "bestScore") ∈ lw_all := lw_g (lw_at lw_m1 207 rfl) rfl
theorem q330 : (Jvm.Cond.laysFinal "LetterPen" "LetterPen" "scores" "[I") ∈ lw_all := lw_g (lw_at lw_m1 208 rfl) rfl
theorem q331 : (Jvm.Cond.soleField "LetterPen" "scores") ∈ lw_all := lw_g (lw_at lw_m1 209 rfl) rfl
theorem q332 : (Jvm.Cond.laysFinal "LetterPen" "LetterPen" "ranked" "[I") ∈ lw_all := lw_g (lw_at lw_m1 210 rfl) rfl
theorem q333 : (Jvm.Cond.soleField "LetterPen" "ranked") ∈ lw_all := lw_g (lw_at lw_m1 211 rfl) rfl
theorem q334 : (Jvm.Cond.laysFinal "LetterPen" "LetterPen" "groups" "[I") ∈ lw_all := lw_g (lw_at lw_m1 212 rfl) rfl
theorem q335 : (Jvm.Cond.soleField "LetterPen" "groups") ∈ lw_all := lw_g (lw_at lw_m1 213 rfl) rfl
theorem q336 : (Jvm.Cond.laysFinal "LetterPen" "LetterPen" "costs" "[I") ∈ lw_all := lw_g (lw_at lw_m1 214 rfl) rfl
theorem q337 : (Jvm.Cond.soleField "LetterPen" "costs") ∈ lw_all := lw_g (lw_at lw_m1 215 rfl) rfl
theorem q338 : (Jvm.Cond.laysFinal "LetterPen" "LetterPen" "rowLong" "[I") ∈ lw_all := lw_g (lw_at lw_m1 216 rfl) rfl
theorem q339 : (Jvm.Cond.soleField "LetterPen" "rowLong") ∈ lw_all := lw_g (lw_at lw_m1 217 rfl) rfl
theorem q340 : (Jvm.Cond.laysFinal "LetterPen" "LetterPen" "rowModel" "[I") ∈ lw_all := lw_g (lw_at lw_m1 218 rfl) rfl
theorem q341 : (Jvm.Cond.soleField "LetterPen" "rowModel") ∈ lw_all := lw_g (lw_at lw_m1 219 rfl) rfl
theorem q342 : (Jvm.Cond.laysFinal "LetterPen" "LetterPen" "rowScore" "[I") ∈ lw_all := lw_g (lw_at lw_m1 220 rfl) rfl
theorem q343 : (Jvm.Cond.soleField "LetterPen" "rowScore") ∈ lw_all := lw_g (lw_at lw_m1 221 rfl) rfl
theorem q344 : (Jvm.Cond.laysFinal "LetterPen" "LetterPen" "row" "Ljava/util/ArrayList;") ∈ lw_all := lw_g (lw_at lw_m1 222 rfl) rfl
theorem q345 : (Jvm.Cond.soleField "LetterPen" "row") ∈ lw_all := lw_g (lw_at lw_m1 223 rfl) rfl
theorem q346 : (Jvm.Cond.laysFinal "LetterPen" "LetterPen" "samples" "Ljava/util/ArrayList;") ∈ lw_all := lw_g (lw_at lw_m1 224 rfl) rfl
theorem q347 : (Jvm.Cond.soleField "LetterPen" "samples") ∈ lw_all := lw_g (lw_at lw_m1 225 rfl) rfl
theorem q348 : (Jvm.Cond.laysFinal "LetterPen" "LetterPen" "valued" "[[I") ∈ lw_all := lw_g (lw_at lw_m1 226 rfl) rfl
theorem q349 : (Jvm.Cond.soleField "LetterPen" "valued") ∈ lw_all := lw_g (lw_at lw_m1 227 rfl) rfl
theorem q350 : (Jvm.Cond.laysFinal "LetterPen" "LetterPen" "isFit" "[Z") ∈ lw_all := lw_g (lw_at lw_m1 228 rfl) rfl
theorem q351 : (Jvm.Cond.soleField "LetterPen" "isFit") ∈ lw_all := lw_g (lw_at lw_m1 229 rfl) rfl
theorem q352 : (Jvm.Cond.laysFinal "LetterPen" "LetterPen" "right" "[I") ∈ lw_all := lw_g (lw_at lw_m1 230 rfl) rfl
theorem q353 : (Jvm.Cond.soleField "LetterPen" "right") ∈ lw_all := lw_g (lw_at lw_m1 231 rfl) rfl
theorem q354 : (Jvm.Cond.lays "LetterPen" "LetterPen" "seeded" "J") ∈ lw_all := lw_g (lw_at lw_m1 232 rfl) rfl
theorem q355 : (Jvm.Cond.soleField "LetterPen" "seeded") ∈ lw_all := lw_g (lw_at lw_m1 233 rfl) rfl
theorem q356 : (Jvm.Cond.laysFinal "LetterPen" "LetterPen" "image" "[C") ∈ lw_all := lw_g (lw_at lw_m1 234 rfl) rfl
theorem q357 : (Jvm.Cond.soleField "LetterPen" "image") ∈ lw_all := lw_g (lw_at lw_m1 235 rfl) rfl
theorem q358 : (Jvm.Cond.lays "LetterPen" "LetterPen" "octets" "I") ∈ lw_all := lw_g (lw_at lw_m1 236 rfl) rfl
theorem q359 : (Jvm.Cond.soleField "LetterPen" "octets") ∈ lw_all := lw_g (lw_at lw_m1 237 rfl) rfl
theorem q360 : (Jvm.Cond.superclass "LetterPen" "java/lang/Object") ∈ lw_all := lw_g (lw_at lw_m1 238 rfl) rfl
theorem q363 : (Jvm.Cond.instanceMethod ({ cls := "LetterPen", name := "feed", desc := "(IIIII)I" } : Jvm.MethodName)) ∈ lw_all := lw_g (lw_at lw_m2 1 rfl) rfl
theorem q364 : (Jvm.Cond.selects "LetterPen" ({ cls := "LetterPen", name := "feed", desc := "(IIIII)I" } : Jvm.MethodName) ({ cls := "LetterPen", name := "feed", desc := "(IIIII)I" } : Jvm.MethodName)) ∈ lw_all := lw_g (lw_at lw_m2 2 rfl) rfl
theorem q365 : (Jvm.Cond.code ({ cls := "LetterPen", name := "feed", desc := "(IIIII)I" } : Jvm.MethodName) prog_1_method_10_code (6 : Nat) (Option.some Jvm.ClassFile.FieldType.int)) ∈ lw_all := lw_g (lw_at lw_m2 3 rfl) rfl
theorem q366 : (Jvm.Cond.methodLink "LetterPen" (150 : Nat) ({ cls := "LetterPen", name := "refused", desc := "(I)I" } : Jvm.MethodName)) ∈ lw_all := lw_g (lw_at lw_m2 4 rfl) rfl
theorem q367 : (Jvm.Cond.privateMethod ({ cls := "LetterPen", name := "refused", desc := "(I)I" } : Jvm.MethodName)) ∈ lw_tbl := lw_at lw_m2 5 rfl
theorem q368 : (Jvm.Cond.instanceMethod ({ cls := "LetterPen", name := "refused", desc := "(I)I" } : Jvm.MethodName)) ∈ lw_all := lw_g (lw_at lw_m2 6 rfl) rfl
theorem q369 : (Jvm.Cond.code ({ cls := "LetterPen", name := "refused", desc := "(I)I" } : Jvm.MethodName) prog_1_method_8_code (2 : Nat) (Option.some Jvm.ClassFile.FieldType.int)) ∈ lw_all := lw_g (lw_at lw_m2 7 rfl) rfl
theorem q370 : (Jvm.Cond.methodLink "LetterPen" (156 : Nat) ({ cls := "LetterPen", name := "lays", desc := "(I)V" } : Jvm.MethodName)) ∈ lw_all := lw_g (lw_at lw_m2 8 rfl) rfl
theorem q371 : (Jvm.Cond.privateMethod ({ cls := "LetterPen", name := "lays", desc := "(I)V" } : Jvm.MethodName)) ∈ lw_tbl := lw_at lw_m2 9 rfl
theorem q372 : (Jvm.Cond.instanceMethod ({ cls := "LetterPen", name := "lays", desc := "(I)V" } : Jvm.MethodName)) ∈ lw_all := lw_g (lw_at lw_m2 10 rfl) rfl
theorem q373 : (Jvm.Cond.code ({ cls := "LetterPen", name := "lays", desc := "(I)V" } : Jvm.MethodName) prog_1_method_11_code (3 : Nat) (Option.none : Option Jvm.ClassFile.FieldType)) ∈ lw_all := lw_g (lw_at lw_m2 11 rfl) rfl
theorem q375 : (Jvm.Cond.instanceMethod ({ cls := "LetterPen", name := "end", desc := "(I)Z" } : Jvm.MethodName)) ∈ lw_all := lw_g (lw_at lw_m2 13 rfl) rfl
theorem q376 : (Jvm.Cond.selects "LetterPen" ({ cls := "LetterPen", name := "end", desc := "(I)Z" } : Jvm.MethodName) ({ cls := "LetterPen", name := "end", desc := "(I)Z" } : Jvm.MethodName)) ∈ lw_all := lw_g (lw_at lw_m2 14 rfl) rfl
theorem q377 : (Jvm.Cond.code ({ cls := "LetterPen", name := "end", desc := "(I)Z" } : Jvm.MethodName) prog_1_method_12_code (2 : Nat) (Option.some Jvm.ClassFile.FieldType.boolean)) ∈ lw_all := lw_g (lw_at lw_m2 15 rfl) rfl
theorem q378 : (Jvm.Cond.methodLink "LetterPen" (160 : Nat) ({ cls := "LetterPen", name := "refuses", desc := "(I)Z" } : Jvm.MethodName)) ∈ lw_all := lw_g (lw_at lw_m2 16 rfl) rfl
theorem q379 : (Jvm.Cond.privateMethod ({ cls := "LetterPen", name := "refuses", desc := "(I)Z" } : Jvm.MethodName)) ∈ lw_tbl := lw_at lw_m2 17 rfl
theorem q380 : (Jvm.Cond.instanceMethod ({ cls := "LetterPen", name := "refuses", desc := "(I)Z" } : Jvm.MethodName)) ∈ lw_all := lw_g (lw_at lw_m2 18 rfl) rfl
theorem q381 : (Jvm.Cond.code ({ cls := "LetterPen", name := "refuses", desc := "(I)Z" } : Jvm.MethodName) prog_1_method_9_code (2 : Nat) (Option.some Jvm.ClassFile.FieldType.boolean)) ∈ lw_all := lw_g (lw_at lw_m2 19 rfl) rfl
theorem q383 : (Jvm.Cond.instanceMethod ({ cls := "LetterPen", name := "status", desc := "(I)I" } : Jvm.MethodName)) ∈ lw_all := lw_g (lw_at lw_m2 21 rfl) rfl
theorem q384 : (Jvm.Cond.selects "LetterPen" ({ cls := "LetterPen", name := "status", desc := "(I)I" } : Jvm.MethodName) ({ cls := "LetterPen", name := "status", desc := "(I)I" } : Jvm.MethodName)) ∈ lw_all := lw_g (lw_at lw_m2 22 rfl) rfl
theorem q385 : (Jvm.Cond.code ({ cls := "LetterPen", name := "status", desc := "(I)I" } : Jvm.MethodName) prog_1_method_13_code (2 : Nat) (Option.some Jvm.ClassFile.FieldType.int)) ∈ lw_all := lw_g (lw_at lw_m2 23 rfl) rfl
theorem q386 : (Jvm.Cond.constantLong "LetterPen" (164 : Nat) (5 : Int64)) ∈ lw_all := lw_g (lw_at lw_m2 24 rfl) rfl
theorem q387 : (Jvm.Cond.methodLink "LetterPen" (166 : Nat) ({ cls := "LetterPen", name := "isIn", desc := "(JJJ)Z" } : Jvm.MethodName)) ∈ lw_all := lw_g (lw_at lw_m2 25 rfl) rfl
theorem q388 : (Jvm.Cond.static ({ cls := "LetterPen", name := "isIn", desc := "(JJJ)Z" } : Jvm.MethodName)) ∈ lw_all := lw_g (lw_at lw_m2 26 rfl) rfl
theorem q389 : (Jvm.Cond.code ({ cls := "LetterPen", name := "isIn", desc := "(JJJ)Z" } : Jvm.MethodName) prog_1_method_2_code (6 : Nat) (Option.some Jvm.ClassFile.FieldType.boolean)) ∈ lw_all := lw_g (lw_at lw_m2 27 rfl) rfl
theorem q391 : (Jvm.Cond.instanceMethod ({ cls := "LetterPen", name := "pen", desc := "()I" } : Jvm.MethodName)) ∈ lw_all := lw_g (lw_at lw_m2 29 rfl) rfl
theorem q392 : (Jvm.Cond.selects "LetterPen" ({ cls := "LetterPen", name := "pen", desc := "()I" } : Jvm.MethodName) ({ cls := "LetterPen", name := "pen", desc := "()I" } : Jvm.MethodName)) ∈ lw_all := lw_g (lw_at lw_m2 30 rfl) rfl
theorem q393 : (Jvm.Cond.codeWith ({ cls := "LetterPen", name := "pen", desc := "()I" } : Jvm.MethodName) prog_1_method_14_code (3 : Nat) (Option.some Jvm.ClassFile.FieldType.int) [((18 : Nat), (59 : Nat), (60 : Nat), (192 : Nat))]) ∈ lw_all := lw_g (lw_at lw_m2 31 rfl) rfl
theorem q394 : (Jvm.Cond.classLink "LetterPen" (192 : Nat) "LetterPen$Fault") ∈ lw_all := lw_g (lw_at lw_m2 32 rfl) rfl
theorem q395 : (Jvm.Cond.classLink "LetterPen" (170 : Nat) "LetterPen$Scan") ∈ lw_all := lw_g (lw_at lw_m2 33 rfl) rfl
theorem q397 : (Jvm.Cond.methodLink "LetterPen" (172 : Nat) ({ cls := "LetterPen$Scan", name := "<init>", desc := "(LLetterPen;I)V" } : Jvm.MethodName)) ∈ lw_all := lw_g (lw_at lw_m2 35 rfl) rfl
theorem q413 : (Jvm.Cond.fieldLink "LetterPen" (178 : Nat) "LetterPen$Plan" "state" "LLetterPen$State;") ∈ lw_all := lw_g (lw_at lw_m2 51 rfl) rfl
theorem q417 : (Jvm.Cond.fieldLink "LetterPen" (189 : Nat) "LetterPen$Plan" "statements" "I") ∈ lw_all := lw_g (lw_at lw_m2 55 rfl) rfl
theorem q447 : (Jvm.Cond.methodLink "LetterPen" (175 : Nat) ({ cls := "LetterPen$Scan", name := "read", desc := "()LLetterPen$Plan;" } : Jvm.MethodName)) ∈ lw_all := lw_g (lw_at lw_m2 85 rfl) rfl
theorem q506 : (Jvm.Cond.fieldLink "LetterPen" (194 : Nat) "LetterPen$Fault" "kind" "I") ∈ lw_all := lw_g (lw_at lw_m2 144 rfl) rfl
theorem q508 : (Jvm.Cond.fieldLink "LetterPen" (197 : Nat) "LetterPen$Fault" "place" "I") ∈ lw_all := lw_g (lw_at lw_m2 146 rfl) rfl
theorem q638 : (Jvm.Cond.laysStatic "LetterPen" "OWN" "[Ljava/lang/String;") ∈ lw_tbl := lw_at lw_m3 36 rfl
theorem q640 : (Jvm.Cond.laysStatic "LetterPen" "LEAST" "[I") ∈ lw_tbl := lw_at lw_m3 38 rfl
theorem q642 : (Jvm.Cond.laysStatic "LetterPen" "GREATEST" "[I") ∈ lw_tbl := lw_at lw_m3 40 rfl
theorem q670 : (Jvm.Cond.static ({ cls := "LetterPen", name := "isOwn", desc := "(Ljava/lang/String;)Z" } : Jvm.MethodName)) ∈ lw_all := lw_g (lw_at lw_m3 68 rfl) rfl
theorem q671 : (Jvm.Cond.code ({ cls := "LetterPen", name := "isOwn", desc := "(Ljava/lang/String;)Z" } : Jvm.MethodName) prog_1_method_4_code (2 : Nat) (Option.some Jvm.ClassFile.FieldType.boolean)) ∈ lw_all := lw_g (lw_at lw_m3 69 rfl) rfl
theorem q672 : (Jvm.Cond.fieldLink "LetterPen" (129 : Nat) "LetterPen" "OWN" "[Ljava/lang/String;") ∈ lw_all := lw_g (lw_at lw_m3 70 rfl) rfl
theorem q673 : (Jvm.Cond.methodLink "LetterPen" (133 : Nat) ({ cls := "java/lang/String", name := "equals", desc := "(Ljava/lang/Object;)Z" } : Jvm.MethodName)) ∈ lw_all := lw_g (lw_at lw_m3 71 rfl) rfl
theorem q690 : (Jvm.Cond.selects "LetterPen" ({ cls := "java/lang/Object", name := "equals", desc := "(Ljava/lang/Object;)Z" } : Jvm.MethodName) ({ cls := "java/lang/Object", name := "equals", desc := "(Ljava/lang/Object;)Z" } : Jvm.MethodName)) ∈ lw_all := lw_g (lw_at lw_m3 88 rfl) rfl
theorem q734 : (Jvm.Cond.selects "LetterPen" ({ cls := "java/lang/Object", name := "getClass", desc := "()Ljava/lang/Class;" } : Jvm.MethodName) ({ cls := "java/lang/Object", name := "getClass", desc := "()Ljava/lang/Class;" } : Jvm.MethodName)) ∈ lw_all := lw_g (lw_at lw_m3 132 rfl) rfl
theorem q766 : (Jvm.Cond.fieldLink "LetterPen" (230 : Nat) "LetterPen$Letter" "name" "Ljava/lang/String;") ∈ lw_all := lw_g (lw_at lw_m3 164 rfl) rfl
theorem q769 : (Jvm.Cond.fieldLink "LetterPen" (241 : Nat) "LetterPen$Letter" "strokes" "Ljava/util/ArrayList;") ∈ lw_all := lw_g (lw_at lw_m3 167 rfl) rfl
theorem q799 : (Jvm.Cond.static ({ cls := "LetterPen", name := "root", desc := "(I)I" } : Jvm.MethodName)) ∈ lw_all := lw_g (lw_at lw_m3 197 rfl) rfl
theorem q800 : (Jvm.Cond.code ({ cls := "LetterPen", name := "root", desc := "(I)I" } : Jvm.MethodName) prog_1_method_6_code (3 : Nat) (Option.some Jvm.ClassFile.FieldType.int)) ∈ lw_all := lw_g (lw_at lw_m3 198 rfl) rfl
theorem q801 : (Jvm.Cond.constant "LetterPen" (145 : Nat) (32768 : Int32)) ∈ lw_all := lw_g (lw_at lw_m3 199 rfl) rfl
theorem q803 : (Jvm.Cond.fieldLinkNest "LetterPen" (264 : Nat) "LetterPen$Stroke" "points" "[I" "LetterPen") ∈ lw_tbl := lw_at lw_m3 201 rfl
theorem q806 : (Jvm.Cond.fieldLinkNest "LetterPen" (267 : Nat) "LetterPen$Stroke" "length" "I" "LetterPen") ∈ lw_tbl := lw_at lw_m3 204 rfl
theorem q809 : (Jvm.Cond.fieldLinkNest "LetterPen" (269 : Nat) "LetterPen$Stroke" "samples" "[I" "LetterPen") ∈ lw_tbl := lw_at lw_m3 207 rfl
theorem q811 : (Jvm.Cond.fieldLinkNest "LetterPen" (271 : Nat) "LetterPen$Stroke" "codes" "[I" "LetterPen") ∈ lw_tbl := lw_at lw_m3 209 rfl
theorem q813 : (Jvm.Cond.fieldLinkNest "LetterPen" (296 : Nat) "LetterPen$Stroke" "backwards" "[I" "LetterPen") ∈ lw_tbl := lw_at lw_m3 211 rfl
theorem q829 : (Jvm.Cond.methodLink "LetterPen" (186 : Nat) ({ cls := "java/util/ArrayList", name := "clear", desc := "()V" } : Jvm.MethodName)) ∈ lw_all := lw_g (lw_at lw_m3 227 rfl) rfl
theorem q834 : (Jvm.Cond.instanceMethod ({ cls := "LetterPen", name := "fault", desc := "(I)I" } : Jvm.MethodName)) ∈ lw_all := lw_g (lw_at lw_m3 232 rfl) rfl
theorem q835 : (Jvm.Cond.selects "LetterPen" ({ cls := "LetterPen", name := "fault", desc := "(I)I" } : Jvm.MethodName) ({ cls := "LetterPen", name := "fault", desc := "(I)I" } : Jvm.MethodName)) ∈ lw_all := lw_g (lw_at lw_m3 233 rfl) rfl
theorem q836 : (Jvm.Cond.code ({ cls := "LetterPen", name := "fault", desc := "(I)I" } : Jvm.MethodName) prog_1_method_15_code (2 : Nat) (Option.some Jvm.ClassFile.FieldType.int)) ∈ lw_all := lw_g (lw_at lw_m3 234 rfl) rfl
theorem q838 : (Jvm.Cond.instanceMethod ({ cls := "LetterPen", name := "has", desc := "(I)I" } : Jvm.MethodName)) ∈ lw_all := lw_g (lw_at lw_m3 236 rfl) rfl
theorem q839 : (Jvm.Cond.selects "LetterPen" ({ cls := "LetterPen", name := "has", desc := "(I)I" } : Jvm.MethodName) ({ cls := "LetterPen", name := "has", desc := "(I)I" } : Jvm.MethodName)) ∈ lw_all := lw_g (lw_at lw_m3 237 rfl) rfl
theorem q840 : (Jvm.Cond.code ({ cls := "LetterPen", name := "has", desc := "(I)I" } : Jvm.MethodName) prog_1_method_18_code (2 : Nat) (Option.some Jvm.ClassFile.FieldType.int)) ∈ lw_all := lw_g (lw_at lw_m3 238 rfl) rfl
theorem q841 : (Jvm.Cond.methodLink "LetterPen" (207 : Nat) ({ cls := "LetterPen", name := "models", desc := "()I" } : Jvm.MethodName)) ∈ lw_all := lw_g (lw_at lw_m3 239 rfl) rfl
theorem q842 : (Jvm.Cond.privateMethod ({ cls := "LetterPen", name := "models", desc := "()I" } : Jvm.MethodName)) ∈ lw_tbl := lw_at lw_m4 0 rfl
theorem q843 : (Jvm.Cond.instanceMethod ({ cls := "LetterPen", name := "models", desc := "()I" } : Jvm.MethodName)) ∈ lw_all := lw_g (lw_at lw_m4 1 rfl) rfl
theorem q844 : (Jvm.Cond.code ({ cls := "LetterPen", name := "models", desc := "()I" } : Jvm.MethodName) prog_1_method_16_code (1 : Nat) (Option.some Jvm.ClassFile.FieldType.int)) ∈ lw_all := lw_g (lw_at lw_m4 2 rfl) rfl
theorem q845 : (Jvm.Cond.methodLink "LetterPen" (203 : Nat) ({ cls := "java/util/ArrayList", name := "size", desc := "()I" } : Jvm.MethodName)) ∈ lw_all := lw_g (lw_at lw_m4 3 rfl) rfl
theorem q846 : (Jvm.Cond.constantLong "LetterPen" (212 : Nat) (2 : Int64)) ∈ lw_all := lw_g (lw_at lw_m4 4 rfl) rfl
theorem q847 : (Jvm.Cond.constantLong "LetterPen" (214 : Nat) (7 : Int64)) ∈ lw_all := lw_g (lw_at lw_m4 5 rfl) rfl
theorem q849 : (Jvm.Cond.instanceMethod ({ cls := "LetterPen", name := "named", desc := "(II)I" } : Jvm.MethodName)) ∈ lw_all := lw_g (lw_at lw_m4 7 rfl) rfl
theorem q850 : (Jvm.Cond.selects "LetterPen" ({ cls := "LetterPen", name := "named", desc := "(II)I" } : Jvm.MethodName) ({ cls := "LetterPen", name := "named", desc := "(II)I" } : Jvm.MethodName)) ∈ lw_all := lw_g (lw_at lw_m4 8 rfl) rfl
theorem q851 : (Jvm.Cond.code ({ cls := "LetterPen", name := "named", desc := "(II)I" } : Jvm.MethodName) prog_1_method_19_code (4 : Nat) (Option.some Jvm.ClassFile.FieldType.int)) ∈ lw_all := lw_g (lw_at lw_m4 9 rfl) rfl
theorem q852 : (Jvm.Cond.methodLink "LetterPen" (219 : Nat) ({ cls := "LetterPen", name := "isModel", desc := "(I)Z" } : Jvm.MethodName)) ∈ lw_all := lw_g (lw_at lw_m4 10 rfl) rfl
theorem q853 : (Jvm.Cond.privateMethod ({ cls := "LetterPen", name := "isModel", desc := "(I)Z" } : Jvm.MethodName)) ∈ lw_tbl := lw_at lw_m4 11 rfl
theorem q854 : (Jvm.Cond.instanceMethod ({ cls := "LetterPen", name := "isModel", desc := "(I)Z" } : Jvm.MethodName)) ∈ lw_all := lw_g (lw_at lw_m4 12 rfl) rfl
theorem q855 : (Jvm.Cond.code ({ cls := "LetterPen", name := "isModel", desc := "(I)Z" } : Jvm.MethodName) prog_1_method_17_code (2 : Nat) (Option.some Jvm.ClassFile.FieldType.boolean)) ∈ lw_all := lw_g (lw_at lw_m4 13 rfl) rfl
theorem q856 : (Jvm.Cond.constantLong "LetterPen" (222 : Nat) (3 : Int64)) ∈ lw_all := lw_g (lw_at lw_m4 14 rfl) rfl
theorem q857 : (Jvm.Cond.methodLink "LetterPen" (224 : Nat) ({ cls := "java/util/ArrayList", name := "get", desc := "(I)Ljava/lang/Object;" } : Jvm.MethodName)) ∈ lw_all := lw_g (lw_at lw_m4 15 rfl) rfl
theorem q871 : (Jvm.Cond.classLink "LetterPen" (228 : Nat) "LetterPen$Letter") ∈ lw_all := lw_g (lw_at lw_m4 29 rfl) rfl
theorem q872 : (Jvm.Cond.methodLink "LetterPen" (234 : Nat) ({ cls := "java/lang/String", name := "length", desc := "()I" } : Jvm.MethodName)) ∈ lw_all := lw_g (lw_at lw_m4 30 rfl) rfl
theorem q873 : (Jvm.Cond.methodLink "LetterPen" (237 : Nat) ({ cls := "java/lang/String", name := "charAt", desc := "(I)C" } : Jvm.MethodName)) ∈ lw_all := lw_g (lw_at lw_m4 31 rfl) rfl
theorem q896 : (Jvm.Cond.instanceMethod ({ cls := "LetterPen", name := "strokes", desc := "(I)I" } : Jvm.MethodName)) ∈ lw_all := lw_g (lw_at lw_m4 54 rfl) rfl
theorem q897 : (Jvm.Cond.selects "LetterPen" ({ cls := "LetterPen", name := "strokes", desc := "(I)I" } : Jvm.MethodName) ({ cls := "LetterPen", name := "strokes", desc := "(I)I" } : Jvm.MethodName)) ∈ lw_all := lw_g (lw_at lw_m4 55 rfl) rfl
theorem q898 : (Jvm.Cond.code ({ cls := "LetterPen", name := "strokes", desc := "(I)I" } : Jvm.MethodName) prog_1_method_22_code (2 : Nat) (Option.some Jvm.ClassFile.FieldType.int)) ∈ lw_all := lw_g (lw_at lw_m4 56 rfl) rfl
theorem q899 : (Jvm.Cond.methodLink "LetterPen" (244 : Nat) ({ cls := "LetterPen", name := "isLetter", desc := "(I)Z" } : Jvm.MethodName)) ∈ lw_all := lw_g (lw_at lw_m4 57 rfl) rfl
theorem q900 : (Jvm.Cond.privateMethod ({ cls := "LetterPen", name := "isLetter", desc := "(I)Z" } : Jvm.MethodName)) ∈ lw_tbl := lw_at lw_m4 58 rfl
theorem q901 : (Jvm.Cond.instanceMethod ({ cls := "LetterPen", name := "isLetter", desc := "(I)Z" } : Jvm.MethodName)) ∈ lw_all := lw_g (lw_at lw_m4 59 rfl) rfl
theorem q902 : (Jvm.Cond.code ({ cls := "LetterPen", name := "isLetter", desc := "(I)Z" } : Jvm.MethodName) prog_1_method_20_code (2 : Nat) (Option.some Jvm.ClassFile.FieldType.boolean)) ∈ lw_all := lw_g (lw_at lw_m4 60 rfl) rfl
theorem q903 : (Jvm.Cond.methodLink "LetterPen" (247 : Nat) ({ cls := "LetterPen", name := "strokesOf", desc := "(I)Ljava/util/ArrayList;" } : Jvm.MethodName)) ∈ lw_all := lw_g (lw_at lw_m4 61 rfl) rfl
theorem q904 : (Jvm.Cond.privateMethod ({ cls := "LetterPen", name := "strokesOf", desc := "(I)Ljava/util/ArrayList;" } : Jvm.MethodName)) ∈ lw_tbl := lw_at lw_m4 62 rfl
theorem q905 : (Jvm.Cond.instanceMethod ({ cls := "LetterPen", name := "strokesOf", desc := "(I)Ljava/util/ArrayList;" } : Jvm.MethodName)) ∈ lw_all := lw_g (lw_at lw_m4 63 rfl) rfl
theorem q906 : (Jvm.Cond.code ({ cls := "LetterPen", name := "strokesOf", desc := "(I)Ljava/util/ArrayList;" } : Jvm.MethodName) prog_1_method_21_code (2 : Nat) (Option.some (Jvm.ClassFile.FieldType.object "java/util/ArrayList"))) ∈ lw_all := lw_g (lw_at lw_m4 64 rfl) rfl
theorem q908 : (Jvm.Cond.instanceMethod ({ cls := "LetterPen", name := "point", desc := "(IIII)I" } : Jvm.MethodName)) ∈ lw_all := lw_g (lw_at lw_m4 66 rfl) rfl
theorem q909 : (Jvm.Cond.selects "LetterPen" ({ cls := "LetterPen", name := "point", desc := "(IIII)I" } : Jvm.MethodName) ({ cls := "LetterPen", name := "point", desc := "(IIII)I" } : Jvm.MethodName)) ∈ lw_all := lw_g (lw_at lw_m4 67 rfl) rfl
theorem q910 : (Jvm.Cond.code ({ cls := "LetterPen", name := "point", desc := "(IIII)I" } : Jvm.MethodName) prog_1_method_24_code (6 : Nat) (Option.some Jvm.ClassFile.FieldType.int)) ∈ lw_all := lw_g (lw_at lw_m4 68 rfl) rfl
theorem q911 : (Jvm.Cond.methodLink "LetterPen" (257 : Nat) ({ cls := "LetterPen", name := "strokeOf", desc := "(II)LLetterPen$Stroke;" } : Jvm.MethodName)) ∈ lw_all := lw_g (lw_at lw_m4 69 rfl) rfl
theorem q912 : (Jvm.Cond.privateMethod ({ cls := "LetterPen", name := "strokeOf", desc := "(II)LLetterPen$Stroke;" } : Jvm.MethodName)) ∈ lw_tbl := lw_at lw_m4 70 rfl
theorem q913 : (Jvm.Cond.instanceMethod ({ cls := "LetterPen", name := "strokeOf", desc := "(II)LLetterPen$Stroke;" } : Jvm.MethodName)) ∈ lw_all := lw_g (lw_at lw_m4 71 rfl) rfl
theorem q914 : (Jvm.Cond.code ({ cls := "LetterPen", name := "strokeOf", desc := "(II)LLetterPen$Stroke;" } : Jvm.MethodName) prog_1_method_23_code (3 : Nat) (Option.some (Jvm.ClassFile.FieldType.object "LetterPen$Stroke"))) ∈ lw_all := lw_g (lw_at lw_m4 72 rfl) rfl
theorem q915 : (Jvm.Cond.classLink "LetterPen" (251 : Nat) "LetterPen$Stroke") ∈ lw_all := lw_g (lw_at lw_m4 73 rfl) rfl
theorem q916 : (Jvm.Cond.methodLink "LetterPen" (253 : Nat) ({ cls := "LetterPen$Stroke", name := "laid", desc := "(I)LLetterPen$Stroke;" } : Jvm.MethodName)) ∈ lw_all := lw_g (lw_at lw_m4 74 rfl) rfl
theorem q929 : (Jvm.Cond.methodLink "LetterPen" (261 : Nat) ({ cls := "LetterPen$Stroke", name := "many", desc := "()I" } : Jvm.MethodName)) ∈ lw_all := lw_g (lw_at lw_m4 87 rfl) rfl
theorem q934 : (Jvm.Cond.instanceMethod ({ cls := "LetterPen", name := "length", desc := "(II)I" } : Jvm.MethodName)) ∈ lw_all := lw_g (lw_at lw_m4 92 rfl) rfl
theorem q935 : (Jvm.Cond.selects "LetterPen" ({ cls := "LetterPen", name := "length", desc := "(II)I" } : Jvm.MethodName) ({ cls := "LetterPen", name := "length", desc := "(II)I" } : Jvm.MethodName)) ∈ lw_all := lw_g (lw_at lw_m4 93 rfl) rfl
theorem q936 : (Jvm.Cond.code ({ cls := "LetterPen", name := "length", desc := "(II)I" } : Jvm.MethodName) prog_1_method_25_code (4 : Nat) (Option.some Jvm.ClassFile.FieldType.int)) ∈ lw_all := lw_g (lw_at lw_m4 94 rfl) rfl
theorem q938 : (Jvm.Cond.instanceMethod ({ cls := "LetterPen", name := "sample", desc := "(IIII)I" } : Jvm.MethodName)) ∈ lw_all := lw_g (lw_at lw_m4 96 rfl) rfl
theorem q939 : (Jvm.Cond.selects "LetterPen" ({ cls := "LetterPen", name := "sample", desc := "(IIII)I" } : Jvm.MethodName) ({ cls := "LetterPen", name := "sample", desc := "(IIII)I" } : Jvm.MethodName)) ∈ lw_all := lw_g (lw_at lw_m4 97 rfl) rfl
theorem q940 : (Jvm.Cond.code ({ cls := "LetterPen", name := "sample", desc := "(IIII)I" } : Jvm.MethodName) prog_1_method_26_code (6 : Nat) (Option.some Jvm.ClassFile.FieldType.int)) ∈ lw_all := lw_g (lw_at lw_m4 98 rfl) rfl
theorem q942 : (Jvm.Cond.instanceMethod ({ cls := "LetterPen", name := "code", desc := "(III)I" } : Jvm.MethodName)) ∈ lw_all := lw_g (lw_at lw_m4 100 rfl) rfl
theorem q943 : (Jvm.Cond.selects "LetterPen" ({ cls := "LetterPen", name := "code", desc := "(III)I" } : Jvm.MethodName) ({ cls := "LetterPen", name := "code", desc := "(III)I" } : Jvm.MethodName)) ∈ lw_all := lw_g (lw_at lw_m4 101 rfl) rfl
theorem q944 : (Jvm.Cond.code ({ cls := "LetterPen", name := "code", desc := "(III)I" } : Jvm.MethodName) prog_1_method_27_code (5 : Nat) (Option.some Jvm.ClassFile.FieldType.int)) ∈ lw_all := lw_g (lw_at lw_m4 102 rfl) rfl
theorem q946 : (Jvm.Cond.instanceMethod ({ cls := "LetterPen", name := "corner", desc := "(III)I" } : Jvm.MethodName)) ∈ lw_all := lw_g (lw_at lw_m4 104 rfl) rfl
theorem q947 : (Jvm.Cond.selects "LetterPen" ({ cls := "LetterPen", name := "corner", desc := "(III)I" } : Jvm.MethodName) ({ cls := "LetterPen", name := "corner", desc := "(III)I" } : Jvm.MethodName)) ∈ lw_all := lw_g (lw_at lw_m4 105 rfl) rfl
theorem q948 : (Jvm.Cond.code ({ cls := "LetterPen", name := "corner", desc := "(III)I" } : Jvm.MethodName) prog_1_method_28_code (7 : Nat) (Option.some Jvm.ClassFile.FieldType.int)) ∈ lw_all := lw_g (lw_at lw_m4 106 rfl) rfl
theorem q950 : (Jvm.Cond.instanceMethod ({ cls := "LetterPen", name := "cell", desc := "(III)I" } : Jvm.MethodName)) ∈ lw_all := lw_g (lw_at lw_m4 108 rfl) rfl
theorem q951 : (Jvm.Cond.selects "LetterPen" ({ cls := "LetterPen", name := "cell", desc := "(III)I" } : Jvm.MethodName) ({ cls := "LetterPen", name := "cell", desc := "(III)I" } : Jvm.MethodName)) ∈ lw_all := lw_g (lw_at lw_m4 109 rfl) rfl
theorem q952 : (Jvm.Cond.code ({ cls := "LetterPen", name := "cell", desc := "(III)I" } : Jvm.MethodName) prog_1_method_29_code (5 : Nat) (Option.some Jvm.ClassFile.FieldType.int)) ∈ lw_all := lw_g (lw_at lw_m4 110 rfl) rfl
theorem q953 : (Jvm.Cond.methodLink "LetterPen" (277 : Nat) ({ cls := "LetterPen$Box", name := "around", desc := "(Ljava/util/ArrayList;)LLetterPen$Box;" } : Jvm.MethodName)) ∈ lw_all := lw_g (lw_at lw_m4 111 rfl) rfl
theorem q972 : (Jvm.Cond.methodLink "LetterPen" (281 : Nat) ({ cls := "LetterPen$Box", name := "cell", desc := "(LLetterPen$Stroke;I)I" } : Jvm.MethodName)) ∈ lw_all := lw_g (lw_at lw_m4 130 rfl) rfl
theorem q977 : (Jvm.Cond.instanceMethod ({ cls := "LetterPen", name := "bends", desc := "(II)I" } : Jvm.MethodName)) ∈ lw_all := lw_g (lw_at lw_m4 135 rfl) rfl
theorem q978 : (Jvm.Cond.selects "LetterPen" ({ cls := "LetterPen", name := "bends", desc := "(II)I" } : Jvm.MethodName) ({ cls := "LetterPen", name := "bends", desc := "(II)I" } : Jvm.MethodName)) ∈ lw_all := lw_g (lw_at lw_m4 136 rfl) rfl
theorem q979 : (Jvm.Cond.code ({ cls := "LetterPen", name := "bends", desc := "(II)I" } : Jvm.MethodName) prog_1_method_30_code (4 : Nat) (Option.some Jvm.ClassFile.FieldType.int)) ∈ lw_all := lw_g (lw_at lw_m4 137 rfl) rfl
theorem q980 : (Jvm.Cond.methodLink "LetterPen" (285 : Nat) ({ cls := "LetterPen$Stroke", name := "turns", desc := "(I)I" } : Jvm.MethodName)) ∈ lw_all := lw_g (lw_at lw_m4 138 rfl) rfl
theorem q987 : (Jvm.Cond.instanceMethod ({ cls := "LetterPen", name := "elastic", desc := "(IIZ)I" } : Jvm.MethodName)) ∈ lw_all := lw_g (lw_at lw_m4 145 rfl) rfl
theorem q988 : (Jvm.Cond.selects "LetterPen" ({ cls := "LetterPen", name := "elastic", desc := "(IIZ)I" } : Jvm.MethodName) ({ cls := "LetterPen", name := "elastic", desc := "(IIZ)I" } : Jvm.MethodName)) ∈ lw_all := lw_g (lw_at lw_m4 146 rfl) rfl
theorem q989 : (Jvm.Cond.code ({ cls := "LetterPen", name := "elastic", desc := "(IIZ)I" } : Jvm.MethodName) prog_1_method_34_code (6 : Nat) (Option.some Jvm.ClassFile.FieldType.int)) ∈ lw_all := lw_g (lw_at lw_m4 147 rfl) rfl
theorem q990 : (Jvm.Cond.methodLink "LetterPen" (306 : Nat) ({ cls := "LetterPen", name := "told", desc := "(I)LLetterPen$Stroke;" } : Jvm.MethodName)) ∈ lw_all := lw_g (lw_at lw_m4 148 rfl) rfl
theorem q991 : (Jvm.Cond.privateMethod ({ cls := "LetterPen", name := "told", desc := "(I)LLetterPen$Stroke;" } : Jvm.MethodName)) ∈ lw_tbl := lw_at lw_m4 149 rfl
theorem q992 : (Jvm.Cond.instanceMethod ({ cls := "LetterPen", name := "told", desc := "(I)LLetterPen$Stroke;" } : Jvm.MethodName)) ∈ lw_all := lw_g (lw_at lw_m4 150 rfl) rfl
theorem q993 : (Jvm.Cond.code ({ cls := "LetterPen", name := "told", desc := "(I)LLetterPen$Stroke;" } : Jvm.MethodName) prog_1_method_33_code (2 : Nat) (Option.some (Jvm.ClassFile.FieldType.object "LetterPen$Stroke"))) ∈ lw_all := lw_g (lw_at lw_m4 151 rfl) rfl
theorem q994 : (Jvm.Cond.methodLink "LetterPen" (309 : Nat) ({ cls := "LetterPen", name := "elasticOf", desc := "(LLetterPen$Stroke;LLetterPen$Stroke;ZI)I" } : Jvm.MethodName)) ∈ lw_all := lw_g (lw_at lw_m4 152 rfl) rfl
theorem q995 : (Jvm.Cond.privateMethod ({ cls := "LetterPen", name := "elasticOf", desc := "(LLetterPen$Stroke;LLetterPen$Stroke;ZI)I" } : Jvm.MethodName)) ∈ lw_tbl := lw_at lw_m4 153 rfl
theorem q996 : (Jvm.Cond.instanceMethod ({ cls := "LetterPen", name := "elasticOf", desc := "(LLetterPen$Stroke;LLetterPen$Stroke;ZI)I" } : Jvm.MethodName)) ∈ lw_all := lw_g (lw_at lw_m4 154 rfl) rfl
theorem q997 : (Jvm.Cond.code ({ cls := "LetterPen", name := "elasticOf", desc := "(LLetterPen$Stroke;LLetterPen$Stroke;ZI)I" } : Jvm.MethodName) prog_1_method_32_code (6 : Nat) (Option.some Jvm.ClassFile.FieldType.int)) ∈ lw_all := lw_g (lw_at lw_m4 155 rfl) rfl
theorem q998 : (Jvm.Cond.methodLink "LetterPen" (302 : Nat) ({ cls := "LetterPen", name := "elasticBy", desc := "(LLetterPen$Cost;II)I" } : Jvm.MethodName)) ∈ lw_all := lw_g (lw_at lw_m4 156 rfl) rfl
theorem q999 : (Jvm.Cond.privateMethod ({ cls := "LetterPen", name := "elasticBy", desc := "(LLetterPen$Cost;II)I" } : Jvm.MethodName)) ∈ lw_tbl := lw_at lw_m4 157 rfl
theorem q1000 : (Jvm.Cond.instanceMethod ({ cls := "LetterPen", name := "elasticBy", desc := "(LLetterPen$Cost;II)I" } : Jvm.MethodName)) ∈ lw_all := lw_g (lw_at lw_m4 158 rfl) rfl
theorem q1001 : (Jvm.Cond.code ({ cls := "LetterPen", name := "elasticBy", desc := "(LLetterPen$Cost;II)I" } : Jvm.MethodName) prog_1_method_31_code (7 : Nat) (Option.some Jvm.ClassFile.FieldType.int)) ∈ lw_all := lw_g (lw_at lw_m4 159 rfl) rfl
theorem q1002 : (Jvm.Cond.constant "LetterPen" (288 : Nat) (100000 : Int32)) ∈ lw_all := lw_g (lw_at lw_m4 160 rfl) rfl
theorem q1003 : (Jvm.Cond.interfaceEntry "LetterPen" (289 : Nat)) ∈ lw_tbl := lw_at lw_m4 161 rfl
theorem q1004 : (Jvm.Cond.methodLink "LetterPen" (289 : Nat) ({ cls := "LetterPen$Cost", name := "of", desc := "(II)I" } : Jvm.MethodName)) ∈ lw_all := lw_g (lw_at lw_m4 162 rfl) rfl
theorem q1008 : (Jvm.Cond.instanceMethod ({ cls := "LetterPen", name := "way", desc := "(IIII)I" } : Jvm.MethodName)) ∈ lw_all := lw_g (lw_at lw_m4 166 rfl) rfl
theorem q1009 : (Jvm.Cond.selects "LetterPen" ({ cls := "LetterPen", name := "way", desc := "(IIII)I" } : Jvm.MethodName) ({ cls := "LetterPen", name := "way", desc := "(IIII)I" } : Jvm.MethodName)) ∈ lw_all := lw_g (lw_at lw_m4 167 rfl) rfl
theorem q1010 : (Jvm.Cond.code ({ cls := "LetterPen", name := "way", desc := "(IIII)I" } : Jvm.MethodName) prog_1_method_36_code (8 : Nat) (Option.some Jvm.ClassFile.FieldType.int)) ∈ lw_all := lw_g (lw_at lw_m4 168 rfl) rfl
theorem q1011 : (Jvm.Cond.methodLink "LetterPen" (313 : Nat) ({ cls := "LetterPen", name := "laysWay", desc := "(LLetterPen$Stroke;LLetterPen$Stroke;)I" } : Jvm.MethodName)) ∈ lw_all := lw_g (lw_at lw_m4 169 rfl) rfl
theorem q1012 : (Jvm.Cond.privateMethod ({ cls := "LetterPen", name := "laysWay", desc := "(LLetterPen$Stroke;LLetterPen$Stroke;)I" } : Jvm.MethodName)) ∈ lw_tbl := lw_at lw_m4 170 rfl
theorem q1013 : (Jvm.Cond.instanceMethod ({ cls := "LetterPen", name := "laysWay", desc := "(LLetterPen$Stroke;LLetterPen$Stroke;)I" } : Jvm.MethodName)) ∈ lw_all := lw_g (lw_at lw_m4 171 rfl) rfl
theorem q1014 : (Jvm.Cond.code ({ cls := "LetterPen", name := "laysWay", desc := "(LLetterPen$Stroke;LLetterPen$Stroke;)I" } : Jvm.MethodName) prog_1_method_35_code (8 : Nat) (Option.some Jvm.ClassFile.FieldType.int)) ∈ lw_all := lw_g (lw_at lw_m4 172 rfl) rfl
theorem q1016 : (Jvm.Cond.instanceMethod ({ cls := "LetterPen", name := "strays", desc := "(II)I" } : Jvm.MethodName)) ∈ lw_all := lw_g (lw_at lw_m4 174 rfl) rfl
theorem q1017 : (Jvm.Cond.selects "LetterPen" ({ cls := "LetterPen", name := "strays", desc := "(II)I" } : Jvm.MethodName) ({ cls := "LetterPen", name := "strays", desc := "(II)I" } : Jvm.MethodName)) ∈ lw_all := lw_g (lw_at lw_m4 175 rfl) rfl
theorem q1018 : (Jvm.Cond.code ({ cls := "LetterPen", name := "strays", desc := "(II)I" } : Jvm.MethodName) prog_1_method_37_code (8 : Nat) (Option.some Jvm.ClassFile.FieldType.int)) ∈ lw_all := lw_g (lw_at lw_m4 176 rfl) rfl
theorem q1019 : (Jvm.Cond.methodLink "LetterPen" (317 : Nat) ({ cls := "java/lang/Math", name := "max", desc := "(II)I" } : Jvm.MethodName)) ∈ lw_all := lw_g (lw_at lw_m4 177 rfl) rfl
theorem q1021 : (Jvm.Cond.instanceMethod ({ cls := "LetterPen", name := "paired", desc := "(II)I" } : Jvm.MethodName)) ∈ lw_all := lw_g (lw_at lw_m4 179 rfl) rfl
theorem q1022 : (Jvm.Cond.selects "LetterPen" ({ cls := "LetterPen", name := "paired", desc := "(II)I" } : Jvm.MethodName) ({ cls := "LetterPen", name := "paired", desc := "(II)I" } : Jvm.MethodName)) ∈ lw_all := lw_g (lw_at lw_m4 180 rfl) rfl
theorem q1023 : (Jvm.Cond.code ({ cls := "LetterPen", name := "paired", desc := "(II)I" } : Jvm.MethodName) prog_1_method_39_code (5 : Nat) (Option.some Jvm.ClassFile.FieldType.int)) ∈ lw_all := lw_g (lw_at lw_m4 181 rfl) rfl
theorem q1024 : (Jvm.Cond.methodLink "LetterPen" (323 : Nat) ({ cls := "LetterPen", name := "pairedOf", desc := "(LLetterPen$Stroke;LLetterPen$Stroke;)I" } : Jvm.MethodName)) ∈ lw_all := lw_g (lw_at lw_m4 182 rfl) rfl
theorem q1025 : (Jvm.Cond.privateMethod ({ cls := "LetterPen", name := "pairedOf", desc := "(LLetterPen$Stroke;LLetterPen$Stroke;)I" } : Jvm.MethodName)) ∈ lw_tbl := lw_at lw_m4 183 rfl
theorem q1026 : (Jvm.Cond.instanceMethod ({ cls := "LetterPen", name := "pairedOf", desc := "(LLetterPen$Stroke;LLetterPen$Stroke;)I" } : Jvm.MethodName)) ∈ lw_all := lw_g (lw_at lw_m4 184 rfl) rfl
theorem q1027 : (Jvm.Cond.code ({ cls := "LetterPen", name := "pairedOf", desc := "(LLetterPen$Stroke;LLetterPen$Stroke;)I" } : Jvm.MethodName) prog_1_method_38_code (3 : Nat) (Option.some Jvm.ClassFile.FieldType.int)) ∈ lw_all := lw_g (lw_at lw_m4 185 rfl) rfl
theorem q1028 : (Jvm.Cond.methodLink "LetterPen" (320 : Nat) ({ cls := "LetterPen", name := "least", desc := "([I)I" } : Jvm.MethodName)) ∈ lw_all := lw_g (lw_at lw_m4 186 rfl) rfl
theorem q1029 : (Jvm.Cond.static ({ cls := "LetterPen", name := "least", desc := "([I)I" } : Jvm.MethodName)) ∈ lw_all := lw_g (lw_at lw_m4 187 rfl) rfl
theorem q1030 : (Jvm.Cond.code ({ cls := "LetterPen", name := "least", desc := "([I)I" } : Jvm.MethodName) prog_1_method_5_code (6 : Nat) (Option.some Jvm.ClassFile.FieldType.int)) ∈ lw_all := lw_g (lw_at lw_m4 188 rfl) rfl
theorem q1032 : (Jvm.Cond.instanceMethod ({ cls := "LetterPen", name := "wide", desc := "(II)I" } : Jvm.MethodName)) ∈ lw_all := lw_g (lw_at lw_m4 190 rfl) rfl
theorem q1033 : (Jvm.Cond.selects "LetterPen" ({ cls := "LetterPen", name := "wide", desc := "(II)I" } : Jvm.MethodName) ({ cls := "LetterPen", name := "wide", desc := "(II)I" } : Jvm.MethodName)) ∈ lw_all := lw_g (lw_at lw_m4 191 rfl) rfl
theorem q1034 : (Jvm.Cond.code ({ cls := "LetterPen", name := "wide", desc := "(II)I" } : Jvm.MethodName) prog_1_method_40_code (7 : Nat) (Option.some Jvm.ClassFile.FieldType.int)) ∈ lw_all := lw_g (lw_at lw_m4 192 rfl) rfl
theorem q1036 : (Jvm.Cond.instanceMethod ({ cls := "LetterPen", name := "score", desc := "(II)I" } : Jvm.MethodName)) ∈ lw_all := lw_g (lw_at lw_m4 194 rfl) rfl
theorem q1037 : (Jvm.Cond.selects "LetterPen" ({ cls := "LetterPen", name := "score", desc := "(II)I" } : Jvm.MethodName) ({ cls := "LetterPen", name := "score", desc := "(II)I" } : Jvm.MethodName)) ∈ lw_all := lw_g (lw_at lw_m4 195 rfl) rfl
theorem q1038 : (Jvm.Cond.code ({ cls := "LetterPen", name := "score", desc := "(II)I" } : Jvm.MethodName) prog_1_method_45_code (3 : Nat) (Option.some Jvm.ClassFile.FieldType.int)) ∈ lw_all := lw_g (lw_at lw_m4 196 rfl) rfl
theorem q1039 : (Jvm.Cond.methodLink "LetterPen" (352 : Nat) ({ cls := "LetterPen", name := "scoreOf", desc := "(Ljava/util/ArrayList;Ljava/util/ArrayList;)I" } : Jvm.MethodName)) ∈ lw_all := lw_g (lw_at lw_m4 197 rfl) rfl
theorem q1040 : (Jvm.Cond.privateMethod ({ cls := "LetterPen", name := "scoreOf", desc := "(Ljava/util/ArrayList;Ljava/util/ArrayList;)I" } : Jvm.MethodName)) ∈ lw_tbl := lw_at lw_m4 198 rfl
theorem q1041 : (Jvm.Cond.instanceMethod ({ cls := "LetterPen", name := "scoreOf", desc := "(Ljava/util/ArrayList;Ljava/util/ArrayList;)I" } : Jvm.MethodName)) ∈ lw_all := lw_g (lw_at lw_m4 199 rfl) rfl
theorem q1042 : (Jvm.Cond.code ({ cls := "LetterPen", name := "scoreOf", desc := "(Ljava/util/ArrayList;Ljava/util/ArrayList;)I" } : Jvm.MethodName) prog_1_method_44_code (3 : Nat) (Option.some Jvm.ClassFile.FieldType.int)) ∈ lw_all := lw_g (lw_at lw_m4 200 rfl) rfl
theorem q1043 : (Jvm.Cond.methodLink "LetterPen" (344 : Nat) ({ cls := "LetterPen", name := "laysCosts", desc := "(Ljava/util/ArrayList;Ljava/util/ArrayList;I)V" } : Jvm.MethodName)) ∈ lw_all := lw_g (lw_at lw_m4 201 rfl) rfl
theorem q1044 : (Jvm.Cond.privateMethod ({ cls := "LetterPen", name := "laysCosts", desc := "(Ljava/util/ArrayList;Ljava/util/ArrayList;I)V" } : Jvm.MethodName)) ∈ lw_tbl := lw_at lw_m4 202 rfl
theorem q1045 : (Jvm.Cond.instanceMethod ({ cls := "LetterPen", name := "laysCosts", desc := "(Ljava/util/ArrayList;Ljava/util/ArrayList;I)V" } : Jvm.MethodName)) ∈ lw_all := lw_g (lw_at lw_m4 203 rfl) rfl
theorem q1046 : (Jvm.Cond.code ({ cls := "LetterPen", name := "laysCosts", desc := "(Ljava/util/ArrayList;Ljava/util/ArrayList;I)V" } : Jvm.MethodName) prog_1_method_41_code (6 : Nat) (Option.none : Option Jvm.ClassFile.FieldType)) ∈ lw_all := lw_g (lw_at lw_m4 204 rfl) rfl
theorem q1047 : (Jvm.Cond.methodLink "LetterPen" (348 : Nat) ({ cls := "LetterPen", name := "scoreBy", desc := "(IIII)I" } : Jvm.MethodName)) ∈ lw_all := lw_g (lw_at lw_m4 205 rfl) rfl
theorem q1048 : (Jvm.Cond.privateMethod ({ cls := "LetterPen", name := "scoreBy", desc := "(IIII)I" } : Jvm.MethodName)) ∈ lw_tbl := lw_at lw_m4 206 rfl
theorem q1049 : (Jvm.Cond.instanceMethod ({ cls := "LetterPen", name := "scoreBy", desc := "(IIII)I" } : Jvm.MethodName)) ∈ lw_all := lw_g (lw_at lw_m4 207 rfl) rfl
theorem q1050 : (Jvm.Cond.code ({ cls := "LetterPen", name := "scoreBy", desc := "(IIII)I" } : Jvm.MethodName) prog_1_method_43_code (5 : Nat) (Option.some Jvm.ClassFile.FieldType.int)) ∈ lw_all := lw_g (lw_at lw_m4 208 rfl) rfl
theorem q1051 : (Jvm.Cond.methodLink "LetterPen" (340 : Nat) ({ cls := "LetterPen", name := "pairs", desc := "(IIIIIII)V" } : Jvm.MethodName)) ∈ lw_all := lw_g (lw_at lw_m4 209 rfl) rfl
theorem q1052 : (Jvm.Cond.privateMethod ({ cls := "LetterPen", name := "pairs", desc := "(IIIIIII)V" } : Jvm.MethodName)) ∈ lw_tbl := lw_at lw_m4 210 rfl
theorem q1053 : (Jvm.Cond.instanceMethod ({ cls := "LetterPen", name := "pairs", desc := "(IIIIIII)V" } : Jvm.MethodName)) ∈ lw_all := lw_g (lw_at lw_m4 211 rfl) rfl
theorem q1054 : (Jvm.Cond.code ({ cls := "LetterPen", name := "pairs", desc := "(IIIIIII)V" } : Jvm.MethodName) prog_1_method_42_code (9 : Nat) (Option.none : Option Jvm.ClassFile.FieldType)) ∈ lw_all := lw_g (lw_at lw_m4 212 rfl) rfl
theorem q1055 : (Jvm.Cond.methodLink "LetterPen" (326 : Nat) ({ cls := "java/lang/Integer", name := "bitCount", desc := "(I)I" } : Jvm.MethodName)) ∈ lw_all := lw_g (lw_at lw_m4 213 rfl) rfl
theorem q1061 : (Jvm.Cond.methodLink "LetterPen" (334 : Nat) ({ cls := "java/lang/System", name := "arraycopy", desc := "(Ljava/lang/Object;ILjava/lang/Object;II)V" } : Jvm.MethodName)) ∈ lw_all := lw_g (lw_at lw_m4 219 rfl) rfl
theorem q1063 : (Jvm.Cond.instanceMethod ({ cls := "LetterPen", name := "partner", desc := "(IIII)I" } : Jvm.MethodName)) ∈ lw_all := lw_g (lw_at lw_m4 221 rfl) rfl
theorem q1064 : (Jvm.Cond.selects "LetterPen" ({ cls := "LetterPen", name := "partner", desc := "(IIII)I" } : Jvm.MethodName) ({ cls := "LetterPen", name := "partner", desc := "(IIII)I" } : Jvm.MethodName)) ∈ lw_all := lw_g (lw_at lw_m4 222 rfl) rfl
theorem q1065 : (Jvm.Cond.code ({ cls := "LetterPen", name := "partner", desc := "(IIII)I" } : Jvm.MethodName) prog_1_method_46_code (7 : Nat) (Option.some Jvm.ClassFile.FieldType.int)) ∈ lw_all := lw_g (lw_at lw_m4 223 rfl) rfl
theorem q1066 : (Jvm.Cond.methodLink "LetterPen" (356 : Nat) ({ cls := "LetterPen", name := "flag", desc := "(Z)I" } : Jvm.MethodName)) ∈ lw_all := lw_g (lw_at lw_m4 224 rfl) rfl
theorem q1067 : (Jvm.Cond.static ({ cls := "LetterPen", name := "flag", desc := "(Z)I" } : Jvm.MethodName)) ∈ lw_all := lw_g (lw_at lw_m4 225 rfl) rfl
theorem q1068 : (Jvm.Cond.code ({ cls := "LetterPen", name := "flag", desc := "(Z)I" } : Jvm.MethodName) prog_1_method_3_code (1 : Nat) (Option.some Jvm.ClassFile.FieldType.int)) ∈ lw_all := lw_g (lw_at lw_m4 226 rfl) rfl
theorem q1070 : (Jvm.Cond.instanceMethod ({ cls := "LetterPen", name := "worst", desc := "(III)I" } : Jvm.MethodName)) ∈ lw_all := lw_g (lw_at lw_m4 228 rfl) rfl
theorem q1071 : (Jvm.Cond.selects "LetterPen" ({ cls := "LetterPen", name := "worst", desc := "(III)I" } : Jvm.MethodName) ({ cls := "LetterPen", name := "worst", desc := "(III)I" } : Jvm.MethodName)) ∈ lw_all := lw_g (lw_at lw_m4 229 rfl) rfl
theorem q1072 : (Jvm.Cond.code ({ cls := "LetterPen", name := "worst", desc := "(III)I" } : Jvm.MethodName) prog_1_method_48_code (9 : Nat) (Option.some Jvm.ClassFile.FieldType.int)) ∈ lw_all := lw_g (lw_at lw_m4 230 rfl) rfl
theorem q1073 : (Jvm.Cond.methodLink "LetterPen" (360 : Nat) ({ cls := "LetterPen", name := "costOf", desc := "(I)I" } : Jvm.MethodName)) ∈ lw_all := lw_g (lw_at lw_m4 231 rfl) rfl
theorem q1074 : (Jvm.Cond.privateMethod ({ cls := "LetterPen", name := "costOf", desc := "(I)I" } : Jvm.MethodName)) ∈ lw_tbl := lw_at lw_m4 232 rfl
theorem q1075 : (Jvm.Cond.instanceMethod ({ cls := "LetterPen", name := "costOf", desc := "(I)I" } : Jvm.MethodName)) ∈ lw_all := lw_g (lw_at lw_m4 233 rfl) rfl
theorem q1076 : (Jvm.Cond.code ({ cls := "LetterPen", name := "costOf", desc := "(I)I" } : Jvm.MethodName) prog_1_method_47_code (3 : Nat) (Option.some Jvm.ClassFile.FieldType.int)) ∈ lw_all := lw_g (lw_at lw_m4 234 rfl) rfl
theorem q1078 : (Jvm.Cond.instanceMethod ({ cls := "LetterPen", name := "rank", desc := "(I)I" } : Jvm.MethodName)) ∈ lw_all := lw_g (lw_at lw_m4 236 rfl) rfl
theorem q1079 : (Jvm.Cond.selects "LetterPen" ({ cls := "LetterPen", name := "rank", desc := "(I)I" } : Jvm.MethodName) ({ cls := "LetterPen", name := "rank", desc := "(I)I" } : Jvm.MethodName)) ∈ lw_all := lw_g (lw_at lw_m4 237 rfl) rfl
theorem q1080 : (Jvm.Cond.code ({ cls := "LetterPen", name := "rank", desc := "(I)I" } : Jvm.MethodName) prog_1_method_50_code (2 : Nat) (Option.some Jvm.ClassFile.FieldType.int)) ∈ lw_all := lw_g (lw_at lw_m4 238 rfl) rfl
theorem q1081 : (Jvm.Cond.methodLink "LetterPen" (363 : Nat) ({ cls := "LetterPen", name := "ranks", desc := "(Ljava/util/ArrayList;)V" } : Jvm.MethodName)) ∈ lw_all := lw_g (lw_at lw_m4 239 rfl) rfl
theorem q1082 : (Jvm.Cond.privateMethod ({ cls := "LetterPen", name := "ranks", desc := "(Ljava/util/ArrayList;)V" } : Jvm.MethodName)) ∈ lw_tbl := lw_at lw_m5 0 rfl
theorem q1083 : (Jvm.Cond.instanceMethod ({ cls := "LetterPen", name := "ranks", desc := "(Ljava/util/ArrayList;)V" } : Jvm.MethodName)) ∈ lw_all := lw_g (lw_at lw_m5 1 rfl) rfl
theorem q1084 : (Jvm.Cond.code ({ cls := "LetterPen", name := "ranks", desc := "(Ljava/util/ArrayList;)V" } : Jvm.MethodName) prog_1_method_49_code (4 : Nat) (Option.none : Option Jvm.ClassFile.FieldType)) ∈ lw_all := lw_g (lw_at lw_m5 2 rfl) rfl
theorem q1086 : (Jvm.Cond.instanceMethod ({ cls := "LetterPen", name := "margin", desc := "()I" } : Jvm.MethodName)) ∈ lw_all := lw_g (lw_at lw_m5 4 rfl) rfl
theorem q1087 : (Jvm.Cond.selects "LetterPen" ({ cls := "LetterPen", name := "margin", desc := "()I" } : Jvm.MethodName) ({ cls := "LetterPen", name := "margin", desc := "()I" } : Jvm.MethodName)) ∈ lw_all := lw_g (lw_at lw_m5 5 rfl) rfl
theorem q1088 : (Jvm.Cond.code ({ cls := "LetterPen", name := "margin", desc := "()I" } : Jvm.MethodName) prog_1_method_52_code (1 : Nat) (Option.some Jvm.ClassFile.FieldType.int)) ∈ lw_all := lw_g (lw_at lw_m5 6 rfl) rfl
theorem q1089 : (Jvm.Cond.constant "LetterPen" (367 : Nat) (-1000000 : Int32)) ∈ lw_all := lw_g (lw_at lw_m5 7 rfl) rfl
theorem q1090 : (Jvm.Cond.methodLink "LetterPen" (368 : Nat) ({ cls := "LetterPen", name := "marginNow", desc := "()I" } : Jvm.MethodName)) ∈ lw_all := lw_g (lw_at lw_m5 8 rfl) rfl
theorem q1091 : (Jvm.Cond.privateMethod ({ cls := "LetterPen", name := "marginNow", desc := "()I" } : Jvm.MethodName)) ∈ lw_tbl := lw_at lw_m5 9 rfl
theorem q1092 : (Jvm.Cond.instanceMethod ({ cls := "LetterPen", name := "marginNow", desc := "()I" } : Jvm.MethodName)) ∈ lw_all := lw_g (lw_at lw_m5 10 rfl) rfl
theorem q1093 : (Jvm.Cond.code ({ cls := "LetterPen", name := "marginNow", desc := "()I" } : Jvm.MethodName) prog_1_method_51_code (1 : Nat) (Option.some Jvm.ClassFile.FieldType.int)) ∈ lw_all := lw_g (lw_at lw_m5 11 rfl) rfl
theorem q1095 : (Jvm.Cond.instanceMethod ({ cls := "LetterPen", name := "sure", desc := "()I" } : Jvm.MethodName)) ∈ lw_all := lw_g (lw_at lw_m5 13 rfl) rfl
theorem q1096 : (Jvm.Cond.selects "LetterPen" ({ cls := "LetterPen", name := "sure", desc := "()I" } : Jvm.MethodName) ({ cls := "LetterPen", name := "sure", desc := "()I" } : Jvm.MethodName)) ∈ lw_all := lw_g (lw_at lw_m5 14 rfl) rfl
theorem q1097 : (Jvm.Cond.code ({ cls := "LetterPen", name := "sure", desc := "()I" } : Jvm.MethodName) prog_1_method_53_code (1 : Nat) (Option.some Jvm.ClassFile.FieldType.int)) ∈ lw_all := lw_g (lw_at lw_m5 15 rfl) rfl
theorem q1099 : (Jvm.Cond.instanceMethod ({ cls := "LetterPen", name := "closest", desc := "(I)I" } : Jvm.MethodName)) ∈ lw_all := lw_g (lw_at lw_m5 17 rfl) rfl
theorem q1100 : (Jvm.Cond.selects "LetterPen" ({ cls := "LetterPen", name := "closest", desc := "(I)I" } : Jvm.MethodName) ({ cls := "LetterPen", name := "closest", desc := "(I)I" } : Jvm.MethodName)) ∈ lw_all := lw_g (lw_at lw_m5 18 rfl) rfl
theorem q1101 : (Jvm.Cond.code ({ cls := "LetterPen", name := "closest", desc := "(I)I" } : Jvm.MethodName) prog_1_method_55_code (8 : Nat) (Option.some Jvm.ClassFile.FieldType.int)) ∈ lw_all := lw_g (lw_at lw_m5 19 rfl) rfl
theorem q1102 : (Jvm.Cond.methodLink "LetterPen" (371 : Nat) ({ cls := "LetterPen", name := "between", desc := "(II)I" } : Jvm.MethodName)) ∈ lw_all := lw_g (lw_at lw_m5 20 rfl) rfl
theorem q1103 : (Jvm.Cond.privateMethod ({ cls := "LetterPen", name := "between", desc := "(II)I" } : Jvm.MethodName)) ∈ lw_tbl := lw_at lw_m5 21 rfl
theorem q1104 : (Jvm.Cond.instanceMethod ({ cls := "LetterPen", name := "between", desc := "(II)I" } : Jvm.MethodName)) ∈ lw_all := lw_g (lw_at lw_m5 22 rfl) rfl
theorem q1105 : (Jvm.Cond.code ({ cls := "LetterPen", name := "between", desc := "(II)I" } : Jvm.MethodName) prog_1_method_54_code (3 : Nat) (Option.some Jvm.ClassFile.FieldType.int)) ∈ lw_all := lw_g (lw_at lw_m5 23 rfl) rfl
theorem q1107 : (Jvm.Cond.instanceMethod ({ cls := "LetterPen", name := "nearest", desc := "(II)I" } : Jvm.MethodName)) ∈ lw_all := lw_g (lw_at lw_m5 25 rfl) rfl
theorem q1108 : (Jvm.Cond.selects "LetterPen" ({ cls := "LetterPen", name := "nearest", desc := "(II)I" } : Jvm.MethodName) ({ cls := "LetterPen", name := "nearest", desc := "(II)I" } : Jvm.MethodName)) ∈ lw_all := lw_g (lw_at lw_m5 26 rfl) rfl
theorem q1109 : (Jvm.Cond.code ({ cls := "LetterPen", name := "nearest", desc := "(II)I" } : Jvm.MethodName) prog_1_method_56_code (7 : Nat) (Option.some Jvm.ClassFile.FieldType.int)) ∈ lw_all := lw_g (lw_at lw_m5 27 rfl) rfl
theorem q1111 : (Jvm.Cond.instanceMethod ({ cls := "LetterPen", name := "group", desc := "(I)I" } : Jvm.MethodName)) ∈ lw_all := lw_g (lw_at lw_m5 29 rfl) rfl
theorem q1112 : (Jvm.Cond.selects "LetterPen" ({ cls := "LetterPen", name := "group", desc := "(I)I" } : Jvm.MethodName) ({ cls := "LetterPen", name := "group", desc := "(I)I" } : Jvm.MethodName)) ∈ lw_all := lw_g (lw_at lw_m5 30 rfl) rfl
theorem q1113 : (Jvm.Cond.code ({ cls := "LetterPen", name := "group", desc := "(I)I" } : Jvm.MethodName) prog_1_method_58_code (2 : Nat) (Option.some Jvm.ClassFile.FieldType.int)) ∈ lw_all := lw_g (lw_at lw_m5 31 rfl) rfl
theorem q1114 : (Jvm.Cond.methodLink "LetterPen" (374 : Nat) ({ cls := "LetterPen", name := "laysGroups", desc := "()I" } : Jvm.MethodName)) ∈ lw_all := lw_g (lw_at lw_m5 32 rfl) rfl
theorem q1115 : (Jvm.Cond.privateMethod ({ cls := "LetterPen", name := "laysGroups", desc := "()I" } : Jvm.MethodName)) ∈ lw_tbl := lw_at lw_m5 33 rfl
theorem q1116 : (Jvm.Cond.instanceMethod ({ cls := "LetterPen", name := "laysGroups", desc := "()I" } : Jvm.MethodName)) ∈ lw_all := lw_g (lw_at lw_m5 34 rfl) rfl
theorem q1117 : (Jvm.Cond.code ({ cls := "LetterPen", name := "laysGroups", desc := "()I" } : Jvm.MethodName) prog_1_method_57_code (7 : Nat) (Option.some Jvm.ClassFile.FieldType.int)) ∈ lw_all := lw_g (lw_at lw_m5 35 rfl) rfl
theorem q1119 : (Jvm.Cond.instanceMethod ({ cls := "LetterPen", name := "groups", desc := "()I" } : Jvm.MethodName)) ∈ lw_all := lw_g (lw_at lw_m5 37 rfl) rfl
theorem q1120 : (Jvm.Cond.selects "LetterPen" ({ cls := "LetterPen", name := "groups", desc := "()I" } : Jvm.MethodName) ({ cls := "LetterPen", name := "groups", desc := "()I" } : Jvm.MethodName)) ∈ lw_all := lw_g (lw_at lw_m5 38 rfl) rfl
theorem q1121 : (Jvm.Cond.code ({ cls := "LetterPen", name := "groups", desc := "()I" } : Jvm.MethodName) prog_1_method_59_code (1 : Nat) (Option.some Jvm.ClassFile.FieldType.int)) ∈ lw_all := lw_g (lw_at lw_m5 39 rfl) rfl
theorem q1123 : (Jvm.Cond.instanceMethod ({ cls := "LetterPen", name := "central", desc := "(I)I" } : Jvm.MethodName)) ∈ lw_all := lw_g (lw_at lw_m5 41 rfl) rfl
theorem q1124 : (Jvm.Cond.selects "LetterPen" ({ cls := "LetterPen", name := "central", desc := "(I)I" } : Jvm.MethodName) ({ cls := "LetterPen", name := "central", desc := "(I)I" } : Jvm.MethodName)) ∈ lw_all := lw_g (lw_at lw_m5 42 rfl) rfl
theorem q1125 : (Jvm.Cond.code ({ cls := "LetterPen", name := "central", desc := "(I)I" } : Jvm.MethodName) prog_1_method_61_code (6 : Nat) (Option.some Jvm.ClassFile.FieldType.int)) ∈ lw_all := lw_g (lw_at lw_m5 43 rfl) rfl
theorem q1126 : (Jvm.Cond.methodLink "LetterPen" (377 : Nat) ({ cls := "LetterPen", name := "withOthers", desc := "(I)I" } : Jvm.MethodName)) ∈ lw_all := lw_g (lw_at lw_m5 44 rfl) rfl
theorem q1127 : (Jvm.Cond.privateMethod ({ cls := "LetterPen", name := "withOthers", desc := "(I)I" } : Jvm.MethodName)) ∈ lw_tbl := lw_at lw_m5 45 rfl
theorem q1128 : (Jvm.Cond.instanceMethod ({ cls := "LetterPen", name := "withOthers", desc := "(I)I" } : Jvm.MethodName)) ∈ lw_all := lw_g (lw_at lw_m5 46 rfl) rfl
theorem q1129 : (Jvm.Cond.code ({ cls := "LetterPen", name := "withOthers", desc := "(I)I" } : Jvm.MethodName) prog_1_method_60_code (4 : Nat) (Option.some Jvm.ClassFile.FieldType.int)) ∈ lw_all := lw_g (lw_at lw_m5 47 rfl) rfl
theorem q1131 : (Jvm.Cond.instanceMethod ({ cls := "LetterPen", name := "lifted", desc := "(II)I" } : Jvm.MethodName)) ∈ lw_all := lw_g (lw_at lw_m5 49 rfl) rfl
theorem q1132 : (Jvm.Cond.selects "LetterPen" ({ cls := "LetterPen", name := "lifted", desc := "(II)I" } : Jvm.MethodName) ({ cls := "LetterPen", name := "lifted", desc := "(II)I" } : Jvm.MethodName)) ∈ lw_all := lw_g (lw_at lw_m5 50 rfl) rfl
theorem q1133 : (Jvm.Cond.code ({ cls := "LetterPen", name := "lifted", desc := "(II)I" } : Jvm.MethodName) prog_1_method_63_code (3 : Nat) (Option.some Jvm.ClassFile.FieldType.int)) ∈ lw_all := lw_g (lw_at lw_m5 51 rfl) rfl
theorem q1134 : (Jvm.Cond.methodLink "LetterPen" (383 : Nat) ({ cls := "LetterPen", name := "ranksBut", desc := "(I)V" } : Jvm.MethodName)) ∈ lw_all := lw_g (lw_at lw_m5 52 rfl) rfl
theorem q1135 : (Jvm.Cond.privateMethod ({ cls := "LetterPen", name := "ranksBut", desc := "(I)V" } : Jvm.MethodName)) ∈ lw_tbl := lw_at lw_m5 53 rfl
theorem q1136 : (Jvm.Cond.instanceMethod ({ cls := "LetterPen", name := "ranksBut", desc := "(I)V" } : Jvm.MethodName)) ∈ lw_all := lw_g (lw_at lw_m5 54 rfl) rfl
theorem q1137 : (Jvm.Cond.code ({ cls := "LetterPen", name := "ranksBut", desc := "(I)V" } : Jvm.MethodName) prog_1_method_62_code (3 : Nat) (Option.none : Option Jvm.ClassFile.FieldType)) ∈ lw_all := lw_g (lw_at lw_m5 55 rfl) rfl
theorem q1138 : (Jvm.Cond.methodLink "LetterPen" (380 : Nat) ({ cls := "java/util/ArrayList", name := "add", desc := "(Ljava/lang/Object;)Z" } : Jvm.MethodName)) ∈ lw_all := lw_g (lw_at lw_m5 56 rfl) rfl
theorem q1140 : (Jvm.Cond.instanceMethod ({ cls := "LetterPen", name := "weakest", desc := "()I" } : Jvm.MethodName)) ∈ lw_all := lw_g (lw_at lw_m5 58 rfl) rfl
theorem q1141 : (Jvm.Cond.selects "LetterPen" ({ cls := "LetterPen", name := "weakest", desc := "()I" } : Jvm.MethodName) ({ cls := "LetterPen", name := "weakest", desc := "()I" } : Jvm.MethodName)) ∈ lw_all := lw_g (lw_at lw_m5 59 rfl) rfl
theorem q1142 : (Jvm.Cond.code ({ cls := "LetterPen", name := "weakest", desc := "()I" } : Jvm.MethodName) prog_1_method_64_code (4 : Nat) (Option.some Jvm.ClassFile.FieldType.int)) ∈ lw_all := lw_g (lw_at lw_m5 60 rfl) rfl
theorem q1143 : (Jvm.Cond.methodLink "LetterPen" (386 : Nat) ({ cls := "java/util/ArrayList", name := "isEmpty", desc := "()Z" } : Jvm.MethodName)) ∈ lw_all := lw_g (lw_at lw_m5 61 rfl) rfl
theorem q1148 : (Jvm.Cond.instanceMethod ({ cls := "LetterPen", name := "reads", desc := "()I" } : Jvm.MethodName)) ∈ lw_all := lw_g (lw_at lw_m5 66 rfl) rfl
theorem q1149 : (Jvm.Cond.selects "LetterPen" ({ cls := "LetterPen", name := "reads", desc := "()I" } : Jvm.MethodName) ({ cls := "LetterPen", name := "reads", desc := "()I" } : Jvm.MethodName)) ∈ lw_all := lw_g (lw_at lw_m5 67 rfl) rfl
theorem q1150 : (Jvm.Cond.code ({ cls := "LetterPen", name := "reads", desc := "()I" } : Jvm.MethodName) prog_1_method_67_code (1 : Nat) (Option.some Jvm.ClassFile.FieldType.int)) ∈ lw_all := lw_g (lw_at lw_m5 68 rfl) rfl
theorem q1151 : (Jvm.Cond.methodLink "LetterPen" (394 : Nat) ({ cls := "LetterPen", name := "laysRead", desc := "()Z" } : Jvm.MethodName)) ∈ lw_all := lw_g (lw_at lw_m5 69 rfl) rfl
theorem q1152 : (Jvm.Cond.privateMethod ({ cls := "LetterPen", name := "laysRead", desc := "()Z" } : Jvm.MethodName)) ∈ lw_tbl := lw_at lw_m5 70 rfl
theorem q1153 : (Jvm.Cond.instanceMethod ({ cls := "LetterPen", name := "laysRead", desc := "()Z" } : Jvm.MethodName)) ∈ lw_all := lw_g (lw_at lw_m5 71 rfl) rfl
theorem q1154 : (Jvm.Cond.code ({ cls := "LetterPen", name := "laysRead", desc := "()Z" } : Jvm.MethodName) prog_1_method_66_code (4 : Nat) (Option.some Jvm.ClassFile.FieldType.boolean)) ∈ lw_all := lw_g (lw_at lw_m5 72 rfl) rfl
theorem q1155 : (Jvm.Cond.methodLink "LetterPen" (390 : Nat) ({ cls := "LetterPen", name := "laysRow", desc := "(II)V" } : Jvm.MethodName)) ∈ lw_all := lw_g (lw_at lw_m5 73 rfl) rfl
theorem q1156 : (Jvm.Cond.privateMethod ({ cls := "LetterPen", name := "laysRow", desc := "(II)V" } : Jvm.MethodName)) ∈ lw_tbl := lw_at lw_m5 74 rfl
theorem q1157 : (Jvm.Cond.instanceMethod ({ cls := "LetterPen", name := "laysRow", desc := "(II)V" } : Jvm.MethodName)) ∈ lw_all := lw_g (lw_at lw_m5 75 rfl) rfl
theorem q1158 : (Jvm.Cond.code ({ cls := "LetterPen", name := "laysRow", desc := "(II)V" } : Jvm.MethodName) prog_1_method_65_code (4 : Nat) (Option.none : Option Jvm.ClassFile.FieldType)) ∈ lw_all := lw_g (lw_at lw_m5 76 rfl) rfl
theorem q1160 : (Jvm.Cond.instanceMethod ({ cls := "LetterPen", name := "read", desc := "(II)I" } : Jvm.MethodName)) ∈ lw_all := lw_g (lw_at lw_m5 78 rfl) rfl
theorem q1161 : (Jvm.Cond.selects "LetterPen" ({ cls := "LetterPen", name := "read", desc := "(II)I" } : Jvm.MethodName) ({ cls := "LetterPen", name := "read", desc := "(II)I" } : Jvm.MethodName)) ∈ lw_all := lw_g (lw_at lw_m5 79 rfl) rfl
theorem q1162 : (Jvm.Cond.code ({ cls := "LetterPen", name := "read", desc := "(II)I" } : Jvm.MethodName) prog_1_method_68_code (5 : Nat) (Option.some Jvm.ClassFile.FieldType.int)) ∈ lw_all := lw_g (lw_at lw_m5 80 rfl) rfl
theorem q1164 : (Jvm.Cond.instanceMethod ({ cls := "LetterPen", name := "tell", desc := "(I)I" } : Jvm.MethodName)) ∈ lw_all := lw_g (lw_at lw_m5 82 rfl) rfl
theorem q1165 : (Jvm.Cond.selects "LetterPen" ({ cls := "LetterPen", name := "tell", desc := "(I)I" } : Jvm.MethodName) ({ cls := "LetterPen", name := "tell", desc := "(I)I" } : Jvm.MethodName)) ∈ lw_all := lw_g (lw_at lw_m5 83 rfl) rfl
theorem q1166 : (Jvm.Cond.code ({ cls := "LetterPen", name := "tell", desc := "(I)I" } : Jvm.MethodName) prog_1_method_69_code (2 : Nat) (Option.some Jvm.ClassFile.FieldType.int)) ∈ lw_all := lw_g (lw_at lw_m5 84 rfl) rfl
theorem q1167 : (Jvm.Cond.classLink "LetterPen" (397 : Nat) "LetterPen$Sample") ∈ lw_all := lw_g (lw_at lw_m5 85 rfl) rfl
theorem q1169 : (Jvm.Cond.methodLink "LetterPen" (399 : Nat) ({ cls := "LetterPen$Sample", name := "<init>", desc := "(ILjava/util/ArrayList;)V" } : Jvm.MethodName)) ∈ lw_all := lw_g (lw_at lw_m5 87 rfl) rfl
theorem q1198 : (Jvm.Cond.fieldLink "LetterPen" (402 : Nat) "LetterPen$Sample" "model" "I") ∈ lw_all := lw_g (lw_at lw_m5 116 rfl) rfl
theorem q1200 : (Jvm.Cond.fieldLink "LetterPen" (405 : Nat) "LetterPen$Sample" "letter" "LLetterPen$Letter;") ∈ lw_all := lw_g (lw_at lw_m5 118 rfl) rfl
theorem q1207 : (Jvm.Cond.instanceMethod ({ cls := "LetterPen", name := "forgetTold", desc := "()I" } : Jvm.MethodName)) ∈ lw_all := lw_g (lw_at lw_m5 125 rfl) rfl
theorem q1208 : (Jvm.Cond.selects "LetterPen" ({ cls := "LetterPen", name := "forgetTold", desc := "()I" } : Jvm.MethodName) ({ cls := "LetterPen", name := "forgetTold", desc := "()I" } : Jvm.MethodName)) ∈ lw_all := lw_g (lw_at lw_m5 126 rfl) rfl
theorem q1209 : (Jvm.Cond.code ({ cls := "LetterPen", name := "forgetTold", desc := "()I" } : Jvm.MethodName) prog_1_method_70_code (2 : Nat) (Option.some Jvm.ClassFile.FieldType.int)) ∈ lw_all := lw_g (lw_at lw_m5 127 rfl) rfl
theorem q1211 : (Jvm.Cond.instanceMethod ({ cls := "LetterPen", name := "toldAs", desc := "(II)I" } : Jvm.MethodName)) ∈ lw_all := lw_g (lw_at lw_m5 129 rfl) rfl
theorem q1212 : (Jvm.Cond.selects "LetterPen" ({ cls := "LetterPen", name := "toldAs", desc := "(II)I" } : Jvm.MethodName) ({ cls := "LetterPen", name := "toldAs", desc := "(II)I" } : Jvm.MethodName)) ∈ lw_all := lw_g (lw_at lw_m5 130 rfl) rfl
theorem q1213 : (Jvm.Cond.code ({ cls := "LetterPen", name := "toldAs", desc := "(II)I" } : Jvm.MethodName) prog_1_method_72_code (4 : Nat) (Option.some Jvm.ClassFile.FieldType.int)) ∈ lw_all := lw_g (lw_at lw_m5 131 rfl) rfl
theorem q1214 : (Jvm.Cond.methodLink "LetterPen" (409 : Nat) ({ cls := "LetterPen$Letter", name := "many", desc := "()I" } : Jvm.MethodName)) ∈ lw_all := lw_g (lw_at lw_m5 132 rfl) rfl
theorem q1219 : (Jvm.Cond.methodLink "LetterPen" (410 : Nat) ({ cls := "LetterPen", name := "placeOf", desc := "(LLetterPen$Sample;)I" } : Jvm.MethodName)) ∈ lw_all := lw_g (lw_at lw_m5 137 rfl) rfl
theorem q1220 : (Jvm.Cond.privateMethod ({ cls := "LetterPen", name := "placeOf", desc := "(LLetterPen$Sample;)I" } : Jvm.MethodName)) ∈ lw_tbl := lw_at lw_m5 138 rfl
theorem q1221 : (Jvm.Cond.instanceMethod ({ cls := "LetterPen", name := "placeOf", desc := "(LLetterPen$Sample;)I" } : Jvm.MethodName)) ∈ lw_all := lw_g (lw_at lw_m5 139 rfl) rfl
theorem q1222 : (Jvm.Cond.code ({ cls := "LetterPen", name := "placeOf", desc := "(LLetterPen$Sample;)I" } : Jvm.MethodName) prog_1_method_71_code (3 : Nat) (Option.some Jvm.ClassFile.FieldType.int)) ∈ lw_all := lw_g (lw_at lw_m5 140 rfl) rfl
theorem q1224 : (Jvm.Cond.instanceMethod ({ cls := "LetterPen", name := "fits", desc := "(II)I" } : Jvm.MethodName)) ∈ lw_all := lw_g (lw_at lw_m5 142 rfl) rfl
theorem q1225 : (Jvm.Cond.selects "LetterPen" ({ cls := "LetterPen", name := "fits", desc := "(II)I" } : Jvm.MethodName) ({ cls := "LetterPen", name := "fits", desc := "(II)I" } : Jvm.MethodName)) ∈ lw_all := lw_g (lw_at lw_m5 143 rfl) rfl
theorem q1226 : (Jvm.Cond.code ({ cls := "LetterPen", name := "fits", desc := "(II)I" } : Jvm.MethodName) prog_1_method_77_code (7 : Nat) (Option.some Jvm.ClassFile.FieldType.int)) ∈ lw_all := lw_g (lw_at lw_m5 144 rfl) rfl
theorem q1227 : (Jvm.Cond.methodLink "LetterPen" (414 : Nat) ({ cls := "LetterPen", name := "mostOf", desc := "(I)I" } : Jvm.MethodName)) ∈ lw_all := lw_g (lw_at lw_m5 145 rfl) rfl
theorem q1228 : (Jvm.Cond.static ({ cls := "LetterPen", name := "mostOf", desc := "(I)I" } : Jvm.MethodName)) ∈ lw_all := lw_g (lw_at lw_m5 146 rfl) rfl
theorem q1229 : (Jvm.Cond.code ({ cls := "LetterPen", name := "mostOf", desc := "(I)I" } : Jvm.MethodName) prog_1_method_74_code (1 : Nat) (Option.some Jvm.ClassFile.FieldType.int)) ∈ lw_all := lw_g (lw_at lw_m5 147 rfl) rfl
theorem q1230 : (Jvm.Cond.methodLink "LetterPen" (417 : Nat) ({ cls := "LetterPen", name := "laysValued", desc := "(LLetterPen$Sample;II)V" } : Jvm.MethodName)) ∈ lw_all := lw_g (lw_at lw_m5 148 rfl) rfl
theorem q1231 : (Jvm.Cond.privateMethod ({ cls := "LetterPen", name := "laysValued", desc := "(LLetterPen$Sample;II)V" } : Jvm.MethodName)) ∈ lw_tbl := lw_at lw_m5 149 rfl
theorem q1232 : (Jvm.Cond.instanceMethod ({ cls := "LetterPen", name := "laysValued", desc := "(LLetterPen$Sample;II)V" } : Jvm.MethodName)) ∈ lw_all := lw_g (lw_at lw_m5 150 rfl) rfl
theorem q1233 : (Jvm.Cond.code ({ cls := "LetterPen", name := "laysValued", desc := "(LLetterPen$Sample;II)V" } : Jvm.MethodName) prog_1_method_73_code (8 : Nat) (Option.none : Option Jvm.ClassFile.FieldType)) ∈ lw_all := lw_g (lw_at lw_m5 151 rfl) rfl
theorem q1234 : (Jvm.Cond.methodLink "LetterPen" (421 : Nat) ({ cls := "LetterPen", name := "isFirst", desc := "(LLetterPen$Sample;I)Z" } : Jvm.MethodName)) ∈ lw_all := lw_g (lw_at lw_m5 152 rfl) rfl
theorem q1235 : (Jvm.Cond.privateMethod ({ cls := "LetterPen", name := "isFirst", desc := "(LLetterPen$Sample;I)Z" } : Jvm.MethodName)) ∈ lw_tbl := lw_at lw_m5 153 rfl
theorem q1236 : (Jvm.Cond.instanceMethod ({ cls := "LetterPen", name := "isFirst", desc := "(LLetterPen$Sample;I)Z" } : Jvm.MethodName)) ∈ lw_all := lw_g (lw_at lw_m5 154 rfl) rfl
theorem q1237 : (Jvm.Cond.code ({ cls := "LetterPen", name := "isFirst", desc := "(LLetterPen$Sample;I)Z" } : Jvm.MethodName) prog_1_method_76_code (4 : Nat) (Option.some Jvm.ClassFile.FieldType.boolean)) ∈ lw_all := lw_g (lw_at lw_m5 155 rfl) rfl
theorem q1239 : (Jvm.Cond.instanceMethod ({ cls := "LetterPen", name := "best", desc := "(II)I" } : Jvm.MethodName)) ∈ lw_all := lw_g (lw_at lw_m5 157 rfl) rfl
theorem q1240 : (Jvm.Cond.selects "LetterPen" ({ cls := "LetterPen", name := "best", desc := "(II)I" } : Jvm.MethodName) ({ cls := "LetterPen", name := "best", desc := "(II)I" } : Jvm.MethodName)) ∈ lw_all := lw_g (lw_at lw_m5 158 rfl) rfl
theorem q1241 : (Jvm.Cond.code ({ cls := "LetterPen", name := "best", desc := "(II)I" } : Jvm.MethodName) prog_1_method_78_code (8 : Nat) (Option.some Jvm.ClassFile.FieldType.int)) ∈ lw_all := lw_g (lw_at lw_m5 159 rfl) rfl
theorem q1242 : (Jvm.Cond.methodLink "LetterPen" (425 : Nat) ({ cls := "LetterPen", name := "rightBy", desc := "(LLetterPen$Sample;I)I" } : Jvm.MethodName)) ∈ lw_all := lw_g (lw_at lw_m5 160 rfl) rfl
theorem q1243 : (Jvm.Cond.privateMethod ({ cls := "LetterPen", name := "rightBy", desc := "(LLetterPen$Sample;I)I" } : Jvm.MethodName)) ∈ lw_tbl := lw_at lw_m5 161 rfl
theorem q1244 : (Jvm.Cond.instanceMethod ({ cls := "LetterPen", name := "rightBy", desc := "(LLetterPen$Sample;I)I" } : Jvm.MethodName)) ∈ lw_all := lw_g (lw_at lw_m5 162 rfl) rfl
theorem q1245 : (Jvm.Cond.code ({ cls := "LetterPen", name := "rightBy", desc := "(LLetterPen$Sample;I)I" } : Jvm.MethodName) prog_1_method_75_code (5 : Nat) (Option.some Jvm.ClassFile.FieldType.int)) ∈ lw_all := lw_g (lw_at lw_m5 163 rfl) rfl
theorem q1247 : (Jvm.Cond.instanceMethod ({ cls := "LetterPen", name := "undo", desc := "()Z" } : Jvm.MethodName)) ∈ lw_all := lw_g (lw_at lw_m5 165 rfl) rfl
theorem q1248 : (Jvm.Cond.selects "LetterPen" ({ cls := "LetterPen", name := "undo", desc := "()Z" } : Jvm.MethodName) ({ cls := "LetterPen", name := "undo", desc := "()Z" } : Jvm.MethodName)) ∈ lw_all := lw_g (lw_at lw_m5 166 rfl) rfl
theorem q1249 : (Jvm.Cond.code ({ cls := "LetterPen", name := "undo", desc := "()Z" } : Jvm.MethodName) prog_1_method_80_code (1 : Nat) (Option.some Jvm.ClassFile.FieldType.boolean)) ∈ lw_all := lw_g (lw_at lw_m5 167 rfl) rfl
theorem q1250 : (Jvm.Cond.methodLink "LetterPen" (429 : Nat) ({ cls := "java/util/ArrayList", name := "remove", desc := "(I)Ljava/lang/Object;" } : Jvm.MethodName)) ∈ lw_all := lw_g (lw_at lw_m5 168 rfl) rfl
theorem q1259 : (Jvm.Cond.instanceMethod ({ cls := "LetterPen", name := "stroke", desc := "()I" } : Jvm.MethodName)) ∈ lw_all := lw_g (lw_at lw_m5 177 rfl) rfl
theorem q1260 : (Jvm.Cond.selects "LetterPen" ({ cls := "LetterPen", name := "stroke", desc := "()I" } : Jvm.MethodName) ({ cls := "LetterPen", name := "stroke", desc := "()I" } : Jvm.MethodName)) ∈ lw_all := lw_g (lw_at lw_m5 178 rfl) rfl
theorem q1261 : (Jvm.Cond.code ({ cls := "LetterPen", name := "stroke", desc := "()I" } : Jvm.MethodName) prog_1_method_81_code (4 : Nat) (Option.some Jvm.ClassFile.FieldType.int)) ∈ lw_all := lw_g (lw_at lw_m5 179 rfl) rfl
theorem q1262 : (Jvm.Cond.constantLong "LetterPen" (436 : Nat) (4 : Int64)) ∈ lw_all := lw_g (lw_at lw_m5 180 rfl) rfl
theorem q1263 : (Jvm.Cond.constantLong "LetterPen" (438 : Nat) (24 : Int64)) ∈ lw_all := lw_g (lw_at lw_m5 181 rfl) rfl
theorem q1264 : (Jvm.Cond.methodLink "LetterPen" (440 : Nat) ({ cls := "LetterPen", name := "keeps", desc := "()V" } : Jvm.MethodName)) ∈ lw_all := lw_g (lw_at lw_m5 182 rfl) rfl
theorem q1265 : (Jvm.Cond.privateMethod ({ cls := "LetterPen", name := "keeps", desc := "()V" } : Jvm.MethodName)) ∈ lw_tbl := lw_at lw_m5 183 rfl
theorem q1266 : (Jvm.Cond.instanceMethod ({ cls := "LetterPen", name := "keeps", desc := "()V" } : Jvm.MethodName)) ∈ lw_all := lw_g (lw_at lw_m5 184 rfl) rfl
theorem q1267 : (Jvm.Cond.code ({ cls := "LetterPen", name := "keeps", desc := "()V" } : Jvm.MethodName) prog_1_method_79_code (2 : Nat) (Option.none : Option Jvm.ClassFile.FieldType)) ∈ lw_all := lw_g (lw_at lw_m5 185 rfl) rfl
theorem q1268 : (Jvm.Cond.methodLink "LetterPen" (432 : Nat) ({ cls := "LetterPen$State", name := "like", desc := "(LLetterPen$State;)LLetterPen$State;" } : Jvm.MethodName)) ∈ lw_all := lw_g (lw_at lw_m5 186 rfl) rfl
theorem q1274 : (Jvm.Cond.methodLink "LetterPen" (443 : Nat) ({ cls := "LetterPen$Stroke", name := "<init>", desc := "([II)V" } : Jvm.MethodName)) ∈ lw_all := lw_g (lw_at lw_m5 192 rfl) rfl
theorem q1276 : (Jvm.Cond.instanceMethod ({ cls := "LetterPen", name := "lift", desc := "(I)Z" } : Jvm.MethodName)) ∈ lw_all := lw_g (lw_at lw_m5 194 rfl) rfl
theorem q1277 : (Jvm.Cond.selects "LetterPen" ({ cls := "LetterPen", name := "lift", desc := "(I)Z" } : Jvm.MethodName) ({ cls := "LetterPen", name := "lift", desc := "(I)Z" } : Jvm.MethodName)) ∈ lw_all := lw_g (lw_at lw_m5 195 rfl) rfl
theorem q1278 : (Jvm.Cond.code ({ cls := "LetterPen", name := "lift", desc := "(I)Z" } : Jvm.MethodName) prog_1_method_82_code (2 : Nat) (Option.some Jvm.ClassFile.FieldType.boolean)) ∈ lw_all := lw_g (lw_at lw_m5 196 rfl) rfl
theorem q1280 : (Jvm.Cond.instanceMethod ({ cls := "LetterPen", name := "clear", desc := "()I" } : Jvm.MethodName)) ∈ lw_all := lw_g (lw_at lw_m5 198 rfl) rfl
theorem q1281 : (Jvm.Cond.selects "LetterPen" ({ cls := "LetterPen", name := "clear", desc := "()I" } : Jvm.MethodName) ({ cls := "LetterPen", name := "clear", desc := "()I" } : Jvm.MethodName)) ∈ lw_all := lw_g (lw_at lw_m5 199 rfl) rfl
theorem q1282 : (Jvm.Cond.code ({ cls := "LetterPen", name := "clear", desc := "()I" } : Jvm.MethodName) prog_1_method_83_code (2 : Nat) (Option.some Jvm.ClassFile.FieldType.int)) ∈ lw_all := lw_g (lw_at lw_m5 200 rfl) rfl
theorem q1284 : (Jvm.Cond.instanceMethod ({ cls := "LetterPen", name := "learn", desc := "()I" } : Jvm.MethodName)) ∈ lw_all := lw_g (lw_at lw_m5 202 rfl) rfl
theorem q1285 : (Jvm.Cond.selects "LetterPen" ({ cls := "LetterPen", name := "learn", desc := "()I" } : Jvm.MethodName) ({ cls := "LetterPen", name := "learn", desc := "()I" } : Jvm.MethodName)) ∈ lw_all := lw_g (lw_at lw_m5 203 rfl) rfl
theorem q1286 : (Jvm.Cond.code ({ cls := "LetterPen", name := "learn", desc := "()I" } : Jvm.MethodName) prog_1_method_84_code (1 : Nat) (Option.some Jvm.ClassFile.FieldType.int)) ∈ lw_all := lw_g (lw_at lw_m5 204 rfl) rfl
theorem q1287 : (Jvm.Cond.methodLink "LetterPen" (446 : Nat) ({ cls := "LetterPen$Letter", name := "<init>", desc := "(Ljava/util/ArrayList;)V" } : Jvm.MethodName)) ∈ lw_all := lw_g (lw_at lw_m5 205 rfl) rfl
theorem q1289 : (Jvm.Cond.instanceMethod ({ cls := "LetterPen", name := "forget", desc := "(I)Z" } : Jvm.MethodName)) ∈ lw_all := lw_g (lw_at lw_m5 207 rfl) rfl
theorem q1290 : (Jvm.Cond.selects "LetterPen" ({ cls := "LetterPen", name := "forget", desc := "(I)Z" } : Jvm.MethodName) ({ cls := "LetterPen", name := "forget", desc := "(I)Z" } : Jvm.MethodName)) ∈ lw_all := lw_g (lw_at lw_m5 208 rfl) rfl
theorem q1291 : (Jvm.Cond.code ({ cls := "LetterPen", name := "forget", desc := "(I)Z" } : Jvm.MethodName) prog_1_method_85_code (2 : Nat) (Option.some Jvm.ClassFile.FieldType.boolean)) ∈ lw_all := lw_g (lw_at lw_m5 209 rfl) rfl
theorem q1293 : (Jvm.Cond.instanceMethod ({ cls := "LetterPen", name := "set", desc := "(II)Z" } : Jvm.MethodName)) ∈ lw_all := lw_g (lw_at lw_m5 211 rfl) rfl
theorem q1294 : (Jvm.Cond.selects "LetterPen" ({ cls := "LetterPen", name := "set", desc := "(II)Z" } : Jvm.MethodName) ({ cls := "LetterPen", name := "set", desc := "(II)Z" } : Jvm.MethodName)) ∈ lw_all := lw_g (lw_at lw_m5 212 rfl) rfl
theorem q1295 : (Jvm.Cond.code ({ cls := "LetterPen", name := "set", desc := "(II)Z" } : Jvm.MethodName) prog_1_method_86_code (3 : Nat) (Option.some Jvm.ClassFile.FieldType.boolean)) ∈ lw_all := lw_g (lw_at lw_m5 213 rfl) rfl
theorem q1296 : (Jvm.Cond.fieldLink "LetterPen" (448 : Nat) "LetterPen" "LEAST" "[I") ∈ lw_all := lw_g (lw_at lw_m5 214 rfl) rfl
theorem q1297 : (Jvm.Cond.fieldLink "LetterPen" (451 : Nat) "LetterPen" "GREATEST" "[I") ∈ lw_all := lw_g (lw_at lw_m5 215 rfl) rfl
theorem q1299 : (Jvm.Cond.instanceMethod ({ cls := "LetterPen", name := "seed", desc := "(I)Z" } : Jvm.MethodName)) ∈ lw_all := lw_g (lw_at lw_m5 217 rfl) rfl
theorem q1300 : (Jvm.Cond.selects "LetterPen" ({ cls := "LetterPen", name := "seed", desc := "(I)Z" } : Jvm.MethodName) ({ cls := "LetterPen", name := "seed", desc := "(I)Z" } : Jvm.MethodName)) ∈ lw_all := lw_g (lw_at lw_m5 218 rfl) rfl
theorem q1301 : (Jvm.Cond.code ({ cls := "LetterPen", name := "seed", desc := "(I)Z" } : Jvm.MethodName) prog_1_method_87_code (2 : Nat) (Option.some Jvm.ClassFile.FieldType.boolean)) ∈ lw_all := lw_g (lw_at lw_m5 219 rfl) rfl
theorem q1303 : (Jvm.Cond.instanceMethod ({ cls := "LetterPen", name := "wobble", desc := "(I)I" } : Jvm.MethodName)) ∈ lw_all := lw_g (lw_at lw_m5 221 rfl) rfl
theorem q1304 : (Jvm.Cond.selects "LetterPen" ({ cls := "LetterPen", name := "wobble", desc := "(I)I" } : Jvm.MethodName) ({ cls := "LetterPen", name := "wobble", desc := "(I)I" } : Jvm.MethodName)) ∈ lw_all := lw_g (lw_at lw_m5 222 rfl) rfl
theorem q1305 : (Jvm.Cond.code ({ cls := "LetterPen", name := "wobble", desc := "(I)I" } : Jvm.MethodName) prog_1_method_90_code (4 : Nat) (Option.some Jvm.ClassFile.FieldType.int)) ∈ lw_all := lw_g (lw_at lw_m5 223 rfl) rfl
theorem q1306 : (Jvm.Cond.constantLong "LetterPen" (465 : Nat) (9 : Int64)) ∈ lw_all := lw_g (lw_at lw_m5 224 rfl) rfl
theorem q1307 : (Jvm.Cond.methodLink "LetterPen" (467 : Nat) ({ cls := "LetterPen", name := "wobbled", desc := "(LLetterPen$Stroke;I)LLetterPen$Stroke;" } : Jvm.MethodName)) ∈ lw_all := lw_g (lw_at lw_m5 225 rfl) rfl
theorem q1308 : (Jvm.Cond.privateMethod ({ cls := "LetterPen", name := "wobbled", desc := "(LLetterPen$Stroke;I)LLetterPen$Stroke;" } : Jvm.MethodName)) ∈ lw_tbl := lw_at lw_m5 226 rfl
theorem q1309 : (Jvm.Cond.instanceMethod ({ cls := "LetterPen", name := "wobbled", desc := "(LLetterPen$Stroke;I)LLetterPen$Stroke;" } : Jvm.MethodName)) ∈ lw_all := lw_g (lw_at lw_m5 227 rfl) rfl
theorem q1310 : (Jvm.Cond.code ({ cls := "LetterPen", name := "wobbled", desc := "(LLetterPen$Stroke;I)LLetterPen$Stroke;" } : Jvm.MethodName) prog_1_method_89_code (4 : Nat) (Option.some (Jvm.ClassFile.FieldType.object "LetterPen$Stroke"))) ∈ lw_all := lw_g (lw_at lw_m5 228 rfl) rfl
theorem q1311 : (Jvm.Cond.methodLink "LetterPen" (462 : Nat) ({ cls := "LetterPen", name := "drawOf", desc := "(I)I" } : Jvm.MethodName)) ∈ lw_all := lw_g (lw_at lw_m5 229 rfl) rfl
theorem q1312 : (Jvm.Cond.privateMethod ({ cls := "LetterPen", name := "drawOf", desc := "(I)I" } : Jvm.MethodName)) ∈ lw_tbl := lw_at lw_m5 230 rfl
theorem q1313 : (Jvm.Cond.instanceMethod ({ cls := "LetterPen", name := "drawOf", desc := "(I)I" } : Jvm.MethodName)) ∈ lw_all := lw_g (lw_at lw_m5 231 rfl) rfl
theorem q1314 : (Jvm.Cond.code ({ cls := "LetterPen", name := "drawOf", desc := "(I)I" } : Jvm.MethodName) prog_1_method_88_code (2 : Nat) (Option.some Jvm.ClassFile.FieldType.int)) ∈ lw_all := lw_g (lw_at lw_m5 232 rfl) rfl
theorem q1315 : (Jvm.Cond.constantLong "LetterPen" (454 : Nat) (1103515245 : Int64)) ∈ lw_all := lw_g (lw_at lw_m5 233 rfl) rfl
theorem q1316 : (Jvm.Cond.constantLong "LetterPen" (456 : Nat) (12345 : Int64)) ∈ lw_all := lw_g (lw_at lw_m5 234 rfl) rfl
theorem q1317 : (Jvm.Cond.constantLong "LetterPen" (458 : Nat) (2147483648 : Int64)) ∈ lw_all := lw_g (lw_at lw_m5 235 rfl) rfl
theorem q1318 : (Jvm.Cond.constantLong "LetterPen" (460 : Nat) (64 : Int64)) ∈ lw_all := lw_g (lw_at lw_m5 236 rfl) rfl
theorem q1319 : (Jvm.Cond.methodLink "LetterPen" (471 : Nat) ({ cls := "java/util/ArrayList", name := "set", desc := "(ILjava/lang/Object;)Ljava/lang/Object;" } : Jvm.MethodName)) ∈ lw_all := lw_g (lw_at lw_m5 237 rfl) rfl
theorem q1324 : (Jvm.Cond.instanceMethod ({ cls := "LetterPen", name := "image", desc := "()I" } : Jvm.MethodName)) ∈ lw_all := lw_g (lw_at lw_m6 2 rfl) rfl
theorem q1325 : (Jvm.Cond.selects "LetterPen" ({ cls := "LetterPen", name := "image", desc := "()I" } : Jvm.MethodName) ({ cls := "LetterPen", name := "image", desc := "()I" } : Jvm.MethodName)) ∈ lw_all := lw_g (lw_at lw_m6 3 rfl) rfl
theorem q1326 : (Jvm.Cond.code ({ cls := "LetterPen", name := "image", desc := "()I" } : Jvm.MethodName) prog_1_method_93_code (7 : Nat) (Option.some Jvm.ClassFile.FieldType.int)) ∈ lw_all := lw_g (lw_at lw_m6 4 rfl) rfl
theorem q1327 : (Jvm.Cond.methodLink "LetterPen" (478 : Nat) ({ cls := "LetterPen", name := "writes", desc := "(I)V" } : Jvm.MethodName)) ∈ lw_all := lw_g (lw_at lw_m6 5 rfl) rfl
theorem q1328 : (Jvm.Cond.privateMethod ({ cls := "LetterPen", name := "writes", desc := "(I)V" } : Jvm.MethodName)) ∈ lw_tbl := lw_at lw_m6 6 rfl
theorem q1329 : (Jvm.Cond.instanceMethod ({ cls := "LetterPen", name := "writes", desc := "(I)V" } : Jvm.MethodName)) ∈ lw_all := lw_g (lw_at lw_m6 7 rfl) rfl
theorem q1330 : (Jvm.Cond.code ({ cls := "LetterPen", name := "writes", desc := "(I)V" } : Jvm.MethodName) prog_1_method_91_code (2 : Nat) (Option.none : Option Jvm.ClassFile.FieldType)) ∈ lw_all := lw_g (lw_at lw_m6 8 rfl) rfl
theorem q1331 : (Jvm.Cond.methodLink "LetterPen" (481 : Nat) ({ cls := "LetterPen", name := "last", desc := "([CI)I" } : Jvm.MethodName)) ∈ lw_all := lw_g (lw_at lw_m6 9 rfl) rfl
theorem q1332 : (Jvm.Cond.static ({ cls := "LetterPen", name := "last", desc := "([CI)I" } : Jvm.MethodName)) ∈ lw_all := lw_g (lw_at lw_m6 10 rfl) rfl
theorem q1333 : (Jvm.Cond.code ({ cls := "LetterPen", name := "last", desc := "([CI)I" } : Jvm.MethodName) prog_1_method_92_code (4 : Nat) (Option.some Jvm.ClassFile.FieldType.int)) ∈ lw_all := lw_g (lw_at lw_m6 11 rfl) rfl
theorem q1335 : (Jvm.Cond.instanceMethod ({ cls := "LetterPen", name := "octet", desc := "(I)I" } : Jvm.MethodName)) ∈ lw_all := lw_g (lw_at lw_m6 13 rfl) rfl
theorem q1336 : (Jvm.Cond.selects "LetterPen" ({ cls := "LetterPen", name := "octet", desc := "(I)I" } : Jvm.MethodName) ({ cls := "LetterPen", name := "octet", desc := "(I)I" } : Jvm.MethodName)) ∈ lw_all := lw_g (lw_at lw_m6 14 rfl) rfl
theorem q1337 : (Jvm.Cond.code ({ cls := "LetterPen", name := "octet", desc := "(I)I" } : Jvm.MethodName) prog_1_method_94_code (2 : Nat) (Option.some Jvm.ClassFile.FieldType.int)) ∈ lw_all := lw_g (lw_at lw_m6 15 rfl) rfl
theorem q1339 : (Jvm.Cond.instanceMethod ({ cls := "LetterPen", name := "on", desc := "()Z" } : Jvm.MethodName)) ∈ lw_all := lw_g (lw_at lw_m6 17 rfl) rfl
theorem q1340 : (Jvm.Cond.selects "LetterPen" ({ cls := "LetterPen", name := "on", desc := "()Z" } : Jvm.MethodName) ({ cls := "LetterPen", name := "on", desc := "()Z" } : Jvm.MethodName)) ∈ lw_all := lw_g (lw_at lw_m6 18 rfl) rfl
theorem q1341 : (Jvm.Cond.code ({ cls := "LetterPen", name := "on", desc := "()Z" } : Jvm.MethodName) prog_1_method_96_code (2 : Nat) (Option.some Jvm.ClassFile.FieldType.boolean)) ∈ lw_all := lw_g (lw_at lw_m6 19 rfl) rfl
theorem q1342 : (Jvm.Cond.methodLink "LetterPen" (487 : Nat) ({ cls := "LetterPen", name := "areStrokes", desc := "(Ljava/util/ArrayList;I)Z" } : Jvm.MethodName)) ∈ lw_all := lw_g (lw_at lw_m6 20 rfl) rfl
theorem q1343 : (Jvm.Cond.privateMethod ({ cls := "LetterPen", name := "areStrokes", desc := "(Ljava/util/ArrayList;I)Z" } : Jvm.MethodName)) ∈ lw_tbl := lw_at lw_m6 21 rfl
theorem q1344 : (Jvm.Cond.instanceMethod ({ cls := "LetterPen", name := "areStrokes", desc := "(Ljava/util/ArrayList;I)Z" } : Jvm.MethodName)) ∈ lw_all := lw_g (lw_at lw_m6 22 rfl) rfl
theorem q1345 : (Jvm.Cond.code ({ cls := "LetterPen", name := "areStrokes", desc := "(Ljava/util/ArrayList;I)Z" } : Jvm.MethodName) prog_1_method_95_code (7 : Nat) (Option.some Jvm.ClassFile.FieldType.boolean)) ∈ lw_all := lw_g (lw_at lw_m6 23 rfl) rfl
theorem q1346 : (Jvm.Cond.constantLong "LetterPen" (485 : Nat) (12 : Int64)) ∈ lw_all := lw_g (lw_at lw_m6 24 rfl) rfl
theorem q1347 : (Jvm.Cond.methodLink "LetterPen" (491 : Nat) ({ cls := "java/util/ArrayList", name := "addAll", desc := "(Ljava/util/Collection;)Z" } : Jvm.MethodName)) ∈ lw_all := lw_g (lw_at lw_m6 25 rfl) rfl
theorem q1996 : (Jvm.Cond.castable "LetterPen" "java/lang/Object") ∈ lw_tbl := lw_at lw_m8 194 rfl
theorem q2018 : (Jvm.Cond.stringRef "LetterPen" (495 : Nat) "set") ∈ lw_tbl := lw_at lw_m8 216 rfl
theorem q2019 : (Jvm.Cond.stringRef "LetterPen" (496 : Nat) "even") ∈ lw_tbl := lw_at lw_m8 217 rfl
theorem q2020 : (Jvm.Cond.stringRef "LetterPen" (498 : Nat) "band") ∈ lw_tbl := lw_at lw_m8 218 rfl
theorem q2021 : (Jvm.Cond.stringRef "LetterPen" (500 : Nat) "loose") ∈ lw_tbl := lw_at lw_m8 219 rfl
theorem q2022 : (Jvm.Cond.stringRef "LetterPen" (502 : Nat) "turn") ∈ lw_tbl := lw_at lw_m8 220 rfl
theorem q2023 : (Jvm.Cond.stringRef "LetterPen" (504 : Nat) "margin") ∈ lw_tbl := lw_at lw_m8 221 rfl
theorem q2024 : (Jvm.Cond.stringRef "LetterPen" (506 : Nat) "place") ∈ lw_tbl := lw_at lw_m8 222 rfl
theorem q2025 : (Jvm.Cond.stringRef "LetterPen" (507 : Nat) "letter") ∈ lw_tbl := lw_at lw_m8 223 rfl
theorem q2026 : (Jvm.Cond.stringRef "LetterPen" (508 : Nat) "ink") ∈ lw_tbl := lw_at lw_m8 224 rfl
theorem q2027 : (Jvm.Cond.stringRef "LetterPen" (509 : Nat) "stroke") ∈ lw_tbl := lw_at lw_m8 225 rfl
theorem in_X0 : ∀ w ∈ wsX00, w ∈ lw_all := lw_in wsX00 [284, 286, 288, 290, 292, 294, 296, 298, 300, 302, 304, 306, 308, 310, 312, 314, 316, 318, 320, 322, 324, 326, 328, 330, 332, 334, 336, 338, 340, 342, 344, 346, 348, 350, 352, 354, 356, 358] (by decide +kernel) (by decide +kernel)
