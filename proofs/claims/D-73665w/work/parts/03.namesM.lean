/-! LetterPenModel -/
set_option maxRecDepth 100000
def RX3 : String := "LetterPenModel"
def TX3 : u_T := fun k => match k with
  | 0 => ("LetterPenModel", "now", "[I", true)
  | 1 => ("LetterPenModel", "read", "[I", true)
  | 2 => ("LetterPenModel", "stash", "[I", true)
  | 3 => ("LetterPenModel", "kept", "[I", true)
  | 4 => ("LetterPenModel", "undone", "I", false)
  | 5 => ("LetterPenModel", "seed", "I", false)
  | 6 => ("LetterPenModel", "toldMany", "I", false)
  | 7 => ("LetterPenModel", "toldPoint", "[I", true)
  | 8 => ("LetterPenModel", "toldCount", "[I", true)
  | 9 => ("LetterPenModel", "toldStrokes", "[I", true)
  | 10 => ("LetterPenModel", "toldModel", "[I", true)
  | 11 => ("LetterPenModel", "tape", "[I", true)
  | 12 => ("LetterPenModel", "taped", "I", false)
  | 13 => ("LetterPenModel", "refused", "[I", true)
  | 14 => ("LetterPenModel", "faultKind", "I", false)
  | 15 => ("LetterPenModel", "faultPlace", "I", false)
  | 16 => ("LetterPenModel", "size", "I", false)
  | 17 => ("LetterPenModel", "at", "I", false)
  | 18 => ("LetterPenModel", "from", "I", false)
  | 19 => ("LetterPenModel", "wrong", "I", false)
  | 20 => ("LetterPenModel", "wrongAt", "I", false)
  | 21 => ("LetterPenModel", "ownLetters", "[I", true)
  | 22 => ("LetterPenModel", "codes", "[I", true)
  | 23 => ("LetterPenModel", "rest", "[I", true)
  | 24 => ("LetterPenModel", "firstMany", "I", false)
  | 25 => ("LetterPenModel", "otherMany", "I", false)
  | 26 => ("LetterPenModel", "forth", "[I", true)
  | 27 => ("LetterPenModel", "back", "[I", true)
  | 28 => ("LetterPenModel", "cells", "[I", true)
  | 29 => ("LetterPenModel", "best", "[I", true)
  | 30 => ("LetterPenModel", "scores", "[I", true)
  | 31 => ("LetterPenModel", "groupOf", "[I", true)
  | 32 => ("LetterPenModel", "readRest", "[I", true)
  | 33 => ("LetterPenModel", "readMany", "[I", true)
  | 34 => ("LetterPenModel", "readModel", "[I", true)
  | 35 => ("LetterPenModel", "readScore", "[I", true)
  | 36 => ("LetterPenModel", "doesFit", "[I", true)
  | 37 => ("LetterPenModel", "rightBy", "[I", true)
  | 38 => ("LetterPenModel", "scoreOfModel", "[I", true)
  | 39 => ("LetterPenModel", "image", "[I", true)
  | _ => ("LetterPenModel", "outs", "I", false)
def tyX3 : Nat → FieldType := fun k => match k with
  | 0 => .array .int
  | 1 => .array .int
  | 2 => .array .int
  | 3 => .array .int
  | 4 => .int
  | 5 => .int
  | 6 => .int
  | 7 => .array .int
  | 8 => .array .int
  | 9 => .array .int
  | 10 => .array .int
  | 11 => .array .int
  | 12 => .int
  | 13 => .array .int
  | 14 => .int
  | 15 => .int
  | 16 => .int
  | 17 => .int
  | 18 => .int
  | 19 => .int
  | 20 => .int
  | 21 => .array .int
  | 22 => .array .int
  | 23 => .array .int
  | 24 => .int
  | 25 => .int
  | 26 => .array .int
  | 27 => .array .int
  | 28 => .array .int
  | 29 => .array .int
  | 30 => .array .int
  | 31 => .array .int
  | 32 => .array .int
  | 33 => .array .int
  | 34 => .array .int
  | 35 => .array .int
  | 36 => .array .int
  | 37 => .array .int
  | 38 => .array .int
  | 39 => .array .int
  | _ => .int
abbrev wsX30 : List Cond := u_ws RX3 TX3 41
set_option maxRecDepth 100000 in
theorem nmX3 : ∀ a, a < 41 → ∀ b, b < 41 → a ≠ b → (TX3 a).2.1 ≠ (TX3 b).2.1 := by decide +kernel
set_option maxRecDepth 100000 in
theorem tyX3_ok : ∀ k, k < 41 → parseFieldDescriptor (TX3 k).2.2.1 = some (tyX3 k) := by decide +kernel
abbrev cX3_init : ByteArray := prog_12_method_5_code
def yX3_init : MethodName := ⟨RX3, "<init>", "()V"⟩
def dkwX3_init_26 : List UInt8 := [180, 0, 7, 184, 0, 134, 177]
abbrev dktX3_init_26 : List UInt8 := dkwX3_init_26 ++ []
def dkwX3_init_25 : List UInt8 := [17, 1, 72, 188, 10, 181, 0, 125, 42, 17, 0, 202, 188, 10, 181, 0, 128, 42, 3, 181, 0, 131, 42]
abbrev dktX3_init_25 : List UInt8 := dkwX3_init_25 ++ dktX3_init_26
def dkwX3_init_24 : List UInt8 := [188, 10, 181, 0, 116, 42, 16, 41, 188, 10, 181, 0, 119, 42, 16, 41, 188, 10, 181, 0, 122, 42]
abbrev dktX3_init_24 : List UInt8 := dkwX3_init_24 ++ dktX3_init_25
def dkwX3_init_23 : List UInt8 := [188, 10, 181, 0, 107, 42, 16, 9, 188, 10, 181, 0, 110, 42, 16, 9, 188, 10, 181, 0, 113, 42, 16, 9]
abbrev dktX3_init_23 : List UInt8 := dkwX3_init_23 ++ dktX3_init_24
def dkwX3_init_22 : List UInt8 := [188, 10, 181, 0, 98, 42, 16, 8, 188, 10, 181, 0, 101, 42, 16, 8, 188, 10, 181, 0, 104, 42, 16, 9]
abbrev dktX3_init_22 : List UInt8 := dkwX3_init_22 ++ dktX3_init_23
def dkwX3_init_21 : List UInt8 := [181, 0, 89, 42, 16, 64, 188, 10, 181, 0, 92, 42, 16, 64, 188, 10, 181, 0, 95, 42, 17, 9, 0]
abbrev dktX3_init_21 : List UInt8 := dkwX3_init_21 ++ dktX3_init_22
def dkwX3_init_20 : List UInt8 := [17, 1, 0, 188, 10, 181, 0, 80, 42, 3, 181, 0, 83, 42, 3, 181, 0, 86, 42, 16, 64, 188, 10]
abbrev dktX3_init_20 : List UInt8 := dkwX3_init_20 ++ dktX3_init_21
def dkwX3_init_19 : List UInt8 := [16, 54, 8, 79, 89, 16, 55, 3, 79, 181, 0, 74, 42, 17, 6, 128, 188, 10, 181, 0, 77, 42]
abbrev dktX3_init_19 : List UInt8 := dkwX3_init_19 ++ dktX3_init_20
def dkwX3_init_18 : List UInt8 := [16, 50, 16, 20, 79, 89, 16, 51, 16, 18, 79, 89, 16, 52, 16, 15, 79, 89, 16, 53, 16, 11, 79, 89]
abbrev dktX3_init_18 : List UInt8 := dkwX3_init_18 ++ dktX3_init_19
def dkwX3_init_17 : List UInt8 := [16, 46, 16, 14, 79, 89, 16, 47, 16, 11, 79, 89, 16, 48, 3, 79, 89, 16, 49, 16, 19, 79, 89]
abbrev dktX3_init_17 : List UInt8 := dkwX3_init_17 ++ dktX3_init_18
def dkwX3_init_16 : List UInt8 := [89, 16, 42, 8, 79, 89, 16, 43, 16, 18, 79, 89, 16, 44, 3, 79, 89, 16, 45, 16, 9, 79, 89]
abbrev dktX3_init_16 : List UInt8 := dkwX3_init_16 ++ dktX3_init_17
def dkwX3_init_15 : List UInt8 := [79, 89, 16, 38, 16, 12, 79, 89, 16, 39, 8, 79, 89, 16, 40, 16, 20, 79, 89, 16, 41, 16, 20, 79]
abbrev dktX3_init_15 : List UInt8 := dkwX3_init_15 ++ dktX3_init_16
def dkwX3_init_14 : List UInt8 := [16, 33, 16, 12, 79, 89, 16, 34, 4, 79, 89, 16, 35, 6, 79, 89, 16, 36, 8, 79, 89, 16, 37, 3]
abbrev dktX3_init_14 : List UInt8 := dkwX3_init_14 ++ dktX3_init_15
def dkwX3_init_13 : List UInt8 := [16, 29, 16, 9, 79, 89, 16, 30, 16, 14, 79, 89, 16, 31, 3, 79, 89, 16, 32, 16, 16, 79, 89]
abbrev dktX3_init_13 : List UInt8 := dkwX3_init_13 ++ dktX3_init_14
def dkwX3_init_12 : List UInt8 := [16, 25, 16, 13, 79, 89, 16, 26, 4, 79, 89, 16, 27, 16, 18, 79, 89, 16, 28, 16, 7, 79, 89]
abbrev dktX3_init_12 : List UInt8 := dkwX3_init_12 ++ dktX3_init_13
def dkwX3_init_11 : List UInt8 := [16, 21, 16, 21, 79, 89, 16, 22, 16, 18, 79, 89, 16, 23, 16, 14, 79, 89, 16, 24, 3, 79, 89]
abbrev dktX3_init_11 : List UInt8 := dkwX3_init_11 ++ dktX3_init_12
def dkwX3_init_10 : List UInt8 := [79, 89, 16, 17, 16, 19, 79, 89, 16, 18, 8, 79, 89, 16, 19, 3, 79, 89, 16, 20, 16, 20, 79, 89]
abbrev dktX3_init_10 : List UInt8 := dkwX3_init_10 ++ dktX3_init_11
def dkwX3_init_9 : List UInt8 := [7, 79, 89, 16, 13, 3, 79, 89, 16, 14, 16, 12, 79, 89, 16, 15, 16, 15, 79, 89, 16, 16, 16, 15]
abbrev dktX3_init_9 : List UInt8 := dkwX3_init_9 ++ dktX3_init_10
def dkwX3_init_8 : List UInt8 := [89, 16, 8, 3, 79, 89, 16, 9, 5, 79, 89, 16, 10, 4, 79, 89, 16, 11, 16, 14, 79, 89, 16, 12]
abbrev dktX3_init_8 : List UInt8 := dkwX3_init_8 ++ dktX3_init_9
def dkwX3_init_7 : List UInt8 := [89, 6, 3, 79, 89, 7, 8, 79, 89, 8, 16, 22, 79, 89, 16, 6, 8, 79, 89, 16, 7, 16, 14, 79]
abbrev dktX3_init_7 : List UInt8 := dkwX3_init_7 ++ dktX3_init_8
def dkwX3_init_6 : List UInt8 := [42, 2, 181, 0, 71, 42, 16, 56, 188, 10, 89, 3, 16, 19, 79, 89, 4, 8, 79, 89, 5, 16, 20, 79]
abbrev dktX3_init_6 : List UInt8 := dkwX3_init_6 ++ dktX3_init_7
def dkwX3_init_5 : List UInt8 := [2, 181, 0, 56, 42, 3, 181, 0, 59, 42, 3, 181, 0, 62, 42, 3, 181, 0, 65, 42, 3, 181, 0, 68]
abbrev dktX3_init_5 : List UInt8 := dkwX3_init_5 ++ dktX3_init_6
def dkwX3_init_4 : List UInt8 := [188, 10, 181, 0, 44, 42, 3, 181, 0, 47, 42, 16, 6, 188, 10, 181, 0, 50, 42, 3, 181, 0, 53, 42]
abbrev dktX3_init_4 : List UInt8 := dkwX3_init_4 ++ dktX3_init_5
def dkwX3_init_3 : List UInt8 := [181, 0, 35, 42, 16, 8, 188, 10, 181, 0, 38, 42, 16, 8, 188, 10, 181, 0, 41, 42, 17, 6, 64]
abbrev dktX3_init_3 : List UInt8 := dkwX3_init_3 ++ dktX3_init_4
def dkwX3_init_2 : List UInt8 := [181, 0, 26, 42, 3, 181, 0, 29, 42, 17, 6, 0, 188, 10, 181, 0, 32, 42, 16, 64, 188, 10]
abbrev dktX3_init_2 : List UInt8 := dkwX3_init_2 ++ dktX3_init_3
def dkwX3_init_1 : List UInt8 := [17, 4, 24, 188, 10, 181, 0, 16, 42, 17, 81, 224, 188, 10, 181, 0, 19, 42, 3, 181, 0, 22, 42, 4]
abbrev dktX3_init_1 : List UInt8 := dkwX3_init_1 ++ dktX3_init_2
def dkwX3_init_0 : List UInt8 := [42, 183, 0, 1, 42, 17, 4, 24, 188, 10, 181, 0, 7, 42, 17, 4, 24, 188, 10, 181, 0, 13, 42]
abbrev dktX3_init_0 : List UInt8 := dkwX3_init_0 ++ dktX3_init_1
theorem dksX3_init_0 : cX3_init.data.toList.drop 0 = dktX3_init_0 := by decide +kernel
theorem dksX3_init_1 : cX3_init.data.toList.drop 23 = dktX3_init_1 := dk_seg dksX3_init_0 23 rfl rfl
theorem dksX3_init_2 : cX3_init.data.toList.drop 47 = dktX3_init_2 := dk_seg dksX3_init_1 24 rfl rfl
theorem dksX3_init_3 : cX3_init.data.toList.drop 69 = dktX3_init_3 := dk_seg dksX3_init_2 22 rfl rfl
theorem dksX3_init_4 : cX3_init.data.toList.drop 92 = dktX3_init_4 := dk_seg dksX3_init_3 23 rfl rfl
theorem dksX3_init_5 : cX3_init.data.toList.drop 116 = dktX3_init_5 := dk_seg dksX3_init_4 24 rfl rfl
theorem dksX3_init_6 : cX3_init.data.toList.drop 140 = dktX3_init_6 := dk_seg dksX3_init_5 24 rfl rfl
theorem dksX3_init_7 : cX3_init.data.toList.drop 164 = dktX3_init_7 := dk_seg dksX3_init_6 24 rfl rfl
theorem dksX3_init_8 : cX3_init.data.toList.drop 188 = dktX3_init_8 := dk_seg dksX3_init_7 24 rfl rfl
theorem dksX3_init_9 : cX3_init.data.toList.drop 212 = dktX3_init_9 := dk_seg dksX3_init_8 24 rfl rfl
theorem dksX3_init_10 : cX3_init.data.toList.drop 236 = dktX3_init_10 := dk_seg dksX3_init_9 24 rfl rfl
theorem dksX3_init_11 : cX3_init.data.toList.drop 260 = dktX3_init_11 := dk_seg dksX3_init_10 24 rfl rfl
theorem dksX3_init_12 : cX3_init.data.toList.drop 283 = dktX3_init_12 := dk_seg dksX3_init_11 23 rfl rfl
theorem dksX3_init_13 : cX3_init.data.toList.drop 306 = dktX3_init_13 := dk_seg dksX3_init_12 23 rfl rfl
theorem dksX3_init_14 : cX3_init.data.toList.drop 329 = dktX3_init_14 := dk_seg dksX3_init_13 23 rfl rfl
theorem dksX3_init_15 : cX3_init.data.toList.drop 353 = dktX3_init_15 := dk_seg dksX3_init_14 24 rfl rfl
theorem dksX3_init_16 : cX3_init.data.toList.drop 377 = dktX3_init_16 := dk_seg dksX3_init_15 24 rfl rfl
theorem dksX3_init_17 : cX3_init.data.toList.drop 400 = dktX3_init_17 := dk_seg dksX3_init_16 23 rfl rfl
theorem dksX3_init_18 : cX3_init.data.toList.drop 423 = dktX3_init_18 := dk_seg dksX3_init_17 23 rfl rfl
theorem dksX3_init_19 : cX3_init.data.toList.drop 447 = dktX3_init_19 := dk_seg dksX3_init_18 24 rfl rfl
theorem dksX3_init_20 : cX3_init.data.toList.drop 469 = dktX3_init_20 := dk_seg dksX3_init_19 22 rfl rfl
theorem dksX3_init_21 : cX3_init.data.toList.drop 492 = dktX3_init_21 := dk_seg dksX3_init_20 23 rfl rfl
theorem dksX3_init_22 : cX3_init.data.toList.drop 515 = dktX3_init_22 := dk_seg dksX3_init_21 23 rfl rfl
theorem dksX3_init_23 : cX3_init.data.toList.drop 539 = dktX3_init_23 := dk_seg dksX3_init_22 24 rfl rfl
theorem dksX3_init_24 : cX3_init.data.toList.drop 563 = dktX3_init_24 := dk_seg dksX3_init_23 24 rfl rfl
theorem dksX3_init_25 : cX3_init.data.toList.drop 585 = dktX3_init_25 := dk_seg dksX3_init_24 22 rfl rfl
theorem dksX3_init_26 : cX3_init.data.toList.drop 608 = dktX3_init_26 := dk_seg dksX3_init_25 23 rfl rfl
theorem dX3_init_0 : decode cX3_init 0 = .ok (.aload_n 0, 1) := dk_42 (dk_at dksX3_init_0 0 rfl rfl)
theorem dX3_init_1 : decode cX3_init 1 = .ok (.invokespecial 1, 3) := dk_183 0 1 (dk_at dksX3_init_0 1 rfl rfl)
theorem dX3_init_4 : decode cX3_init 4 = .ok (.aload_n 0, 1) := dk_42 (dk_at dksX3_init_0 4 rfl rfl)
theorem dX3_init_5 : decode cX3_init 5 = .ok (.sipush 1048, 3) := dk_17 4 24 (dk_at dksX3_init_0 5 rfl rfl)
theorem dX3_init_8 : decode cX3_init 8 = .ok (.newarray .int, 2) := dk_188_10 (dk_at dksX3_init_0 8 rfl rfl)
theorem dX3_init_10 : decode cX3_init 10 = .ok (.putfield 7, 3) := dk_181 0 7 (dk_at dksX3_init_0 10 rfl rfl)
theorem dX3_init_13 : decode cX3_init 13 = .ok (.aload_n 0, 1) := dk_42 (dk_at dksX3_init_0 13 rfl rfl)
theorem dX3_init_14 : decode cX3_init 14 = .ok (.sipush 1048, 3) := dk_17 4 24 (dk_at dksX3_init_0 14 rfl rfl)
theorem dX3_init_17 : decode cX3_init 17 = .ok (.newarray .int, 2) := dk_188_10 (dk_at dksX3_init_0 17 rfl rfl)
theorem dX3_init_19 : decode cX3_init 19 = .ok (.putfield 13, 3) := dk_181 0 13 (dk_at dksX3_init_0 19 rfl rfl)
theorem dX3_init_22 : decode cX3_init 22 = .ok (.aload_n 0, 1) := dk_42 (dk_at dksX3_init_0 22 rfl rfl)
theorem dX3_init_23 : decode cX3_init 23 = .ok (.sipush 1048, 3) := dk_17 4 24 (dk_at dksX3_init_1 0 rfl rfl)
theorem dX3_init_26 : decode cX3_init 26 = .ok (.newarray .int, 2) := dk_188_10 (dk_at dksX3_init_1 3 rfl rfl)
theorem dX3_init_28 : decode cX3_init 28 = .ok (.putfield 16, 3) := dk_181 0 16 (dk_at dksX3_init_1 5 rfl rfl)
theorem dX3_init_31 : decode cX3_init 31 = .ok (.aload_n 0, 1) := dk_42 (dk_at dksX3_init_1 8 rfl rfl)
theorem dX3_init_32 : decode cX3_init 32 = .ok (.sipush 20960, 3) := dk_17 81 224 (dk_at dksX3_init_1 9 rfl rfl)
theorem dX3_init_35 : decode cX3_init 35 = .ok (.newarray .int, 2) := dk_188_10 (dk_at dksX3_init_1 12 rfl rfl)
theorem dX3_init_37 : decode cX3_init 37 = .ok (.putfield 19, 3) := dk_181 0 19 (dk_at dksX3_init_1 14 rfl rfl)
theorem dX3_init_40 : decode cX3_init 40 = .ok (.aload_n 0, 1) := dk_42 (dk_at dksX3_init_1 17 rfl rfl)
theorem dX3_init_41 : decode cX3_init 41 = .ok (.iconst 0, 1) := dk_3 (dk_at dksX3_init_1 18 rfl rfl)
theorem dX3_init_42 : decode cX3_init 42 = .ok (.putfield 22, 3) := dk_181 0 22 (dk_at dksX3_init_1 19 rfl rfl)
theorem dX3_init_45 : decode cX3_init 45 = .ok (.aload_n 0, 1) := dk_42 (dk_at dksX3_init_1 22 rfl rfl)
theorem dX3_init_46 : decode cX3_init 46 = .ok (.iconst 1, 1) := dk_4 (dk_at dksX3_init_1 23 rfl rfl)
theorem dX3_init_47 : decode cX3_init 47 = .ok (.putfield 26, 3) := dk_181 0 26 (dk_at dksX3_init_2 0 rfl rfl)
theorem dX3_init_50 : decode cX3_init 50 = .ok (.aload_n 0, 1) := dk_42 (dk_at dksX3_init_2 3 rfl rfl)
theorem dX3_init_51 : decode cX3_init 51 = .ok (.iconst 0, 1) := dk_3 (dk_at dksX3_init_2 4 rfl rfl)
theorem dX3_init_52 : decode cX3_init 52 = .ok (.putfield 29, 3) := dk_181 0 29 (dk_at dksX3_init_2 5 rfl rfl)
theorem dX3_init_55 : decode cX3_init 55 = .ok (.aload_n 0, 1) := dk_42 (dk_at dksX3_init_2 8 rfl rfl)
theorem dX3_init_56 : decode cX3_init 56 = .ok (.sipush 1536, 3) := dk_17 6 0 (dk_at dksX3_init_2 9 rfl rfl)
theorem dX3_init_59 : decode cX3_init 59 = .ok (.newarray .int, 2) := dk_188_10 (dk_at dksX3_init_2 12 rfl rfl)
theorem dX3_init_61 : decode cX3_init 61 = .ok (.putfield 32, 3) := dk_181 0 32 (dk_at dksX3_init_2 14 rfl rfl)
theorem dX3_init_64 : decode cX3_init 64 = .ok (.aload_n 0, 1) := dk_42 (dk_at dksX3_init_2 17 rfl rfl)
theorem dX3_init_65 : decode cX3_init 65 = .ok (.bipush 64, 2) := dk_16 64 (dk_at dksX3_init_2 18 rfl rfl)
theorem dX3_init_67 : decode cX3_init 67 = .ok (.newarray .int, 2) := dk_188_10 (dk_at dksX3_init_2 20 rfl rfl)
theorem dX3_init_69 : decode cX3_init 69 = .ok (.putfield 35, 3) := dk_181 0 35 (dk_at dksX3_init_3 0 rfl rfl)
theorem dX3_init_72 : decode cX3_init 72 = .ok (.aload_n 0, 1) := dk_42 (dk_at dksX3_init_3 3 rfl rfl)
theorem dX3_init_73 : decode cX3_init 73 = .ok (.bipush 8, 2) := dk_16 8 (dk_at dksX3_init_3 4 rfl rfl)
theorem dX3_init_75 : decode cX3_init 75 = .ok (.newarray .int, 2) := dk_188_10 (dk_at dksX3_init_3 6 rfl rfl)
theorem dX3_init_77 : decode cX3_init 77 = .ok (.putfield 38, 3) := dk_181 0 38 (dk_at dksX3_init_3 8 rfl rfl)
theorem dX3_init_80 : decode cX3_init 80 = .ok (.aload_n 0, 1) := dk_42 (dk_at dksX3_init_3 11 rfl rfl)
theorem dX3_init_81 : decode cX3_init 81 = .ok (.bipush 8, 2) := dk_16 8 (dk_at dksX3_init_3 12 rfl rfl)
theorem dX3_init_83 : decode cX3_init 83 = .ok (.newarray .int, 2) := dk_188_10 (dk_at dksX3_init_3 14 rfl rfl)
theorem dX3_init_85 : decode cX3_init 85 = .ok (.putfield 41, 3) := dk_181 0 41 (dk_at dksX3_init_3 16 rfl rfl)
theorem dX3_init_88 : decode cX3_init 88 = .ok (.aload_n 0, 1) := dk_42 (dk_at dksX3_init_3 19 rfl rfl)
theorem dX3_init_89 : decode cX3_init 89 = .ok (.sipush 1600, 3) := dk_17 6 64 (dk_at dksX3_init_3 20 rfl rfl)
theorem dX3_init_92 : decode cX3_init 92 = .ok (.newarray .int, 2) := dk_188_10 (dk_at dksX3_init_4 0 rfl rfl)
theorem dX3_init_94 : decode cX3_init 94 = .ok (.putfield 44, 3) := dk_181 0 44 (dk_at dksX3_init_4 2 rfl rfl)
theorem dX3_init_97 : decode cX3_init 97 = .ok (.aload_n 0, 1) := dk_42 (dk_at dksX3_init_4 5 rfl rfl)
theorem dX3_init_98 : decode cX3_init 98 = .ok (.iconst 0, 1) := dk_3 (dk_at dksX3_init_4 6 rfl rfl)
theorem dX3_init_99 : decode cX3_init 99 = .ok (.putfield 47, 3) := dk_181 0 47 (dk_at dksX3_init_4 7 rfl rfl)
theorem dX3_init_102 : decode cX3_init 102 = .ok (.aload_n 0, 1) := dk_42 (dk_at dksX3_init_4 10 rfl rfl)
theorem dX3_init_103 : decode cX3_init 103 = .ok (.bipush 6, 2) := dk_16 6 (dk_at dksX3_init_4 11 rfl rfl)
theorem dX3_init_105 : decode cX3_init 105 = .ok (.newarray .int, 2) := dk_188_10 (dk_at dksX3_init_4 13 rfl rfl)
theorem dX3_init_107 : decode cX3_init 107 = .ok (.putfield 50, 3) := dk_181 0 50 (dk_at dksX3_init_4 15 rfl rfl)
theorem dX3_init_110 : decode cX3_init 110 = .ok (.aload_n 0, 1) := dk_42 (dk_at dksX3_init_4 18 rfl rfl)
theorem dX3_init_111 : decode cX3_init 111 = .ok (.iconst 0, 1) := dk_3 (dk_at dksX3_init_4 19 rfl rfl)
theorem dX3_init_112 : decode cX3_init 112 = .ok (.putfield 53, 3) := dk_181 0 53 (dk_at dksX3_init_4 20 rfl rfl)
theorem dX3_init_115 : decode cX3_init 115 = .ok (.aload_n 0, 1) := dk_42 (dk_at dksX3_init_4 23 rfl rfl)
theorem dX3_init_116 : decode cX3_init 116 = .ok (.iconst (-1), 1) := dk_2 (dk_at dksX3_init_5 0 rfl rfl)
theorem dX3_init_117 : decode cX3_init 117 = .ok (.putfield 56, 3) := dk_181 0 56 (dk_at dksX3_init_5 1 rfl rfl)
theorem dX3_init_120 : decode cX3_init 120 = .ok (.aload_n 0, 1) := dk_42 (dk_at dksX3_init_5 4 rfl rfl)
theorem dX3_init_121 : decode cX3_init 121 = .ok (.iconst 0, 1) := dk_3 (dk_at dksX3_init_5 5 rfl rfl)
theorem dX3_init_122 : decode cX3_init 122 = .ok (.putfield 59, 3) := dk_181 0 59 (dk_at dksX3_init_5 6 rfl rfl)
theorem dX3_init_125 : decode cX3_init 125 = .ok (.aload_n 0, 1) := dk_42 (dk_at dksX3_init_5 9 rfl rfl)
theorem dX3_init_126 : decode cX3_init 126 = .ok (.iconst 0, 1) := dk_3 (dk_at dksX3_init_5 10 rfl rfl)
theorem dX3_init_127 : decode cX3_init 127 = .ok (.putfield 62, 3) := dk_181 0 62 (dk_at dksX3_init_5 11 rfl rfl)
theorem dX3_init_130 : decode cX3_init 130 = .ok (.aload_n 0, 1) := dk_42 (dk_at dksX3_init_5 14 rfl rfl)
theorem dX3_init_131 : decode cX3_init 131 = .ok (.iconst 0, 1) := dk_3 (dk_at dksX3_init_5 15 rfl rfl)
theorem dX3_init_132 : decode cX3_init 132 = .ok (.putfield 65, 3) := dk_181 0 65 (dk_at dksX3_init_5 16 rfl rfl)
theorem dX3_init_135 : decode cX3_init 135 = .ok (.aload_n 0, 1) := dk_42 (dk_at dksX3_init_5 19 rfl rfl)
theorem dX3_init_136 : decode cX3_init 136 = .ok (.iconst 0, 1) := dk_3 (dk_at dksX3_init_5 20 rfl rfl)
theorem dX3_init_137 : decode cX3_init 137 = .ok (.putfield 68, 3) := dk_181 0 68 (dk_at dksX3_init_5 21 rfl rfl)
theorem dX3_init_140 : decode cX3_init 140 = .ok (.aload_n 0, 1) := dk_42 (dk_at dksX3_init_6 0 rfl rfl)
theorem dX3_init_141 : decode cX3_init 141 = .ok (.iconst (-1), 1) := dk_2 (dk_at dksX3_init_6 1 rfl rfl)
theorem dX3_init_142 : decode cX3_init 142 = .ok (.putfield 71, 3) := dk_181 0 71 (dk_at dksX3_init_6 2 rfl rfl)
theorem dX3_init_145 : decode cX3_init 145 = .ok (.aload_n 0, 1) := dk_42 (dk_at dksX3_init_6 5 rfl rfl)
theorem dX3_init_146 : decode cX3_init 146 = .ok (.bipush 56, 2) := dk_16 56 (dk_at dksX3_init_6 6 rfl rfl)
theorem dX3_init_148 : decode cX3_init 148 = .ok (.newarray .int, 2) := dk_188_10 (dk_at dksX3_init_6 8 rfl rfl)
theorem dX3_init_150 : decode cX3_init 150 = .ok (.dup, 1) := dk_89 (dk_at dksX3_init_6 10 rfl rfl)
theorem dX3_init_151 : decode cX3_init 151 = .ok (.iconst 0, 1) := dk_3 (dk_at dksX3_init_6 11 rfl rfl)
theorem dX3_init_152 : decode cX3_init 152 = .ok (.bipush 19, 2) := dk_16 19 (dk_at dksX3_init_6 12 rfl rfl)
theorem dX3_init_154 : decode cX3_init 154 = .ok (.iastore, 1) := dk_79 (dk_at dksX3_init_6 14 rfl rfl)
theorem dX3_init_155 : decode cX3_init 155 = .ok (.dup, 1) := dk_89 (dk_at dksX3_init_6 15 rfl rfl)
theorem dX3_init_156 : decode cX3_init 156 = .ok (.iconst 1, 1) := dk_4 (dk_at dksX3_init_6 16 rfl rfl)
theorem dX3_init_157 : decode cX3_init 157 = .ok (.iconst 5, 1) := dk_8 (dk_at dksX3_init_6 17 rfl rfl)
theorem dX3_init_158 : decode cX3_init 158 = .ok (.iastore, 1) := dk_79 (dk_at dksX3_init_6 18 rfl rfl)
theorem dX3_init_159 : decode cX3_init 159 = .ok (.dup, 1) := dk_89 (dk_at dksX3_init_6 19 rfl rfl)
theorem dX3_init_160 : decode cX3_init 160 = .ok (.iconst 2, 1) := dk_5 (dk_at dksX3_init_6 20 rfl rfl)
theorem dX3_init_161 : decode cX3_init 161 = .ok (.bipush 20, 2) := dk_16 20 (dk_at dksX3_init_6 21 rfl rfl)
theorem dX3_init_163 : decode cX3_init 163 = .ok (.iastore, 1) := dk_79 (dk_at dksX3_init_6 23 rfl rfl)
theorem dX3_init_164 : decode cX3_init 164 = .ok (.dup, 1) := dk_89 (dk_at dksX3_init_7 0 rfl rfl)
theorem dX3_init_165 : decode cX3_init 165 = .ok (.iconst 3, 1) := dk_6 (dk_at dksX3_init_7 1 rfl rfl)
theorem dX3_init_166 : decode cX3_init 166 = .ok (.iconst 0, 1) := dk_3 (dk_at dksX3_init_7 2 rfl rfl)
theorem dX3_init_167 : decode cX3_init 167 = .ok (.iastore, 1) := dk_79 (dk_at dksX3_init_7 3 rfl rfl)
theorem dX3_init_168 : decode cX3_init 168 = .ok (.dup, 1) := dk_89 (dk_at dksX3_init_7 4 rfl rfl)
theorem dX3_init_169 : decode cX3_init 169 = .ok (.iconst 4, 1) := dk_7 (dk_at dksX3_init_7 5 rfl rfl)
theorem dX3_init_170 : decode cX3_init 170 = .ok (.iconst 5, 1) := dk_8 (dk_at dksX3_init_7 6 rfl rfl)
theorem dX3_init_171 : decode cX3_init 171 = .ok (.iastore, 1) := dk_79 (dk_at dksX3_init_7 7 rfl rfl)
theorem dX3_init_172 : decode cX3_init 172 = .ok (.dup, 1) := dk_89 (dk_at dksX3_init_7 8 rfl rfl)
theorem dX3_init_173 : decode cX3_init 173 = .ok (.iconst 5, 1) := dk_8 (dk_at dksX3_init_7 9 rfl rfl)
theorem dX3_init_174 : decode cX3_init 174 = .ok (.bipush 22, 2) := dk_16 22 (dk_at dksX3_init_7 10 rfl rfl)
theorem dX3_init_176 : decode cX3_init 176 = .ok (.iastore, 1) := dk_79 (dk_at dksX3_init_7 12 rfl rfl)
theorem dX3_init_177 : decode cX3_init 177 = .ok (.dup, 1) := dk_89 (dk_at dksX3_init_7 13 rfl rfl)
theorem dX3_init_178 : decode cX3_init 178 = .ok (.bipush 6, 2) := dk_16 6 (dk_at dksX3_init_7 14 rfl rfl)
theorem dX3_init_180 : decode cX3_init 180 = .ok (.iconst 5, 1) := dk_8 (dk_at dksX3_init_7 16 rfl rfl)
theorem dX3_init_181 : decode cX3_init 181 = .ok (.iastore, 1) := dk_79 (dk_at dksX3_init_7 17 rfl rfl)
theorem dX3_init_182 : decode cX3_init 182 = .ok (.dup, 1) := dk_89 (dk_at dksX3_init_7 18 rfl rfl)
theorem dX3_init_183 : decode cX3_init 183 = .ok (.bipush 7, 2) := dk_16 7 (dk_at dksX3_init_7 19 rfl rfl)
theorem dX3_init_185 : decode cX3_init 185 = .ok (.bipush 14, 2) := dk_16 14 (dk_at dksX3_init_7 21 rfl rfl)
theorem dX3_init_187 : decode cX3_init 187 = .ok (.iastore, 1) := dk_79 (dk_at dksX3_init_7 23 rfl rfl)
theorem dX3_init_188 : decode cX3_init 188 = .ok (.dup, 1) := dk_89 (dk_at dksX3_init_8 0 rfl rfl)
theorem dX3_init_189 : decode cX3_init 189 = .ok (.bipush 8, 2) := dk_16 8 (dk_at dksX3_init_8 1 rfl rfl)
theorem dX3_init_191 : decode cX3_init 191 = .ok (.iconst 0, 1) := dk_3 (dk_at dksX3_init_8 3 rfl rfl)
theorem dX3_init_192 : decode cX3_init 192 = .ok (.iastore, 1) := dk_79 (dk_at dksX3_init_8 4 rfl rfl)
theorem dX3_init_193 : decode cX3_init 193 = .ok (.dup, 1) := dk_89 (dk_at dksX3_init_8 5 rfl rfl)
theorem dX3_init_194 : decode cX3_init 194 = .ok (.bipush 9, 2) := dk_16 9 (dk_at dksX3_init_8 6 rfl rfl)
theorem dX3_init_196 : decode cX3_init 196 = .ok (.iconst 2, 1) := dk_5 (dk_at dksX3_init_8 8 rfl rfl)
theorem dX3_init_197 : decode cX3_init 197 = .ok (.iastore, 1) := dk_79 (dk_at dksX3_init_8 9 rfl rfl)
theorem dX3_init_198 : decode cX3_init 198 = .ok (.dup, 1) := dk_89 (dk_at dksX3_init_8 10 rfl rfl)
theorem dX3_init_199 : decode cX3_init 199 = .ok (.bipush 10, 2) := dk_16 10 (dk_at dksX3_init_8 11 rfl rfl)
theorem dX3_init_201 : decode cX3_init 201 = .ok (.iconst 1, 1) := dk_4 (dk_at dksX3_init_8 13 rfl rfl)
theorem dX3_init_202 : decode cX3_init 202 = .ok (.iastore, 1) := dk_79 (dk_at dksX3_init_8 14 rfl rfl)
theorem dX3_init_203 : decode cX3_init 203 = .ok (.dup, 1) := dk_89 (dk_at dksX3_init_8 15 rfl rfl)
theorem dX3_init_204 : decode cX3_init 204 = .ok (.bipush 11, 2) := dk_16 11 (dk_at dksX3_init_8 16 rfl rfl)
theorem dX3_init_206 : decode cX3_init 206 = .ok (.bipush 14, 2) := dk_16 14 (dk_at dksX3_init_8 18 rfl rfl)
theorem dX3_init_208 : decode cX3_init 208 = .ok (.iastore, 1) := dk_79 (dk_at dksX3_init_8 20 rfl rfl)
theorem dX3_init_209 : decode cX3_init 209 = .ok (.dup, 1) := dk_89 (dk_at dksX3_init_8 21 rfl rfl)
theorem dX3_init_210 : decode cX3_init 210 = .ok (.bipush 12, 2) := dk_16 12 (dk_at dksX3_init_8 22 rfl rfl)
theorem dX3_init_212 : decode cX3_init 212 = .ok (.iconst 4, 1) := dk_7 (dk_at dksX3_init_9 0 rfl rfl)
theorem dX3_init_213 : decode cX3_init 213 = .ok (.iastore, 1) := dk_79 (dk_at dksX3_init_9 1 rfl rfl)
theorem dX3_init_214 : decode cX3_init 214 = .ok (.dup, 1) := dk_89 (dk_at dksX3_init_9 2 rfl rfl)
theorem dX3_init_215 : decode cX3_init 215 = .ok (.bipush 13, 2) := dk_16 13 (dk_at dksX3_init_9 3 rfl rfl)
theorem dX3_init_217 : decode cX3_init 217 = .ok (.iconst 0, 1) := dk_3 (dk_at dksX3_init_9 5 rfl rfl)
theorem dX3_init_218 : decode cX3_init 218 = .ok (.iastore, 1) := dk_79 (dk_at dksX3_init_9 6 rfl rfl)
theorem dX3_init_219 : decode cX3_init 219 = .ok (.dup, 1) := dk_89 (dk_at dksX3_init_9 7 rfl rfl)
theorem dX3_init_220 : decode cX3_init 220 = .ok (.bipush 14, 2) := dk_16 14 (dk_at dksX3_init_9 8 rfl rfl)
theorem dX3_init_222 : decode cX3_init 222 = .ok (.bipush 12, 2) := dk_16 12 (dk_at dksX3_init_9 10 rfl rfl)
theorem dX3_init_224 : decode cX3_init 224 = .ok (.iastore, 1) := dk_79 (dk_at dksX3_init_9 12 rfl rfl)
theorem dX3_init_225 : decode cX3_init 225 = .ok (.dup, 1) := dk_89 (dk_at dksX3_init_9 13 rfl rfl)
theorem dX3_init_226 : decode cX3_init 226 = .ok (.bipush 15, 2) := dk_16 15 (dk_at dksX3_init_9 14 rfl rfl)
theorem dX3_init_228 : decode cX3_init 228 = .ok (.bipush 15, 2) := dk_16 15 (dk_at dksX3_init_9 16 rfl rfl)
theorem dX3_init_230 : decode cX3_init 230 = .ok (.iastore, 1) := dk_79 (dk_at dksX3_init_9 18 rfl rfl)
theorem dX3_init_231 : decode cX3_init 231 = .ok (.dup, 1) := dk_89 (dk_at dksX3_init_9 19 rfl rfl)
theorem dX3_init_232 : decode cX3_init 232 = .ok (.bipush 16, 2) := dk_16 16 (dk_at dksX3_init_9 20 rfl rfl)
theorem dX3_init_234 : decode cX3_init 234 = .ok (.bipush 15, 2) := dk_16 15 (dk_at dksX3_init_9 22 rfl rfl)
theorem dX3_init_236 : decode cX3_init 236 = .ok (.iastore, 1) := dk_79 (dk_at dksX3_init_10 0 rfl rfl)
theorem dX3_init_237 : decode cX3_init 237 = .ok (.dup, 1) := dk_89 (dk_at dksX3_init_10 1 rfl rfl)
theorem dX3_init_238 : decode cX3_init 238 = .ok (.bipush 17, 2) := dk_16 17 (dk_at dksX3_init_10 2 rfl rfl)
theorem dX3_init_240 : decode cX3_init 240 = .ok (.bipush 19, 2) := dk_16 19 (dk_at dksX3_init_10 4 rfl rfl)
theorem dX3_init_242 : decode cX3_init 242 = .ok (.iastore, 1) := dk_79 (dk_at dksX3_init_10 6 rfl rfl)
theorem dX3_init_243 : decode cX3_init 243 = .ok (.dup, 1) := dk_89 (dk_at dksX3_init_10 7 rfl rfl)
theorem dX3_init_244 : decode cX3_init 244 = .ok (.bipush 18, 2) := dk_16 18 (dk_at dksX3_init_10 8 rfl rfl)
theorem dX3_init_246 : decode cX3_init 246 = .ok (.iconst 5, 1) := dk_8 (dk_at dksX3_init_10 10 rfl rfl)
theorem dX3_init_247 : decode cX3_init 247 = .ok (.iastore, 1) := dk_79 (dk_at dksX3_init_10 11 rfl rfl)
theorem dX3_init_248 : decode cX3_init 248 = .ok (.dup, 1) := dk_89 (dk_at dksX3_init_10 12 rfl rfl)
theorem dX3_init_249 : decode cX3_init 249 = .ok (.bipush 19, 2) := dk_16 19 (dk_at dksX3_init_10 13 rfl rfl)
theorem dX3_init_251 : decode cX3_init 251 = .ok (.iconst 0, 1) := dk_3 (dk_at dksX3_init_10 15 rfl rfl)
theorem dX3_init_252 : decode cX3_init 252 = .ok (.iastore, 1) := dk_79 (dk_at dksX3_init_10 16 rfl rfl)
theorem dX3_init_253 : decode cX3_init 253 = .ok (.dup, 1) := dk_89 (dk_at dksX3_init_10 17 rfl rfl)
theorem dX3_init_254 : decode cX3_init 254 = .ok (.bipush 20, 2) := dk_16 20 (dk_at dksX3_init_10 18 rfl rfl)
theorem dX3_init_256 : decode cX3_init 256 = .ok (.bipush 20, 2) := dk_16 20 (dk_at dksX3_init_10 20 rfl rfl)
theorem dX3_init_258 : decode cX3_init 258 = .ok (.iastore, 1) := dk_79 (dk_at dksX3_init_10 22 rfl rfl)
theorem dX3_init_259 : decode cX3_init 259 = .ok (.dup, 1) := dk_89 (dk_at dksX3_init_10 23 rfl rfl)
theorem dX3_init_260 : decode cX3_init 260 = .ok (.bipush 21, 2) := dk_16 21 (dk_at dksX3_init_11 0 rfl rfl)
theorem dX3_init_262 : decode cX3_init 262 = .ok (.bipush 21, 2) := dk_16 21 (dk_at dksX3_init_11 2 rfl rfl)
theorem dX3_init_264 : decode cX3_init 264 = .ok (.iastore, 1) := dk_79 (dk_at dksX3_init_11 4 rfl rfl)
theorem dX3_init_265 : decode cX3_init 265 = .ok (.dup, 1) := dk_89 (dk_at dksX3_init_11 5 rfl rfl)
theorem dX3_init_266 : decode cX3_init 266 = .ok (.bipush 22, 2) := dk_16 22 (dk_at dksX3_init_11 6 rfl rfl)
theorem dX3_init_268 : decode cX3_init 268 = .ok (.bipush 18, 2) := dk_16 18 (dk_at dksX3_init_11 8 rfl rfl)
theorem dX3_init_270 : decode cX3_init 270 = .ok (.iastore, 1) := dk_79 (dk_at dksX3_init_11 10 rfl rfl)
theorem dX3_init_271 : decode cX3_init 271 = .ok (.dup, 1) := dk_89 (dk_at dksX3_init_11 11 rfl rfl)
theorem dX3_init_272 : decode cX3_init 272 = .ok (.bipush 23, 2) := dk_16 23 (dk_at dksX3_init_11 12 rfl rfl)
theorem dX3_init_274 : decode cX3_init 274 = .ok (.bipush 14, 2) := dk_16 14 (dk_at dksX3_init_11 14 rfl rfl)
theorem dX3_init_276 : decode cX3_init 276 = .ok (.iastore, 1) := dk_79 (dk_at dksX3_init_11 16 rfl rfl)
theorem dX3_init_277 : decode cX3_init 277 = .ok (.dup, 1) := dk_89 (dk_at dksX3_init_11 17 rfl rfl)
theorem dX3_init_278 : decode cX3_init 278 = .ok (.bipush 24, 2) := dk_16 24 (dk_at dksX3_init_11 18 rfl rfl)
theorem dX3_init_280 : decode cX3_init 280 = .ok (.iconst 0, 1) := dk_3 (dk_at dksX3_init_11 20 rfl rfl)
theorem dX3_init_281 : decode cX3_init 281 = .ok (.iastore, 1) := dk_79 (dk_at dksX3_init_11 21 rfl rfl)
theorem dX3_init_282 : decode cX3_init 282 = .ok (.dup, 1) := dk_89 (dk_at dksX3_init_11 22 rfl rfl)
theorem dX3_init_283 : decode cX3_init 283 = .ok (.bipush 25, 2) := dk_16 25 (dk_at dksX3_init_12 0 rfl rfl)
theorem dX3_init_285 : decode cX3_init 285 = .ok (.bipush 13, 2) := dk_16 13 (dk_at dksX3_init_12 2 rfl rfl)
theorem dX3_init_287 : decode cX3_init 287 = .ok (.iastore, 1) := dk_79 (dk_at dksX3_init_12 4 rfl rfl)
theorem dX3_init_288 : decode cX3_init 288 = .ok (.dup, 1) := dk_89 (dk_at dksX3_init_12 5 rfl rfl)
theorem dX3_init_289 : decode cX3_init 289 = .ok (.bipush 26, 2) := dk_16 26 (dk_at dksX3_init_12 6 rfl rfl)
theorem dX3_init_291 : decode cX3_init 291 = .ok (.iconst 1, 1) := dk_4 (dk_at dksX3_init_12 8 rfl rfl)
theorem dX3_init_292 : decode cX3_init 292 = .ok (.iastore, 1) := dk_79 (dk_at dksX3_init_12 9 rfl rfl)
theorem dX3_init_293 : decode cX3_init 293 = .ok (.dup, 1) := dk_89 (dk_at dksX3_init_12 10 rfl rfl)
theorem dX3_init_294 : decode cX3_init 294 = .ok (.bipush 27, 2) := dk_16 27 (dk_at dksX3_init_12 11 rfl rfl)
theorem dX3_init_296 : decode cX3_init 296 = .ok (.bipush 18, 2) := dk_16 18 (dk_at dksX3_init_12 13 rfl rfl)
theorem dX3_init_298 : decode cX3_init 298 = .ok (.iastore, 1) := dk_79 (dk_at dksX3_init_12 15 rfl rfl)
theorem dX3_init_299 : decode cX3_init 299 = .ok (.dup, 1) := dk_89 (dk_at dksX3_init_12 16 rfl rfl)
theorem dX3_init_300 : decode cX3_init 300 = .ok (.bipush 28, 2) := dk_16 28 (dk_at dksX3_init_12 17 rfl rfl)
theorem dX3_init_302 : decode cX3_init 302 = .ok (.bipush 7, 2) := dk_16 7 (dk_at dksX3_init_12 19 rfl rfl)
theorem dX3_init_304 : decode cX3_init 304 = .ok (.iastore, 1) := dk_79 (dk_at dksX3_init_12 21 rfl rfl)
theorem dX3_init_305 : decode cX3_init 305 = .ok (.dup, 1) := dk_89 (dk_at dksX3_init_12 22 rfl rfl)
theorem dX3_init_306 : decode cX3_init 306 = .ok (.bipush 29, 2) := dk_16 29 (dk_at dksX3_init_13 0 rfl rfl)
theorem dX3_init_308 : decode cX3_init 308 = .ok (.bipush 9, 2) := dk_16 9 (dk_at dksX3_init_13 2 rfl rfl)
theorem dX3_init_310 : decode cX3_init 310 = .ok (.iastore, 1) := dk_79 (dk_at dksX3_init_13 4 rfl rfl)
theorem dX3_init_311 : decode cX3_init 311 = .ok (.dup, 1) := dk_89 (dk_at dksX3_init_13 5 rfl rfl)
theorem dX3_init_312 : decode cX3_init 312 = .ok (.bipush 30, 2) := dk_16 30 (dk_at dksX3_init_13 6 rfl rfl)
theorem dX3_init_314 : decode cX3_init 314 = .ok (.bipush 14, 2) := dk_16 14 (dk_at dksX3_init_13 8 rfl rfl)
theorem dX3_init_316 : decode cX3_init 316 = .ok (.iastore, 1) := dk_79 (dk_at dksX3_init_13 10 rfl rfl)
theorem dX3_init_317 : decode cX3_init 317 = .ok (.dup, 1) := dk_89 (dk_at dksX3_init_13 11 rfl rfl)
theorem dX3_init_318 : decode cX3_init 318 = .ok (.bipush 31, 2) := dk_16 31 (dk_at dksX3_init_13 12 rfl rfl)
theorem dX3_init_320 : decode cX3_init 320 = .ok (.iconst 0, 1) := dk_3 (dk_at dksX3_init_13 14 rfl rfl)
theorem dX3_init_321 : decode cX3_init 321 = .ok (.iastore, 1) := dk_79 (dk_at dksX3_init_13 15 rfl rfl)
theorem dX3_init_322 : decode cX3_init 322 = .ok (.dup, 1) := dk_89 (dk_at dksX3_init_13 16 rfl rfl)
theorem dX3_init_323 : decode cX3_init 323 = .ok (.bipush 32, 2) := dk_16 32 (dk_at dksX3_init_13 17 rfl rfl)
theorem dX3_init_325 : decode cX3_init 325 = .ok (.bipush 16, 2) := dk_16 16 (dk_at dksX3_init_13 19 rfl rfl)
theorem dX3_init_327 : decode cX3_init 327 = .ok (.iastore, 1) := dk_79 (dk_at dksX3_init_13 21 rfl rfl)
theorem dX3_init_328 : decode cX3_init 328 = .ok (.dup, 1) := dk_89 (dk_at dksX3_init_13 22 rfl rfl)
theorem dX3_init_329 : decode cX3_init 329 = .ok (.bipush 33, 2) := dk_16 33 (dk_at dksX3_init_14 0 rfl rfl)
theorem dX3_init_331 : decode cX3_init 331 = .ok (.bipush 12, 2) := dk_16 12 (dk_at dksX3_init_14 2 rfl rfl)
theorem dX3_init_333 : decode cX3_init 333 = .ok (.iastore, 1) := dk_79 (dk_at dksX3_init_14 4 rfl rfl)
theorem dX3_init_334 : decode cX3_init 334 = .ok (.dup, 1) := dk_89 (dk_at dksX3_init_14 5 rfl rfl)
theorem dX3_init_335 : decode cX3_init 335 = .ok (.bipush 34, 2) := dk_16 34 (dk_at dksX3_init_14 6 rfl rfl)
theorem dX3_init_337 : decode cX3_init 337 = .ok (.iconst 1, 1) := dk_4 (dk_at dksX3_init_14 8 rfl rfl)
theorem dX3_init_338 : decode cX3_init 338 = .ok (.iastore, 1) := dk_79 (dk_at dksX3_init_14 9 rfl rfl)
theorem dX3_init_339 : decode cX3_init 339 = .ok (.dup, 1) := dk_89 (dk_at dksX3_init_14 10 rfl rfl)
theorem dX3_init_340 : decode cX3_init 340 = .ok (.bipush 35, 2) := dk_16 35 (dk_at dksX3_init_14 11 rfl rfl)
theorem dX3_init_342 : decode cX3_init 342 = .ok (.iconst 3, 1) := dk_6 (dk_at dksX3_init_14 13 rfl rfl)
theorem dX3_init_343 : decode cX3_init 343 = .ok (.iastore, 1) := dk_79 (dk_at dksX3_init_14 14 rfl rfl)
theorem dX3_init_344 : decode cX3_init 344 = .ok (.dup, 1) := dk_89 (dk_at dksX3_init_14 15 rfl rfl)
theorem dX3_init_345 : decode cX3_init 345 = .ok (.bipush 36, 2) := dk_16 36 (dk_at dksX3_init_14 16 rfl rfl)
theorem dX3_init_347 : decode cX3_init 347 = .ok (.iconst 5, 1) := dk_8 (dk_at dksX3_init_14 18 rfl rfl)
theorem dX3_init_348 : decode cX3_init 348 = .ok (.iastore, 1) := dk_79 (dk_at dksX3_init_14 19 rfl rfl)
theorem dX3_init_349 : decode cX3_init 349 = .ok (.dup, 1) := dk_89 (dk_at dksX3_init_14 20 rfl rfl)
theorem dX3_init_350 : decode cX3_init 350 = .ok (.bipush 37, 2) := dk_16 37 (dk_at dksX3_init_14 21 rfl rfl)
theorem dX3_init_352 : decode cX3_init 352 = .ok (.iconst 0, 1) := dk_3 (dk_at dksX3_init_14 23 rfl rfl)
theorem dX3_init_353 : decode cX3_init 353 = .ok (.iastore, 1) := dk_79 (dk_at dksX3_init_15 0 rfl rfl)
theorem dX3_init_354 : decode cX3_init 354 = .ok (.dup, 1) := dk_89 (dk_at dksX3_init_15 1 rfl rfl)
theorem dX3_init_355 : decode cX3_init 355 = .ok (.bipush 38, 2) := dk_16 38 (dk_at dksX3_init_15 2 rfl rfl)
theorem dX3_init_357 : decode cX3_init 357 = .ok (.bipush 12, 2) := dk_16 12 (dk_at dksX3_init_15 4 rfl rfl)
theorem dX3_init_359 : decode cX3_init 359 = .ok (.iastore, 1) := dk_79 (dk_at dksX3_init_15 6 rfl rfl)
theorem dX3_init_360 : decode cX3_init 360 = .ok (.dup, 1) := dk_89 (dk_at dksX3_init_15 7 rfl rfl)
theorem dX3_init_361 : decode cX3_init 361 = .ok (.bipush 39, 2) := dk_16 39 (dk_at dksX3_init_15 8 rfl rfl)
theorem dX3_init_363 : decode cX3_init 363 = .ok (.iconst 5, 1) := dk_8 (dk_at dksX3_init_15 10 rfl rfl)
theorem dX3_init_364 : decode cX3_init 364 = .ok (.iastore, 1) := dk_79 (dk_at dksX3_init_15 11 rfl rfl)
theorem dX3_init_365 : decode cX3_init 365 = .ok (.dup, 1) := dk_89 (dk_at dksX3_init_15 12 rfl rfl)
theorem dX3_init_366 : decode cX3_init 366 = .ok (.bipush 40, 2) := dk_16 40 (dk_at dksX3_init_15 13 rfl rfl)
theorem dX3_init_368 : decode cX3_init 368 = .ok (.bipush 20, 2) := dk_16 20 (dk_at dksX3_init_15 15 rfl rfl)
theorem dX3_init_370 : decode cX3_init 370 = .ok (.iastore, 1) := dk_79 (dk_at dksX3_init_15 17 rfl rfl)
theorem dX3_init_371 : decode cX3_init 371 = .ok (.dup, 1) := dk_89 (dk_at dksX3_init_15 18 rfl rfl)
theorem dX3_init_372 : decode cX3_init 372 = .ok (.bipush 41, 2) := dk_16 41 (dk_at dksX3_init_15 19 rfl rfl)
theorem dX3_init_374 : decode cX3_init 374 = .ok (.bipush 20, 2) := dk_16 20 (dk_at dksX3_init_15 21 rfl rfl)
theorem dX3_init_376 : decode cX3_init 376 = .ok (.iastore, 1) := dk_79 (dk_at dksX3_init_15 23 rfl rfl)
theorem dX3_init_377 : decode cX3_init 377 = .ok (.dup, 1) := dk_89 (dk_at dksX3_init_16 0 rfl rfl)
theorem dX3_init_378 : decode cX3_init 378 = .ok (.bipush 42, 2) := dk_16 42 (dk_at dksX3_init_16 1 rfl rfl)
theorem dX3_init_380 : decode cX3_init 380 = .ok (.iconst 5, 1) := dk_8 (dk_at dksX3_init_16 3 rfl rfl)
theorem dX3_init_381 : decode cX3_init 381 = .ok (.iastore, 1) := dk_79 (dk_at dksX3_init_16 4 rfl rfl)
theorem dX3_init_382 : decode cX3_init 382 = .ok (.dup, 1) := dk_89 (dk_at dksX3_init_16 5 rfl rfl)
theorem dX3_init_383 : decode cX3_init 383 = .ok (.bipush 43, 2) := dk_16 43 (dk_at dksX3_init_16 6 rfl rfl)
theorem dX3_init_385 : decode cX3_init 385 = .ok (.bipush 18, 2) := dk_16 18 (dk_at dksX3_init_16 8 rfl rfl)
theorem dX3_init_387 : decode cX3_init 387 = .ok (.iastore, 1) := dk_79 (dk_at dksX3_init_16 10 rfl rfl)
theorem dX3_init_388 : decode cX3_init 388 = .ok (.dup, 1) := dk_89 (dk_at dksX3_init_16 11 rfl rfl)
theorem dX3_init_389 : decode cX3_init 389 = .ok (.bipush 44, 2) := dk_16 44 (dk_at dksX3_init_16 12 rfl rfl)
theorem dX3_init_391 : decode cX3_init 391 = .ok (.iconst 0, 1) := dk_3 (dk_at dksX3_init_16 14 rfl rfl)
theorem dX3_init_392 : decode cX3_init 392 = .ok (.iastore, 1) := dk_79 (dk_at dksX3_init_16 15 rfl rfl)
theorem dX3_init_393 : decode cX3_init 393 = .ok (.dup, 1) := dk_89 (dk_at dksX3_init_16 16 rfl rfl)
theorem dX3_init_394 : decode cX3_init 394 = .ok (.bipush 45, 2) := dk_16 45 (dk_at dksX3_init_16 17 rfl rfl)
theorem dX3_init_396 : decode cX3_init 396 = .ok (.bipush 9, 2) := dk_16 9 (dk_at dksX3_init_16 19 rfl rfl)
theorem dX3_init_398 : decode cX3_init 398 = .ok (.iastore, 1) := dk_79 (dk_at dksX3_init_16 21 rfl rfl)
theorem dX3_init_399 : decode cX3_init 399 = .ok (.dup, 1) := dk_89 (dk_at dksX3_init_16 22 rfl rfl)
theorem dX3_init_400 : decode cX3_init 400 = .ok (.bipush 46, 2) := dk_16 46 (dk_at dksX3_init_17 0 rfl rfl)
theorem dX3_init_402 : decode cX3_init 402 = .ok (.bipush 14, 2) := dk_16 14 (dk_at dksX3_init_17 2 rfl rfl)
theorem dX3_init_404 : decode cX3_init 404 = .ok (.iastore, 1) := dk_79 (dk_at dksX3_init_17 4 rfl rfl)
theorem dX3_init_405 : decode cX3_init 405 = .ok (.dup, 1) := dk_89 (dk_at dksX3_init_17 5 rfl rfl)
theorem dX3_init_406 : decode cX3_init 406 = .ok (.bipush 47, 2) := dk_16 47 (dk_at dksX3_init_17 6 rfl rfl)
theorem dX3_init_408 : decode cX3_init 408 = .ok (.bipush 11, 2) := dk_16 11 (dk_at dksX3_init_17 8 rfl rfl)
theorem dX3_init_410 : decode cX3_init 410 = .ok (.iastore, 1) := dk_79 (dk_at dksX3_init_17 10 rfl rfl)
theorem dX3_init_411 : decode cX3_init 411 = .ok (.dup, 1) := dk_89 (dk_at dksX3_init_17 11 rfl rfl)
theorem dX3_init_412 : decode cX3_init 412 = .ok (.bipush 48, 2) := dk_16 48 (dk_at dksX3_init_17 12 rfl rfl)
theorem dX3_init_414 : decode cX3_init 414 = .ok (.iconst 0, 1) := dk_3 (dk_at dksX3_init_17 14 rfl rfl)
theorem dX3_init_415 : decode cX3_init 415 = .ok (.iastore, 1) := dk_79 (dk_at dksX3_init_17 15 rfl rfl)
theorem dX3_init_416 : decode cX3_init 416 = .ok (.dup, 1) := dk_89 (dk_at dksX3_init_17 16 rfl rfl)
theorem dX3_init_417 : decode cX3_init 417 = .ok (.bipush 49, 2) := dk_16 49 (dk_at dksX3_init_17 17 rfl rfl)
theorem dX3_init_419 : decode cX3_init 419 = .ok (.bipush 19, 2) := dk_16 19 (dk_at dksX3_init_17 19 rfl rfl)
theorem dX3_init_421 : decode cX3_init 421 = .ok (.iastore, 1) := dk_79 (dk_at dksX3_init_17 21 rfl rfl)
theorem dX3_init_422 : decode cX3_init 422 = .ok (.dup, 1) := dk_89 (dk_at dksX3_init_17 22 rfl rfl)
theorem dX3_init_423 : decode cX3_init 423 = .ok (.bipush 50, 2) := dk_16 50 (dk_at dksX3_init_18 0 rfl rfl)
theorem dX3_init_425 : decode cX3_init 425 = .ok (.bipush 20, 2) := dk_16 20 (dk_at dksX3_init_18 2 rfl rfl)
theorem dX3_init_427 : decode cX3_init 427 = .ok (.iastore, 1) := dk_79 (dk_at dksX3_init_18 4 rfl rfl)
theorem dX3_init_428 : decode cX3_init 428 = .ok (.dup, 1) := dk_89 (dk_at dksX3_init_18 5 rfl rfl)
theorem dX3_init_429 : decode cX3_init 429 = .ok (.bipush 51, 2) := dk_16 51 (dk_at dksX3_init_18 6 rfl rfl)
theorem dX3_init_431 : decode cX3_init 431 = .ok (.bipush 18, 2) := dk_16 18 (dk_at dksX3_init_18 8 rfl rfl)
theorem dX3_init_433 : decode cX3_init 433 = .ok (.iastore, 1) := dk_79 (dk_at dksX3_init_18 10 rfl rfl)
theorem dX3_init_434 : decode cX3_init 434 = .ok (.dup, 1) := dk_89 (dk_at dksX3_init_18 11 rfl rfl)
theorem dX3_init_435 : decode cX3_init 435 = .ok (.bipush 52, 2) := dk_16 52 (dk_at dksX3_init_18 12 rfl rfl)
theorem dX3_init_437 : decode cX3_init 437 = .ok (.bipush 15, 2) := dk_16 15 (dk_at dksX3_init_18 14 rfl rfl)
theorem dX3_init_439 : decode cX3_init 439 = .ok (.iastore, 1) := dk_79 (dk_at dksX3_init_18 16 rfl rfl)
theorem dX3_init_440 : decode cX3_init 440 = .ok (.dup, 1) := dk_89 (dk_at dksX3_init_18 17 rfl rfl)
theorem dX3_init_441 : decode cX3_init 441 = .ok (.bipush 53, 2) := dk_16 53 (dk_at dksX3_init_18 18 rfl rfl)
theorem dX3_init_443 : decode cX3_init 443 = .ok (.bipush 11, 2) := dk_16 11 (dk_at dksX3_init_18 20 rfl rfl)
theorem dX3_init_445 : decode cX3_init 445 = .ok (.iastore, 1) := dk_79 (dk_at dksX3_init_18 22 rfl rfl)
theorem dX3_init_446 : decode cX3_init 446 = .ok (.dup, 1) := dk_89 (dk_at dksX3_init_18 23 rfl rfl)
theorem dX3_init_447 : decode cX3_init 447 = .ok (.bipush 54, 2) := dk_16 54 (dk_at dksX3_init_19 0 rfl rfl)
theorem dX3_init_449 : decode cX3_init 449 = .ok (.iconst 5, 1) := dk_8 (dk_at dksX3_init_19 2 rfl rfl)
theorem dX3_init_450 : decode cX3_init 450 = .ok (.iastore, 1) := dk_79 (dk_at dksX3_init_19 3 rfl rfl)
theorem dX3_init_451 : decode cX3_init 451 = .ok (.dup, 1) := dk_89 (dk_at dksX3_init_19 4 rfl rfl)
theorem dX3_init_452 : decode cX3_init 452 = .ok (.bipush 55, 2) := dk_16 55 (dk_at dksX3_init_19 5 rfl rfl)
theorem dX3_init_454 : decode cX3_init 454 = .ok (.iconst 0, 1) := dk_3 (dk_at dksX3_init_19 7 rfl rfl)
theorem dX3_init_455 : decode cX3_init 455 = .ok (.iastore, 1) := dk_79 (dk_at dksX3_init_19 8 rfl rfl)
theorem dX3_init_456 : decode cX3_init 456 = .ok (.putfield 74, 3) := dk_181 0 74 (dk_at dksX3_init_19 9 rfl rfl)
theorem dX3_init_459 : decode cX3_init 459 = .ok (.aload_n 0, 1) := dk_42 (dk_at dksX3_init_19 12 rfl rfl)
theorem dX3_init_460 : decode cX3_init 460 = .ok (.sipush 1664, 3) := dk_17 6 128 (dk_at dksX3_init_19 13 rfl rfl)
theorem dX3_init_463 : decode cX3_init 463 = .ok (.newarray .int, 2) := dk_188_10 (dk_at dksX3_init_19 16 rfl rfl)
theorem dX3_init_465 : decode cX3_init 465 = .ok (.putfield 77, 3) := dk_181 0 77 (dk_at dksX3_init_19 18 rfl rfl)
theorem dX3_init_468 : decode cX3_init 468 = .ok (.aload_n 0, 1) := dk_42 (dk_at dksX3_init_19 21 rfl rfl)
theorem dX3_init_469 : decode cX3_init 469 = .ok (.sipush 256, 3) := dk_17 1 0 (dk_at dksX3_init_20 0 rfl rfl)
theorem dX3_init_472 : decode cX3_init 472 = .ok (.newarray .int, 2) := dk_188_10 (dk_at dksX3_init_20 3 rfl rfl)
theorem dX3_init_474 : decode cX3_init 474 = .ok (.putfield 80, 3) := dk_181 0 80 (dk_at dksX3_init_20 5 rfl rfl)
theorem dX3_init_477 : decode cX3_init 477 = .ok (.aload_n 0, 1) := dk_42 (dk_at dksX3_init_20 8 rfl rfl)
theorem dX3_init_478 : decode cX3_init 478 = .ok (.iconst 0, 1) := dk_3 (dk_at dksX3_init_20 9 rfl rfl)
theorem dX3_init_479 : decode cX3_init 479 = .ok (.putfield 83, 3) := dk_181 0 83 (dk_at dksX3_init_20 10 rfl rfl)
theorem dX3_init_482 : decode cX3_init 482 = .ok (.aload_n 0, 1) := dk_42 (dk_at dksX3_init_20 13 rfl rfl)
theorem dX3_init_483 : decode cX3_init 483 = .ok (.iconst 0, 1) := dk_3 (dk_at dksX3_init_20 14 rfl rfl)
theorem dX3_init_484 : decode cX3_init 484 = .ok (.putfield 86, 3) := dk_181 0 86 (dk_at dksX3_init_20 15 rfl rfl)
theorem dX3_init_487 : decode cX3_init 487 = .ok (.aload_n 0, 1) := dk_42 (dk_at dksX3_init_20 18 rfl rfl)
theorem dX3_init_488 : decode cX3_init 488 = .ok (.bipush 64, 2) := dk_16 64 (dk_at dksX3_init_20 19 rfl rfl)
theorem dX3_init_490 : decode cX3_init 490 = .ok (.newarray .int, 2) := dk_188_10 (dk_at dksX3_init_20 21 rfl rfl)
theorem dX3_init_492 : decode cX3_init 492 = .ok (.putfield 89, 3) := dk_181 0 89 (dk_at dksX3_init_21 0 rfl rfl)
theorem dX3_init_495 : decode cX3_init 495 = .ok (.aload_n 0, 1) := dk_42 (dk_at dksX3_init_21 3 rfl rfl)
theorem dX3_init_496 : decode cX3_init 496 = .ok (.bipush 64, 2) := dk_16 64 (dk_at dksX3_init_21 4 rfl rfl)
theorem dX3_init_498 : decode cX3_init 498 = .ok (.newarray .int, 2) := dk_188_10 (dk_at dksX3_init_21 6 rfl rfl)
theorem dX3_init_500 : decode cX3_init 500 = .ok (.putfield 92, 3) := dk_181 0 92 (dk_at dksX3_init_21 8 rfl rfl)
theorem dX3_init_503 : decode cX3_init 503 = .ok (.aload_n 0, 1) := dk_42 (dk_at dksX3_init_21 11 rfl rfl)
theorem dX3_init_504 : decode cX3_init 504 = .ok (.bipush 64, 2) := dk_16 64 (dk_at dksX3_init_21 12 rfl rfl)
theorem dX3_init_506 : decode cX3_init 506 = .ok (.newarray .int, 2) := dk_188_10 (dk_at dksX3_init_21 14 rfl rfl)
theorem dX3_init_508 : decode cX3_init 508 = .ok (.putfield 95, 3) := dk_181 0 95 (dk_at dksX3_init_21 16 rfl rfl)
theorem dX3_init_511 : decode cX3_init 511 = .ok (.aload_n 0, 1) := dk_42 (dk_at dksX3_init_21 19 rfl rfl)
theorem dX3_init_512 : decode cX3_init 512 = .ok (.sipush 2304, 3) := dk_17 9 0 (dk_at dksX3_init_21 20 rfl rfl)
theorem dX3_init_515 : decode cX3_init 515 = .ok (.newarray .int, 2) := dk_188_10 (dk_at dksX3_init_22 0 rfl rfl)
theorem dX3_init_517 : decode cX3_init 517 = .ok (.putfield 98, 3) := dk_181 0 98 (dk_at dksX3_init_22 2 rfl rfl)
theorem dX3_init_520 : decode cX3_init 520 = .ok (.aload_n 0, 1) := dk_42 (dk_at dksX3_init_22 5 rfl rfl)
theorem dX3_init_521 : decode cX3_init 521 = .ok (.bipush 8, 2) := dk_16 8 (dk_at dksX3_init_22 6 rfl rfl)
theorem dX3_init_523 : decode cX3_init 523 = .ok (.newarray .int, 2) := dk_188_10 (dk_at dksX3_init_22 8 rfl rfl)
theorem dX3_init_525 : decode cX3_init 525 = .ok (.putfield 101, 3) := dk_181 0 101 (dk_at dksX3_init_22 10 rfl rfl)
theorem dX3_init_528 : decode cX3_init 528 = .ok (.aload_n 0, 1) := dk_42 (dk_at dksX3_init_22 13 rfl rfl)
theorem dX3_init_529 : decode cX3_init 529 = .ok (.bipush 8, 2) := dk_16 8 (dk_at dksX3_init_22 14 rfl rfl)
theorem dX3_init_531 : decode cX3_init 531 = .ok (.newarray .int, 2) := dk_188_10 (dk_at dksX3_init_22 16 rfl rfl)
theorem dX3_init_533 : decode cX3_init 533 = .ok (.putfield 104, 3) := dk_181 0 104 (dk_at dksX3_init_22 18 rfl rfl)
theorem dX3_init_536 : decode cX3_init 536 = .ok (.aload_n 0, 1) := dk_42 (dk_at dksX3_init_22 21 rfl rfl)
theorem dX3_init_537 : decode cX3_init 537 = .ok (.bipush 9, 2) := dk_16 9 (dk_at dksX3_init_22 22 rfl rfl)
theorem dX3_init_539 : decode cX3_init 539 = .ok (.newarray .int, 2) := dk_188_10 (dk_at dksX3_init_23 0 rfl rfl)
theorem dX3_init_541 : decode cX3_init 541 = .ok (.putfield 107, 3) := dk_181 0 107 (dk_at dksX3_init_23 2 rfl rfl)
theorem dX3_init_544 : decode cX3_init 544 = .ok (.aload_n 0, 1) := dk_42 (dk_at dksX3_init_23 5 rfl rfl)
theorem dX3_init_545 : decode cX3_init 545 = .ok (.bipush 9, 2) := dk_16 9 (dk_at dksX3_init_23 6 rfl rfl)
theorem dX3_init_547 : decode cX3_init 547 = .ok (.newarray .int, 2) := dk_188_10 (dk_at dksX3_init_23 8 rfl rfl)
theorem dX3_init_549 : decode cX3_init 549 = .ok (.putfield 110, 3) := dk_181 0 110 (dk_at dksX3_init_23 10 rfl rfl)
theorem dX3_init_552 : decode cX3_init 552 = .ok (.aload_n 0, 1) := dk_42 (dk_at dksX3_init_23 13 rfl rfl)
theorem dX3_init_553 : decode cX3_init 553 = .ok (.bipush 9, 2) := dk_16 9 (dk_at dksX3_init_23 14 rfl rfl)
theorem dX3_init_555 : decode cX3_init 555 = .ok (.newarray .int, 2) := dk_188_10 (dk_at dksX3_init_23 16 rfl rfl)
theorem dX3_init_557 : decode cX3_init 557 = .ok (.putfield 113, 3) := dk_181 0 113 (dk_at dksX3_init_23 18 rfl rfl)
theorem dX3_init_560 : decode cX3_init 560 = .ok (.aload_n 0, 1) := dk_42 (dk_at dksX3_init_23 21 rfl rfl)
theorem dX3_init_561 : decode cX3_init 561 = .ok (.bipush 9, 2) := dk_16 9 (dk_at dksX3_init_23 22 rfl rfl)
theorem dX3_init_563 : decode cX3_init 563 = .ok (.newarray .int, 2) := dk_188_10 (dk_at dksX3_init_24 0 rfl rfl)
theorem dX3_init_565 : decode cX3_init 565 = .ok (.putfield 116, 3) := dk_181 0 116 (dk_at dksX3_init_24 2 rfl rfl)
theorem dX3_init_568 : decode cX3_init 568 = .ok (.aload_n 0, 1) := dk_42 (dk_at dksX3_init_24 5 rfl rfl)
theorem dX3_init_569 : decode cX3_init 569 = .ok (.bipush 41, 2) := dk_16 41 (dk_at dksX3_init_24 6 rfl rfl)
theorem dX3_init_571 : decode cX3_init 571 = .ok (.newarray .int, 2) := dk_188_10 (dk_at dksX3_init_24 8 rfl rfl)
theorem dX3_init_573 : decode cX3_init 573 = .ok (.putfield 119, 3) := dk_181 0 119 (dk_at dksX3_init_24 10 rfl rfl)
theorem dX3_init_576 : decode cX3_init 576 = .ok (.aload_n 0, 1) := dk_42 (dk_at dksX3_init_24 13 rfl rfl)
theorem dX3_init_577 : decode cX3_init 577 = .ok (.bipush 41, 2) := dk_16 41 (dk_at dksX3_init_24 14 rfl rfl)
theorem dX3_init_579 : decode cX3_init 579 = .ok (.newarray .int, 2) := dk_188_10 (dk_at dksX3_init_24 16 rfl rfl)
theorem dX3_init_581 : decode cX3_init 581 = .ok (.putfield 122, 3) := dk_181 0 122 (dk_at dksX3_init_24 18 rfl rfl)
theorem dX3_init_584 : decode cX3_init 584 = .ok (.aload_n 0, 1) := dk_42 (dk_at dksX3_init_24 21 rfl rfl)
theorem dX3_init_585 : decode cX3_init 585 = .ok (.sipush 328, 3) := dk_17 1 72 (dk_at dksX3_init_25 0 rfl rfl)
theorem dX3_init_588 : decode cX3_init 588 = .ok (.newarray .int, 2) := dk_188_10 (dk_at dksX3_init_25 3 rfl rfl)
theorem dX3_init_590 : decode cX3_init 590 = .ok (.putfield 125, 3) := dk_181 0 125 (dk_at dksX3_init_25 5 rfl rfl)
theorem dX3_init_593 : decode cX3_init 593 = .ok (.aload_n 0, 1) := dk_42 (dk_at dksX3_init_25 8 rfl rfl)
theorem dX3_init_594 : decode cX3_init 594 = .ok (.sipush 202, 3) := dk_17 0 202 (dk_at dksX3_init_25 9 rfl rfl)
theorem dX3_init_597 : decode cX3_init 597 = .ok (.newarray .int, 2) := dk_188_10 (dk_at dksX3_init_25 12 rfl rfl)
theorem dX3_init_599 : decode cX3_init 599 = .ok (.putfield 128, 3) := dk_181 0 128 (dk_at dksX3_init_25 14 rfl rfl)
theorem dX3_init_602 : decode cX3_init 602 = .ok (.aload_n 0, 1) := dk_42 (dk_at dksX3_init_25 17 rfl rfl)
theorem dX3_init_603 : decode cX3_init 603 = .ok (.iconst 0, 1) := dk_3 (dk_at dksX3_init_25 18 rfl rfl)
theorem dX3_init_604 : decode cX3_init 604 = .ok (.putfield 131, 3) := dk_181 0 131 (dk_at dksX3_init_25 19 rfl rfl)
theorem dX3_init_607 : decode cX3_init 607 = .ok (.aload_n 0, 1) := dk_42 (dk_at dksX3_init_25 22 rfl rfl)
theorem dX3_init_608 : decode cX3_init 608 = .ok (.getfield 7, 3) := dk_180 0 7 (dk_at dksX3_init_26 0 rfl rfl)
theorem dX3_init_611 : decode cX3_init 611 = .ok (.invokestatic 134, 3) := dk_184 0 134 (dk_at dksX3_init_26 3 rfl rfl)
theorem dX3_init_614 : decode cX3_init 614 = .ok (.return_, 1) := dk_177 (dk_at dksX3_init_26 6 rfl rfl)
abbrev cX3_laysPlain : ByteArray := prog_12_method_6_code
def yX3_laysPlain : MethodName := ⟨RX3, "laysPlain", "([I)V"⟩
def dkwX3_laysPlain_2 : List UInt8 := [42, 17, 4, 22, 7, 79, 177]
abbrev dktX3_laysPlain_2 : List UInt8 := dkwX3_laysPlain_2 ++ []
def dkwX3_laysPlain_1 : List UInt8 := [16, 8, 79, 42, 17, 4, 19, 16, 16, 79, 42, 17, 4, 20, 16, 20, 79, 42, 17, 4, 21, 16, 6, 79]
abbrev dktX3_laysPlain_1 : List UInt8 := dkwX3_laysPlain_1 ++ dktX3_laysPlain_2
def dkwX3_laysPlain_0 : List UInt8 := [3, 60, 27, 17, 4, 24, 162, 0, 13, 42, 27, 3, 79, 132, 1, 1, 167, 255, 242, 42, 17, 4, 18]
abbrev dktX3_laysPlain_0 : List UInt8 := dkwX3_laysPlain_0 ++ dktX3_laysPlain_1
theorem dksX3_laysPlain_0 : cX3_laysPlain.data.toList.drop 0 = dktX3_laysPlain_0 := by decide +kernel
theorem dksX3_laysPlain_1 : cX3_laysPlain.data.toList.drop 23 = dktX3_laysPlain_1 := dk_seg dksX3_laysPlain_0 23 rfl rfl
theorem dksX3_laysPlain_2 : cX3_laysPlain.data.toList.drop 47 = dktX3_laysPlain_2 := dk_seg dksX3_laysPlain_1 24 rfl rfl
theorem dX3_laysPlain_0 : decode cX3_laysPlain 0 = .ok (.iconst 0, 1) := dk_3 (dk_at dksX3_laysPlain_0 0 rfl rfl)
theorem dX3_laysPlain_1 : decode cX3_laysPlain 1 = .ok (.istore_n 1, 1) := dk_60 (dk_at dksX3_laysPlain_0 1 rfl rfl)
theorem dX3_laysPlain_2 : decode cX3_laysPlain 2 = .ok (.iload_n 1, 1) := dk_27 (dk_at dksX3_laysPlain_0 2 rfl rfl)
theorem dX3_laysPlain_3 : decode cX3_laysPlain 3 = .ok (.sipush 1048, 3) := dk_17 4 24 (dk_at dksX3_laysPlain_0 3 rfl rfl)
theorem dX3_laysPlain_6 : decode cX3_laysPlain 6 = .ok (.if_icmp .ge 13, 3) := dk_162 0 13 (dk_at dksX3_laysPlain_0 6 rfl rfl)
theorem dX3_laysPlain_9 : decode cX3_laysPlain 9 = .ok (.aload_n 0, 1) := dk_42 (dk_at dksX3_laysPlain_0 9 rfl rfl)
theorem dX3_laysPlain_10 : decode cX3_laysPlain 10 = .ok (.iload_n 1, 1) := dk_27 (dk_at dksX3_laysPlain_0 10 rfl rfl)
theorem dX3_laysPlain_11 : decode cX3_laysPlain 11 = .ok (.iconst 0, 1) := dk_3 (dk_at dksX3_laysPlain_0 11 rfl rfl)
theorem dX3_laysPlain_12 : decode cX3_laysPlain 12 = .ok (.iastore, 1) := dk_79 (dk_at dksX3_laysPlain_0 12 rfl rfl)
theorem dX3_laysPlain_13 : decode cX3_laysPlain 13 = .ok (.iinc 1 1, 3) := dk_132 1 1 (dk_at dksX3_laysPlain_0 13 rfl rfl)
theorem dX3_laysPlain_16 : decode cX3_laysPlain 16 = .ok (.goto (-14), 3) := dk_167 255 242 (dk_at dksX3_laysPlain_0 16 rfl rfl)
theorem dX3_laysPlain_19 : decode cX3_laysPlain 19 = .ok (.aload_n 0, 1) := dk_42 (dk_at dksX3_laysPlain_0 19 rfl rfl)
theorem dX3_laysPlain_20 : decode cX3_laysPlain 20 = .ok (.sipush 1042, 3) := dk_17 4 18 (dk_at dksX3_laysPlain_0 20 rfl rfl)
theorem dX3_laysPlain_23 : decode cX3_laysPlain 23 = .ok (.bipush 8, 2) := dk_16 8 (dk_at dksX3_laysPlain_1 0 rfl rfl)
theorem dX3_laysPlain_25 : decode cX3_laysPlain 25 = .ok (.iastore, 1) := dk_79 (dk_at dksX3_laysPlain_1 2 rfl rfl)
theorem dX3_laysPlain_26 : decode cX3_laysPlain 26 = .ok (.aload_n 0, 1) := dk_42 (dk_at dksX3_laysPlain_1 3 rfl rfl)
theorem dX3_laysPlain_27 : decode cX3_laysPlain 27 = .ok (.sipush 1043, 3) := dk_17 4 19 (dk_at dksX3_laysPlain_1 4 rfl rfl)
theorem dX3_laysPlain_30 : decode cX3_laysPlain 30 = .ok (.bipush 16, 2) := dk_16 16 (dk_at dksX3_laysPlain_1 7 rfl rfl)
theorem dX3_laysPlain_32 : decode cX3_laysPlain 32 = .ok (.iastore, 1) := dk_79 (dk_at dksX3_laysPlain_1 9 rfl rfl)
theorem dX3_laysPlain_33 : decode cX3_laysPlain 33 = .ok (.aload_n 0, 1) := dk_42 (dk_at dksX3_laysPlain_1 10 rfl rfl)
theorem dX3_laysPlain_34 : decode cX3_laysPlain 34 = .ok (.sipush 1044, 3) := dk_17 4 20 (dk_at dksX3_laysPlain_1 11 rfl rfl)
theorem dX3_laysPlain_37 : decode cX3_laysPlain 37 = .ok (.bipush 20, 2) := dk_16 20 (dk_at dksX3_laysPlain_1 14 rfl rfl)
theorem dX3_laysPlain_39 : decode cX3_laysPlain 39 = .ok (.iastore, 1) := dk_79 (dk_at dksX3_laysPlain_1 16 rfl rfl)
theorem dX3_laysPlain_40 : decode cX3_laysPlain 40 = .ok (.aload_n 0, 1) := dk_42 (dk_at dksX3_laysPlain_1 17 rfl rfl)
theorem dX3_laysPlain_41 : decode cX3_laysPlain 41 = .ok (.sipush 1045, 3) := dk_17 4 21 (dk_at dksX3_laysPlain_1 18 rfl rfl)
theorem dX3_laysPlain_44 : decode cX3_laysPlain 44 = .ok (.bipush 6, 2) := dk_16 6 (dk_at dksX3_laysPlain_1 21 rfl rfl)
theorem dX3_laysPlain_46 : decode cX3_laysPlain 46 = .ok (.iastore, 1) := dk_79 (dk_at dksX3_laysPlain_1 23 rfl rfl)
theorem dX3_laysPlain_47 : decode cX3_laysPlain 47 = .ok (.aload_n 0, 1) := dk_42 (dk_at dksX3_laysPlain_2 0 rfl rfl)
theorem dX3_laysPlain_48 : decode cX3_laysPlain 48 = .ok (.sipush 1046, 3) := dk_17 4 22 (dk_at dksX3_laysPlain_2 1 rfl rfl)
theorem dX3_laysPlain_51 : decode cX3_laysPlain 51 = .ok (.iconst 4, 1) := dk_7 (dk_at dksX3_laysPlain_2 4 rfl rfl)
theorem dX3_laysPlain_52 : decode cX3_laysPlain 52 = .ok (.iastore, 1) := dk_79 (dk_at dksX3_laysPlain_2 5 rfl rfl)
theorem dX3_laysPlain_53 : decode cX3_laysPlain 53 = .ok (.return_, 1) := dk_177 (dk_at dksX3_laysPlain_2 6 rfl rfl)
abbrev cX3_feed : ByteArray := prog_12_method_10_code
def yX3_feed : MethodName := ⟨RX3, "feed", "(IIIII)I"⟩
def dkwX3_feed_2 : List UInt8 := [180, 0, 47, 172]
abbrev dktX3_feed_2 : List UInt8 := dkwX3_feed_2 ++ []
def dkwX3_feed_1 : List UInt8 := [42, 28, 182, 0, 142, 42, 29, 182, 0, 142, 42, 21, 4, 182, 0, 142, 42, 21, 5, 182, 0, 142, 42]
abbrev dktX3_feed_1 : List UInt8 := dkwX3_feed_1 ++ dktX3_feed_2
def dkwX3_feed_0 : List UInt8 := [42, 180, 0, 47, 16, 20, 96, 17, 6, 64, 164, 0, 9, 42, 3, 182, 0, 138, 172, 42, 27, 182, 0, 142]
abbrev dktX3_feed_0 : List UInt8 := dkwX3_feed_0 ++ dktX3_feed_1
theorem dksX3_feed_0 : cX3_feed.data.toList.drop 0 = dktX3_feed_0 := by decide +kernel
theorem dksX3_feed_1 : cX3_feed.data.toList.drop 24 = dktX3_feed_1 := dk_seg dksX3_feed_0 24 rfl rfl
theorem dksX3_feed_2 : cX3_feed.data.toList.drop 47 = dktX3_feed_2 := dk_seg dksX3_feed_1 23 rfl rfl
theorem dX3_feed_0 : decode cX3_feed 0 = .ok (.aload_n 0, 1) := dk_42 (dk_at dksX3_feed_0 0 rfl rfl)
theorem dX3_feed_1 : decode cX3_feed 1 = .ok (.getfield 47, 3) := dk_180 0 47 (dk_at dksX3_feed_0 1 rfl rfl)
theorem dX3_feed_4 : decode cX3_feed 4 = .ok (.bipush 20, 2) := dk_16 20 (dk_at dksX3_feed_0 4 rfl rfl)
theorem dX3_feed_6 : decode cX3_feed 6 = .ok (.iadd, 1) := dk_96 (dk_at dksX3_feed_0 6 rfl rfl)
theorem dX3_feed_7 : decode cX3_feed 7 = .ok (.sipush 1600, 3) := dk_17 6 64 (dk_at dksX3_feed_0 7 rfl rfl)
theorem dX3_feed_10 : decode cX3_feed 10 = .ok (.if_icmp .le 9, 3) := dk_164 0 9 (dk_at dksX3_feed_0 10 rfl rfl)
theorem dX3_feed_13 : decode cX3_feed 13 = .ok (.aload_n 0, 1) := dk_42 (dk_at dksX3_feed_0 13 rfl rfl)
theorem dX3_feed_14 : decode cX3_feed 14 = .ok (.iconst 0, 1) := dk_3 (dk_at dksX3_feed_0 14 rfl rfl)
theorem dX3_feed_15 : decode cX3_feed 15 = .ok (.invokevirtual 138, 3) := dk_182 0 138 (dk_at dksX3_feed_0 15 rfl rfl)
theorem dX3_feed_18 : decode cX3_feed 18 = .ok (.ireturn, 1) := dk_172 (dk_at dksX3_feed_0 18 rfl rfl)
theorem dX3_feed_19 : decode cX3_feed 19 = .ok (.aload_n 0, 1) := dk_42 (dk_at dksX3_feed_0 19 rfl rfl)
theorem dX3_feed_20 : decode cX3_feed 20 = .ok (.iload_n 1, 1) := dk_27 (dk_at dksX3_feed_0 20 rfl rfl)
theorem dX3_feed_21 : decode cX3_feed 21 = .ok (.invokevirtual 142, 3) := dk_182 0 142 (dk_at dksX3_feed_0 21 rfl rfl)
theorem dX3_feed_24 : decode cX3_feed 24 = .ok (.aload_n 0, 1) := dk_42 (dk_at dksX3_feed_1 0 rfl rfl)
theorem dX3_feed_25 : decode cX3_feed 25 = .ok (.iload_n 2, 1) := dk_28 (dk_at dksX3_feed_1 1 rfl rfl)
theorem dX3_feed_26 : decode cX3_feed 26 = .ok (.invokevirtual 142, 3) := dk_182 0 142 (dk_at dksX3_feed_1 2 rfl rfl)
theorem dX3_feed_29 : decode cX3_feed 29 = .ok (.aload_n 0, 1) := dk_42 (dk_at dksX3_feed_1 5 rfl rfl)
theorem dX3_feed_30 : decode cX3_feed 30 = .ok (.iload_n 3, 1) := dk_29 (dk_at dksX3_feed_1 6 rfl rfl)
theorem dX3_feed_31 : decode cX3_feed 31 = .ok (.invokevirtual 142, 3) := dk_182 0 142 (dk_at dksX3_feed_1 7 rfl rfl)
theorem dX3_feed_34 : decode cX3_feed 34 = .ok (.aload_n 0, 1) := dk_42 (dk_at dksX3_feed_1 10 rfl rfl)
theorem dX3_feed_35 : decode cX3_feed 35 = .ok (.iload 4, 2) := dk_21 4 (dk_at dksX3_feed_1 11 rfl rfl)
theorem dX3_feed_37 : decode cX3_feed 37 = .ok (.invokevirtual 142, 3) := dk_182 0 142 (dk_at dksX3_feed_1 13 rfl rfl)
theorem dX3_feed_40 : decode cX3_feed 40 = .ok (.aload_n 0, 1) := dk_42 (dk_at dksX3_feed_1 16 rfl rfl)
theorem dX3_feed_41 : decode cX3_feed 41 = .ok (.iload 5, 2) := dk_21 5 (dk_at dksX3_feed_1 17 rfl rfl)
theorem dX3_feed_43 : decode cX3_feed 43 = .ok (.invokevirtual 142, 3) := dk_182 0 142 (dk_at dksX3_feed_1 19 rfl rfl)
theorem dX3_feed_46 : decode cX3_feed 46 = .ok (.aload_n 0, 1) := dk_42 (dk_at dksX3_feed_1 22 rfl rfl)
theorem dX3_feed_47 : decode cX3_feed 47 = .ok (.getfield 47, 3) := dk_180 0 47 (dk_at dksX3_feed_2 0 rfl rfl)
theorem dX3_feed_50 : decode cX3_feed 50 = .ok (.ireturn, 1) := dk_172 (dk_at dksX3_feed_2 3 rfl rfl)
abbrev cX3_refuses : ByteArray := prog_12_method_7_code
def yX3_refuses : MethodName := ⟨RX3, "refuses", "(I)I"⟩
def dkwX3_refuses_0 : List UInt8 := [42, 180, 0, 50, 27, 92, 46, 4, 96, 79, 2, 172]
abbrev dktX3_refuses_0 : List UInt8 := dkwX3_refuses_0 ++ []
theorem dksX3_refuses_0 : cX3_refuses.data.toList.drop 0 = dktX3_refuses_0 := by decide +kernel
theorem dX3_refuses_0 : decode cX3_refuses 0 = .ok (.aload_n 0, 1) := dk_42 (dk_at dksX3_refuses_0 0 rfl rfl)
theorem dX3_refuses_1 : decode cX3_refuses 1 = .ok (.getfield 50, 3) := dk_180 0 50 (dk_at dksX3_refuses_0 1 rfl rfl)
theorem dX3_refuses_4 : decode cX3_refuses 4 = .ok (.iload_n 1, 1) := dk_27 (dk_at dksX3_refuses_0 4 rfl rfl)
theorem dX3_refuses_5 : decode cX3_refuses 5 = .ok (.dup2, 1) := dk_92 (dk_at dksX3_refuses_0 5 rfl rfl)
theorem dX3_refuses_6 : decode cX3_refuses 6 = .ok (.iaload, 1) := dk_46 (dk_at dksX3_refuses_0 6 rfl rfl)
theorem dX3_refuses_7 : decode cX3_refuses 7 = .ok (.iconst 1, 1) := dk_4 (dk_at dksX3_refuses_0 7 rfl rfl)
theorem dX3_refuses_8 : decode cX3_refuses 8 = .ok (.iadd, 1) := dk_96 (dk_at dksX3_refuses_0 8 rfl rfl)
theorem dX3_refuses_9 : decode cX3_refuses 9 = .ok (.iastore, 1) := dk_79 (dk_at dksX3_refuses_0 9 rfl rfl)
theorem dX3_refuses_10 : decode cX3_refuses 10 = .ok (.iconst (-1), 1) := dk_2 (dk_at dksX3_refuses_0 10 rfl rfl)
theorem dX3_refuses_11 : decode cX3_refuses 11 = .ok (.ireturn, 1) := dk_172 (dk_at dksX3_refuses_0 11 rfl rfl)
abbrev cX3_lays : ByteArray := prog_12_method_9_code
def yX3_lays : MethodName := ⟨RX3, "lays", "(I)V"⟩
def dkwX3_lays_1 : List UInt8 := [100, 122, 17, 0, 255, 126, 79, 132, 2, 1, 167, 255, 224, 42, 89, 180, 0, 47, 7, 96, 181, 0, 47, 177]
abbrev dktX3_lays_1 : List UInt8 := dkwX3_lays_1 ++ []
def dkwX3_lays_0 : List UInt8 := [3, 61, 28, 7, 162, 0, 33, 42, 180, 0, 44, 42, 180, 0, 47, 28, 96, 27, 16, 24, 16, 8, 28, 104]
abbrev dktX3_lays_0 : List UInt8 := dkwX3_lays_0 ++ dktX3_lays_1
theorem dksX3_lays_0 : cX3_lays.data.toList.drop 0 = dktX3_lays_0 := by decide +kernel
theorem dksX3_lays_1 : cX3_lays.data.toList.drop 24 = dktX3_lays_1 := dk_seg dksX3_lays_0 24 rfl rfl
theorem dX3_lays_0 : decode cX3_lays 0 = .ok (.iconst 0, 1) := dk_3 (dk_at dksX3_lays_0 0 rfl rfl)
theorem dX3_lays_1 : decode cX3_lays 1 = .ok (.istore_n 2, 1) := dk_61 (dk_at dksX3_lays_0 1 rfl rfl)
theorem dX3_lays_2 : decode cX3_lays 2 = .ok (.iload_n 2, 1) := dk_28 (dk_at dksX3_lays_0 2 rfl rfl)
theorem dX3_lays_3 : decode cX3_lays 3 = .ok (.iconst 4, 1) := dk_7 (dk_at dksX3_lays_0 3 rfl rfl)
theorem dX3_lays_4 : decode cX3_lays 4 = .ok (.if_icmp .ge 33, 3) := dk_162 0 33 (dk_at dksX3_lays_0 4 rfl rfl)
theorem dX3_lays_7 : decode cX3_lays 7 = .ok (.aload_n 0, 1) := dk_42 (dk_at dksX3_lays_0 7 rfl rfl)
theorem dX3_lays_8 : decode cX3_lays 8 = .ok (.getfield 44, 3) := dk_180 0 44 (dk_at dksX3_lays_0 8 rfl rfl)
theorem dX3_lays_11 : decode cX3_lays 11 = .ok (.aload_n 0, 1) := dk_42 (dk_at dksX3_lays_0 11 rfl rfl)
theorem dX3_lays_12 : decode cX3_lays 12 = .ok (.getfield 47, 3) := dk_180 0 47 (dk_at dksX3_lays_0 12 rfl rfl)
theorem dX3_lays_15 : decode cX3_lays 15 = .ok (.iload_n 2, 1) := dk_28 (dk_at dksX3_lays_0 15 rfl rfl)
theorem dX3_lays_16 : decode cX3_lays 16 = .ok (.iadd, 1) := dk_96 (dk_at dksX3_lays_0 16 rfl rfl)
theorem dX3_lays_17 : decode cX3_lays 17 = .ok (.iload_n 1, 1) := dk_27 (dk_at dksX3_lays_0 17 rfl rfl)
theorem dX3_lays_18 : decode cX3_lays 18 = .ok (.bipush 24, 2) := dk_16 24 (dk_at dksX3_lays_0 18 rfl rfl)
theorem dX3_lays_20 : decode cX3_lays 20 = .ok (.bipush 8, 2) := dk_16 8 (dk_at dksX3_lays_0 20 rfl rfl)
theorem dX3_lays_22 : decode cX3_lays 22 = .ok (.iload_n 2, 1) := dk_28 (dk_at dksX3_lays_0 22 rfl rfl)
theorem dX3_lays_23 : decode cX3_lays 23 = .ok (.imul, 1) := dk_104 (dk_at dksX3_lays_0 23 rfl rfl)
theorem dX3_lays_24 : decode cX3_lays 24 = .ok (.isub, 1) := dk_100 (dk_at dksX3_lays_1 0 rfl rfl)
theorem dX3_lays_25 : decode cX3_lays 25 = .ok (.ishr, 1) := dk_122 (dk_at dksX3_lays_1 1 rfl rfl)
theorem dX3_lays_26 : decode cX3_lays 26 = .ok (.sipush 255, 3) := dk_17 0 255 (dk_at dksX3_lays_1 2 rfl rfl)
theorem dX3_lays_29 : decode cX3_lays 29 = .ok (.iand, 1) := dk_126 (dk_at dksX3_lays_1 5 rfl rfl)
theorem dX3_lays_30 : decode cX3_lays 30 = .ok (.iastore, 1) := dk_79 (dk_at dksX3_lays_1 6 rfl rfl)
theorem dX3_lays_31 : decode cX3_lays 31 = .ok (.iinc 2 1, 3) := dk_132 2 1 (dk_at dksX3_lays_1 7 rfl rfl)
theorem dX3_lays_34 : decode cX3_lays 34 = .ok (.goto (-32), 3) := dk_167 255 224 (dk_at dksX3_lays_1 10 rfl rfl)
theorem dX3_lays_37 : decode cX3_lays 37 = .ok (.aload_n 0, 1) := dk_42 (dk_at dksX3_lays_1 13 rfl rfl)
theorem dX3_lays_38 : decode cX3_lays 38 = .ok (.dup, 1) := dk_89 (dk_at dksX3_lays_1 14 rfl rfl)
theorem dX3_lays_39 : decode cX3_lays 39 = .ok (.getfield 47, 3) := dk_180 0 47 (dk_at dksX3_lays_1 15 rfl rfl)
theorem dX3_lays_42 : decode cX3_lays 42 = .ok (.iconst 4, 1) := dk_7 (dk_at dksX3_lays_1 18 rfl rfl)
theorem dX3_lays_43 : decode cX3_lays 43 = .ok (.iadd, 1) := dk_96 (dk_at dksX3_lays_1 19 rfl rfl)
theorem dX3_lays_44 : decode cX3_lays 44 = .ok (.putfield 47, 3) := dk_181 0 47 (dk_at dksX3_lays_1 20 rfl rfl)
theorem dX3_lays_47 : decode cX3_lays 47 = .ok (.return_, 1) := dk_177 (dk_at dksX3_lays_1 23 rfl rfl)
abbrev cX3_end : ByteArray := prog_12_method_11_code
def yX3_end : MethodName := ⟨RX3, "end", "(I)Z"⟩
def dkwX3_end_1 : List UInt8 := [172]
abbrev dktX3_end_1 : List UInt8 := dkwX3_end_1 ++ []
def dkwX3_end_0 : List UInt8 := [27, 155, 0, 11, 27, 42, 180, 0, 47, 164, 0, 9, 42, 3, 182, 0, 146, 172, 42, 27, 181, 0, 47, 4]
abbrev dktX3_end_0 : List UInt8 := dkwX3_end_0 ++ dktX3_end_1
theorem dksX3_end_0 : cX3_end.data.toList.drop 0 = dktX3_end_0 := by decide +kernel
theorem dksX3_end_1 : cX3_end.data.toList.drop 24 = dktX3_end_1 := dk_seg dksX3_end_0 24 rfl rfl
theorem dX3_end_0 : decode cX3_end 0 = .ok (.iload_n 1, 1) := dk_27 (dk_at dksX3_end_0 0 rfl rfl)
theorem dX3_end_1 : decode cX3_end 1 = .ok (.ifCond .lt 11, 3) := dk_155 0 11 (dk_at dksX3_end_0 1 rfl rfl)
theorem dX3_end_4 : decode cX3_end 4 = .ok (.iload_n 1, 1) := dk_27 (dk_at dksX3_end_0 4 rfl rfl)
theorem dX3_end_5 : decode cX3_end 5 = .ok (.aload_n 0, 1) := dk_42 (dk_at dksX3_end_0 5 rfl rfl)
theorem dX3_end_6 : decode cX3_end 6 = .ok (.getfield 47, 3) := dk_180 0 47 (dk_at dksX3_end_0 6 rfl rfl)
theorem dX3_end_9 : decode cX3_end 9 = .ok (.if_icmp .le 9, 3) := dk_164 0 9 (dk_at dksX3_end_0 9 rfl rfl)
theorem dX3_end_12 : decode cX3_end 12 = .ok (.aload_n 0, 1) := dk_42 (dk_at dksX3_end_0 12 rfl rfl)
theorem dX3_end_13 : decode cX3_end 13 = .ok (.iconst 0, 1) := dk_3 (dk_at dksX3_end_0 13 rfl rfl)
theorem dX3_end_14 : decode cX3_end 14 = .ok (.invokevirtual 146, 3) := dk_182 0 146 (dk_at dksX3_end_0 14 rfl rfl)
theorem dX3_end_17 : decode cX3_end 17 = .ok (.ireturn, 1) := dk_172 (dk_at dksX3_end_0 17 rfl rfl)
theorem dX3_end_18 : decode cX3_end 18 = .ok (.aload_n 0, 1) := dk_42 (dk_at dksX3_end_0 18 rfl rfl)
theorem dX3_end_19 : decode cX3_end 19 = .ok (.iload_n 1, 1) := dk_27 (dk_at dksX3_end_0 19 rfl rfl)
theorem dX3_end_20 : decode cX3_end 20 = .ok (.putfield 47, 3) := dk_181 0 47 (dk_at dksX3_end_0 20 rfl rfl)
theorem dX3_end_23 : decode cX3_end 23 = .ok (.iconst 1, 1) := dk_4 (dk_at dksX3_end_0 23 rfl rfl)
theorem dX3_end_24 : decode cX3_end 24 = .ok (.ireturn, 1) := dk_172 (dk_at dksX3_end_1 0 rfl rfl)
abbrev cX3_isRefused : ByteArray := prog_12_method_8_code
def yX3_isRefused : MethodName := ⟨RX3, "isRefused", "(I)Z"⟩
def dkwX3_isRefused_0 : List UInt8 := [42, 180, 0, 50, 27, 92, 46, 4, 96, 79, 3, 172]
abbrev dktX3_isRefused_0 : List UInt8 := dkwX3_isRefused_0 ++ []
theorem dksX3_isRefused_0 : cX3_isRefused.data.toList.drop 0 = dktX3_isRefused_0 := by decide +kernel
theorem dX3_isRefused_0 : decode cX3_isRefused 0 = .ok (.aload_n 0, 1) := dk_42 (dk_at dksX3_isRefused_0 0 rfl rfl)
theorem dX3_isRefused_1 : decode cX3_isRefused 1 = .ok (.getfield 50, 3) := dk_180 0 50 (dk_at dksX3_isRefused_0 1 rfl rfl)
theorem dX3_isRefused_4 : decode cX3_isRefused 4 = .ok (.iload_n 1, 1) := dk_27 (dk_at dksX3_isRefused_0 4 rfl rfl)
theorem dX3_isRefused_5 : decode cX3_isRefused 5 = .ok (.dup2, 1) := dk_92 (dk_at dksX3_isRefused_0 5 rfl rfl)
theorem dX3_isRefused_6 : decode cX3_isRefused 6 = .ok (.iaload, 1) := dk_46 (dk_at dksX3_isRefused_0 6 rfl rfl)
theorem dX3_isRefused_7 : decode cX3_isRefused 7 = .ok (.iconst 1, 1) := dk_4 (dk_at dksX3_isRefused_0 7 rfl rfl)
theorem dX3_isRefused_8 : decode cX3_isRefused 8 = .ok (.iadd, 1) := dk_96 (dk_at dksX3_isRefused_0 8 rfl rfl)
theorem dX3_isRefused_9 : decode cX3_isRefused 9 = .ok (.iastore, 1) := dk_79 (dk_at dksX3_isRefused_0 9 rfl rfl)
theorem dX3_isRefused_10 : decode cX3_isRefused 10 = .ok (.iconst 0, 1) := dk_3 (dk_at dksX3_isRefused_0 10 rfl rfl)
theorem dX3_isRefused_11 : decode cX3_isRefused 11 = .ok (.ireturn, 1) := dk_172 (dk_at dksX3_isRefused_0 11 rfl rfl)
abbrev cX3_pen : ByteArray := prog_12_method_31_code
def yX3_pen : MethodName := ⟨RX3, "pen", "()I"⟩
def dkwX3_pen_4 : List UInt8 := [181, 0, 22, 42, 3, 181, 0, 29, 27, 172]
abbrev dktX3_pen_4 : List UInt8 := dkwX3_pen_4 ++ []
def dkwX3_pen_3 : List UInt8 := [162, 0, 21, 42, 180, 0, 7, 28, 42, 180, 0, 13, 28, 46, 79, 132, 2, 1, 167, 255, 234, 42, 3]
abbrev dktX3_pen_3 : List UInt8 := dkwX3_pen_3 ++ dktX3_pen_4
def dkwX3_pen_2 : List UInt8 := [181, 0, 56, 42, 180, 0, 68, 153, 0, 9, 42, 4, 182, 0, 138, 172, 3, 61, 28, 17, 4, 24]
abbrev dktX3_pen_2 : List UInt8 := dkwX3_pen_2 ++ dktX3_pen_3
def dkwX3_pen_1 : List UInt8 := [180, 0, 13, 184, 0, 134, 42, 182, 0, 212, 60, 42, 42, 180, 0, 68, 181, 0, 53, 42, 42, 180, 0, 71]
abbrev dktX3_pen_1 : List UInt8 := dkwX3_pen_1 ++ dktX3_pen_2
def dkwX3_pen_0 : List UInt8 := [42, 42, 182, 0, 209, 181, 0, 59, 42, 3, 181, 0, 62, 42, 3, 181, 0, 68, 42, 2, 181, 0, 71, 42]
abbrev dktX3_pen_0 : List UInt8 := dkwX3_pen_0 ++ dktX3_pen_1
theorem dksX3_pen_0 : cX3_pen.data.toList.drop 0 = dktX3_pen_0 := by decide +kernel
theorem dksX3_pen_1 : cX3_pen.data.toList.drop 24 = dktX3_pen_1 := dk_seg dksX3_pen_0 24 rfl rfl
theorem dksX3_pen_2 : cX3_pen.data.toList.drop 48 = dktX3_pen_2 := dk_seg dksX3_pen_1 24 rfl rfl
theorem dksX3_pen_3 : cX3_pen.data.toList.drop 70 = dktX3_pen_3 := dk_seg dksX3_pen_2 22 rfl rfl
theorem dksX3_pen_4 : cX3_pen.data.toList.drop 93 = dktX3_pen_4 := dk_seg dksX3_pen_3 23 rfl rfl
theorem dX3_pen_0 : decode cX3_pen 0 = .ok (.aload_n 0, 1) := dk_42 (dk_at dksX3_pen_0 0 rfl rfl)
theorem dX3_pen_1 : decode cX3_pen 1 = .ok (.aload_n 0, 1) := dk_42 (dk_at dksX3_pen_0 1 rfl rfl)
theorem dX3_pen_2 : decode cX3_pen 2 = .ok (.invokevirtual 209, 3) := dk_182 0 209 (dk_at dksX3_pen_0 2 rfl rfl)
theorem dX3_pen_5 : decode cX3_pen 5 = .ok (.putfield 59, 3) := dk_181 0 59 (dk_at dksX3_pen_0 5 rfl rfl)
theorem dX3_pen_8 : decode cX3_pen 8 = .ok (.aload_n 0, 1) := dk_42 (dk_at dksX3_pen_0 8 rfl rfl)
theorem dX3_pen_9 : decode cX3_pen 9 = .ok (.iconst 0, 1) := dk_3 (dk_at dksX3_pen_0 9 rfl rfl)
theorem dX3_pen_10 : decode cX3_pen 10 = .ok (.putfield 62, 3) := dk_181 0 62 (dk_at dksX3_pen_0 10 rfl rfl)
theorem dX3_pen_13 : decode cX3_pen 13 = .ok (.aload_n 0, 1) := dk_42 (dk_at dksX3_pen_0 13 rfl rfl)
theorem dX3_pen_14 : decode cX3_pen 14 = .ok (.iconst 0, 1) := dk_3 (dk_at dksX3_pen_0 14 rfl rfl)
theorem dX3_pen_15 : decode cX3_pen 15 = .ok (.putfield 68, 3) := dk_181 0 68 (dk_at dksX3_pen_0 15 rfl rfl)
theorem dX3_pen_18 : decode cX3_pen 18 = .ok (.aload_n 0, 1) := dk_42 (dk_at dksX3_pen_0 18 rfl rfl)
theorem dX3_pen_19 : decode cX3_pen 19 = .ok (.iconst (-1), 1) := dk_2 (dk_at dksX3_pen_0 19 rfl rfl)
theorem dX3_pen_20 : decode cX3_pen 20 = .ok (.putfield 71, 3) := dk_181 0 71 (dk_at dksX3_pen_0 20 rfl rfl)
theorem dX3_pen_23 : decode cX3_pen 23 = .ok (.aload_n 0, 1) := dk_42 (dk_at dksX3_pen_0 23 rfl rfl)
theorem dX3_pen_24 : decode cX3_pen 24 = .ok (.getfield 13, 3) := dk_180 0 13 (dk_at dksX3_pen_1 0 rfl rfl)
theorem dX3_pen_27 : decode cX3_pen 27 = .ok (.invokestatic 134, 3) := dk_184 0 134 (dk_at dksX3_pen_1 3 rfl rfl)
theorem dX3_pen_30 : decode cX3_pen 30 = .ok (.aload_n 0, 1) := dk_42 (dk_at dksX3_pen_1 6 rfl rfl)
theorem dX3_pen_31 : decode cX3_pen 31 = .ok (.invokevirtual 212, 3) := dk_182 0 212 (dk_at dksX3_pen_1 7 rfl rfl)
theorem dX3_pen_34 : decode cX3_pen 34 = .ok (.istore_n 1, 1) := dk_60 (dk_at dksX3_pen_1 10 rfl rfl)
theorem dX3_pen_35 : decode cX3_pen 35 = .ok (.aload_n 0, 1) := dk_42 (dk_at dksX3_pen_1 11 rfl rfl)
theorem dX3_pen_36 : decode cX3_pen 36 = .ok (.aload_n 0, 1) := dk_42 (dk_at dksX3_pen_1 12 rfl rfl)
theorem dX3_pen_37 : decode cX3_pen 37 = .ok (.getfield 68, 3) := dk_180 0 68 (dk_at dksX3_pen_1 13 rfl rfl)
theorem dX3_pen_40 : decode cX3_pen 40 = .ok (.putfield 53, 3) := dk_181 0 53 (dk_at dksX3_pen_1 16 rfl rfl)
theorem dX3_pen_43 : decode cX3_pen 43 = .ok (.aload_n 0, 1) := dk_42 (dk_at dksX3_pen_1 19 rfl rfl)
theorem dX3_pen_44 : decode cX3_pen 44 = .ok (.aload_n 0, 1) := dk_42 (dk_at dksX3_pen_1 20 rfl rfl)
theorem dX3_pen_45 : decode cX3_pen 45 = .ok (.getfield 71, 3) := dk_180 0 71 (dk_at dksX3_pen_1 21 rfl rfl)
theorem dX3_pen_48 : decode cX3_pen 48 = .ok (.putfield 56, 3) := dk_181 0 56 (dk_at dksX3_pen_2 0 rfl rfl)
theorem dX3_pen_51 : decode cX3_pen 51 = .ok (.aload_n 0, 1) := dk_42 (dk_at dksX3_pen_2 3 rfl rfl)
theorem dX3_pen_52 : decode cX3_pen 52 = .ok (.getfield 68, 3) := dk_180 0 68 (dk_at dksX3_pen_2 4 rfl rfl)
theorem dX3_pen_55 : decode cX3_pen 55 = .ok (.ifCond .eq 9, 3) := dk_153 0 9 (dk_at dksX3_pen_2 7 rfl rfl)
theorem dX3_pen_58 : decode cX3_pen 58 = .ok (.aload_n 0, 1) := dk_42 (dk_at dksX3_pen_2 10 rfl rfl)
theorem dX3_pen_59 : decode cX3_pen 59 = .ok (.iconst 1, 1) := dk_4 (dk_at dksX3_pen_2 11 rfl rfl)
theorem dX3_pen_60 : decode cX3_pen 60 = .ok (.invokevirtual 138, 3) := dk_182 0 138 (dk_at dksX3_pen_2 12 rfl rfl)
theorem dX3_pen_63 : decode cX3_pen 63 = .ok (.ireturn, 1) := dk_172 (dk_at dksX3_pen_2 15 rfl rfl)
theorem dX3_pen_64 : decode cX3_pen 64 = .ok (.iconst 0, 1) := dk_3 (dk_at dksX3_pen_2 16 rfl rfl)
theorem dX3_pen_65 : decode cX3_pen 65 = .ok (.istore_n 2, 1) := dk_61 (dk_at dksX3_pen_2 17 rfl rfl)
theorem dX3_pen_66 : decode cX3_pen 66 = .ok (.iload_n 2, 1) := dk_28 (dk_at dksX3_pen_2 18 rfl rfl)
theorem dX3_pen_67 : decode cX3_pen 67 = .ok (.sipush 1048, 3) := dk_17 4 24 (dk_at dksX3_pen_2 19 rfl rfl)
theorem dX3_pen_70 : decode cX3_pen 70 = .ok (.if_icmp .ge 21, 3) := dk_162 0 21 (dk_at dksX3_pen_3 0 rfl rfl)
theorem dX3_pen_73 : decode cX3_pen 73 = .ok (.aload_n 0, 1) := dk_42 (dk_at dksX3_pen_3 3 rfl rfl)
theorem dX3_pen_74 : decode cX3_pen 74 = .ok (.getfield 7, 3) := dk_180 0 7 (dk_at dksX3_pen_3 4 rfl rfl)
theorem dX3_pen_77 : decode cX3_pen 77 = .ok (.iload_n 2, 1) := dk_28 (dk_at dksX3_pen_3 7 rfl rfl)
theorem dX3_pen_78 : decode cX3_pen 78 = .ok (.aload_n 0, 1) := dk_42 (dk_at dksX3_pen_3 8 rfl rfl)
theorem dX3_pen_79 : decode cX3_pen 79 = .ok (.getfield 13, 3) := dk_180 0 13 (dk_at dksX3_pen_3 9 rfl rfl)
theorem dX3_pen_82 : decode cX3_pen 82 = .ok (.iload_n 2, 1) := dk_28 (dk_at dksX3_pen_3 12 rfl rfl)
theorem dX3_pen_83 : decode cX3_pen 83 = .ok (.iaload, 1) := dk_46 (dk_at dksX3_pen_3 13 rfl rfl)
theorem dX3_pen_84 : decode cX3_pen 84 = .ok (.iastore, 1) := dk_79 (dk_at dksX3_pen_3 14 rfl rfl)
theorem dX3_pen_85 : decode cX3_pen 85 = .ok (.iinc 2 1, 3) := dk_132 2 1 (dk_at dksX3_pen_3 15 rfl rfl)
theorem dX3_pen_88 : decode cX3_pen 88 = .ok (.goto (-22), 3) := dk_167 255 234 (dk_at dksX3_pen_3 18 rfl rfl)
theorem dX3_pen_91 : decode cX3_pen 91 = .ok (.aload_n 0, 1) := dk_42 (dk_at dksX3_pen_3 21 rfl rfl)
theorem dX3_pen_92 : decode cX3_pen 92 = .ok (.iconst 0, 1) := dk_3 (dk_at dksX3_pen_3 22 rfl rfl)
theorem dX3_pen_93 : decode cX3_pen 93 = .ok (.putfield 22, 3) := dk_181 0 22 (dk_at dksX3_pen_4 0 rfl rfl)
theorem dX3_pen_96 : decode cX3_pen 96 = .ok (.aload_n 0, 1) := dk_42 (dk_at dksX3_pen_4 3 rfl rfl)
theorem dX3_pen_97 : decode cX3_pen 97 = .ok (.iconst 0, 1) := dk_3 (dk_at dksX3_pen_4 4 rfl rfl)
theorem dX3_pen_98 : decode cX3_pen 98 = .ok (.putfield 29, 3) := dk_181 0 29 (dk_at dksX3_pen_4 5 rfl rfl)
theorem dX3_pen_101 : decode cX3_pen 101 = .ok (.iload_n 1, 1) := dk_27 (dk_at dksX3_pen_4 8 rfl rfl)
theorem dX3_pen_102 : decode cX3_pen 102 = .ok (.ireturn, 1) := dk_172 (dk_at dksX3_pen_4 9 rfl rfl)
abbrev cX3_taken : ByteArray := prog_12_method_12_code
def yX3_taken : MethodName := ⟨RX3, "taken", "()I"⟩
def dkwX3_taken_0 : List UInt8 := [42, 180, 0, 47, 60, 42, 3, 181, 0, 47, 27, 172]
abbrev dktX3_taken_0 : List UInt8 := dkwX3_taken_0 ++ []
theorem dksX3_taken_0 : cX3_taken.data.toList.drop 0 = dktX3_taken_0 := by decide +kernel
theorem dX3_taken_0 : decode cX3_taken 0 = .ok (.aload_n 0, 1) := dk_42 (dk_at dksX3_taken_0 0 rfl rfl)
theorem dX3_taken_1 : decode cX3_taken 1 = .ok (.getfield 47, 3) := dk_180 0 47 (dk_at dksX3_taken_0 1 rfl rfl)
theorem dX3_taken_4 : decode cX3_taken 4 = .ok (.istore_n 1, 1) := dk_60 (dk_at dksX3_taken_0 4 rfl rfl)
theorem dX3_taken_5 : decode cX3_taken 5 = .ok (.aload_n 0, 1) := dk_42 (dk_at dksX3_taken_0 5 rfl rfl)
theorem dX3_taken_6 : decode cX3_taken 6 = .ok (.iconst 0, 1) := dk_3 (dk_at dksX3_taken_0 6 rfl rfl)
theorem dX3_taken_7 : decode cX3_taken 7 = .ok (.putfield 47, 3) := dk_181 0 47 (dk_at dksX3_taken_0 7 rfl rfl)
theorem dX3_taken_10 : decode cX3_taken 10 = .ok (.iload_n 1, 1) := dk_27 (dk_at dksX3_taken_0 10 rfl rfl)
theorem dX3_taken_11 : decode cX3_taken 11 = .ok (.ireturn, 1) := dk_172 (dk_at dksX3_taken_0 11 rfl rfl)
abbrev cX3_readsAll : ByteArray := prog_12_method_30_code
def yX3_readsAll : MethodName := ⟨RX3, "readsAll", "()I"⟩
def dkwX3_readsAll_7 : List UInt8 := [132, 3, 1, 167, 255, 97, 29, 172]
abbrev dktX3_readsAll_7 : List UInt8 := dkwX3_readsAll_7 ++ []
def dkwX3_readsAll_6 : List UInt8 := [160, 0, 11, 42, 27, 182, 0, 203, 167, 0, 12, 42, 4, 42, 180, 0, 65, 182, 0, 167, 42, 182, 0, 206]
abbrev dktX3_readsAll_6 : List UInt8 := dkwX3_readsAll_6 ++ dktX3_readsAll_7
def dkwX3_readsAll_5 : List UInt8 := [153, 0, 12, 42, 8, 42, 180, 0, 65, 182, 0, 167, 4, 61, 2, 60, 167, 0, 27, 21, 4, 16, 9]
abbrev dktX3_readsAll_5 : List UInt8 := dkwX3_readsAll_5 ++ dktX3_readsAll_6
def dkwX3_readsAll_4 : List UInt8 := [42, 180, 0, 13, 17, 3, 232, 46, 4, 100, 60, 167, 0, 54, 21, 4, 16, 8, 160, 0, 23, 28]
abbrev dktX3_readsAll_4 : List UInt8 := dkwX3_readsAll_4 ++ dktX3_readsAll_5
def dkwX3_readsAll_3 : List UInt8 := [172, 21, 4, 154, 0, 10, 42, 182, 0, 197, 167, 0, 79, 21, 4, 16, 7, 160, 0, 21, 42, 182, 0, 200]
abbrev dktX3_readsAll_3 : List UInt8 := dkwX3_readsAll_3 ++ dktX3_readsAll_4
def dkwX3_readsAll_2 : List UInt8 := [182, 0, 153, 153, 0, 10, 42, 182, 0, 178, 167, 0, 4, 2, 54, 4, 42, 182, 0, 153, 154, 0, 5, 29]
abbrev dktX3_readsAll_2 : List UInt8 := dkwX3_readsAll_2 ++ dktX3_readsAll_3
def dkwX3_readsAll_1 : List UInt8 := [154, 0, 146, 29, 16, 80, 160, 0, 12, 42, 8, 42, 180, 0, 62, 182, 0, 167, 42, 182, 0, 175, 42]
abbrev dktX3_readsAll_1 : List UInt8 := dkwX3_readsAll_1 ++ dktX3_readsAll_2
def dkwX3_readsAll_0 : List UInt8 := [16, 254, 60, 3, 61, 3, 62, 42, 182, 0, 153, 153, 0, 158, 42, 182, 0, 157, 2, 160, 0, 7, 29]
abbrev dktX3_readsAll_0 : List UInt8 := dkwX3_readsAll_0 ++ dktX3_readsAll_1
theorem dksX3_readsAll_0 : cX3_readsAll.data.toList.drop 0 = dktX3_readsAll_0 := by decide +kernel
theorem dksX3_readsAll_1 : cX3_readsAll.data.toList.drop 23 = dktX3_readsAll_1 := dk_seg dksX3_readsAll_0 23 rfl rfl
theorem dksX3_readsAll_2 : cX3_readsAll.data.toList.drop 46 = dktX3_readsAll_2 := dk_seg dksX3_readsAll_1 23 rfl rfl
theorem dksX3_readsAll_3 : cX3_readsAll.data.toList.drop 70 = dktX3_readsAll_3 := dk_seg dksX3_readsAll_2 24 rfl rfl
theorem dksX3_readsAll_4 : cX3_readsAll.data.toList.drop 94 = dktX3_readsAll_4 := dk_seg dksX3_readsAll_3 24 rfl rfl
theorem dksX3_readsAll_5 : cX3_readsAll.data.toList.drop 116 = dktX3_readsAll_5 := dk_seg dksX3_readsAll_4 22 rfl rfl
theorem dksX3_readsAll_6 : cX3_readsAll.data.toList.drop 139 = dktX3_readsAll_6 := dk_seg dksX3_readsAll_5 23 rfl rfl
theorem dksX3_readsAll_7 : cX3_readsAll.data.toList.drop 163 = dktX3_readsAll_7 := dk_seg dksX3_readsAll_6 24 rfl rfl
theorem dX3_readsAll_0 : decode cX3_readsAll 0 = .ok (.bipush (-2), 2) := dk_16 254 (dk_at dksX3_readsAll_0 0 rfl rfl)
theorem dX3_readsAll_2 : decode cX3_readsAll 2 = .ok (.istore_n 1, 1) := dk_60 (dk_at dksX3_readsAll_0 2 rfl rfl)
theorem dX3_readsAll_3 : decode cX3_readsAll 3 = .ok (.iconst 0, 1) := dk_3 (dk_at dksX3_readsAll_0 3 rfl rfl)
theorem dX3_readsAll_4 : decode cX3_readsAll 4 = .ok (.istore_n 2, 1) := dk_61 (dk_at dksX3_readsAll_0 4 rfl rfl)
theorem dX3_readsAll_5 : decode cX3_readsAll 5 = .ok (.iconst 0, 1) := dk_3 (dk_at dksX3_readsAll_0 5 rfl rfl)
theorem dX3_readsAll_6 : decode cX3_readsAll 6 = .ok (.istore_n 3, 1) := dk_62 (dk_at dksX3_readsAll_0 6 rfl rfl)
theorem dX3_readsAll_7 : decode cX3_readsAll 7 = .ok (.aload_n 0, 1) := dk_42 (dk_at dksX3_readsAll_0 7 rfl rfl)
theorem dX3_readsAll_8 : decode cX3_readsAll 8 = .ok (.invokevirtual 153, 3) := dk_182 0 153 (dk_at dksX3_readsAll_0 8 rfl rfl)
theorem dX3_readsAll_11 : decode cX3_readsAll 11 = .ok (.ifCond .eq 158, 3) := dk_153 0 158 (dk_at dksX3_readsAll_0 11 rfl rfl)
theorem dX3_readsAll_14 : decode cX3_readsAll 14 = .ok (.aload_n 0, 1) := dk_42 (dk_at dksX3_readsAll_0 14 rfl rfl)
theorem dX3_readsAll_15 : decode cX3_readsAll 15 = .ok (.invokevirtual 157, 3) := dk_182 0 157 (dk_at dksX3_readsAll_0 15 rfl rfl)
theorem dX3_readsAll_18 : decode cX3_readsAll 18 = .ok (.iconst (-1), 1) := dk_2 (dk_at dksX3_readsAll_0 18 rfl rfl)
theorem dX3_readsAll_19 : decode cX3_readsAll 19 = .ok (.if_icmp .ne 7, 3) := dk_160 0 7 (dk_at dksX3_readsAll_0 19 rfl rfl)
theorem dX3_readsAll_22 : decode cX3_readsAll 22 = .ok (.iload_n 3, 1) := dk_29 (dk_at dksX3_readsAll_0 22 rfl rfl)
theorem dX3_readsAll_23 : decode cX3_readsAll 23 = .ok (.ifCond .ne 146, 3) := dk_154 0 146 (dk_at dksX3_readsAll_1 0 rfl rfl)
theorem dX3_readsAll_26 : decode cX3_readsAll 26 = .ok (.iload_n 3, 1) := dk_29 (dk_at dksX3_readsAll_1 3 rfl rfl)
theorem dX3_readsAll_27 : decode cX3_readsAll 27 = .ok (.bipush 80, 2) := dk_16 80 (dk_at dksX3_readsAll_1 4 rfl rfl)
theorem dX3_readsAll_29 : decode cX3_readsAll 29 = .ok (.if_icmp .ne 12, 3) := dk_160 0 12 (dk_at dksX3_readsAll_1 6 rfl rfl)
theorem dX3_readsAll_32 : decode cX3_readsAll 32 = .ok (.aload_n 0, 1) := dk_42 (dk_at dksX3_readsAll_1 9 rfl rfl)
theorem dX3_readsAll_33 : decode cX3_readsAll 33 = .ok (.iconst 5, 1) := dk_8 (dk_at dksX3_readsAll_1 10 rfl rfl)
theorem dX3_readsAll_34 : decode cX3_readsAll 34 = .ok (.aload_n 0, 1) := dk_42 (dk_at dksX3_readsAll_1 11 rfl rfl)
theorem dX3_readsAll_35 : decode cX3_readsAll 35 = .ok (.getfield 62, 3) := dk_180 0 62 (dk_at dksX3_readsAll_1 12 rfl rfl)
theorem dX3_readsAll_38 : decode cX3_readsAll 38 = .ok (.invokevirtual 167, 3) := dk_182 0 167 (dk_at dksX3_readsAll_1 15 rfl rfl)
theorem dX3_readsAll_41 : decode cX3_readsAll 41 = .ok (.aload_n 0, 1) := dk_42 (dk_at dksX3_readsAll_1 18 rfl rfl)
theorem dX3_readsAll_42 : decode cX3_readsAll 42 = .ok (.invokevirtual 175, 3) := dk_182 0 175 (dk_at dksX3_readsAll_1 19 rfl rfl)
theorem dX3_readsAll_45 : decode cX3_readsAll 45 = .ok (.aload_n 0, 1) := dk_42 (dk_at dksX3_readsAll_1 22 rfl rfl)
theorem dX3_readsAll_46 : decode cX3_readsAll 46 = .ok (.invokevirtual 153, 3) := dk_182 0 153 (dk_at dksX3_readsAll_2 0 rfl rfl)
theorem dX3_readsAll_49 : decode cX3_readsAll 49 = .ok (.ifCond .eq 10, 3) := dk_153 0 10 (dk_at dksX3_readsAll_2 3 rfl rfl)
theorem dX3_readsAll_52 : decode cX3_readsAll 52 = .ok (.aload_n 0, 1) := dk_42 (dk_at dksX3_readsAll_2 6 rfl rfl)
theorem dX3_readsAll_53 : decode cX3_readsAll 53 = .ok (.invokevirtual 178, 3) := dk_182 0 178 (dk_at dksX3_readsAll_2 7 rfl rfl)
theorem dX3_readsAll_56 : decode cX3_readsAll 56 = .ok (.goto 4, 3) := dk_167 0 4 (dk_at dksX3_readsAll_2 10 rfl rfl)
theorem dX3_readsAll_59 : decode cX3_readsAll 59 = .ok (.iconst (-1), 1) := dk_2 (dk_at dksX3_readsAll_2 13 rfl rfl)
theorem dX3_readsAll_60 : decode cX3_readsAll 60 = .ok (.istore 4, 2) := dk_54 4 (dk_at dksX3_readsAll_2 14 rfl rfl)
theorem dX3_readsAll_62 : decode cX3_readsAll 62 = .ok (.aload_n 0, 1) := dk_42 (dk_at dksX3_readsAll_2 16 rfl rfl)
theorem dX3_readsAll_63 : decode cX3_readsAll 63 = .ok (.invokevirtual 153, 3) := dk_182 0 153 (dk_at dksX3_readsAll_2 17 rfl rfl)
theorem dX3_readsAll_66 : decode cX3_readsAll 66 = .ok (.ifCond .ne 5, 3) := dk_154 0 5 (dk_at dksX3_readsAll_2 20 rfl rfl)
theorem dX3_readsAll_69 : decode cX3_readsAll 69 = .ok (.iload_n 3, 1) := dk_29 (dk_at dksX3_readsAll_2 23 rfl rfl)
theorem dX3_readsAll_70 : decode cX3_readsAll 70 = .ok (.ireturn, 1) := dk_172 (dk_at dksX3_readsAll_3 0 rfl rfl)
theorem dX3_readsAll_71 : decode cX3_readsAll 71 = .ok (.iload 4, 2) := dk_21 4 (dk_at dksX3_readsAll_3 1 rfl rfl)
theorem dX3_readsAll_73 : decode cX3_readsAll 73 = .ok (.ifCond .ne 10, 3) := dk_154 0 10 (dk_at dksX3_readsAll_3 3 rfl rfl)
theorem dX3_readsAll_76 : decode cX3_readsAll 76 = .ok (.aload_n 0, 1) := dk_42 (dk_at dksX3_readsAll_3 6 rfl rfl)
theorem dX3_readsAll_77 : decode cX3_readsAll 77 = .ok (.invokevirtual 197, 3) := dk_182 0 197 (dk_at dksX3_readsAll_3 7 rfl rfl)
theorem dX3_readsAll_80 : decode cX3_readsAll 80 = .ok (.goto 79, 3) := dk_167 0 79 (dk_at dksX3_readsAll_3 10 rfl rfl)
theorem dX3_readsAll_83 : decode cX3_readsAll 83 = .ok (.iload 4, 2) := dk_21 4 (dk_at dksX3_readsAll_3 13 rfl rfl)
theorem dX3_readsAll_85 : decode cX3_readsAll 85 = .ok (.bipush 7, 2) := dk_16 7 (dk_at dksX3_readsAll_3 15 rfl rfl)
theorem dX3_readsAll_87 : decode cX3_readsAll 87 = .ok (.if_icmp .ne 21, 3) := dk_160 0 21 (dk_at dksX3_readsAll_3 17 rfl rfl)
theorem dX3_readsAll_90 : decode cX3_readsAll 90 = .ok (.aload_n 0, 1) := dk_42 (dk_at dksX3_readsAll_3 20 rfl rfl)
theorem dX3_readsAll_91 : decode cX3_readsAll 91 = .ok (.invokevirtual 200, 3) := dk_182 0 200 (dk_at dksX3_readsAll_3 21 rfl rfl)
theorem dX3_readsAll_94 : decode cX3_readsAll 94 = .ok (.aload_n 0, 1) := dk_42 (dk_at dksX3_readsAll_4 0 rfl rfl)
theorem dX3_readsAll_95 : decode cX3_readsAll 95 = .ok (.getfield 13, 3) := dk_180 0 13 (dk_at dksX3_readsAll_4 1 rfl rfl)
theorem dX3_readsAll_98 : decode cX3_readsAll 98 = .ok (.sipush 1000, 3) := dk_17 3 232 (dk_at dksX3_readsAll_4 4 rfl rfl)
theorem dX3_readsAll_101 : decode cX3_readsAll 101 = .ok (.iaload, 1) := dk_46 (dk_at dksX3_readsAll_4 7 rfl rfl)
theorem dX3_readsAll_102 : decode cX3_readsAll 102 = .ok (.iconst 1, 1) := dk_4 (dk_at dksX3_readsAll_4 8 rfl rfl)
theorem dX3_readsAll_103 : decode cX3_readsAll 103 = .ok (.isub, 1) := dk_100 (dk_at dksX3_readsAll_4 9 rfl rfl)
theorem dX3_readsAll_104 : decode cX3_readsAll 104 = .ok (.istore_n 1, 1) := dk_60 (dk_at dksX3_readsAll_4 10 rfl rfl)
theorem dX3_readsAll_105 : decode cX3_readsAll 105 = .ok (.goto 54, 3) := dk_167 0 54 (dk_at dksX3_readsAll_4 11 rfl rfl)
theorem dX3_readsAll_108 : decode cX3_readsAll 108 = .ok (.iload 4, 2) := dk_21 4 (dk_at dksX3_readsAll_4 14 rfl rfl)
theorem dX3_readsAll_110 : decode cX3_readsAll 110 = .ok (.bipush 8, 2) := dk_16 8 (dk_at dksX3_readsAll_4 16 rfl rfl)
theorem dX3_readsAll_112 : decode cX3_readsAll 112 = .ok (.if_icmp .ne 23, 3) := dk_160 0 23 (dk_at dksX3_readsAll_4 18 rfl rfl)
theorem dX3_readsAll_115 : decode cX3_readsAll 115 = .ok (.iload_n 2, 1) := dk_28 (dk_at dksX3_readsAll_4 21 rfl rfl)
theorem dX3_readsAll_116 : decode cX3_readsAll 116 = .ok (.ifCond .eq 12, 3) := dk_153 0 12 (dk_at dksX3_readsAll_5 0 rfl rfl)
theorem dX3_readsAll_119 : decode cX3_readsAll 119 = .ok (.aload_n 0, 1) := dk_42 (dk_at dksX3_readsAll_5 3 rfl rfl)
theorem dX3_readsAll_120 : decode cX3_readsAll 120 = .ok (.iconst 5, 1) := dk_8 (dk_at dksX3_readsAll_5 4 rfl rfl)
theorem dX3_readsAll_121 : decode cX3_readsAll 121 = .ok (.aload_n 0, 1) := dk_42 (dk_at dksX3_readsAll_5 5 rfl rfl)
theorem dX3_readsAll_122 : decode cX3_readsAll 122 = .ok (.getfield 65, 3) := dk_180 0 65 (dk_at dksX3_readsAll_5 6 rfl rfl)
theorem dX3_readsAll_125 : decode cX3_readsAll 125 = .ok (.invokevirtual 167, 3) := dk_182 0 167 (dk_at dksX3_readsAll_5 9 rfl rfl)
theorem dX3_readsAll_128 : decode cX3_readsAll 128 = .ok (.iconst 1, 1) := dk_4 (dk_at dksX3_readsAll_5 12 rfl rfl)
theorem dX3_readsAll_129 : decode cX3_readsAll 129 = .ok (.istore_n 2, 1) := dk_61 (dk_at dksX3_readsAll_5 13 rfl rfl)
theorem dX3_readsAll_130 : decode cX3_readsAll 130 = .ok (.iconst (-1), 1) := dk_2 (dk_at dksX3_readsAll_5 14 rfl rfl)
theorem dX3_readsAll_131 : decode cX3_readsAll 131 = .ok (.istore_n 1, 1) := dk_60 (dk_at dksX3_readsAll_5 15 rfl rfl)
theorem dX3_readsAll_132 : decode cX3_readsAll 132 = .ok (.goto 27, 3) := dk_167 0 27 (dk_at dksX3_readsAll_5 16 rfl rfl)
theorem dX3_readsAll_135 : decode cX3_readsAll 135 = .ok (.iload 4, 2) := dk_21 4 (dk_at dksX3_readsAll_5 19 rfl rfl)
theorem dX3_readsAll_137 : decode cX3_readsAll 137 = .ok (.bipush 9, 2) := dk_16 9 (dk_at dksX3_readsAll_5 21 rfl rfl)
theorem dX3_readsAll_139 : decode cX3_readsAll 139 = .ok (.if_icmp .ne 11, 3) := dk_160 0 11 (dk_at dksX3_readsAll_6 0 rfl rfl)
theorem dX3_readsAll_142 : decode cX3_readsAll 142 = .ok (.aload_n 0, 1) := dk_42 (dk_at dksX3_readsAll_6 3 rfl rfl)
theorem dX3_readsAll_143 : decode cX3_readsAll 143 = .ok (.iload_n 1, 1) := dk_27 (dk_at dksX3_readsAll_6 4 rfl rfl)
theorem dX3_readsAll_144 : decode cX3_readsAll 144 = .ok (.invokevirtual 203, 3) := dk_182 0 203 (dk_at dksX3_readsAll_6 5 rfl rfl)
theorem dX3_readsAll_147 : decode cX3_readsAll 147 = .ok (.goto 12, 3) := dk_167 0 12 (dk_at dksX3_readsAll_6 8 rfl rfl)
theorem dX3_readsAll_150 : decode cX3_readsAll 150 = .ok (.aload_n 0, 1) := dk_42 (dk_at dksX3_readsAll_6 11 rfl rfl)
theorem dX3_readsAll_151 : decode cX3_readsAll 151 = .ok (.iconst 1, 1) := dk_4 (dk_at dksX3_readsAll_6 12 rfl rfl)
theorem dX3_readsAll_152 : decode cX3_readsAll 152 = .ok (.aload_n 0, 1) := dk_42 (dk_at dksX3_readsAll_6 13 rfl rfl)
theorem dX3_readsAll_153 : decode cX3_readsAll 153 = .ok (.getfield 65, 3) := dk_180 0 65 (dk_at dksX3_readsAll_6 14 rfl rfl)
theorem dX3_readsAll_156 : decode cX3_readsAll 156 = .ok (.invokevirtual 167, 3) := dk_182 0 167 (dk_at dksX3_readsAll_6 17 rfl rfl)
theorem dX3_readsAll_159 : decode cX3_readsAll 159 = .ok (.aload_n 0, 1) := dk_42 (dk_at dksX3_readsAll_6 20 rfl rfl)
theorem dX3_readsAll_160 : decode cX3_readsAll 160 = .ok (.invokevirtual 206, 3) := dk_182 0 206 (dk_at dksX3_readsAll_6 21 rfl rfl)
theorem dX3_readsAll_163 : decode cX3_readsAll 163 = .ok (.iinc 3 1, 3) := dk_132 3 1 (dk_at dksX3_readsAll_7 0 rfl rfl)
theorem dX3_readsAll_166 : decode cX3_readsAll 166 = .ok (.goto (-159), 3) := dk_167 255 97 (dk_at dksX3_readsAll_7 3 rfl rfl)
theorem dX3_readsAll_169 : decode cX3_readsAll 169 = .ok (.iload_n 3, 1) := dk_29 (dk_at dksX3_readsAll_7 6 rfl rfl)
theorem dX3_readsAll_170 : decode cX3_readsAll 170 = .ok (.ireturn, 1) := dk_172 (dk_at dksX3_readsAll_7 7 rfl rfl)
abbrev cX3_goesWell : ByteArray := prog_12_method_18_code
def yX3_goesWell : MethodName := ⟨RX3, "goesWell", "()Z"⟩
def dkwX3_goesWell_0 : List UInt8 := [42, 180, 0, 68, 154, 0, 7, 4, 167, 0, 4, 3, 172]
abbrev dktX3_goesWell_0 : List UInt8 := dkwX3_goesWell_0 ++ []
theorem dksX3_goesWell_0 : cX3_goesWell.data.toList.drop 0 = dktX3_goesWell_0 := by decide +kernel
theorem dX3_goesWell_0 : decode cX3_goesWell 0 = .ok (.aload_n 0, 1) := dk_42 (dk_at dksX3_goesWell_0 0 rfl rfl)
theorem dX3_goesWell_1 : decode cX3_goesWell 1 = .ok (.getfield 68, 3) := dk_180 0 68 (dk_at dksX3_goesWell_0 1 rfl rfl)
theorem dX3_goesWell_4 : decode cX3_goesWell 4 = .ok (.ifCond .ne 7, 3) := dk_154 0 7 (dk_at dksX3_goesWell_0 4 rfl rfl)
theorem dX3_goesWell_7 : decode cX3_goesWell 7 = .ok (.iconst 1, 1) := dk_4 (dk_at dksX3_goesWell_0 7 rfl rfl)
theorem dX3_goesWell_8 : decode cX3_goesWell 8 = .ok (.goto 4, 3) := dk_167 0 4 (dk_at dksX3_goesWell_0 8 rfl rfl)
theorem dX3_goesWell_11 : decode cX3_goesWell 11 = .ok (.iconst 0, 1) := dk_3 (dk_at dksX3_goesWell_0 11 rfl rfl)
theorem dX3_goesWell_12 : decode cX3_goesWell 12 = .ok (.ireturn, 1) := dk_172 (dk_at dksX3_goesWell_0 12 rfl rfl)
abbrev cX3_here : ByteArray := prog_12_method_16_code
def yX3_here : MethodName := ⟨RX3, "here", "()I"⟩
def dkwX3_here_2 : List UInt8 := [172]
abbrev dktX3_here_2 : List UInt8 := dkwX3_here_2 ++ []
def dkwX3_here_1 : List UInt8 := [160, 0, 16, 42, 89, 180, 0, 62, 4, 96, 181, 0, 62, 167, 255, 220, 42, 42, 180, 0, 62, 182, 0, 150]
abbrev dktX3_here_1 : List UInt8 := dkwX3_here_1 ++ dktX3_here_2
def dkwX3_here_0 : List UInt8 := [42, 42, 180, 0, 62, 182, 0, 150, 16, 10, 159, 0, 16, 42, 42, 180, 0, 62, 182, 0, 150, 16, 32]
abbrev dktX3_here_0 : List UInt8 := dkwX3_here_0 ++ dktX3_here_1
theorem dksX3_here_0 : cX3_here.data.toList.drop 0 = dktX3_here_0 := by decide +kernel
theorem dksX3_here_1 : cX3_here.data.toList.drop 23 = dktX3_here_1 := dk_seg dksX3_here_0 23 rfl rfl
theorem dksX3_here_2 : cX3_here.data.toList.drop 47 = dktX3_here_2 := dk_seg dksX3_here_1 24 rfl rfl
theorem dX3_here_0 : decode cX3_here 0 = .ok (.aload_n 0, 1) := dk_42 (dk_at dksX3_here_0 0 rfl rfl)
theorem dX3_here_1 : decode cX3_here 1 = .ok (.aload_n 0, 1) := dk_42 (dk_at dksX3_here_0 1 rfl rfl)
theorem dX3_here_2 : decode cX3_here 2 = .ok (.getfield 62, 3) := dk_180 0 62 (dk_at dksX3_here_0 2 rfl rfl)
theorem dX3_here_5 : decode cX3_here 5 = .ok (.invokevirtual 150, 3) := dk_182 0 150 (dk_at dksX3_here_0 5 rfl rfl)
theorem dX3_here_8 : decode cX3_here 8 = .ok (.bipush 10, 2) := dk_16 10 (dk_at dksX3_here_0 8 rfl rfl)
theorem dX3_here_10 : decode cX3_here 10 = .ok (.if_icmp .eq 16, 3) := dk_159 0 16 (dk_at dksX3_here_0 10 rfl rfl)
theorem dX3_here_13 : decode cX3_here 13 = .ok (.aload_n 0, 1) := dk_42 (dk_at dksX3_here_0 13 rfl rfl)
theorem dX3_here_14 : decode cX3_here 14 = .ok (.aload_n 0, 1) := dk_42 (dk_at dksX3_here_0 14 rfl rfl)
theorem dX3_here_15 : decode cX3_here 15 = .ok (.getfield 62, 3) := dk_180 0 62 (dk_at dksX3_here_0 15 rfl rfl)
theorem dX3_here_18 : decode cX3_here 18 = .ok (.invokevirtual 150, 3) := dk_182 0 150 (dk_at dksX3_here_0 18 rfl rfl)
theorem dX3_here_21 : decode cX3_here 21 = .ok (.bipush 32, 2) := dk_16 32 (dk_at dksX3_here_0 21 rfl rfl)
theorem dX3_here_23 : decode cX3_here 23 = .ok (.if_icmp .ne 16, 3) := dk_160 0 16 (dk_at dksX3_here_1 0 rfl rfl)
theorem dX3_here_26 : decode cX3_here 26 = .ok (.aload_n 0, 1) := dk_42 (dk_at dksX3_here_1 3 rfl rfl)
theorem dX3_here_27 : decode cX3_here 27 = .ok (.dup, 1) := dk_89 (dk_at dksX3_here_1 4 rfl rfl)
theorem dX3_here_28 : decode cX3_here 28 = .ok (.getfield 62, 3) := dk_180 0 62 (dk_at dksX3_here_1 5 rfl rfl)
theorem dX3_here_31 : decode cX3_here 31 = .ok (.iconst 1, 1) := dk_4 (dk_at dksX3_here_1 8 rfl rfl)
theorem dX3_here_32 : decode cX3_here 32 = .ok (.iadd, 1) := dk_96 (dk_at dksX3_here_1 9 rfl rfl)
theorem dX3_here_33 : decode cX3_here 33 = .ok (.putfield 62, 3) := dk_181 0 62 (dk_at dksX3_here_1 10 rfl rfl)
theorem dX3_here_36 : decode cX3_here 36 = .ok (.goto (-36), 3) := dk_167 255 220 (dk_at dksX3_here_1 13 rfl rfl)
theorem dX3_here_39 : decode cX3_here 39 = .ok (.aload_n 0, 1) := dk_42 (dk_at dksX3_here_1 16 rfl rfl)
theorem dX3_here_40 : decode cX3_here 40 = .ok (.aload_n 0, 1) := dk_42 (dk_at dksX3_here_1 17 rfl rfl)
theorem dX3_here_41 : decode cX3_here 41 = .ok (.getfield 62, 3) := dk_180 0 62 (dk_at dksX3_here_1 18 rfl rfl)
theorem dX3_here_44 : decode cX3_here 44 = .ok (.invokevirtual 150, 3) := dk_182 0 150 (dk_at dksX3_here_1 21 rfl rfl)
theorem dX3_here_47 : decode cX3_here 47 = .ok (.ireturn, 1) := dk_172 (dk_at dksX3_here_2 0 rfl rfl)
abbrev cX3_byteAt : ByteArray := prog_12_method_13_code
def yX3_byteAt : MethodName := ⟨RX3, "byteAt", "(I)I"⟩
def dkwX3_byteAt_0 : List UInt8 := [27, 155, 0, 20, 27, 42, 180, 0, 59, 162, 0, 12, 42, 180, 0, 44, 27, 46, 167, 0, 4, 2, 172]
abbrev dktX3_byteAt_0 : List UInt8 := dkwX3_byteAt_0 ++ []
theorem dksX3_byteAt_0 : cX3_byteAt.data.toList.drop 0 = dktX3_byteAt_0 := by decide +kernel
theorem dX3_byteAt_0 : decode cX3_byteAt 0 = .ok (.iload_n 1, 1) := dk_27 (dk_at dksX3_byteAt_0 0 rfl rfl)
theorem dX3_byteAt_1 : decode cX3_byteAt 1 = .ok (.ifCond .lt 20, 3) := dk_155 0 20 (dk_at dksX3_byteAt_0 1 rfl rfl)
theorem dX3_byteAt_4 : decode cX3_byteAt 4 = .ok (.iload_n 1, 1) := dk_27 (dk_at dksX3_byteAt_0 4 rfl rfl)
theorem dX3_byteAt_5 : decode cX3_byteAt 5 = .ok (.aload_n 0, 1) := dk_42 (dk_at dksX3_byteAt_0 5 rfl rfl)
theorem dX3_byteAt_6 : decode cX3_byteAt 6 = .ok (.getfield 59, 3) := dk_180 0 59 (dk_at dksX3_byteAt_0 6 rfl rfl)
theorem dX3_byteAt_9 : decode cX3_byteAt 9 = .ok (.if_icmp .ge 12, 3) := dk_162 0 12 (dk_at dksX3_byteAt_0 9 rfl rfl)
theorem dX3_byteAt_12 : decode cX3_byteAt 12 = .ok (.aload_n 0, 1) := dk_42 (dk_at dksX3_byteAt_0 12 rfl rfl)
theorem dX3_byteAt_13 : decode cX3_byteAt 13 = .ok (.getfield 44, 3) := dk_180 0 44 (dk_at dksX3_byteAt_0 13 rfl rfl)
theorem dX3_byteAt_16 : decode cX3_byteAt 16 = .ok (.iload_n 1, 1) := dk_27 (dk_at dksX3_byteAt_0 16 rfl rfl)
theorem dX3_byteAt_17 : decode cX3_byteAt 17 = .ok (.iaload, 1) := dk_46 (dk_at dksX3_byteAt_0 17 rfl rfl)
theorem dX3_byteAt_18 : decode cX3_byteAt 18 = .ok (.goto 4, 3) := dk_167 0 4 (dk_at dksX3_byteAt_0 18 rfl rfl)
theorem dX3_byteAt_21 : decode cX3_byteAt 21 = .ok (.iconst (-1), 1) := dk_2 (dk_at dksX3_byteAt_0 21 rfl rfl)
theorem dX3_byteAt_22 : decode cX3_byteAt 22 = .ok (.ireturn, 1) := dk_172 (dk_at dksX3_byteAt_0 22 rfl rfl)
abbrev cX3_faults : ByteArray := prog_12_method_17_code
def yX3_faults : MethodName := ⟨RX3, "faults", "(II)V"⟩
def dkwX3_faults_0 : List UInt8 := [42, 180, 0, 68, 153, 0, 4, 177, 42, 27, 181, 0, 68, 42, 28, 181, 0, 71, 177]
abbrev dktX3_faults_0 : List UInt8 := dkwX3_faults_0 ++ []
theorem dksX3_faults_0 : cX3_faults.data.toList.drop 0 = dktX3_faults_0 := by decide +kernel
theorem dX3_faults_0 : decode cX3_faults 0 = .ok (.aload_n 0, 1) := dk_42 (dk_at dksX3_faults_0 0 rfl rfl)
theorem dX3_faults_1 : decode cX3_faults 1 = .ok (.getfield 68, 3) := dk_180 0 68 (dk_at dksX3_faults_0 1 rfl rfl)
theorem dX3_faults_4 : decode cX3_faults 4 = .ok (.ifCond .eq 4, 3) := dk_153 0 4 (dk_at dksX3_faults_0 4 rfl rfl)
theorem dX3_faults_7 : decode cX3_faults 7 = .ok (.return_, 1) := dk_177 (dk_at dksX3_faults_0 7 rfl rfl)
theorem dX3_faults_8 : decode cX3_faults 8 = .ok (.aload_n 0, 1) := dk_42 (dk_at dksX3_faults_0 8 rfl rfl)
theorem dX3_faults_9 : decode cX3_faults 9 = .ok (.iload_n 1, 1) := dk_27 (dk_at dksX3_faults_0 9 rfl rfl)
theorem dX3_faults_10 : decode cX3_faults 10 = .ok (.putfield 68, 3) := dk_181 0 68 (dk_at dksX3_faults_0 10 rfl rfl)
theorem dX3_faults_13 : decode cX3_faults 13 = .ok (.aload_n 0, 1) := dk_42 (dk_at dksX3_faults_0 13 rfl rfl)
theorem dX3_faults_14 : decode cX3_faults 14 = .ok (.iload_n 2, 1) := dk_28 (dk_at dksX3_faults_0 14 rfl rfl)
theorem dX3_faults_15 : decode cX3_faults 15 = .ok (.putfield 71, 3) := dk_181 0 71 (dk_at dksX3_faults_0 15 rfl rfl)
theorem dX3_faults_18 : decode cX3_faults 18 = .ok (.return_, 1) := dk_177 (dk_at dksX3_faults_0 18 rfl rfl)
abbrev cX3_word : ByteArray := prog_12_method_19_code
def yX3_word : MethodName := ⟨RX3, "word", "()V"⟩
def dkwX3_word_3 : List UInt8 := [180, 0, 62, 182, 0, 161, 153, 0, 16, 42, 89, 180, 0, 62, 4, 96, 181, 0, 62, 167, 255, 235, 177]
abbrev dktX3_word_3 : List UInt8 := dkwX3_word_3 ++ []
def dkwX3_word_2 : List UInt8 := [180, 0, 62, 4, 100, 182, 0, 164, 153, 0, 13, 42, 4, 42, 180, 0, 62, 182, 0, 167, 177, 42, 42]
abbrev dktX3_word_2 : List UInt8 := dkwX3_word_2 ++ dktX3_word_3
def dkwX3_word_1 : List UInt8 := [180, 0, 62, 182, 0, 161, 153, 0, 29, 42, 42, 180, 0, 62, 4, 100, 182, 0, 161, 154, 0, 16, 42, 42]
abbrev dktX3_word_1 : List UInt8 := dkwX3_word_1 ++ dktX3_word_2
def dkwX3_word_0 : List UInt8 := [42, 182, 0, 153, 154, 0, 4, 177, 42, 182, 0, 157, 87, 42, 42, 180, 0, 62, 181, 0, 65, 42, 42]
abbrev dktX3_word_0 : List UInt8 := dkwX3_word_0 ++ dktX3_word_1
theorem dksX3_word_0 : cX3_word.data.toList.drop 0 = dktX3_word_0 := by decide +kernel
theorem dksX3_word_1 : cX3_word.data.toList.drop 23 = dktX3_word_1 := dk_seg dksX3_word_0 23 rfl rfl
theorem dksX3_word_2 : cX3_word.data.toList.drop 47 = dktX3_word_2 := dk_seg dksX3_word_1 24 rfl rfl
theorem dksX3_word_3 : cX3_word.data.toList.drop 70 = dktX3_word_3 := dk_seg dksX3_word_2 23 rfl rfl
theorem dX3_word_0 : decode cX3_word 0 = .ok (.aload_n 0, 1) := dk_42 (dk_at dksX3_word_0 0 rfl rfl)
theorem dX3_word_1 : decode cX3_word 1 = .ok (.invokevirtual 153, 3) := dk_182 0 153 (dk_at dksX3_word_0 1 rfl rfl)
theorem dX3_word_4 : decode cX3_word 4 = .ok (.ifCond .ne 4, 3) := dk_154 0 4 (dk_at dksX3_word_0 4 rfl rfl)
theorem dX3_word_7 : decode cX3_word 7 = .ok (.return_, 1) := dk_177 (dk_at dksX3_word_0 7 rfl rfl)
theorem dX3_word_8 : decode cX3_word 8 = .ok (.aload_n 0, 1) := dk_42 (dk_at dksX3_word_0 8 rfl rfl)
theorem dX3_word_9 : decode cX3_word 9 = .ok (.invokevirtual 157, 3) := dk_182 0 157 (dk_at dksX3_word_0 9 rfl rfl)
theorem dX3_word_12 : decode cX3_word 12 = .ok (.pop, 1) := dk_87 (dk_at dksX3_word_0 12 rfl rfl)
theorem dX3_word_13 : decode cX3_word 13 = .ok (.aload_n 0, 1) := dk_42 (dk_at dksX3_word_0 13 rfl rfl)
theorem dX3_word_14 : decode cX3_word 14 = .ok (.aload_n 0, 1) := dk_42 (dk_at dksX3_word_0 14 rfl rfl)
theorem dX3_word_15 : decode cX3_word 15 = .ok (.getfield 62, 3) := dk_180 0 62 (dk_at dksX3_word_0 15 rfl rfl)
theorem dX3_word_18 : decode cX3_word 18 = .ok (.putfield 65, 3) := dk_181 0 65 (dk_at dksX3_word_0 18 rfl rfl)
theorem dX3_word_21 : decode cX3_word 21 = .ok (.aload_n 0, 1) := dk_42 (dk_at dksX3_word_0 21 rfl rfl)
theorem dX3_word_22 : decode cX3_word 22 = .ok (.aload_n 0, 1) := dk_42 (dk_at dksX3_word_0 22 rfl rfl)
theorem dX3_word_23 : decode cX3_word 23 = .ok (.getfield 62, 3) := dk_180 0 62 (dk_at dksX3_word_1 0 rfl rfl)
theorem dX3_word_26 : decode cX3_word 26 = .ok (.invokevirtual 161, 3) := dk_182 0 161 (dk_at dksX3_word_1 3 rfl rfl)
theorem dX3_word_29 : decode cX3_word 29 = .ok (.ifCond .eq 29, 3) := dk_153 0 29 (dk_at dksX3_word_1 6 rfl rfl)
theorem dX3_word_32 : decode cX3_word 32 = .ok (.aload_n 0, 1) := dk_42 (dk_at dksX3_word_1 9 rfl rfl)
theorem dX3_word_33 : decode cX3_word 33 = .ok (.aload_n 0, 1) := dk_42 (dk_at dksX3_word_1 10 rfl rfl)
theorem dX3_word_34 : decode cX3_word 34 = .ok (.getfield 62, 3) := dk_180 0 62 (dk_at dksX3_word_1 11 rfl rfl)
theorem dX3_word_37 : decode cX3_word 37 = .ok (.iconst 1, 1) := dk_4 (dk_at dksX3_word_1 14 rfl rfl)
theorem dX3_word_38 : decode cX3_word 38 = .ok (.isub, 1) := dk_100 (dk_at dksX3_word_1 15 rfl rfl)
theorem dX3_word_39 : decode cX3_word 39 = .ok (.invokevirtual 161, 3) := dk_182 0 161 (dk_at dksX3_word_1 16 rfl rfl)
theorem dX3_word_42 : decode cX3_word 42 = .ok (.ifCond .ne 16, 3) := dk_154 0 16 (dk_at dksX3_word_1 19 rfl rfl)
theorem dX3_word_45 : decode cX3_word 45 = .ok (.aload_n 0, 1) := dk_42 (dk_at dksX3_word_1 22 rfl rfl)
theorem dX3_word_46 : decode cX3_word 46 = .ok (.aload_n 0, 1) := dk_42 (dk_at dksX3_word_1 23 rfl rfl)
theorem dX3_word_47 : decode cX3_word 47 = .ok (.getfield 62, 3) := dk_180 0 62 (dk_at dksX3_word_2 0 rfl rfl)
theorem dX3_word_50 : decode cX3_word 50 = .ok (.iconst 1, 1) := dk_4 (dk_at dksX3_word_2 3 rfl rfl)
theorem dX3_word_51 : decode cX3_word 51 = .ok (.isub, 1) := dk_100 (dk_at dksX3_word_2 4 rfl rfl)
theorem dX3_word_52 : decode cX3_word 52 = .ok (.invokevirtual 164, 3) := dk_182 0 164 (dk_at dksX3_word_2 5 rfl rfl)
theorem dX3_word_55 : decode cX3_word 55 = .ok (.ifCond .eq 13, 3) := dk_153 0 13 (dk_at dksX3_word_2 8 rfl rfl)
theorem dX3_word_58 : decode cX3_word 58 = .ok (.aload_n 0, 1) := dk_42 (dk_at dksX3_word_2 11 rfl rfl)
theorem dX3_word_59 : decode cX3_word 59 = .ok (.iconst 1, 1) := dk_4 (dk_at dksX3_word_2 12 rfl rfl)
theorem dX3_word_60 : decode cX3_word 60 = .ok (.aload_n 0, 1) := dk_42 (dk_at dksX3_word_2 13 rfl rfl)
theorem dX3_word_61 : decode cX3_word 61 = .ok (.getfield 62, 3) := dk_180 0 62 (dk_at dksX3_word_2 14 rfl rfl)
theorem dX3_word_64 : decode cX3_word 64 = .ok (.invokevirtual 167, 3) := dk_182 0 167 (dk_at dksX3_word_2 17 rfl rfl)
theorem dX3_word_67 : decode cX3_word 67 = .ok (.return_, 1) := dk_177 (dk_at dksX3_word_2 20 rfl rfl)
theorem dX3_word_68 : decode cX3_word 68 = .ok (.aload_n 0, 1) := dk_42 (dk_at dksX3_word_2 21 rfl rfl)
theorem dX3_word_69 : decode cX3_word 69 = .ok (.aload_n 0, 1) := dk_42 (dk_at dksX3_word_2 22 rfl rfl)
theorem dX3_word_70 : decode cX3_word 70 = .ok (.getfield 62, 3) := dk_180 0 62 (dk_at dksX3_word_3 0 rfl rfl)
theorem dX3_word_73 : decode cX3_word 73 = .ok (.invokevirtual 161, 3) := dk_182 0 161 (dk_at dksX3_word_3 3 rfl rfl)
theorem dX3_word_76 : decode cX3_word 76 = .ok (.ifCond .eq 16, 3) := dk_153 0 16 (dk_at dksX3_word_3 6 rfl rfl)
theorem dX3_word_79 : decode cX3_word 79 = .ok (.aload_n 0, 1) := dk_42 (dk_at dksX3_word_3 9 rfl rfl)
theorem dX3_word_80 : decode cX3_word 80 = .ok (.dup, 1) := dk_89 (dk_at dksX3_word_3 10 rfl rfl)
theorem dX3_word_81 : decode cX3_word 81 = .ok (.getfield 62, 3) := dk_180 0 62 (dk_at dksX3_word_3 11 rfl rfl)
theorem dX3_word_84 : decode cX3_word 84 = .ok (.iconst 1, 1) := dk_4 (dk_at dksX3_word_3 14 rfl rfl)
theorem dX3_word_85 : decode cX3_word 85 = .ok (.iadd, 1) := dk_96 (dk_at dksX3_word_3 15 rfl rfl)
theorem dX3_word_86 : decode cX3_word 86 = .ok (.putfield 62, 3) := dk_181 0 62 (dk_at dksX3_word_3 16 rfl rfl)
theorem dX3_word_89 : decode cX3_word 89 = .ok (.goto (-21), 3) := dk_167 255 235 (dk_at dksX3_word_3 19 rfl rfl)
theorem dX3_word_92 : decode cX3_word 92 = .ok (.return_, 1) := dk_177 (dk_at dksX3_word_3 22 rfl rfl)
abbrev cX3_isSmall : ByteArray := prog_12_method_14_code
def yX3_isSmall : MethodName := ⟨RX3, "isSmall", "(I)Z"⟩
def dkwX3_isSmall_1 : List UInt8 := [3, 172]
abbrev dktX3_isSmall_1 : List UInt8 := dkwX3_isSmall_1 ++ []
def dkwX3_isSmall_0 : List UInt8 := [42, 27, 182, 0, 150, 16, 97, 161, 0, 17, 42, 27, 182, 0, 150, 16, 122, 163, 0, 7, 4, 167, 0, 4]
abbrev dktX3_isSmall_0 : List UInt8 := dkwX3_isSmall_0 ++ dktX3_isSmall_1
theorem dksX3_isSmall_0 : cX3_isSmall.data.toList.drop 0 = dktX3_isSmall_0 := by decide +kernel
theorem dksX3_isSmall_1 : cX3_isSmall.data.toList.drop 24 = dktX3_isSmall_1 := dk_seg dksX3_isSmall_0 24 rfl rfl
theorem dX3_isSmall_0 : decode cX3_isSmall 0 = .ok (.aload_n 0, 1) := dk_42 (dk_at dksX3_isSmall_0 0 rfl rfl)
theorem dX3_isSmall_1 : decode cX3_isSmall 1 = .ok (.iload_n 1, 1) := dk_27 (dk_at dksX3_isSmall_0 1 rfl rfl)
theorem dX3_isSmall_2 : decode cX3_isSmall 2 = .ok (.invokevirtual 150, 3) := dk_182 0 150 (dk_at dksX3_isSmall_0 2 rfl rfl)
theorem dX3_isSmall_5 : decode cX3_isSmall 5 = .ok (.bipush 97, 2) := dk_16 97 (dk_at dksX3_isSmall_0 5 rfl rfl)
theorem dX3_isSmall_7 : decode cX3_isSmall 7 = .ok (.if_icmp .lt 17, 3) := dk_161 0 17 (dk_at dksX3_isSmall_0 7 rfl rfl)
theorem dX3_isSmall_10 : decode cX3_isSmall 10 = .ok (.aload_n 0, 1) := dk_42 (dk_at dksX3_isSmall_0 10 rfl rfl)
theorem dX3_isSmall_11 : decode cX3_isSmall 11 = .ok (.iload_n 1, 1) := dk_27 (dk_at dksX3_isSmall_0 11 rfl rfl)
theorem dX3_isSmall_12 : decode cX3_isSmall 12 = .ok (.invokevirtual 150, 3) := dk_182 0 150 (dk_at dksX3_isSmall_0 12 rfl rfl)
theorem dX3_isSmall_15 : decode cX3_isSmall 15 = .ok (.bipush 122, 2) := dk_16 122 (dk_at dksX3_isSmall_0 15 rfl rfl)
theorem dX3_isSmall_17 : decode cX3_isSmall 17 = .ok (.if_icmp .gt 7, 3) := dk_163 0 7 (dk_at dksX3_isSmall_0 17 rfl rfl)
theorem dX3_isSmall_20 : decode cX3_isSmall 20 = .ok (.iconst 1, 1) := dk_4 (dk_at dksX3_isSmall_0 20 rfl rfl)
theorem dX3_isSmall_21 : decode cX3_isSmall 21 = .ok (.goto 4, 3) := dk_167 0 4 (dk_at dksX3_isSmall_0 21 rfl rfl)
theorem dX3_isSmall_24 : decode cX3_isSmall 24 = .ok (.iconst 0, 1) := dk_3 (dk_at dksX3_isSmall_1 0 rfl rfl)
theorem dX3_isSmall_25 : decode cX3_isSmall 25 = .ok (.ireturn, 1) := dk_172 (dk_at dksX3_isSmall_1 1 rfl rfl)
abbrev cX3_isDigit : ByteArray := prog_12_method_15_code
def yX3_isDigit : MethodName := ⟨RX3, "isDigit", "(I)Z"⟩
def dkwX3_isDigit_1 : List UInt8 := [3, 172]
abbrev dktX3_isDigit_1 : List UInt8 := dkwX3_isDigit_1 ++ []
def dkwX3_isDigit_0 : List UInt8 := [42, 27, 182, 0, 150, 16, 48, 161, 0, 17, 42, 27, 182, 0, 150, 16, 57, 163, 0, 7, 4, 167, 0, 4]
abbrev dktX3_isDigit_0 : List UInt8 := dkwX3_isDigit_0 ++ dktX3_isDigit_1
theorem dksX3_isDigit_0 : cX3_isDigit.data.toList.drop 0 = dktX3_isDigit_0 := by decide +kernel
theorem dksX3_isDigit_1 : cX3_isDigit.data.toList.drop 24 = dktX3_isDigit_1 := dk_seg dksX3_isDigit_0 24 rfl rfl
theorem dX3_isDigit_0 : decode cX3_isDigit 0 = .ok (.aload_n 0, 1) := dk_42 (dk_at dksX3_isDigit_0 0 rfl rfl)
theorem dX3_isDigit_1 : decode cX3_isDigit 1 = .ok (.iload_n 1, 1) := dk_27 (dk_at dksX3_isDigit_0 1 rfl rfl)
theorem dX3_isDigit_2 : decode cX3_isDigit 2 = .ok (.invokevirtual 150, 3) := dk_182 0 150 (dk_at dksX3_isDigit_0 2 rfl rfl)
theorem dX3_isDigit_5 : decode cX3_isDigit 5 = .ok (.bipush 48, 2) := dk_16 48 (dk_at dksX3_isDigit_0 5 rfl rfl)
theorem dX3_isDigit_7 : decode cX3_isDigit 7 = .ok (.if_icmp .lt 17, 3) := dk_161 0 17 (dk_at dksX3_isDigit_0 7 rfl rfl)
theorem dX3_isDigit_10 : decode cX3_isDigit 10 = .ok (.aload_n 0, 1) := dk_42 (dk_at dksX3_isDigit_0 10 rfl rfl)
theorem dX3_isDigit_11 : decode cX3_isDigit 11 = .ok (.iload_n 1, 1) := dk_27 (dk_at dksX3_isDigit_0 11 rfl rfl)
theorem dX3_isDigit_12 : decode cX3_isDigit 12 = .ok (.invokevirtual 150, 3) := dk_182 0 150 (dk_at dksX3_isDigit_0 12 rfl rfl)
theorem dX3_isDigit_15 : decode cX3_isDigit 15 = .ok (.bipush 57, 2) := dk_16 57 (dk_at dksX3_isDigit_0 15 rfl rfl)
theorem dX3_isDigit_17 : decode cX3_isDigit 17 = .ok (.if_icmp .gt 7, 3) := dk_163 0 7 (dk_at dksX3_isDigit_0 17 rfl rfl)
theorem dX3_isDigit_20 : decode cX3_isDigit 20 = .ok (.iconst 1, 1) := dk_4 (dk_at dksX3_isDigit_0 20 rfl rfl)
theorem dX3_isDigit_21 : decode cX3_isDigit 21 = .ok (.goto 4, 3) := dk_167 0 4 (dk_at dksX3_isDigit_0 21 rfl rfl)
theorem dX3_isDigit_24 : decode cX3_isDigit 24 = .ok (.iconst 0, 1) := dk_3 (dk_at dksX3_isDigit_1 0 rfl rfl)
theorem dX3_isDigit_25 : decode cX3_isDigit 25 = .ok (.ireturn, 1) := dk_172 (dk_at dksX3_isDigit_1 1 rfl rfl)
abbrev cX3_own : ByteArray := prog_12_method_20_code
def yX3_own : MethodName := ⟨RX3, "own", "()I"⟩
def dkwX3_own_5 : List UInt8 := [172]
abbrev dktX3_own_5 : List UInt8 := dkwX3_own_5 ++ []
def dkwX3_own_4 : List UInt8 := [180, 0, 74, 27, 46, 153, 0, 9, 132, 1, 1, 167, 255, 244, 132, 1, 1, 132, 2, 1, 167, 255, 146, 2]
abbrev dktX3_own_4 : List UInt8 := dkwX3_own_4 ++ dktX3_own_5
def dkwX3_own_3 : List UInt8 := [27, 29, 96, 46, 154, 0, 18, 42, 180, 0, 65, 29, 96, 42, 180, 0, 62, 160, 0, 5, 28, 172, 42]
abbrev dktX3_own_3 : List UInt8 := dkwX3_own_3 ++ dktX3_own_4
def dkwX3_own_2 : List UInt8 := [16, 96, 100, 42, 180, 0, 74, 27, 29, 96, 46, 160, 0, 9, 132, 3, 1, 167, 255, 204, 42, 180, 0, 74]
abbrev dktX3_own_2 : List UInt8 := dkwX3_own_2 ++ dktX3_own_3
def dkwX3_own_1 : List UInt8 := [180, 0, 65, 29, 96, 42, 180, 0, 62, 162, 0, 34, 42, 180, 0, 44, 42, 180, 0, 65, 29, 96, 46]
abbrev dktX3_own_1 : List UInt8 := dkwX3_own_1 ++ dktX3_own_2
def dkwX3_own_0 : List UInt8 := [3, 60, 3, 61, 27, 16, 56, 162, 0, 110, 3, 62, 42, 180, 0, 74, 27, 29, 96, 46, 153, 0, 47, 42]
abbrev dktX3_own_0 : List UInt8 := dkwX3_own_0 ++ dktX3_own_1
theorem dksX3_own_0 : cX3_own.data.toList.drop 0 = dktX3_own_0 := by decide +kernel
theorem dksX3_own_1 : cX3_own.data.toList.drop 24 = dktX3_own_1 := dk_seg dksX3_own_0 24 rfl rfl
theorem dksX3_own_2 : cX3_own.data.toList.drop 47 = dktX3_own_2 := dk_seg dksX3_own_1 23 rfl rfl
theorem dksX3_own_3 : cX3_own.data.toList.drop 71 = dktX3_own_3 := dk_seg dksX3_own_2 24 rfl rfl
theorem dksX3_own_4 : cX3_own.data.toList.drop 94 = dktX3_own_4 := dk_seg dksX3_own_3 23 rfl rfl
theorem dksX3_own_5 : cX3_own.data.toList.drop 118 = dktX3_own_5 := dk_seg dksX3_own_4 24 rfl rfl
theorem dX3_own_0 : decode cX3_own 0 = .ok (.iconst 0, 1) := dk_3 (dk_at dksX3_own_0 0 rfl rfl)
theorem dX3_own_1 : decode cX3_own 1 = .ok (.istore_n 1, 1) := dk_60 (dk_at dksX3_own_0 1 rfl rfl)
theorem dX3_own_2 : decode cX3_own 2 = .ok (.iconst 0, 1) := dk_3 (dk_at dksX3_own_0 2 rfl rfl)
theorem dX3_own_3 : decode cX3_own 3 = .ok (.istore_n 2, 1) := dk_61 (dk_at dksX3_own_0 3 rfl rfl)
theorem dX3_own_4 : decode cX3_own 4 = .ok (.iload_n 1, 1) := dk_27 (dk_at dksX3_own_0 4 rfl rfl)
theorem dX3_own_5 : decode cX3_own 5 = .ok (.bipush 56, 2) := dk_16 56 (dk_at dksX3_own_0 5 rfl rfl)
theorem dX3_own_7 : decode cX3_own 7 = .ok (.if_icmp .ge 110, 3) := dk_162 0 110 (dk_at dksX3_own_0 7 rfl rfl)
theorem dX3_own_10 : decode cX3_own 10 = .ok (.iconst 0, 1) := dk_3 (dk_at dksX3_own_0 10 rfl rfl)
theorem dX3_own_11 : decode cX3_own 11 = .ok (.istore_n 3, 1) := dk_62 (dk_at dksX3_own_0 11 rfl rfl)
theorem dX3_own_12 : decode cX3_own 12 = .ok (.aload_n 0, 1) := dk_42 (dk_at dksX3_own_0 12 rfl rfl)
theorem dX3_own_13 : decode cX3_own 13 = .ok (.getfield 74, 3) := dk_180 0 74 (dk_at dksX3_own_0 13 rfl rfl)
theorem dX3_own_16 : decode cX3_own 16 = .ok (.iload_n 1, 1) := dk_27 (dk_at dksX3_own_0 16 rfl rfl)
theorem dX3_own_17 : decode cX3_own 17 = .ok (.iload_n 3, 1) := dk_29 (dk_at dksX3_own_0 17 rfl rfl)
theorem dX3_own_18 : decode cX3_own 18 = .ok (.iadd, 1) := dk_96 (dk_at dksX3_own_0 18 rfl rfl)
theorem dX3_own_19 : decode cX3_own 19 = .ok (.iaload, 1) := dk_46 (dk_at dksX3_own_0 19 rfl rfl)
theorem dX3_own_20 : decode cX3_own 20 = .ok (.ifCond .eq 47, 3) := dk_153 0 47 (dk_at dksX3_own_0 20 rfl rfl)
theorem dX3_own_23 : decode cX3_own 23 = .ok (.aload_n 0, 1) := dk_42 (dk_at dksX3_own_0 23 rfl rfl)
theorem dX3_own_24 : decode cX3_own 24 = .ok (.getfield 65, 3) := dk_180 0 65 (dk_at dksX3_own_1 0 rfl rfl)
theorem dX3_own_27 : decode cX3_own 27 = .ok (.iload_n 3, 1) := dk_29 (dk_at dksX3_own_1 3 rfl rfl)
theorem dX3_own_28 : decode cX3_own 28 = .ok (.iadd, 1) := dk_96 (dk_at dksX3_own_1 4 rfl rfl)
theorem dX3_own_29 : decode cX3_own 29 = .ok (.aload_n 0, 1) := dk_42 (dk_at dksX3_own_1 5 rfl rfl)
theorem dX3_own_30 : decode cX3_own 30 = .ok (.getfield 62, 3) := dk_180 0 62 (dk_at dksX3_own_1 6 rfl rfl)
theorem dX3_own_33 : decode cX3_own 33 = .ok (.if_icmp .ge 34, 3) := dk_162 0 34 (dk_at dksX3_own_1 9 rfl rfl)
theorem dX3_own_36 : decode cX3_own 36 = .ok (.aload_n 0, 1) := dk_42 (dk_at dksX3_own_1 12 rfl rfl)
theorem dX3_own_37 : decode cX3_own 37 = .ok (.getfield 44, 3) := dk_180 0 44 (dk_at dksX3_own_1 13 rfl rfl)
theorem dX3_own_40 : decode cX3_own 40 = .ok (.aload_n 0, 1) := dk_42 (dk_at dksX3_own_1 16 rfl rfl)
theorem dX3_own_41 : decode cX3_own 41 = .ok (.getfield 65, 3) := dk_180 0 65 (dk_at dksX3_own_1 17 rfl rfl)
theorem dX3_own_44 : decode cX3_own 44 = .ok (.iload_n 3, 1) := dk_29 (dk_at dksX3_own_1 20 rfl rfl)
theorem dX3_own_45 : decode cX3_own 45 = .ok (.iadd, 1) := dk_96 (dk_at dksX3_own_1 21 rfl rfl)
theorem dX3_own_46 : decode cX3_own 46 = .ok (.iaload, 1) := dk_46 (dk_at dksX3_own_1 22 rfl rfl)
theorem dX3_own_47 : decode cX3_own 47 = .ok (.bipush 96, 2) := dk_16 96 (dk_at dksX3_own_2 0 rfl rfl)
theorem dX3_own_49 : decode cX3_own 49 = .ok (.isub, 1) := dk_100 (dk_at dksX3_own_2 2 rfl rfl)
theorem dX3_own_50 : decode cX3_own 50 = .ok (.aload_n 0, 1) := dk_42 (dk_at dksX3_own_2 3 rfl rfl)
theorem dX3_own_51 : decode cX3_own 51 = .ok (.getfield 74, 3) := dk_180 0 74 (dk_at dksX3_own_2 4 rfl rfl)
theorem dX3_own_54 : decode cX3_own 54 = .ok (.iload_n 1, 1) := dk_27 (dk_at dksX3_own_2 7 rfl rfl)
theorem dX3_own_55 : decode cX3_own 55 = .ok (.iload_n 3, 1) := dk_29 (dk_at dksX3_own_2 8 rfl rfl)
theorem dX3_own_56 : decode cX3_own 56 = .ok (.iadd, 1) := dk_96 (dk_at dksX3_own_2 9 rfl rfl)
theorem dX3_own_57 : decode cX3_own 57 = .ok (.iaload, 1) := dk_46 (dk_at dksX3_own_2 10 rfl rfl)
theorem dX3_own_58 : decode cX3_own 58 = .ok (.if_icmp .ne 9, 3) := dk_160 0 9 (dk_at dksX3_own_2 11 rfl rfl)
theorem dX3_own_61 : decode cX3_own 61 = .ok (.iinc 3 1, 3) := dk_132 3 1 (dk_at dksX3_own_2 14 rfl rfl)
theorem dX3_own_64 : decode cX3_own 64 = .ok (.goto (-52), 3) := dk_167 255 204 (dk_at dksX3_own_2 17 rfl rfl)
theorem dX3_own_67 : decode cX3_own 67 = .ok (.aload_n 0, 1) := dk_42 (dk_at dksX3_own_2 20 rfl rfl)
theorem dX3_own_68 : decode cX3_own 68 = .ok (.getfield 74, 3) := dk_180 0 74 (dk_at dksX3_own_2 21 rfl rfl)
theorem dX3_own_71 : decode cX3_own 71 = .ok (.iload_n 1, 1) := dk_27 (dk_at dksX3_own_3 0 rfl rfl)
theorem dX3_own_72 : decode cX3_own 72 = .ok (.iload_n 3, 1) := dk_29 (dk_at dksX3_own_3 1 rfl rfl)
theorem dX3_own_73 : decode cX3_own 73 = .ok (.iadd, 1) := dk_96 (dk_at dksX3_own_3 2 rfl rfl)
theorem dX3_own_74 : decode cX3_own 74 = .ok (.iaload, 1) := dk_46 (dk_at dksX3_own_3 3 rfl rfl)
theorem dX3_own_75 : decode cX3_own 75 = .ok (.ifCond .ne 18, 3) := dk_154 0 18 (dk_at dksX3_own_3 4 rfl rfl)
theorem dX3_own_78 : decode cX3_own 78 = .ok (.aload_n 0, 1) := dk_42 (dk_at dksX3_own_3 7 rfl rfl)
theorem dX3_own_79 : decode cX3_own 79 = .ok (.getfield 65, 3) := dk_180 0 65 (dk_at dksX3_own_3 8 rfl rfl)
theorem dX3_own_82 : decode cX3_own 82 = .ok (.iload_n 3, 1) := dk_29 (dk_at dksX3_own_3 11 rfl rfl)
theorem dX3_own_83 : decode cX3_own 83 = .ok (.iadd, 1) := dk_96 (dk_at dksX3_own_3 12 rfl rfl)
theorem dX3_own_84 : decode cX3_own 84 = .ok (.aload_n 0, 1) := dk_42 (dk_at dksX3_own_3 13 rfl rfl)
theorem dX3_own_85 : decode cX3_own 85 = .ok (.getfield 62, 3) := dk_180 0 62 (dk_at dksX3_own_3 14 rfl rfl)
theorem dX3_own_88 : decode cX3_own 88 = .ok (.if_icmp .ne 5, 3) := dk_160 0 5 (dk_at dksX3_own_3 17 rfl rfl)
theorem dX3_own_91 : decode cX3_own 91 = .ok (.iload_n 2, 1) := dk_28 (dk_at dksX3_own_3 20 rfl rfl)
theorem dX3_own_92 : decode cX3_own 92 = .ok (.ireturn, 1) := dk_172 (dk_at dksX3_own_3 21 rfl rfl)
theorem dX3_own_93 : decode cX3_own 93 = .ok (.aload_n 0, 1) := dk_42 (dk_at dksX3_own_3 22 rfl rfl)
theorem dX3_own_94 : decode cX3_own 94 = .ok (.getfield 74, 3) := dk_180 0 74 (dk_at dksX3_own_4 0 rfl rfl)
theorem dX3_own_97 : decode cX3_own 97 = .ok (.iload_n 1, 1) := dk_27 (dk_at dksX3_own_4 3 rfl rfl)
theorem dX3_own_98 : decode cX3_own 98 = .ok (.iaload, 1) := dk_46 (dk_at dksX3_own_4 4 rfl rfl)
theorem dX3_own_99 : decode cX3_own 99 = .ok (.ifCond .eq 9, 3) := dk_153 0 9 (dk_at dksX3_own_4 5 rfl rfl)
theorem dX3_own_102 : decode cX3_own 102 = .ok (.iinc 1 1, 3) := dk_132 1 1 (dk_at dksX3_own_4 8 rfl rfl)
theorem dX3_own_105 : decode cX3_own 105 = .ok (.goto (-12), 3) := dk_167 255 244 (dk_at dksX3_own_4 11 rfl rfl)
theorem dX3_own_108 : decode cX3_own 108 = .ok (.iinc 1 1, 3) := dk_132 1 1 (dk_at dksX3_own_4 14 rfl rfl)
theorem dX3_own_111 : decode cX3_own 111 = .ok (.iinc 2 1, 3) := dk_132 2 1 (dk_at dksX3_own_4 17 rfl rfl)
theorem dX3_own_114 : decode cX3_own 114 = .ok (.goto (-110), 3) := dk_167 255 146 (dk_at dksX3_own_4 20 rfl rfl)
theorem dX3_own_117 : decode cX3_own 117 = .ok (.iconst (-1), 1) := dk_2 (dk_at dksX3_own_4 23 rfl rfl)
theorem dX3_own_118 : decode cX3_own 118 = .ok (.ireturn, 1) := dk_172 (dk_at dksX3_own_5 0 rfl rfl)
abbrev cX3_readsSet : ByteArray := prog_12_method_26_code
def yX3_readsSet : MethodName := ⟨RX3, "readsSet", "()V"⟩
def dkwX3_readsSet_3 : List UInt8 := [42, 182, 0, 153, 153, 0, 16, 42, 180, 0, 13, 17, 4, 18, 27, 96, 4, 100, 28, 79, 177]
abbrev dktX3_readsSet_3 : List UInt8 := dkwX3_readsSet_3 ++ []
def dkwX3_readsSet_2 : List UInt8 := [182, 0, 153, 154, 0, 4, 177, 42, 27, 4, 100, 184, 0, 181, 27, 4, 100, 184, 0, 184, 182, 0, 187, 61]
abbrev dktX3_readsSet_2 : List UInt8 := dkwX3_readsSet_2 ++ dktX3_readsSet_3
def dkwX3_readsSet_1 : List UInt8 := [153, 0, 22, 27, 4, 16, 6, 184, 0, 171, 154, 0, 12, 42, 4, 42, 180, 0, 65, 182, 0, 167, 42]
abbrev dktX3_readsSet_1 : List UInt8 := dkwX3_readsSet_1 ++ dktX3_readsSet_2
def dkwX3_readsSet_0 : List UInt8 := [42, 182, 0, 175, 42, 182, 0, 153, 153, 0, 10, 42, 182, 0, 178, 167, 0, 4, 2, 60, 42, 182, 0, 153]
abbrev dktX3_readsSet_0 : List UInt8 := dkwX3_readsSet_0 ++ dktX3_readsSet_1
theorem dksX3_readsSet_0 : cX3_readsSet.data.toList.drop 0 = dktX3_readsSet_0 := by decide +kernel
theorem dksX3_readsSet_1 : cX3_readsSet.data.toList.drop 24 = dktX3_readsSet_1 := dk_seg dksX3_readsSet_0 24 rfl rfl
theorem dksX3_readsSet_2 : cX3_readsSet.data.toList.drop 47 = dktX3_readsSet_2 := dk_seg dksX3_readsSet_1 23 rfl rfl
theorem dksX3_readsSet_3 : cX3_readsSet.data.toList.drop 71 = dktX3_readsSet_3 := dk_seg dksX3_readsSet_2 24 rfl rfl
theorem dX3_readsSet_0 : decode cX3_readsSet 0 = .ok (.aload_n 0, 1) := dk_42 (dk_at dksX3_readsSet_0 0 rfl rfl)
theorem dX3_readsSet_1 : decode cX3_readsSet 1 = .ok (.invokevirtual 175, 3) := dk_182 0 175 (dk_at dksX3_readsSet_0 1 rfl rfl)
theorem dX3_readsSet_4 : decode cX3_readsSet 4 = .ok (.aload_n 0, 1) := dk_42 (dk_at dksX3_readsSet_0 4 rfl rfl)
theorem dX3_readsSet_5 : decode cX3_readsSet 5 = .ok (.invokevirtual 153, 3) := dk_182 0 153 (dk_at dksX3_readsSet_0 5 rfl rfl)
theorem dX3_readsSet_8 : decode cX3_readsSet 8 = .ok (.ifCond .eq 10, 3) := dk_153 0 10 (dk_at dksX3_readsSet_0 8 rfl rfl)
theorem dX3_readsSet_11 : decode cX3_readsSet 11 = .ok (.aload_n 0, 1) := dk_42 (dk_at dksX3_readsSet_0 11 rfl rfl)
theorem dX3_readsSet_12 : decode cX3_readsSet 12 = .ok (.invokevirtual 178, 3) := dk_182 0 178 (dk_at dksX3_readsSet_0 12 rfl rfl)
theorem dX3_readsSet_15 : decode cX3_readsSet 15 = .ok (.goto 4, 3) := dk_167 0 4 (dk_at dksX3_readsSet_0 15 rfl rfl)
theorem dX3_readsSet_18 : decode cX3_readsSet 18 = .ok (.iconst (-1), 1) := dk_2 (dk_at dksX3_readsSet_0 18 rfl rfl)
theorem dX3_readsSet_19 : decode cX3_readsSet 19 = .ok (.istore_n 1, 1) := dk_60 (dk_at dksX3_readsSet_0 19 rfl rfl)
theorem dX3_readsSet_20 : decode cX3_readsSet 20 = .ok (.aload_n 0, 1) := dk_42 (dk_at dksX3_readsSet_0 20 rfl rfl)
theorem dX3_readsSet_21 : decode cX3_readsSet 21 = .ok (.invokevirtual 153, 3) := dk_182 0 153 (dk_at dksX3_readsSet_0 21 rfl rfl)
theorem dX3_readsSet_24 : decode cX3_readsSet 24 = .ok (.ifCond .eq 22, 3) := dk_153 0 22 (dk_at dksX3_readsSet_1 0 rfl rfl)
theorem dX3_readsSet_27 : decode cX3_readsSet 27 = .ok (.iload_n 1, 1) := dk_27 (dk_at dksX3_readsSet_1 3 rfl rfl)
theorem dX3_readsSet_28 : decode cX3_readsSet 28 = .ok (.iconst 1, 1) := dk_4 (dk_at dksX3_readsSet_1 4 rfl rfl)
theorem dX3_readsSet_29 : decode cX3_readsSet 29 = .ok (.bipush 6, 2) := dk_16 6 (dk_at dksX3_readsSet_1 5 rfl rfl)
theorem dX3_readsSet_31 : decode cX3_readsSet 31 = .ok (.invokestatic 171, 3) := dk_184 0 171 (dk_at dksX3_readsSet_1 7 rfl rfl)
theorem dX3_readsSet_34 : decode cX3_readsSet 34 = .ok (.ifCond .ne 12, 3) := dk_154 0 12 (dk_at dksX3_readsSet_1 10 rfl rfl)
theorem dX3_readsSet_37 : decode cX3_readsSet 37 = .ok (.aload_n 0, 1) := dk_42 (dk_at dksX3_readsSet_1 13 rfl rfl)
theorem dX3_readsSet_38 : decode cX3_readsSet 38 = .ok (.iconst 1, 1) := dk_4 (dk_at dksX3_readsSet_1 14 rfl rfl)
theorem dX3_readsSet_39 : decode cX3_readsSet 39 = .ok (.aload_n 0, 1) := dk_42 (dk_at dksX3_readsSet_1 15 rfl rfl)
theorem dX3_readsSet_40 : decode cX3_readsSet 40 = .ok (.getfield 65, 3) := dk_180 0 65 (dk_at dksX3_readsSet_1 16 rfl rfl)
theorem dX3_readsSet_43 : decode cX3_readsSet 43 = .ok (.invokevirtual 167, 3) := dk_182 0 167 (dk_at dksX3_readsSet_1 19 rfl rfl)
theorem dX3_readsSet_46 : decode cX3_readsSet 46 = .ok (.aload_n 0, 1) := dk_42 (dk_at dksX3_readsSet_1 22 rfl rfl)
theorem dX3_readsSet_47 : decode cX3_readsSet 47 = .ok (.invokevirtual 153, 3) := dk_182 0 153 (dk_at dksX3_readsSet_2 0 rfl rfl)
theorem dX3_readsSet_50 : decode cX3_readsSet 50 = .ok (.ifCond .ne 4, 3) := dk_154 0 4 (dk_at dksX3_readsSet_2 3 rfl rfl)
theorem dX3_readsSet_53 : decode cX3_readsSet 53 = .ok (.return_, 1) := dk_177 (dk_at dksX3_readsSet_2 6 rfl rfl)
theorem dX3_readsSet_54 : decode cX3_readsSet 54 = .ok (.aload_n 0, 1) := dk_42 (dk_at dksX3_readsSet_2 7 rfl rfl)
theorem dX3_readsSet_55 : decode cX3_readsSet 55 = .ok (.iload_n 1, 1) := dk_27 (dk_at dksX3_readsSet_2 8 rfl rfl)
theorem dX3_readsSet_56 : decode cX3_readsSet 56 = .ok (.iconst 1, 1) := dk_4 (dk_at dksX3_readsSet_2 9 rfl rfl)
theorem dX3_readsSet_57 : decode cX3_readsSet 57 = .ok (.isub, 1) := dk_100 (dk_at dksX3_readsSet_2 10 rfl rfl)
theorem dX3_readsSet_58 : decode cX3_readsSet 58 = .ok (.invokestatic 181, 3) := dk_184 0 181 (dk_at dksX3_readsSet_2 11 rfl rfl)
theorem dX3_readsSet_61 : decode cX3_readsSet 61 = .ok (.iload_n 1, 1) := dk_27 (dk_at dksX3_readsSet_2 14 rfl rfl)
theorem dX3_readsSet_62 : decode cX3_readsSet 62 = .ok (.iconst 1, 1) := dk_4 (dk_at dksX3_readsSet_2 15 rfl rfl)
theorem dX3_readsSet_63 : decode cX3_readsSet 63 = .ok (.isub, 1) := dk_100 (dk_at dksX3_readsSet_2 16 rfl rfl)
theorem dX3_readsSet_64 : decode cX3_readsSet 64 = .ok (.invokestatic 184, 3) := dk_184 0 184 (dk_at dksX3_readsSet_2 17 rfl rfl)
theorem dX3_readsSet_67 : decode cX3_readsSet 67 = .ok (.invokevirtual 187, 3) := dk_182 0 187 (dk_at dksX3_readsSet_2 20 rfl rfl)
theorem dX3_readsSet_70 : decode cX3_readsSet 70 = .ok (.istore_n 2, 1) := dk_61 (dk_at dksX3_readsSet_2 23 rfl rfl)
theorem dX3_readsSet_71 : decode cX3_readsSet 71 = .ok (.aload_n 0, 1) := dk_42 (dk_at dksX3_readsSet_3 0 rfl rfl)
theorem dX3_readsSet_72 : decode cX3_readsSet 72 = .ok (.invokevirtual 153, 3) := dk_182 0 153 (dk_at dksX3_readsSet_3 1 rfl rfl)
theorem dX3_readsSet_75 : decode cX3_readsSet 75 = .ok (.ifCond .eq 16, 3) := dk_153 0 16 (dk_at dksX3_readsSet_3 4 rfl rfl)
theorem dX3_readsSet_78 : decode cX3_readsSet 78 = .ok (.aload_n 0, 1) := dk_42 (dk_at dksX3_readsSet_3 7 rfl rfl)
theorem dX3_readsSet_79 : decode cX3_readsSet 79 = .ok (.getfield 13, 3) := dk_180 0 13 (dk_at dksX3_readsSet_3 8 rfl rfl)
theorem dX3_readsSet_82 : decode cX3_readsSet 82 = .ok (.sipush 1042, 3) := dk_17 4 18 (dk_at dksX3_readsSet_3 11 rfl rfl)
theorem dX3_readsSet_85 : decode cX3_readsSet 85 = .ok (.iload_n 1, 1) := dk_27 (dk_at dksX3_readsSet_3 14 rfl rfl)
theorem dX3_readsSet_86 : decode cX3_readsSet 86 = .ok (.iadd, 1) := dk_96 (dk_at dksX3_readsSet_3 15 rfl rfl)
theorem dX3_readsSet_87 : decode cX3_readsSet 87 = .ok (.iconst 1, 1) := dk_4 (dk_at dksX3_readsSet_3 16 rfl rfl)
theorem dX3_readsSet_88 : decode cX3_readsSet 88 = .ok (.isub, 1) := dk_100 (dk_at dksX3_readsSet_3 17 rfl rfl)
theorem dX3_readsSet_89 : decode cX3_readsSet 89 = .ok (.iload_n 2, 1) := dk_28 (dk_at dksX3_readsSet_3 18 rfl rfl)
theorem dX3_readsSet_90 : decode cX3_readsSet 90 = .ok (.iastore, 1) := dk_79 (dk_at dksX3_readsSet_3 19 rfl rfl)
theorem dX3_readsSet_91 : decode cX3_readsSet 91 = .ok (.return_, 1) := dk_177 (dk_at dksX3_readsSet_3 20 rfl rfl)
abbrev cX3_isIn : ByteArray := prog_12_method_1_code
def yX3_isIn : MethodName := ⟨RX3, "isIn", "(III)Z"⟩
def dkwX3_isIn_0 : List UInt8 := [26, 27, 161, 0, 12, 26, 28, 163, 0, 7, 4, 167, 0, 4, 3, 172]
abbrev dktX3_isIn_0 : List UInt8 := dkwX3_isIn_0 ++ []
theorem dksX3_isIn_0 : cX3_isIn.data.toList.drop 0 = dktX3_isIn_0 := by decide +kernel
theorem dX3_isIn_0 : decode cX3_isIn 0 = .ok (.iload_n 0, 1) := dk_26 (dk_at dksX3_isIn_0 0 rfl rfl)
theorem dX3_isIn_1 : decode cX3_isIn 1 = .ok (.iload_n 1, 1) := dk_27 (dk_at dksX3_isIn_0 1 rfl rfl)
theorem dX3_isIn_2 : decode cX3_isIn 2 = .ok (.if_icmp .lt 12, 3) := dk_161 0 12 (dk_at dksX3_isIn_0 2 rfl rfl)
theorem dX3_isIn_5 : decode cX3_isIn 5 = .ok (.iload_n 0, 1) := dk_26 (dk_at dksX3_isIn_0 5 rfl rfl)
theorem dX3_isIn_6 : decode cX3_isIn 6 = .ok (.iload_n 2, 1) := dk_28 (dk_at dksX3_isIn_0 6 rfl rfl)
theorem dX3_isIn_7 : decode cX3_isIn 7 = .ok (.if_icmp .gt 7, 3) := dk_163 0 7 (dk_at dksX3_isIn_0 7 rfl rfl)
theorem dX3_isIn_10 : decode cX3_isIn 10 = .ok (.iconst 1, 1) := dk_4 (dk_at dksX3_isIn_0 10 rfl rfl)
theorem dX3_isIn_11 : decode cX3_isIn 11 = .ok (.goto 4, 3) := dk_167 0 4 (dk_at dksX3_isIn_0 11 rfl rfl)
theorem dX3_isIn_14 : decode cX3_isIn 14 = .ok (.iconst 0, 1) := dk_3 (dk_at dksX3_isIn_0 14 rfl rfl)
theorem dX3_isIn_15 : decode cX3_isIn 15 = .ok (.ireturn, 1) := dk_172 (dk_at dksX3_isIn_0 15 rfl rfl)
abbrev cX3_lowOf : ByteArray := prog_12_method_24_code
def yX3_lowOf : MethodName := ⟨RX3, "lowOf", "(I)I"⟩
def dkwX3_lowOf_0 : List UInt8 := [26, 154, 0, 7, 7, 167, 0, 4, 3, 172]
abbrev dktX3_lowOf_0 : List UInt8 := dkwX3_lowOf_0 ++ []
theorem dksX3_lowOf_0 : cX3_lowOf.data.toList.drop 0 = dktX3_lowOf_0 := by decide +kernel
theorem dX3_lowOf_0 : decode cX3_lowOf 0 = .ok (.iload_n 0, 1) := dk_26 (dk_at dksX3_lowOf_0 0 rfl rfl)
theorem dX3_lowOf_1 : decode cX3_lowOf 1 = .ok (.ifCond .ne 7, 3) := dk_154 0 7 (dk_at dksX3_lowOf_0 1 rfl rfl)
theorem dX3_lowOf_4 : decode cX3_lowOf 4 = .ok (.iconst 4, 1) := dk_7 (dk_at dksX3_lowOf_0 4 rfl rfl)
theorem dX3_lowOf_5 : decode cX3_lowOf 5 = .ok (.goto 4, 3) := dk_167 0 4 (dk_at dksX3_lowOf_0 5 rfl rfl)
theorem dX3_lowOf_8 : decode cX3_lowOf 8 = .ok (.iconst 0, 1) := dk_3 (dk_at dksX3_lowOf_0 8 rfl rfl)
theorem dX3_lowOf_9 : decode cX3_lowOf 9 = .ok (.ireturn, 1) := dk_172 (dk_at dksX3_lowOf_0 9 rfl rfl)
abbrev cX3_highOf : ByteArray := prog_12_method_25_code
def yX3_highOf : MethodName := ⟨RX3, "highOf", "(I)I"⟩
def dkwX3_highOf_0 : List UInt8 := [26, 5, 162, 0, 8, 16, 16, 167, 0, 15, 26, 8, 162, 0, 8, 16, 99, 167, 0, 5, 16, 20, 172]
abbrev dktX3_highOf_0 : List UInt8 := dkwX3_highOf_0 ++ []
theorem dksX3_highOf_0 : cX3_highOf.data.toList.drop 0 = dktX3_highOf_0 := by decide +kernel
theorem dX3_highOf_0 : decode cX3_highOf 0 = .ok (.iload_n 0, 1) := dk_26 (dk_at dksX3_highOf_0 0 rfl rfl)
theorem dX3_highOf_1 : decode cX3_highOf 1 = .ok (.iconst 2, 1) := dk_5 (dk_at dksX3_highOf_0 1 rfl rfl)
theorem dX3_highOf_2 : decode cX3_highOf 2 = .ok (.if_icmp .ge 8, 3) := dk_162 0 8 (dk_at dksX3_highOf_0 2 rfl rfl)
theorem dX3_highOf_5 : decode cX3_highOf 5 = .ok (.bipush 16, 2) := dk_16 16 (dk_at dksX3_highOf_0 5 rfl rfl)
theorem dX3_highOf_7 : decode cX3_highOf 7 = .ok (.goto 15, 3) := dk_167 0 15 (dk_at dksX3_highOf_0 7 rfl rfl)
theorem dX3_highOf_10 : decode cX3_highOf 10 = .ok (.iload_n 0, 1) := dk_26 (dk_at dksX3_highOf_0 10 rfl rfl)
theorem dX3_highOf_11 : decode cX3_highOf 11 = .ok (.iconst 5, 1) := dk_8 (dk_at dksX3_highOf_0 11 rfl rfl)
theorem dX3_highOf_12 : decode cX3_highOf 12 = .ok (.if_icmp .ge 8, 3) := dk_162 0 8 (dk_at dksX3_highOf_0 12 rfl rfl)
theorem dX3_highOf_15 : decode cX3_highOf 15 = .ok (.bipush 99, 2) := dk_16 99 (dk_at dksX3_highOf_0 15 rfl rfl)
theorem dX3_highOf_17 : decode cX3_highOf 17 = .ok (.goto 5, 3) := dk_167 0 5 (dk_at dksX3_highOf_0 17 rfl rfl)
theorem dX3_highOf_20 : decode cX3_highOf 20 = .ok (.bipush 20, 2) := dk_16 20 (dk_at dksX3_highOf_0 20 rfl rfl)
theorem dX3_highOf_22 : decode cX3_highOf 22 = .ok (.ireturn, 1) := dk_172 (dk_at dksX3_highOf_0 22 rfl rfl)
abbrev cX3_number : ByteArray := prog_12_method_22_code
def yX3_number : MethodName := ⟨RX3, "number", "(II)I"⟩
def dkwX3_number_7 : List UInt8 := [153, 0, 7, 29, 167, 0, 4, 3, 172]
abbrev dktX3_number_7 : List UInt8 := dkwX3_number_7 ++ []
def dkwX3_number_6 : List UInt8 := [29, 27, 28, 184, 0, 171, 154, 0, 12, 42, 5, 42, 180, 0, 65, 182, 0, 167, 42, 182, 0, 153]
abbrev dktX3_number_6 : List UInt8 := dkwX3_number_6 ++ dktX3_number_7
def dkwX3_number_5 : List UInt8 := [180, 0, 62, 182, 0, 150, 96, 16, 48, 100, 62, 42, 89, 180, 0, 62, 4, 96, 181, 0, 62, 167, 255, 189]
abbrev dktX3_number_5 : List UInt8 := dkwX3_number_5 ++ dktX3_number_6
def dkwX3_number_4 : List UInt8 := [180, 0, 65, 100, 5, 160, 0, 12, 42, 4, 42, 180, 0, 62, 182, 0, 167, 16, 10, 29, 104, 42, 42]
abbrev dktX3_number_4 : List UInt8 := dkwX3_number_4 ++ dktX3_number_5
def dkwX3_number_3 : List UInt8 := [42, 42, 180, 0, 62, 182, 0, 164, 153, 0, 62, 42, 182, 0, 153, 153, 0, 55, 42, 180, 0, 62, 42]
abbrev dktX3_number_3 : List UInt8 := dkwX3_number_3 ++ dktX3_number_4
def dkwX3_number_2 : List UInt8 := [180, 0, 62, 4, 100, 182, 0, 164, 153, 0, 14, 42, 4, 42, 180, 0, 62, 182, 0, 167, 3, 172, 3, 62]
abbrev dktX3_number_2 : List UInt8 := dkwX3_number_2 ++ dktX3_number_3
def dkwX3_number_1 : List UInt8 := [180, 0, 62, 182, 0, 164, 153, 0, 29, 42, 42, 180, 0, 62, 4, 100, 182, 0, 161, 154, 0, 16, 42, 42]
abbrev dktX3_number_1 : List UInt8 := dkwX3_number_1 ++ dktX3_number_2
def dkwX3_number_0 : List UInt8 := [42, 182, 0, 153, 154, 0, 5, 3, 172, 42, 182, 0, 157, 87, 42, 42, 180, 0, 62, 181, 0, 65, 42, 42]
abbrev dktX3_number_0 : List UInt8 := dkwX3_number_0 ++ dktX3_number_1
theorem dksX3_number_0 : cX3_number.data.toList.drop 0 = dktX3_number_0 := by decide +kernel
theorem dksX3_number_1 : cX3_number.data.toList.drop 24 = dktX3_number_1 := dk_seg dksX3_number_0 24 rfl rfl
theorem dksX3_number_2 : cX3_number.data.toList.drop 48 = dktX3_number_2 := dk_seg dksX3_number_1 24 rfl rfl
theorem dksX3_number_3 : cX3_number.data.toList.drop 72 = dktX3_number_3 := dk_seg dksX3_number_2 24 rfl rfl
theorem dksX3_number_4 : cX3_number.data.toList.drop 95 = dktX3_number_4 := dk_seg dksX3_number_3 23 rfl rfl
theorem dksX3_number_5 : cX3_number.data.toList.drop 118 = dktX3_number_5 := dk_seg dksX3_number_4 23 rfl rfl
theorem dksX3_number_6 : cX3_number.data.toList.drop 142 = dktX3_number_6 := dk_seg dksX3_number_5 24 rfl rfl
theorem dksX3_number_7 : cX3_number.data.toList.drop 164 = dktX3_number_7 := dk_seg dksX3_number_6 22 rfl rfl
theorem dX3_number_0 : decode cX3_number 0 = .ok (.aload_n 0, 1) := dk_42 (dk_at dksX3_number_0 0 rfl rfl)
theorem dX3_number_1 : decode cX3_number 1 = .ok (.invokevirtual 153, 3) := dk_182 0 153 (dk_at dksX3_number_0 1 rfl rfl)
theorem dX3_number_4 : decode cX3_number 4 = .ok (.ifCond .ne 5, 3) := dk_154 0 5 (dk_at dksX3_number_0 4 rfl rfl)
theorem dX3_number_7 : decode cX3_number 7 = .ok (.iconst 0, 1) := dk_3 (dk_at dksX3_number_0 7 rfl rfl)
theorem dX3_number_8 : decode cX3_number 8 = .ok (.ireturn, 1) := dk_172 (dk_at dksX3_number_0 8 rfl rfl)
theorem dX3_number_9 : decode cX3_number 9 = .ok (.aload_n 0, 1) := dk_42 (dk_at dksX3_number_0 9 rfl rfl)
theorem dX3_number_10 : decode cX3_number 10 = .ok (.invokevirtual 157, 3) := dk_182 0 157 (dk_at dksX3_number_0 10 rfl rfl)
theorem dX3_number_13 : decode cX3_number 13 = .ok (.pop, 1) := dk_87 (dk_at dksX3_number_0 13 rfl rfl)
theorem dX3_number_14 : decode cX3_number 14 = .ok (.aload_n 0, 1) := dk_42 (dk_at dksX3_number_0 14 rfl rfl)
theorem dX3_number_15 : decode cX3_number 15 = .ok (.aload_n 0, 1) := dk_42 (dk_at dksX3_number_0 15 rfl rfl)
theorem dX3_number_16 : decode cX3_number 16 = .ok (.getfield 62, 3) := dk_180 0 62 (dk_at dksX3_number_0 16 rfl rfl)
theorem dX3_number_19 : decode cX3_number 19 = .ok (.putfield 65, 3) := dk_181 0 65 (dk_at dksX3_number_0 19 rfl rfl)
theorem dX3_number_22 : decode cX3_number 22 = .ok (.aload_n 0, 1) := dk_42 (dk_at dksX3_number_0 22 rfl rfl)
theorem dX3_number_23 : decode cX3_number 23 = .ok (.aload_n 0, 1) := dk_42 (dk_at dksX3_number_0 23 rfl rfl)
theorem dX3_number_24 : decode cX3_number 24 = .ok (.getfield 62, 3) := dk_180 0 62 (dk_at dksX3_number_1 0 rfl rfl)
theorem dX3_number_27 : decode cX3_number 27 = .ok (.invokevirtual 164, 3) := dk_182 0 164 (dk_at dksX3_number_1 3 rfl rfl)
theorem dX3_number_30 : decode cX3_number 30 = .ok (.ifCond .eq 29, 3) := dk_153 0 29 (dk_at dksX3_number_1 6 rfl rfl)
theorem dX3_number_33 : decode cX3_number 33 = .ok (.aload_n 0, 1) := dk_42 (dk_at dksX3_number_1 9 rfl rfl)
theorem dX3_number_34 : decode cX3_number 34 = .ok (.aload_n 0, 1) := dk_42 (dk_at dksX3_number_1 10 rfl rfl)
theorem dX3_number_35 : decode cX3_number 35 = .ok (.getfield 62, 3) := dk_180 0 62 (dk_at dksX3_number_1 11 rfl rfl)
theorem dX3_number_38 : decode cX3_number 38 = .ok (.iconst 1, 1) := dk_4 (dk_at dksX3_number_1 14 rfl rfl)
theorem dX3_number_39 : decode cX3_number 39 = .ok (.isub, 1) := dk_100 (dk_at dksX3_number_1 15 rfl rfl)
theorem dX3_number_40 : decode cX3_number 40 = .ok (.invokevirtual 161, 3) := dk_182 0 161 (dk_at dksX3_number_1 16 rfl rfl)
theorem dX3_number_43 : decode cX3_number 43 = .ok (.ifCond .ne 16, 3) := dk_154 0 16 (dk_at dksX3_number_1 19 rfl rfl)
theorem dX3_number_46 : decode cX3_number 46 = .ok (.aload_n 0, 1) := dk_42 (dk_at dksX3_number_1 22 rfl rfl)
theorem dX3_number_47 : decode cX3_number 47 = .ok (.aload_n 0, 1) := dk_42 (dk_at dksX3_number_1 23 rfl rfl)
theorem dX3_number_48 : decode cX3_number 48 = .ok (.getfield 62, 3) := dk_180 0 62 (dk_at dksX3_number_2 0 rfl rfl)
theorem dX3_number_51 : decode cX3_number 51 = .ok (.iconst 1, 1) := dk_4 (dk_at dksX3_number_2 3 rfl rfl)
theorem dX3_number_52 : decode cX3_number 52 = .ok (.isub, 1) := dk_100 (dk_at dksX3_number_2 4 rfl rfl)
theorem dX3_number_53 : decode cX3_number 53 = .ok (.invokevirtual 164, 3) := dk_182 0 164 (dk_at dksX3_number_2 5 rfl rfl)
theorem dX3_number_56 : decode cX3_number 56 = .ok (.ifCond .eq 14, 3) := dk_153 0 14 (dk_at dksX3_number_2 8 rfl rfl)
theorem dX3_number_59 : decode cX3_number 59 = .ok (.aload_n 0, 1) := dk_42 (dk_at dksX3_number_2 11 rfl rfl)
theorem dX3_number_60 : decode cX3_number 60 = .ok (.iconst 1, 1) := dk_4 (dk_at dksX3_number_2 12 rfl rfl)
theorem dX3_number_61 : decode cX3_number 61 = .ok (.aload_n 0, 1) := dk_42 (dk_at dksX3_number_2 13 rfl rfl)
theorem dX3_number_62 : decode cX3_number 62 = .ok (.getfield 62, 3) := dk_180 0 62 (dk_at dksX3_number_2 14 rfl rfl)
theorem dX3_number_65 : decode cX3_number 65 = .ok (.invokevirtual 167, 3) := dk_182 0 167 (dk_at dksX3_number_2 17 rfl rfl)
theorem dX3_number_68 : decode cX3_number 68 = .ok (.iconst 0, 1) := dk_3 (dk_at dksX3_number_2 20 rfl rfl)
theorem dX3_number_69 : decode cX3_number 69 = .ok (.ireturn, 1) := dk_172 (dk_at dksX3_number_2 21 rfl rfl)
theorem dX3_number_70 : decode cX3_number 70 = .ok (.iconst 0, 1) := dk_3 (dk_at dksX3_number_2 22 rfl rfl)
theorem dX3_number_71 : decode cX3_number 71 = .ok (.istore_n 3, 1) := dk_62 (dk_at dksX3_number_2 23 rfl rfl)
theorem dX3_number_72 : decode cX3_number 72 = .ok (.aload_n 0, 1) := dk_42 (dk_at dksX3_number_3 0 rfl rfl)
theorem dX3_number_73 : decode cX3_number 73 = .ok (.aload_n 0, 1) := dk_42 (dk_at dksX3_number_3 1 rfl rfl)
theorem dX3_number_74 : decode cX3_number 74 = .ok (.getfield 62, 3) := dk_180 0 62 (dk_at dksX3_number_3 2 rfl rfl)
theorem dX3_number_77 : decode cX3_number 77 = .ok (.invokevirtual 164, 3) := dk_182 0 164 (dk_at dksX3_number_3 5 rfl rfl)
theorem dX3_number_80 : decode cX3_number 80 = .ok (.ifCond .eq 62, 3) := dk_153 0 62 (dk_at dksX3_number_3 8 rfl rfl)
theorem dX3_number_83 : decode cX3_number 83 = .ok (.aload_n 0, 1) := dk_42 (dk_at dksX3_number_3 11 rfl rfl)
theorem dX3_number_84 : decode cX3_number 84 = .ok (.invokevirtual 153, 3) := dk_182 0 153 (dk_at dksX3_number_3 12 rfl rfl)
theorem dX3_number_87 : decode cX3_number 87 = .ok (.ifCond .eq 55, 3) := dk_153 0 55 (dk_at dksX3_number_3 15 rfl rfl)
theorem dX3_number_90 : decode cX3_number 90 = .ok (.aload_n 0, 1) := dk_42 (dk_at dksX3_number_3 18 rfl rfl)
theorem dX3_number_91 : decode cX3_number 91 = .ok (.getfield 62, 3) := dk_180 0 62 (dk_at dksX3_number_3 19 rfl rfl)
theorem dX3_number_94 : decode cX3_number 94 = .ok (.aload_n 0, 1) := dk_42 (dk_at dksX3_number_3 22 rfl rfl)
theorem dX3_number_95 : decode cX3_number 95 = .ok (.getfield 65, 3) := dk_180 0 65 (dk_at dksX3_number_4 0 rfl rfl)
theorem dX3_number_98 : decode cX3_number 98 = .ok (.isub, 1) := dk_100 (dk_at dksX3_number_4 3 rfl rfl)
theorem dX3_number_99 : decode cX3_number 99 = .ok (.iconst 2, 1) := dk_5 (dk_at dksX3_number_4 4 rfl rfl)
theorem dX3_number_100 : decode cX3_number 100 = .ok (.if_icmp .ne 12, 3) := dk_160 0 12 (dk_at dksX3_number_4 5 rfl rfl)
theorem dX3_number_103 : decode cX3_number 103 = .ok (.aload_n 0, 1) := dk_42 (dk_at dksX3_number_4 8 rfl rfl)
theorem dX3_number_104 : decode cX3_number 104 = .ok (.iconst 1, 1) := dk_4 (dk_at dksX3_number_4 9 rfl rfl)
theorem dX3_number_105 : decode cX3_number 105 = .ok (.aload_n 0, 1) := dk_42 (dk_at dksX3_number_4 10 rfl rfl)
theorem dX3_number_106 : decode cX3_number 106 = .ok (.getfield 62, 3) := dk_180 0 62 (dk_at dksX3_number_4 11 rfl rfl)
theorem dX3_number_109 : decode cX3_number 109 = .ok (.invokevirtual 167, 3) := dk_182 0 167 (dk_at dksX3_number_4 14 rfl rfl)
theorem dX3_number_112 : decode cX3_number 112 = .ok (.bipush 10, 2) := dk_16 10 (dk_at dksX3_number_4 17 rfl rfl)
theorem dX3_number_114 : decode cX3_number 114 = .ok (.iload_n 3, 1) := dk_29 (dk_at dksX3_number_4 19 rfl rfl)
theorem dX3_number_115 : decode cX3_number 115 = .ok (.imul, 1) := dk_104 (dk_at dksX3_number_4 20 rfl rfl)
theorem dX3_number_116 : decode cX3_number 116 = .ok (.aload_n 0, 1) := dk_42 (dk_at dksX3_number_4 21 rfl rfl)
theorem dX3_number_117 : decode cX3_number 117 = .ok (.aload_n 0, 1) := dk_42 (dk_at dksX3_number_4 22 rfl rfl)
theorem dX3_number_118 : decode cX3_number 118 = .ok (.getfield 62, 3) := dk_180 0 62 (dk_at dksX3_number_5 0 rfl rfl)
theorem dX3_number_121 : decode cX3_number 121 = .ok (.invokevirtual 150, 3) := dk_182 0 150 (dk_at dksX3_number_5 3 rfl rfl)
theorem dX3_number_124 : decode cX3_number 124 = .ok (.iadd, 1) := dk_96 (dk_at dksX3_number_5 6 rfl rfl)
theorem dX3_number_125 : decode cX3_number 125 = .ok (.bipush 48, 2) := dk_16 48 (dk_at dksX3_number_5 7 rfl rfl)
theorem dX3_number_127 : decode cX3_number 127 = .ok (.isub, 1) := dk_100 (dk_at dksX3_number_5 9 rfl rfl)
theorem dX3_number_128 : decode cX3_number 128 = .ok (.istore_n 3, 1) := dk_62 (dk_at dksX3_number_5 10 rfl rfl)
theorem dX3_number_129 : decode cX3_number 129 = .ok (.aload_n 0, 1) := dk_42 (dk_at dksX3_number_5 11 rfl rfl)
theorem dX3_number_130 : decode cX3_number 130 = .ok (.dup, 1) := dk_89 (dk_at dksX3_number_5 12 rfl rfl)
theorem dX3_number_131 : decode cX3_number 131 = .ok (.getfield 62, 3) := dk_180 0 62 (dk_at dksX3_number_5 13 rfl rfl)
theorem dX3_number_134 : decode cX3_number 134 = .ok (.iconst 1, 1) := dk_4 (dk_at dksX3_number_5 16 rfl rfl)
theorem dX3_number_135 : decode cX3_number 135 = .ok (.iadd, 1) := dk_96 (dk_at dksX3_number_5 17 rfl rfl)
theorem dX3_number_136 : decode cX3_number 136 = .ok (.putfield 62, 3) := dk_181 0 62 (dk_at dksX3_number_5 18 rfl rfl)
theorem dX3_number_139 : decode cX3_number 139 = .ok (.goto (-67), 3) := dk_167 255 189 (dk_at dksX3_number_5 21 rfl rfl)
theorem dX3_number_142 : decode cX3_number 142 = .ok (.iload_n 3, 1) := dk_29 (dk_at dksX3_number_6 0 rfl rfl)
theorem dX3_number_143 : decode cX3_number 143 = .ok (.iload_n 1, 1) := dk_27 (dk_at dksX3_number_6 1 rfl rfl)
theorem dX3_number_144 : decode cX3_number 144 = .ok (.iload_n 2, 1) := dk_28 (dk_at dksX3_number_6 2 rfl rfl)
theorem dX3_number_145 : decode cX3_number 145 = .ok (.invokestatic 171, 3) := dk_184 0 171 (dk_at dksX3_number_6 3 rfl rfl)
theorem dX3_number_148 : decode cX3_number 148 = .ok (.ifCond .ne 12, 3) := dk_154 0 12 (dk_at dksX3_number_6 6 rfl rfl)
theorem dX3_number_151 : decode cX3_number 151 = .ok (.aload_n 0, 1) := dk_42 (dk_at dksX3_number_6 9 rfl rfl)
theorem dX3_number_152 : decode cX3_number 152 = .ok (.iconst 2, 1) := dk_5 (dk_at dksX3_number_6 10 rfl rfl)
theorem dX3_number_153 : decode cX3_number 153 = .ok (.aload_n 0, 1) := dk_42 (dk_at dksX3_number_6 11 rfl rfl)
theorem dX3_number_154 : decode cX3_number 154 = .ok (.getfield 65, 3) := dk_180 0 65 (dk_at dksX3_number_6 12 rfl rfl)
theorem dX3_number_157 : decode cX3_number 157 = .ok (.invokevirtual 167, 3) := dk_182 0 167 (dk_at dksX3_number_6 15 rfl rfl)
theorem dX3_number_160 : decode cX3_number 160 = .ok (.aload_n 0, 1) := dk_42 (dk_at dksX3_number_6 18 rfl rfl)
theorem dX3_number_161 : decode cX3_number 161 = .ok (.invokevirtual 153, 3) := dk_182 0 153 (dk_at dksX3_number_6 19 rfl rfl)
theorem dX3_number_164 : decode cX3_number 164 = .ok (.ifCond .eq 7, 3) := dk_153 0 7 (dk_at dksX3_number_7 0 rfl rfl)
theorem dX3_number_167 : decode cX3_number 167 = .ok (.iload_n 3, 1) := dk_29 (dk_at dksX3_number_7 3 rfl rfl)
theorem dX3_number_168 : decode cX3_number 168 = .ok (.goto 4, 3) := dk_167 0 4 (dk_at dksX3_number_7 4 rfl rfl)
theorem dX3_number_171 : decode cX3_number 171 = .ok (.iconst 0, 1) := dk_3 (dk_at dksX3_number_7 7 rfl rfl)
theorem dX3_number_172 : decode cX3_number 172 = .ok (.ireturn, 1) := dk_172 (dk_at dksX3_number_7 8 rfl rfl)
abbrev cX3_readsLetter : ByteArray := prog_12_method_28_code
def yX3_readsLetter : MethodName := ⟨RX3, "readsLetter", "()V"⟩
def dkwX3_readsLetter_3 : List UInt8 := [132, 2, 1, 167, 255, 229, 42, 180, 0, 13, 17, 3, 232, 92, 46, 4, 96, 79, 177]
abbrev dktX3_readsLetter_3 : List UInt8 := dkwX3_readsLetter_3 ++ []
def dkwX3_readsLetter_2 : List UInt8 := [162, 0, 28, 42, 180, 0, 13, 17, 3, 242, 7, 27, 104, 96, 28, 96, 42, 28, 182, 0, 191, 79]
abbrev dktX3_readsLetter_2 : List UInt8 := dkwX3_readsLetter_2 ++ dktX3_readsLetter_3
def dkwX3_readsLetter_1 : List UInt8 := [182, 0, 194, 42, 182, 0, 153, 154, 0, 4, 177, 42, 180, 0, 13, 17, 3, 232, 46, 60, 3, 61, 28, 7]
abbrev dktX3_readsLetter_1 : List UInt8 := dkwX3_readsLetter_1 ++ dktX3_readsLetter_2
def dkwX3_readsLetter_0 : List UInt8 := [42, 180, 0, 13, 17, 3, 232, 46, 16, 8, 160, 0, 12, 42, 8, 42, 180, 0, 65, 182, 0, 167, 42]
abbrev dktX3_readsLetter_0 : List UInt8 := dkwX3_readsLetter_0 ++ dktX3_readsLetter_1
theorem dksX3_readsLetter_0 : cX3_readsLetter.data.toList.drop 0 = dktX3_readsLetter_0 := by decide +kernel
theorem dksX3_readsLetter_1 : cX3_readsLetter.data.toList.drop 23 = dktX3_readsLetter_1 := dk_seg dksX3_readsLetter_0 23 rfl rfl
theorem dksX3_readsLetter_2 : cX3_readsLetter.data.toList.drop 47 = dktX3_readsLetter_2 := dk_seg dksX3_readsLetter_1 24 rfl rfl
theorem dksX3_readsLetter_3 : cX3_readsLetter.data.toList.drop 69 = dktX3_readsLetter_3 := dk_seg dksX3_readsLetter_2 22 rfl rfl
theorem dX3_readsLetter_0 : decode cX3_readsLetter 0 = .ok (.aload_n 0, 1) := dk_42 (dk_at dksX3_readsLetter_0 0 rfl rfl)
theorem dX3_readsLetter_1 : decode cX3_readsLetter 1 = .ok (.getfield 13, 3) := dk_180 0 13 (dk_at dksX3_readsLetter_0 1 rfl rfl)
theorem dX3_readsLetter_4 : decode cX3_readsLetter 4 = .ok (.sipush 1000, 3) := dk_17 3 232 (dk_at dksX3_readsLetter_0 4 rfl rfl)
theorem dX3_readsLetter_7 : decode cX3_readsLetter 7 = .ok (.iaload, 1) := dk_46 (dk_at dksX3_readsLetter_0 7 rfl rfl)
theorem dX3_readsLetter_8 : decode cX3_readsLetter 8 = .ok (.bipush 8, 2) := dk_16 8 (dk_at dksX3_readsLetter_0 8 rfl rfl)
theorem dX3_readsLetter_10 : decode cX3_readsLetter 10 = .ok (.if_icmp .ne 12, 3) := dk_160 0 12 (dk_at dksX3_readsLetter_0 10 rfl rfl)
theorem dX3_readsLetter_13 : decode cX3_readsLetter 13 = .ok (.aload_n 0, 1) := dk_42 (dk_at dksX3_readsLetter_0 13 rfl rfl)
theorem dX3_readsLetter_14 : decode cX3_readsLetter 14 = .ok (.iconst 5, 1) := dk_8 (dk_at dksX3_readsLetter_0 14 rfl rfl)
theorem dX3_readsLetter_15 : decode cX3_readsLetter 15 = .ok (.aload_n 0, 1) := dk_42 (dk_at dksX3_readsLetter_0 15 rfl rfl)
theorem dX3_readsLetter_16 : decode cX3_readsLetter 16 = .ok (.getfield 65, 3) := dk_180 0 65 (dk_at dksX3_readsLetter_0 16 rfl rfl)
theorem dX3_readsLetter_19 : decode cX3_readsLetter 19 = .ok (.invokevirtual 167, 3) := dk_182 0 167 (dk_at dksX3_readsLetter_0 19 rfl rfl)
theorem dX3_readsLetter_22 : decode cX3_readsLetter 22 = .ok (.aload_n 0, 1) := dk_42 (dk_at dksX3_readsLetter_0 22 rfl rfl)
theorem dX3_readsLetter_23 : decode cX3_readsLetter 23 = .ok (.invokevirtual 194, 3) := dk_182 0 194 (dk_at dksX3_readsLetter_1 0 rfl rfl)
theorem dX3_readsLetter_26 : decode cX3_readsLetter 26 = .ok (.aload_n 0, 1) := dk_42 (dk_at dksX3_readsLetter_1 3 rfl rfl)
theorem dX3_readsLetter_27 : decode cX3_readsLetter 27 = .ok (.invokevirtual 153, 3) := dk_182 0 153 (dk_at dksX3_readsLetter_1 4 rfl rfl)
theorem dX3_readsLetter_30 : decode cX3_readsLetter 30 = .ok (.ifCond .ne 4, 3) := dk_154 0 4 (dk_at dksX3_readsLetter_1 7 rfl rfl)
theorem dX3_readsLetter_33 : decode cX3_readsLetter 33 = .ok (.return_, 1) := dk_177 (dk_at dksX3_readsLetter_1 10 rfl rfl)
theorem dX3_readsLetter_34 : decode cX3_readsLetter 34 = .ok (.aload_n 0, 1) := dk_42 (dk_at dksX3_readsLetter_1 11 rfl rfl)
theorem dX3_readsLetter_35 : decode cX3_readsLetter 35 = .ok (.getfield 13, 3) := dk_180 0 13 (dk_at dksX3_readsLetter_1 12 rfl rfl)
theorem dX3_readsLetter_38 : decode cX3_readsLetter 38 = .ok (.sipush 1000, 3) := dk_17 3 232 (dk_at dksX3_readsLetter_1 15 rfl rfl)
theorem dX3_readsLetter_41 : decode cX3_readsLetter 41 = .ok (.iaload, 1) := dk_46 (dk_at dksX3_readsLetter_1 18 rfl rfl)
theorem dX3_readsLetter_42 : decode cX3_readsLetter 42 = .ok (.istore_n 1, 1) := dk_60 (dk_at dksX3_readsLetter_1 19 rfl rfl)
theorem dX3_readsLetter_43 : decode cX3_readsLetter 43 = .ok (.iconst 0, 1) := dk_3 (dk_at dksX3_readsLetter_1 20 rfl rfl)
theorem dX3_readsLetter_44 : decode cX3_readsLetter 44 = .ok (.istore_n 2, 1) := dk_61 (dk_at dksX3_readsLetter_1 21 rfl rfl)
theorem dX3_readsLetter_45 : decode cX3_readsLetter 45 = .ok (.iload_n 2, 1) := dk_28 (dk_at dksX3_readsLetter_1 22 rfl rfl)
theorem dX3_readsLetter_46 : decode cX3_readsLetter 46 = .ok (.iconst 4, 1) := dk_7 (dk_at dksX3_readsLetter_1 23 rfl rfl)
theorem dX3_readsLetter_47 : decode cX3_readsLetter 47 = .ok (.if_icmp .ge 28, 3) := dk_162 0 28 (dk_at dksX3_readsLetter_2 0 rfl rfl)
theorem dX3_readsLetter_50 : decode cX3_readsLetter 50 = .ok (.aload_n 0, 1) := dk_42 (dk_at dksX3_readsLetter_2 3 rfl rfl)
theorem dX3_readsLetter_51 : decode cX3_readsLetter 51 = .ok (.getfield 13, 3) := dk_180 0 13 (dk_at dksX3_readsLetter_2 4 rfl rfl)
theorem dX3_readsLetter_54 : decode cX3_readsLetter 54 = .ok (.sipush 1010, 3) := dk_17 3 242 (dk_at dksX3_readsLetter_2 7 rfl rfl)
theorem dX3_readsLetter_57 : decode cX3_readsLetter 57 = .ok (.iconst 4, 1) := dk_7 (dk_at dksX3_readsLetter_2 10 rfl rfl)
theorem dX3_readsLetter_58 : decode cX3_readsLetter 58 = .ok (.iload_n 1, 1) := dk_27 (dk_at dksX3_readsLetter_2 11 rfl rfl)
theorem dX3_readsLetter_59 : decode cX3_readsLetter 59 = .ok (.imul, 1) := dk_104 (dk_at dksX3_readsLetter_2 12 rfl rfl)
theorem dX3_readsLetter_60 : decode cX3_readsLetter 60 = .ok (.iadd, 1) := dk_96 (dk_at dksX3_readsLetter_2 13 rfl rfl)
theorem dX3_readsLetter_61 : decode cX3_readsLetter 61 = .ok (.iload_n 2, 1) := dk_28 (dk_at dksX3_readsLetter_2 14 rfl rfl)
theorem dX3_readsLetter_62 : decode cX3_readsLetter 62 = .ok (.iadd, 1) := dk_96 (dk_at dksX3_readsLetter_2 15 rfl rfl)
theorem dX3_readsLetter_63 : decode cX3_readsLetter 63 = .ok (.aload_n 0, 1) := dk_42 (dk_at dksX3_readsLetter_2 16 rfl rfl)
theorem dX3_readsLetter_64 : decode cX3_readsLetter 64 = .ok (.iload_n 2, 1) := dk_28 (dk_at dksX3_readsLetter_2 17 rfl rfl)
theorem dX3_readsLetter_65 : decode cX3_readsLetter 65 = .ok (.invokevirtual 191, 3) := dk_182 0 191 (dk_at dksX3_readsLetter_2 18 rfl rfl)
theorem dX3_readsLetter_68 : decode cX3_readsLetter 68 = .ok (.iastore, 1) := dk_79 (dk_at dksX3_readsLetter_2 21 rfl rfl)
theorem dX3_readsLetter_69 : decode cX3_readsLetter 69 = .ok (.iinc 2 1, 3) := dk_132 2 1 (dk_at dksX3_readsLetter_3 0 rfl rfl)
theorem dX3_readsLetter_72 : decode cX3_readsLetter 72 = .ok (.goto (-27), 3) := dk_167 255 229 (dk_at dksX3_readsLetter_3 3 rfl rfl)
theorem dX3_readsLetter_75 : decode cX3_readsLetter 75 = .ok (.aload_n 0, 1) := dk_42 (dk_at dksX3_readsLetter_3 6 rfl rfl)
theorem dX3_readsLetter_76 : decode cX3_readsLetter 76 = .ok (.getfield 13, 3) := dk_180 0 13 (dk_at dksX3_readsLetter_3 7 rfl rfl)
theorem dX3_readsLetter_79 : decode cX3_readsLetter 79 = .ok (.sipush 1000, 3) := dk_17 3 232 (dk_at dksX3_readsLetter_3 10 rfl rfl)
theorem dX3_readsLetter_82 : decode cX3_readsLetter 82 = .ok (.dup2, 1) := dk_92 (dk_at dksX3_readsLetter_3 13 rfl rfl)
theorem dX3_readsLetter_83 : decode cX3_readsLetter 83 = .ok (.iaload, 1) := dk_46 (dk_at dksX3_readsLetter_3 14 rfl rfl)
theorem dX3_readsLetter_84 : decode cX3_readsLetter 84 = .ok (.iconst 1, 1) := dk_4 (dk_at dksX3_readsLetter_3 15 rfl rfl)
theorem dX3_readsLetter_85 : decode cX3_readsLetter 85 = .ok (.iadd, 1) := dk_96 (dk_at dksX3_readsLetter_3 16 rfl rfl)
theorem dX3_readsLetter_86 : decode cX3_readsLetter 86 = .ok (.iastore, 1) := dk_79 (dk_at dksX3_readsLetter_3 17 rfl rfl)
theorem dX3_readsLetter_87 : decode cX3_readsLetter 87 = .ok (.return_, 1) := dk_177 (dk_at dksX3_readsLetter_3 18 rfl rfl)
abbrev cX3_readsName : ByteArray := prog_12_method_27_code
def yX3_readsName : MethodName := ⟨RX3, "readsName", "()V"⟩
def dkwX3_readsName_6 : List UInt8 := [167, 255, 174, 177]
abbrev dktX3_readsName_6 : List UInt8 := dkwX3_readsName_6 ++ []
def dkwX3_readsName_5 : List UInt8 := [132, 3, 1, 167, 255, 216, 28, 153, 0, 12, 42, 6, 42, 180, 0, 65, 182, 0, 167, 132, 1, 1]
abbrev dktX3_readsName_5 : List UInt8 := dkwX3_readsName_5 ++ dktX3_readsName_6
def dkwX3_readsName_4 : List UInt8 := [17, 3, 242, 7, 27, 104, 96, 29, 96, 46, 42, 29, 182, 0, 191, 160, 0, 7, 4, 167, 0, 4, 3, 61]
abbrev dktX3_readsName_4 : List UInt8 := dkwX3_readsName_4 ++ dktX3_readsName_5
def dkwX3_readsName_3 : List UInt8 := [182, 0, 153, 153, 0, 69, 4, 61, 3, 62, 29, 7, 162, 0, 41, 28, 153, 0, 29, 42, 180, 0, 13]
abbrev dktX3_readsName_3 : List UInt8 := dkwX3_readsName_3 ++ dktX3_readsName_4
def dkwX3_readsName_2 : List UInt8 := [42, 180, 0, 65, 7, 96, 182, 0, 167, 3, 60, 27, 42, 180, 0, 13, 17, 3, 232, 46, 162, 0, 76, 42]
abbrev dktX3_readsName_2 : List UInt8 := dkwX3_readsName_2 ++ dktX3_readsName_3
def dkwX3_readsName_1 : List UInt8 := [180, 0, 65, 182, 0, 167, 167, 0, 27, 42, 180, 0, 62, 42, 180, 0, 65, 100, 7, 164, 0, 14, 42, 4]
abbrev dktX3_readsName_1 : List UInt8 := dkwX3_readsName_1 ++ dktX3_readsName_2
def dkwX3_readsName_0 : List UInt8 := [42, 182, 0, 175, 42, 182, 0, 153, 154, 0, 4, 177, 42, 182, 0, 178, 2, 159, 0, 15, 42, 4, 42]
abbrev dktX3_readsName_0 : List UInt8 := dkwX3_readsName_0 ++ dktX3_readsName_1
theorem dksX3_readsName_0 : cX3_readsName.data.toList.drop 0 = dktX3_readsName_0 := by decide +kernel
theorem dksX3_readsName_1 : cX3_readsName.data.toList.drop 23 = dktX3_readsName_1 := dk_seg dksX3_readsName_0 23 rfl rfl
theorem dksX3_readsName_2 : cX3_readsName.data.toList.drop 47 = dktX3_readsName_2 := dk_seg dksX3_readsName_1 24 rfl rfl
theorem dksX3_readsName_3 : cX3_readsName.data.toList.drop 71 = dktX3_readsName_3 := dk_seg dksX3_readsName_2 24 rfl rfl
theorem dksX3_readsName_4 : cX3_readsName.data.toList.drop 94 = dktX3_readsName_4 := dk_seg dksX3_readsName_3 23 rfl rfl
theorem dksX3_readsName_5 : cX3_readsName.data.toList.drop 118 = dktX3_readsName_5 := dk_seg dksX3_readsName_4 24 rfl rfl
theorem dksX3_readsName_6 : cX3_readsName.data.toList.drop 140 = dktX3_readsName_6 := dk_seg dksX3_readsName_5 22 rfl rfl
theorem dX3_readsName_0 : decode cX3_readsName 0 = .ok (.aload_n 0, 1) := dk_42 (dk_at dksX3_readsName_0 0 rfl rfl)
theorem dX3_readsName_1 : decode cX3_readsName 1 = .ok (.invokevirtual 175, 3) := dk_182 0 175 (dk_at dksX3_readsName_0 1 rfl rfl)
theorem dX3_readsName_4 : decode cX3_readsName 4 = .ok (.aload_n 0, 1) := dk_42 (dk_at dksX3_readsName_0 4 rfl rfl)
theorem dX3_readsName_5 : decode cX3_readsName 5 = .ok (.invokevirtual 153, 3) := dk_182 0 153 (dk_at dksX3_readsName_0 5 rfl rfl)
theorem dX3_readsName_8 : decode cX3_readsName 8 = .ok (.ifCond .ne 4, 3) := dk_154 0 4 (dk_at dksX3_readsName_0 8 rfl rfl)
theorem dX3_readsName_11 : decode cX3_readsName 11 = .ok (.return_, 1) := dk_177 (dk_at dksX3_readsName_0 11 rfl rfl)
theorem dX3_readsName_12 : decode cX3_readsName 12 = .ok (.aload_n 0, 1) := dk_42 (dk_at dksX3_readsName_0 12 rfl rfl)
theorem dX3_readsName_13 : decode cX3_readsName 13 = .ok (.invokevirtual 178, 3) := dk_182 0 178 (dk_at dksX3_readsName_0 13 rfl rfl)
theorem dX3_readsName_16 : decode cX3_readsName 16 = .ok (.iconst (-1), 1) := dk_2 (dk_at dksX3_readsName_0 16 rfl rfl)
theorem dX3_readsName_17 : decode cX3_readsName 17 = .ok (.if_icmp .eq 15, 3) := dk_159 0 15 (dk_at dksX3_readsName_0 17 rfl rfl)
theorem dX3_readsName_20 : decode cX3_readsName 20 = .ok (.aload_n 0, 1) := dk_42 (dk_at dksX3_readsName_0 20 rfl rfl)
theorem dX3_readsName_21 : decode cX3_readsName 21 = .ok (.iconst 1, 1) := dk_4 (dk_at dksX3_readsName_0 21 rfl rfl)
theorem dX3_readsName_22 : decode cX3_readsName 22 = .ok (.aload_n 0, 1) := dk_42 (dk_at dksX3_readsName_0 22 rfl rfl)
theorem dX3_readsName_23 : decode cX3_readsName 23 = .ok (.getfield 65, 3) := dk_180 0 65 (dk_at dksX3_readsName_1 0 rfl rfl)
theorem dX3_readsName_26 : decode cX3_readsName 26 = .ok (.invokevirtual 167, 3) := dk_182 0 167 (dk_at dksX3_readsName_1 3 rfl rfl)
theorem dX3_readsName_29 : decode cX3_readsName 29 = .ok (.goto 27, 3) := dk_167 0 27 (dk_at dksX3_readsName_1 6 rfl rfl)
theorem dX3_readsName_32 : decode cX3_readsName 32 = .ok (.aload_n 0, 1) := dk_42 (dk_at dksX3_readsName_1 9 rfl rfl)
theorem dX3_readsName_33 : decode cX3_readsName 33 = .ok (.getfield 62, 3) := dk_180 0 62 (dk_at dksX3_readsName_1 10 rfl rfl)
theorem dX3_readsName_36 : decode cX3_readsName 36 = .ok (.aload_n 0, 1) := dk_42 (dk_at dksX3_readsName_1 13 rfl rfl)
theorem dX3_readsName_37 : decode cX3_readsName 37 = .ok (.getfield 65, 3) := dk_180 0 65 (dk_at dksX3_readsName_1 14 rfl rfl)
theorem dX3_readsName_40 : decode cX3_readsName 40 = .ok (.isub, 1) := dk_100 (dk_at dksX3_readsName_1 17 rfl rfl)
theorem dX3_readsName_41 : decode cX3_readsName 41 = .ok (.iconst 4, 1) := dk_7 (dk_at dksX3_readsName_1 18 rfl rfl)
theorem dX3_readsName_42 : decode cX3_readsName 42 = .ok (.if_icmp .le 14, 3) := dk_164 0 14 (dk_at dksX3_readsName_1 19 rfl rfl)
theorem dX3_readsName_45 : decode cX3_readsName 45 = .ok (.aload_n 0, 1) := dk_42 (dk_at dksX3_readsName_1 22 rfl rfl)
theorem dX3_readsName_46 : decode cX3_readsName 46 = .ok (.iconst 1, 1) := dk_4 (dk_at dksX3_readsName_1 23 rfl rfl)
theorem dX3_readsName_47 : decode cX3_readsName 47 = .ok (.aload_n 0, 1) := dk_42 (dk_at dksX3_readsName_2 0 rfl rfl)
theorem dX3_readsName_48 : decode cX3_readsName 48 = .ok (.getfield 65, 3) := dk_180 0 65 (dk_at dksX3_readsName_2 1 rfl rfl)
theorem dX3_readsName_51 : decode cX3_readsName 51 = .ok (.iconst 4, 1) := dk_7 (dk_at dksX3_readsName_2 4 rfl rfl)
theorem dX3_readsName_52 : decode cX3_readsName 52 = .ok (.iadd, 1) := dk_96 (dk_at dksX3_readsName_2 5 rfl rfl)
theorem dX3_readsName_53 : decode cX3_readsName 53 = .ok (.invokevirtual 167, 3) := dk_182 0 167 (dk_at dksX3_readsName_2 6 rfl rfl)
theorem dX3_readsName_56 : decode cX3_readsName 56 = .ok (.iconst 0, 1) := dk_3 (dk_at dksX3_readsName_2 9 rfl rfl)
theorem dX3_readsName_57 : decode cX3_readsName 57 = .ok (.istore_n 1, 1) := dk_60 (dk_at dksX3_readsName_2 10 rfl rfl)
theorem dX3_readsName_58 : decode cX3_readsName 58 = .ok (.iload_n 1, 1) := dk_27 (dk_at dksX3_readsName_2 11 rfl rfl)
theorem dX3_readsName_59 : decode cX3_readsName 59 = .ok (.aload_n 0, 1) := dk_42 (dk_at dksX3_readsName_2 12 rfl rfl)
theorem dX3_readsName_60 : decode cX3_readsName 60 = .ok (.getfield 13, 3) := dk_180 0 13 (dk_at dksX3_readsName_2 13 rfl rfl)
theorem dX3_readsName_63 : decode cX3_readsName 63 = .ok (.sipush 1000, 3) := dk_17 3 232 (dk_at dksX3_readsName_2 16 rfl rfl)
theorem dX3_readsName_66 : decode cX3_readsName 66 = .ok (.iaload, 1) := dk_46 (dk_at dksX3_readsName_2 19 rfl rfl)
theorem dX3_readsName_67 : decode cX3_readsName 67 = .ok (.if_icmp .ge 76, 3) := dk_162 0 76 (dk_at dksX3_readsName_2 20 rfl rfl)
theorem dX3_readsName_70 : decode cX3_readsName 70 = .ok (.aload_n 0, 1) := dk_42 (dk_at dksX3_readsName_2 23 rfl rfl)
theorem dX3_readsName_71 : decode cX3_readsName 71 = .ok (.invokevirtual 153, 3) := dk_182 0 153 (dk_at dksX3_readsName_3 0 rfl rfl)
theorem dX3_readsName_74 : decode cX3_readsName 74 = .ok (.ifCond .eq 69, 3) := dk_153 0 69 (dk_at dksX3_readsName_3 3 rfl rfl)
theorem dX3_readsName_77 : decode cX3_readsName 77 = .ok (.iconst 1, 1) := dk_4 (dk_at dksX3_readsName_3 6 rfl rfl)
theorem dX3_readsName_78 : decode cX3_readsName 78 = .ok (.istore_n 2, 1) := dk_61 (dk_at dksX3_readsName_3 7 rfl rfl)
theorem dX3_readsName_79 : decode cX3_readsName 79 = .ok (.iconst 0, 1) := dk_3 (dk_at dksX3_readsName_3 8 rfl rfl)
theorem dX3_readsName_80 : decode cX3_readsName 80 = .ok (.istore_n 3, 1) := dk_62 (dk_at dksX3_readsName_3 9 rfl rfl)
theorem dX3_readsName_81 : decode cX3_readsName 81 = .ok (.iload_n 3, 1) := dk_29 (dk_at dksX3_readsName_3 10 rfl rfl)
theorem dX3_readsName_82 : decode cX3_readsName 82 = .ok (.iconst 4, 1) := dk_7 (dk_at dksX3_readsName_3 11 rfl rfl)
theorem dX3_readsName_83 : decode cX3_readsName 83 = .ok (.if_icmp .ge 41, 3) := dk_162 0 41 (dk_at dksX3_readsName_3 12 rfl rfl)
theorem dX3_readsName_86 : decode cX3_readsName 86 = .ok (.iload_n 2, 1) := dk_28 (dk_at dksX3_readsName_3 15 rfl rfl)
theorem dX3_readsName_87 : decode cX3_readsName 87 = .ok (.ifCond .eq 29, 3) := dk_153 0 29 (dk_at dksX3_readsName_3 16 rfl rfl)
theorem dX3_readsName_90 : decode cX3_readsName 90 = .ok (.aload_n 0, 1) := dk_42 (dk_at dksX3_readsName_3 19 rfl rfl)
theorem dX3_readsName_91 : decode cX3_readsName 91 = .ok (.getfield 13, 3) := dk_180 0 13 (dk_at dksX3_readsName_3 20 rfl rfl)
theorem dX3_readsName_94 : decode cX3_readsName 94 = .ok (.sipush 1010, 3) := dk_17 3 242 (dk_at dksX3_readsName_4 0 rfl rfl)
theorem dX3_readsName_97 : decode cX3_readsName 97 = .ok (.iconst 4, 1) := dk_7 (dk_at dksX3_readsName_4 3 rfl rfl)
theorem dX3_readsName_98 : decode cX3_readsName 98 = .ok (.iload_n 1, 1) := dk_27 (dk_at dksX3_readsName_4 4 rfl rfl)
theorem dX3_readsName_99 : decode cX3_readsName 99 = .ok (.imul, 1) := dk_104 (dk_at dksX3_readsName_4 5 rfl rfl)
theorem dX3_readsName_100 : decode cX3_readsName 100 = .ok (.iadd, 1) := dk_96 (dk_at dksX3_readsName_4 6 rfl rfl)
theorem dX3_readsName_101 : decode cX3_readsName 101 = .ok (.iload_n 3, 1) := dk_29 (dk_at dksX3_readsName_4 7 rfl rfl)
theorem dX3_readsName_102 : decode cX3_readsName 102 = .ok (.iadd, 1) := dk_96 (dk_at dksX3_readsName_4 8 rfl rfl)
theorem dX3_readsName_103 : decode cX3_readsName 103 = .ok (.iaload, 1) := dk_46 (dk_at dksX3_readsName_4 9 rfl rfl)
theorem dX3_readsName_104 : decode cX3_readsName 104 = .ok (.aload_n 0, 1) := dk_42 (dk_at dksX3_readsName_4 10 rfl rfl)
theorem dX3_readsName_105 : decode cX3_readsName 105 = .ok (.iload_n 3, 1) := dk_29 (dk_at dksX3_readsName_4 11 rfl rfl)
theorem dX3_readsName_106 : decode cX3_readsName 106 = .ok (.invokevirtual 191, 3) := dk_182 0 191 (dk_at dksX3_readsName_4 12 rfl rfl)
theorem dX3_readsName_109 : decode cX3_readsName 109 = .ok (.if_icmp .ne 7, 3) := dk_160 0 7 (dk_at dksX3_readsName_4 15 rfl rfl)
theorem dX3_readsName_112 : decode cX3_readsName 112 = .ok (.iconst 1, 1) := dk_4 (dk_at dksX3_readsName_4 18 rfl rfl)
theorem dX3_readsName_113 : decode cX3_readsName 113 = .ok (.goto 4, 3) := dk_167 0 4 (dk_at dksX3_readsName_4 19 rfl rfl)
theorem dX3_readsName_116 : decode cX3_readsName 116 = .ok (.iconst 0, 1) := dk_3 (dk_at dksX3_readsName_4 22 rfl rfl)
theorem dX3_readsName_117 : decode cX3_readsName 117 = .ok (.istore_n 2, 1) := dk_61 (dk_at dksX3_readsName_4 23 rfl rfl)
theorem dX3_readsName_118 : decode cX3_readsName 118 = .ok (.iinc 3 1, 3) := dk_132 3 1 (dk_at dksX3_readsName_5 0 rfl rfl)
theorem dX3_readsName_121 : decode cX3_readsName 121 = .ok (.goto (-40), 3) := dk_167 255 216 (dk_at dksX3_readsName_5 3 rfl rfl)
theorem dX3_readsName_124 : decode cX3_readsName 124 = .ok (.iload_n 2, 1) := dk_28 (dk_at dksX3_readsName_5 6 rfl rfl)
theorem dX3_readsName_125 : decode cX3_readsName 125 = .ok (.ifCond .eq 12, 3) := dk_153 0 12 (dk_at dksX3_readsName_5 7 rfl rfl)
theorem dX3_readsName_128 : decode cX3_readsName 128 = .ok (.aload_n 0, 1) := dk_42 (dk_at dksX3_readsName_5 10 rfl rfl)
theorem dX3_readsName_129 : decode cX3_readsName 129 = .ok (.iconst 3, 1) := dk_6 (dk_at dksX3_readsName_5 11 rfl rfl)
theorem dX3_readsName_130 : decode cX3_readsName 130 = .ok (.aload_n 0, 1) := dk_42 (dk_at dksX3_readsName_5 12 rfl rfl)
theorem dX3_readsName_131 : decode cX3_readsName 131 = .ok (.getfield 65, 3) := dk_180 0 65 (dk_at dksX3_readsName_5 13 rfl rfl)
theorem dX3_readsName_134 : decode cX3_readsName 134 = .ok (.invokevirtual 167, 3) := dk_182 0 167 (dk_at dksX3_readsName_5 16 rfl rfl)
theorem dX3_readsName_137 : decode cX3_readsName 137 = .ok (.iinc 1 1, 3) := dk_132 1 1 (dk_at dksX3_readsName_5 19 rfl rfl)
theorem dX3_readsName_140 : decode cX3_readsName 140 = .ok (.goto (-82), 3) := dk_167 255 174 (dk_at dksX3_readsName_6 0 rfl rfl)
theorem dX3_readsName_143 : decode cX3_readsName 143 = .ok (.return_, 1) := dk_177 (dk_at dksX3_readsName_6 3 rfl rfl)
abbrev cX3_signAt : ByteArray := prog_12_method_23_code
def yX3_signAt : MethodName := ⟨RX3, "signAt", "(I)I"⟩
def dkwX3_signAt_1 : List UInt8 := [16, 96, 100, 167, 0, 4, 3, 172]
abbrev dktX3_signAt_1 : List UInt8 := dkwX3_signAt_1 ++ []
def dkwX3_signAt_0 : List UInt8 := [42, 180, 0, 65, 27, 96, 42, 180, 0, 62, 162, 0, 20, 42, 180, 0, 44, 42, 180, 0, 65, 27, 96, 46]
abbrev dktX3_signAt_0 : List UInt8 := dkwX3_signAt_0 ++ dktX3_signAt_1
theorem dksX3_signAt_0 : cX3_signAt.data.toList.drop 0 = dktX3_signAt_0 := by decide +kernel
theorem dksX3_signAt_1 : cX3_signAt.data.toList.drop 24 = dktX3_signAt_1 := dk_seg dksX3_signAt_0 24 rfl rfl
theorem dX3_signAt_0 : decode cX3_signAt 0 = .ok (.aload_n 0, 1) := dk_42 (dk_at dksX3_signAt_0 0 rfl rfl)
theorem dX3_signAt_1 : decode cX3_signAt 1 = .ok (.getfield 65, 3) := dk_180 0 65 (dk_at dksX3_signAt_0 1 rfl rfl)
theorem dX3_signAt_4 : decode cX3_signAt 4 = .ok (.iload_n 1, 1) := dk_27 (dk_at dksX3_signAt_0 4 rfl rfl)
theorem dX3_signAt_5 : decode cX3_signAt 5 = .ok (.iadd, 1) := dk_96 (dk_at dksX3_signAt_0 5 rfl rfl)
theorem dX3_signAt_6 : decode cX3_signAt 6 = .ok (.aload_n 0, 1) := dk_42 (dk_at dksX3_signAt_0 6 rfl rfl)
theorem dX3_signAt_7 : decode cX3_signAt 7 = .ok (.getfield 62, 3) := dk_180 0 62 (dk_at dksX3_signAt_0 7 rfl rfl)
theorem dX3_signAt_10 : decode cX3_signAt 10 = .ok (.if_icmp .ge 20, 3) := dk_162 0 20 (dk_at dksX3_signAt_0 10 rfl rfl)
theorem dX3_signAt_13 : decode cX3_signAt 13 = .ok (.aload_n 0, 1) := dk_42 (dk_at dksX3_signAt_0 13 rfl rfl)
theorem dX3_signAt_14 : decode cX3_signAt 14 = .ok (.getfield 44, 3) := dk_180 0 44 (dk_at dksX3_signAt_0 14 rfl rfl)
theorem dX3_signAt_17 : decode cX3_signAt 17 = .ok (.aload_n 0, 1) := dk_42 (dk_at dksX3_signAt_0 17 rfl rfl)
theorem dX3_signAt_18 : decode cX3_signAt 18 = .ok (.getfield 65, 3) := dk_180 0 65 (dk_at dksX3_signAt_0 18 rfl rfl)
theorem dX3_signAt_21 : decode cX3_signAt 21 = .ok (.iload_n 1, 1) := dk_27 (dk_at dksX3_signAt_0 21 rfl rfl)
theorem dX3_signAt_22 : decode cX3_signAt 22 = .ok (.iadd, 1) := dk_96 (dk_at dksX3_signAt_0 22 rfl rfl)
theorem dX3_signAt_23 : decode cX3_signAt 23 = .ok (.iaload, 1) := dk_46 (dk_at dksX3_signAt_0 23 rfl rfl)
theorem dX3_signAt_24 : decode cX3_signAt 24 = .ok (.bipush 96, 2) := dk_16 96 (dk_at dksX3_signAt_1 0 rfl rfl)
theorem dX3_signAt_26 : decode cX3_signAt 26 = .ok (.isub, 1) := dk_100 (dk_at dksX3_signAt_1 2 rfl rfl)
theorem dX3_signAt_27 : decode cX3_signAt 27 = .ok (.goto 4, 3) := dk_167 0 4 (dk_at dksX3_signAt_1 3 rfl rfl)
theorem dX3_signAt_30 : decode cX3_signAt 30 = .ok (.iconst 0, 1) := dk_3 (dk_at dksX3_signAt_1 6 rfl rfl)
theorem dX3_signAt_31 : decode cX3_signAt 31 = .ok (.ireturn, 1) := dk_172 (dk_at dksX3_signAt_1 7 rfl rfl)
abbrev cX3_readsStroke : ByteArray := prog_12_method_29_code
def yX3_readsStroke : MethodName := ⟨RX3, "readsStroke", "(I)V"⟩
def dkwX3_readsStroke_10 : List UInt8 := [180, 0, 13, 17, 3, 233, 27, 96, 92, 46, 4, 96, 79, 177]
abbrev dktX3_readsStroke_10 : List UInt8 := dkwX3_readsStroke_10 ++ []
def dkwX3_readsStroke_9 : List UInt8 := [79, 27, 2, 160, 0, 18, 42, 180, 0, 13, 17, 3, 241, 92, 46, 4, 96, 79, 167, 0, 17, 42]
abbrev dktX3_readsStroke_9 : List UInt8 := dkwX3_readsStroke_9 ++ dktX3_readsStroke_10
def dkwX3_readsStroke_8 : List UInt8 := [167, 255, 165, 42, 182, 0, 153, 154, 0, 4, 177, 42, 180, 0, 13, 17, 3, 192, 29, 96, 21, 4, 5, 108]
abbrev dktX3_readsStroke_8 : List UInt8 := dkwX3_readsStroke_8 ++ dktX3_readsStroke_9
def dkwX3_readsStroke_7 : List UInt8 := [154, 0, 4, 177, 42, 180, 0, 13, 3, 16, 24, 29, 104, 96, 21, 4, 96, 21, 5, 79, 132, 4, 1]
abbrev dktX3_readsStroke_7 : List UInt8 := dkwX3_readsStroke_7 ++ dktX3_readsStroke_8
def dkwX3_readsStroke_6 : List UInt8 := [42, 8, 42, 180, 0, 62, 182, 0, 167, 42, 3, 16, 99, 182, 0, 187, 54, 5, 42, 182, 0, 153]
abbrev dktX3_readsStroke_6 : List UInt8 := dkwX3_readsStroke_6 ++ dktX3_readsStroke_7
def dkwX3_readsStroke_5 : List UInt8 := [182, 0, 157, 16, 48, 161, 0, 67, 42, 182, 0, 157, 16, 57, 163, 0, 58, 21, 4, 16, 24, 160, 0, 12]
abbrev dktX3_readsStroke_5 : List UInt8 := dkwX3_readsStroke_5 ++ dktX3_readsStroke_6
def dkwX3_readsStroke_4 : List UInt8 := [42, 182, 0, 153, 153, 0, 90, 21, 4, 7, 161, 0, 29, 21, 4, 5, 112, 4, 159, 0, 21, 42]
abbrev dktX3_readsStroke_4 : List UInt8 := dkwX3_readsStroke_4 ++ dktX3_readsStroke_5
def dkwX3_readsStroke_3 : List UInt8 := [182, 0, 167, 27, 2, 160, 0, 7, 28, 167, 0, 11, 16, 8, 7, 27, 104, 96, 28, 96, 62, 3, 54, 4]
abbrev dktX3_readsStroke_3 : List UInt8 := dkwX3_readsStroke_3 ++ dktX3_readsStroke_4
def dkwX3_readsStroke_2 : List UInt8 := [61, 28, 27, 2, 160, 0, 8, 16, 8, 167, 0, 4, 7, 160, 0, 12, 42, 8, 42, 180, 0, 65]
abbrev dktX3_readsStroke_2 : List UInt8 := dkwX3_readsStroke_2 ++ dktX3_readsStroke_3
def dkwX3_readsStroke_1 : List UInt8 := [160, 0, 14, 42, 180, 0, 13, 17, 3, 241, 46, 167, 0, 13, 42, 180, 0, 13, 17, 3, 233, 27, 96, 46]
abbrev dktX3_readsStroke_1 : List UInt8 := dkwX3_readsStroke_1 ++ dktX3_readsStroke_2
def dkwX3_readsStroke_0 : List UInt8 := [27, 2, 162, 0, 12, 42, 4, 42, 180, 0, 65, 182, 0, 167, 42, 182, 0, 153, 154, 0, 4, 177, 27, 2]
abbrev dktX3_readsStroke_0 : List UInt8 := dkwX3_readsStroke_0 ++ dktX3_readsStroke_1
theorem dksX3_readsStroke_0 : cX3_readsStroke.data.toList.drop 0 = dktX3_readsStroke_0 := by decide +kernel
theorem dksX3_readsStroke_1 : cX3_readsStroke.data.toList.drop 24 = dktX3_readsStroke_1 := dk_seg dksX3_readsStroke_0 24 rfl rfl
theorem dksX3_readsStroke_2 : cX3_readsStroke.data.toList.drop 48 = dktX3_readsStroke_2 := dk_seg dksX3_readsStroke_1 24 rfl rfl
theorem dksX3_readsStroke_3 : cX3_readsStroke.data.toList.drop 70 = dktX3_readsStroke_3 := dk_seg dksX3_readsStroke_2 22 rfl rfl
theorem dksX3_readsStroke_4 : cX3_readsStroke.data.toList.drop 94 = dktX3_readsStroke_4 := dk_seg dksX3_readsStroke_3 24 rfl rfl
theorem dksX3_readsStroke_5 : cX3_readsStroke.data.toList.drop 116 = dktX3_readsStroke_5 := dk_seg dksX3_readsStroke_4 22 rfl rfl
theorem dksX3_readsStroke_6 : cX3_readsStroke.data.toList.drop 140 = dktX3_readsStroke_6 := dk_seg dksX3_readsStroke_5 24 rfl rfl
theorem dksX3_readsStroke_7 : cX3_readsStroke.data.toList.drop 162 = dktX3_readsStroke_7 := dk_seg dksX3_readsStroke_6 22 rfl rfl
theorem dksX3_readsStroke_8 : cX3_readsStroke.data.toList.drop 185 = dktX3_readsStroke_8 := dk_seg dksX3_readsStroke_7 23 rfl rfl
theorem dksX3_readsStroke_9 : cX3_readsStroke.data.toList.drop 209 = dktX3_readsStroke_9 := dk_seg dksX3_readsStroke_8 24 rfl rfl
theorem dksX3_readsStroke_10 : cX3_readsStroke.data.toList.drop 231 = dktX3_readsStroke_10 := dk_seg dksX3_readsStroke_9 22 rfl rfl
theorem dX3_readsStroke_0 : decode cX3_readsStroke 0 = .ok (.iload_n 1, 1) := dk_27 (dk_at dksX3_readsStroke_0 0 rfl rfl)
theorem dX3_readsStroke_1 : decode cX3_readsStroke 1 = .ok (.iconst (-1), 1) := dk_2 (dk_at dksX3_readsStroke_0 1 rfl rfl)
theorem dX3_readsStroke_2 : decode cX3_readsStroke 2 = .ok (.if_icmp .ge 12, 3) := dk_162 0 12 (dk_at dksX3_readsStroke_0 2 rfl rfl)
theorem dX3_readsStroke_5 : decode cX3_readsStroke 5 = .ok (.aload_n 0, 1) := dk_42 (dk_at dksX3_readsStroke_0 5 rfl rfl)
theorem dX3_readsStroke_6 : decode cX3_readsStroke 6 = .ok (.iconst 1, 1) := dk_4 (dk_at dksX3_readsStroke_0 6 rfl rfl)
theorem dX3_readsStroke_7 : decode cX3_readsStroke 7 = .ok (.aload_n 0, 1) := dk_42 (dk_at dksX3_readsStroke_0 7 rfl rfl)
theorem dX3_readsStroke_8 : decode cX3_readsStroke 8 = .ok (.getfield 65, 3) := dk_180 0 65 (dk_at dksX3_readsStroke_0 8 rfl rfl)
theorem dX3_readsStroke_11 : decode cX3_readsStroke 11 = .ok (.invokevirtual 167, 3) := dk_182 0 167 (dk_at dksX3_readsStroke_0 11 rfl rfl)
theorem dX3_readsStroke_14 : decode cX3_readsStroke 14 = .ok (.aload_n 0, 1) := dk_42 (dk_at dksX3_readsStroke_0 14 rfl rfl)
theorem dX3_readsStroke_15 : decode cX3_readsStroke 15 = .ok (.invokevirtual 153, 3) := dk_182 0 153 (dk_at dksX3_readsStroke_0 15 rfl rfl)
theorem dX3_readsStroke_18 : decode cX3_readsStroke 18 = .ok (.ifCond .ne 4, 3) := dk_154 0 4 (dk_at dksX3_readsStroke_0 18 rfl rfl)
theorem dX3_readsStroke_21 : decode cX3_readsStroke 21 = .ok (.return_, 1) := dk_177 (dk_at dksX3_readsStroke_0 21 rfl rfl)
theorem dX3_readsStroke_22 : decode cX3_readsStroke 22 = .ok (.iload_n 1, 1) := dk_27 (dk_at dksX3_readsStroke_0 22 rfl rfl)
theorem dX3_readsStroke_23 : decode cX3_readsStroke 23 = .ok (.iconst (-1), 1) := dk_2 (dk_at dksX3_readsStroke_0 23 rfl rfl)
theorem dX3_readsStroke_24 : decode cX3_readsStroke 24 = .ok (.if_icmp .ne 14, 3) := dk_160 0 14 (dk_at dksX3_readsStroke_1 0 rfl rfl)
theorem dX3_readsStroke_27 : decode cX3_readsStroke 27 = .ok (.aload_n 0, 1) := dk_42 (dk_at dksX3_readsStroke_1 3 rfl rfl)
theorem dX3_readsStroke_28 : decode cX3_readsStroke 28 = .ok (.getfield 13, 3) := dk_180 0 13 (dk_at dksX3_readsStroke_1 4 rfl rfl)
theorem dX3_readsStroke_31 : decode cX3_readsStroke 31 = .ok (.sipush 1009, 3) := dk_17 3 241 (dk_at dksX3_readsStroke_1 7 rfl rfl)
theorem dX3_readsStroke_34 : decode cX3_readsStroke 34 = .ok (.iaload, 1) := dk_46 (dk_at dksX3_readsStroke_1 10 rfl rfl)
theorem dX3_readsStroke_35 : decode cX3_readsStroke 35 = .ok (.goto 13, 3) := dk_167 0 13 (dk_at dksX3_readsStroke_1 11 rfl rfl)
theorem dX3_readsStroke_38 : decode cX3_readsStroke 38 = .ok (.aload_n 0, 1) := dk_42 (dk_at dksX3_readsStroke_1 14 rfl rfl)
theorem dX3_readsStroke_39 : decode cX3_readsStroke 39 = .ok (.getfield 13, 3) := dk_180 0 13 (dk_at dksX3_readsStroke_1 15 rfl rfl)
theorem dX3_readsStroke_42 : decode cX3_readsStroke 42 = .ok (.sipush 1001, 3) := dk_17 3 233 (dk_at dksX3_readsStroke_1 18 rfl rfl)
theorem dX3_readsStroke_45 : decode cX3_readsStroke 45 = .ok (.iload_n 1, 1) := dk_27 (dk_at dksX3_readsStroke_1 21 rfl rfl)
theorem dX3_readsStroke_46 : decode cX3_readsStroke 46 = .ok (.iadd, 1) := dk_96 (dk_at dksX3_readsStroke_1 22 rfl rfl)
theorem dX3_readsStroke_47 : decode cX3_readsStroke 47 = .ok (.iaload, 1) := dk_46 (dk_at dksX3_readsStroke_1 23 rfl rfl)
theorem dX3_readsStroke_48 : decode cX3_readsStroke 48 = .ok (.istore_n 2, 1) := dk_61 (dk_at dksX3_readsStroke_2 0 rfl rfl)
theorem dX3_readsStroke_49 : decode cX3_readsStroke 49 = .ok (.iload_n 2, 1) := dk_28 (dk_at dksX3_readsStroke_2 1 rfl rfl)
theorem dX3_readsStroke_50 : decode cX3_readsStroke 50 = .ok (.iload_n 1, 1) := dk_27 (dk_at dksX3_readsStroke_2 2 rfl rfl)
theorem dX3_readsStroke_51 : decode cX3_readsStroke 51 = .ok (.iconst (-1), 1) := dk_2 (dk_at dksX3_readsStroke_2 3 rfl rfl)
theorem dX3_readsStroke_52 : decode cX3_readsStroke 52 = .ok (.if_icmp .ne 8, 3) := dk_160 0 8 (dk_at dksX3_readsStroke_2 4 rfl rfl)
theorem dX3_readsStroke_55 : decode cX3_readsStroke 55 = .ok (.bipush 8, 2) := dk_16 8 (dk_at dksX3_readsStroke_2 7 rfl rfl)
theorem dX3_readsStroke_57 : decode cX3_readsStroke 57 = .ok (.goto 4, 3) := dk_167 0 4 (dk_at dksX3_readsStroke_2 9 rfl rfl)
theorem dX3_readsStroke_60 : decode cX3_readsStroke 60 = .ok (.iconst 4, 1) := dk_7 (dk_at dksX3_readsStroke_2 12 rfl rfl)
theorem dX3_readsStroke_61 : decode cX3_readsStroke 61 = .ok (.if_icmp .ne 12, 3) := dk_160 0 12 (dk_at dksX3_readsStroke_2 13 rfl rfl)
theorem dX3_readsStroke_64 : decode cX3_readsStroke 64 = .ok (.aload_n 0, 1) := dk_42 (dk_at dksX3_readsStroke_2 16 rfl rfl)
theorem dX3_readsStroke_65 : decode cX3_readsStroke 65 = .ok (.iconst 5, 1) := dk_8 (dk_at dksX3_readsStroke_2 17 rfl rfl)
theorem dX3_readsStroke_66 : decode cX3_readsStroke 66 = .ok (.aload_n 0, 1) := dk_42 (dk_at dksX3_readsStroke_2 18 rfl rfl)
theorem dX3_readsStroke_67 : decode cX3_readsStroke 67 = .ok (.getfield 65, 3) := dk_180 0 65 (dk_at dksX3_readsStroke_2 19 rfl rfl)
theorem dX3_readsStroke_70 : decode cX3_readsStroke 70 = .ok (.invokevirtual 167, 3) := dk_182 0 167 (dk_at dksX3_readsStroke_3 0 rfl rfl)
theorem dX3_readsStroke_73 : decode cX3_readsStroke 73 = .ok (.iload_n 1, 1) := dk_27 (dk_at dksX3_readsStroke_3 3 rfl rfl)
theorem dX3_readsStroke_74 : decode cX3_readsStroke 74 = .ok (.iconst (-1), 1) := dk_2 (dk_at dksX3_readsStroke_3 4 rfl rfl)
theorem dX3_readsStroke_75 : decode cX3_readsStroke 75 = .ok (.if_icmp .ne 7, 3) := dk_160 0 7 (dk_at dksX3_readsStroke_3 5 rfl rfl)
theorem dX3_readsStroke_78 : decode cX3_readsStroke 78 = .ok (.iload_n 2, 1) := dk_28 (dk_at dksX3_readsStroke_3 8 rfl rfl)
theorem dX3_readsStroke_79 : decode cX3_readsStroke 79 = .ok (.goto 11, 3) := dk_167 0 11 (dk_at dksX3_readsStroke_3 9 rfl rfl)
theorem dX3_readsStroke_82 : decode cX3_readsStroke 82 = .ok (.bipush 8, 2) := dk_16 8 (dk_at dksX3_readsStroke_3 12 rfl rfl)
theorem dX3_readsStroke_84 : decode cX3_readsStroke 84 = .ok (.iconst 4, 1) := dk_7 (dk_at dksX3_readsStroke_3 14 rfl rfl)
theorem dX3_readsStroke_85 : decode cX3_readsStroke 85 = .ok (.iload_n 1, 1) := dk_27 (dk_at dksX3_readsStroke_3 15 rfl rfl)
theorem dX3_readsStroke_86 : decode cX3_readsStroke 86 = .ok (.imul, 1) := dk_104 (dk_at dksX3_readsStroke_3 16 rfl rfl)
theorem dX3_readsStroke_87 : decode cX3_readsStroke 87 = .ok (.iadd, 1) := dk_96 (dk_at dksX3_readsStroke_3 17 rfl rfl)
theorem dX3_readsStroke_88 : decode cX3_readsStroke 88 = .ok (.iload_n 2, 1) := dk_28 (dk_at dksX3_readsStroke_3 18 rfl rfl)
theorem dX3_readsStroke_89 : decode cX3_readsStroke 89 = .ok (.iadd, 1) := dk_96 (dk_at dksX3_readsStroke_3 19 rfl rfl)
theorem dX3_readsStroke_90 : decode cX3_readsStroke 90 = .ok (.istore_n 3, 1) := dk_62 (dk_at dksX3_readsStroke_3 20 rfl rfl)
theorem dX3_readsStroke_91 : decode cX3_readsStroke 91 = .ok (.iconst 0, 1) := dk_3 (dk_at dksX3_readsStroke_3 21 rfl rfl)
theorem dX3_readsStroke_92 : decode cX3_readsStroke 92 = .ok (.istore 4, 2) := dk_54 4 (dk_at dksX3_readsStroke_3 22 rfl rfl)
theorem dX3_readsStroke_94 : decode cX3_readsStroke 94 = .ok (.aload_n 0, 1) := dk_42 (dk_at dksX3_readsStroke_4 0 rfl rfl)
theorem dX3_readsStroke_95 : decode cX3_readsStroke 95 = .ok (.invokevirtual 153, 3) := dk_182 0 153 (dk_at dksX3_readsStroke_4 1 rfl rfl)
theorem dX3_readsStroke_98 : decode cX3_readsStroke 98 = .ok (.ifCond .eq 90, 3) := dk_153 0 90 (dk_at dksX3_readsStroke_4 4 rfl rfl)
theorem dX3_readsStroke_101 : decode cX3_readsStroke 101 = .ok (.iload 4, 2) := dk_21 4 (dk_at dksX3_readsStroke_4 7 rfl rfl)
theorem dX3_readsStroke_103 : decode cX3_readsStroke 103 = .ok (.iconst 4, 1) := dk_7 (dk_at dksX3_readsStroke_4 9 rfl rfl)
theorem dX3_readsStroke_104 : decode cX3_readsStroke 104 = .ok (.if_icmp .lt 29, 3) := dk_161 0 29 (dk_at dksX3_readsStroke_4 10 rfl rfl)
theorem dX3_readsStroke_107 : decode cX3_readsStroke 107 = .ok (.iload 4, 2) := dk_21 4 (dk_at dksX3_readsStroke_4 13 rfl rfl)
theorem dX3_readsStroke_109 : decode cX3_readsStroke 109 = .ok (.iconst 2, 1) := dk_5 (dk_at dksX3_readsStroke_4 15 rfl rfl)
theorem dX3_readsStroke_110 : decode cX3_readsStroke 110 = .ok (.irem, 1) := dk_112 (dk_at dksX3_readsStroke_4 16 rfl rfl)
theorem dX3_readsStroke_111 : decode cX3_readsStroke 111 = .ok (.iconst 1, 1) := dk_4 (dk_at dksX3_readsStroke_4 17 rfl rfl)
theorem dX3_readsStroke_112 : decode cX3_readsStroke 112 = .ok (.if_icmp .eq 21, 3) := dk_159 0 21 (dk_at dksX3_readsStroke_4 18 rfl rfl)
theorem dX3_readsStroke_115 : decode cX3_readsStroke 115 = .ok (.aload_n 0, 1) := dk_42 (dk_at dksX3_readsStroke_4 21 rfl rfl)
theorem dX3_readsStroke_116 : decode cX3_readsStroke 116 = .ok (.invokevirtual 157, 3) := dk_182 0 157 (dk_at dksX3_readsStroke_5 0 rfl rfl)
theorem dX3_readsStroke_119 : decode cX3_readsStroke 119 = .ok (.bipush 48, 2) := dk_16 48 (dk_at dksX3_readsStroke_5 3 rfl rfl)
theorem dX3_readsStroke_121 : decode cX3_readsStroke 121 = .ok (.if_icmp .lt 67, 3) := dk_161 0 67 (dk_at dksX3_readsStroke_5 5 rfl rfl)
theorem dX3_readsStroke_124 : decode cX3_readsStroke 124 = .ok (.aload_n 0, 1) := dk_42 (dk_at dksX3_readsStroke_5 8 rfl rfl)
theorem dX3_readsStroke_125 : decode cX3_readsStroke 125 = .ok (.invokevirtual 157, 3) := dk_182 0 157 (dk_at dksX3_readsStroke_5 9 rfl rfl)
theorem dX3_readsStroke_128 : decode cX3_readsStroke 128 = .ok (.bipush 57, 2) := dk_16 57 (dk_at dksX3_readsStroke_5 12 rfl rfl)
theorem dX3_readsStroke_130 : decode cX3_readsStroke 130 = .ok (.if_icmp .gt 58, 3) := dk_163 0 58 (dk_at dksX3_readsStroke_5 14 rfl rfl)
theorem dX3_readsStroke_133 : decode cX3_readsStroke 133 = .ok (.iload 4, 2) := dk_21 4 (dk_at dksX3_readsStroke_5 17 rfl rfl)
theorem dX3_readsStroke_135 : decode cX3_readsStroke 135 = .ok (.bipush 24, 2) := dk_16 24 (dk_at dksX3_readsStroke_5 19 rfl rfl)
theorem dX3_readsStroke_137 : decode cX3_readsStroke 137 = .ok (.if_icmp .ne 12, 3) := dk_160 0 12 (dk_at dksX3_readsStroke_5 21 rfl rfl)
theorem dX3_readsStroke_140 : decode cX3_readsStroke 140 = .ok (.aload_n 0, 1) := dk_42 (dk_at dksX3_readsStroke_6 0 rfl rfl)
theorem dX3_readsStroke_141 : decode cX3_readsStroke 141 = .ok (.iconst 5, 1) := dk_8 (dk_at dksX3_readsStroke_6 1 rfl rfl)
theorem dX3_readsStroke_142 : decode cX3_readsStroke 142 = .ok (.aload_n 0, 1) := dk_42 (dk_at dksX3_readsStroke_6 2 rfl rfl)
theorem dX3_readsStroke_143 : decode cX3_readsStroke 143 = .ok (.getfield 62, 3) := dk_180 0 62 (dk_at dksX3_readsStroke_6 3 rfl rfl)
theorem dX3_readsStroke_146 : decode cX3_readsStroke 146 = .ok (.invokevirtual 167, 3) := dk_182 0 167 (dk_at dksX3_readsStroke_6 6 rfl rfl)
theorem dX3_readsStroke_149 : decode cX3_readsStroke 149 = .ok (.aload_n 0, 1) := dk_42 (dk_at dksX3_readsStroke_6 9 rfl rfl)
theorem dX3_readsStroke_150 : decode cX3_readsStroke 150 = .ok (.iconst 0, 1) := dk_3 (dk_at dksX3_readsStroke_6 10 rfl rfl)
theorem dX3_readsStroke_151 : decode cX3_readsStroke 151 = .ok (.bipush 99, 2) := dk_16 99 (dk_at dksX3_readsStroke_6 11 rfl rfl)
theorem dX3_readsStroke_153 : decode cX3_readsStroke 153 = .ok (.invokevirtual 187, 3) := dk_182 0 187 (dk_at dksX3_readsStroke_6 13 rfl rfl)
theorem dX3_readsStroke_156 : decode cX3_readsStroke 156 = .ok (.istore 5, 2) := dk_54 5 (dk_at dksX3_readsStroke_6 16 rfl rfl)
theorem dX3_readsStroke_158 : decode cX3_readsStroke 158 = .ok (.aload_n 0, 1) := dk_42 (dk_at dksX3_readsStroke_6 18 rfl rfl)
theorem dX3_readsStroke_159 : decode cX3_readsStroke 159 = .ok (.invokevirtual 153, 3) := dk_182 0 153 (dk_at dksX3_readsStroke_6 19 rfl rfl)
theorem dX3_readsStroke_162 : decode cX3_readsStroke 162 = .ok (.ifCond .ne 4, 3) := dk_154 0 4 (dk_at dksX3_readsStroke_7 0 rfl rfl)
theorem dX3_readsStroke_165 : decode cX3_readsStroke 165 = .ok (.return_, 1) := dk_177 (dk_at dksX3_readsStroke_7 3 rfl rfl)
theorem dX3_readsStroke_166 : decode cX3_readsStroke 166 = .ok (.aload_n 0, 1) := dk_42 (dk_at dksX3_readsStroke_7 4 rfl rfl)
theorem dX3_readsStroke_167 : decode cX3_readsStroke 167 = .ok (.getfield 13, 3) := dk_180 0 13 (dk_at dksX3_readsStroke_7 5 rfl rfl)
theorem dX3_readsStroke_170 : decode cX3_readsStroke 170 = .ok (.iconst 0, 1) := dk_3 (dk_at dksX3_readsStroke_7 8 rfl rfl)
theorem dX3_readsStroke_171 : decode cX3_readsStroke 171 = .ok (.bipush 24, 2) := dk_16 24 (dk_at dksX3_readsStroke_7 9 rfl rfl)
theorem dX3_readsStroke_173 : decode cX3_readsStroke 173 = .ok (.iload_n 3, 1) := dk_29 (dk_at dksX3_readsStroke_7 11 rfl rfl)
theorem dX3_readsStroke_174 : decode cX3_readsStroke 174 = .ok (.imul, 1) := dk_104 (dk_at dksX3_readsStroke_7 12 rfl rfl)
theorem dX3_readsStroke_175 : decode cX3_readsStroke 175 = .ok (.iadd, 1) := dk_96 (dk_at dksX3_readsStroke_7 13 rfl rfl)
theorem dX3_readsStroke_176 : decode cX3_readsStroke 176 = .ok (.iload 4, 2) := dk_21 4 (dk_at dksX3_readsStroke_7 14 rfl rfl)
theorem dX3_readsStroke_178 : decode cX3_readsStroke 178 = .ok (.iadd, 1) := dk_96 (dk_at dksX3_readsStroke_7 16 rfl rfl)
theorem dX3_readsStroke_179 : decode cX3_readsStroke 179 = .ok (.iload 5, 2) := dk_21 5 (dk_at dksX3_readsStroke_7 17 rfl rfl)
theorem dX3_readsStroke_181 : decode cX3_readsStroke 181 = .ok (.iastore, 1) := dk_79 (dk_at dksX3_readsStroke_7 19 rfl rfl)
theorem dX3_readsStroke_182 : decode cX3_readsStroke 182 = .ok (.iinc 4 1, 3) := dk_132 4 1 (dk_at dksX3_readsStroke_7 20 rfl rfl)
theorem dX3_readsStroke_185 : decode cX3_readsStroke 185 = .ok (.goto (-91), 3) := dk_167 255 165 (dk_at dksX3_readsStroke_8 0 rfl rfl)
theorem dX3_readsStroke_188 : decode cX3_readsStroke 188 = .ok (.aload_n 0, 1) := dk_42 (dk_at dksX3_readsStroke_8 3 rfl rfl)
theorem dX3_readsStroke_189 : decode cX3_readsStroke 189 = .ok (.invokevirtual 153, 3) := dk_182 0 153 (dk_at dksX3_readsStroke_8 4 rfl rfl)
theorem dX3_readsStroke_192 : decode cX3_readsStroke 192 = .ok (.ifCond .ne 4, 3) := dk_154 0 4 (dk_at dksX3_readsStroke_8 7 rfl rfl)
theorem dX3_readsStroke_195 : decode cX3_readsStroke 195 = .ok (.return_, 1) := dk_177 (dk_at dksX3_readsStroke_8 10 rfl rfl)
theorem dX3_readsStroke_196 : decode cX3_readsStroke 196 = .ok (.aload_n 0, 1) := dk_42 (dk_at dksX3_readsStroke_8 11 rfl rfl)
theorem dX3_readsStroke_197 : decode cX3_readsStroke 197 = .ok (.getfield 13, 3) := dk_180 0 13 (dk_at dksX3_readsStroke_8 12 rfl rfl)
theorem dX3_readsStroke_200 : decode cX3_readsStroke 200 = .ok (.sipush 960, 3) := dk_17 3 192 (dk_at dksX3_readsStroke_8 15 rfl rfl)
theorem dX3_readsStroke_203 : decode cX3_readsStroke 203 = .ok (.iload_n 3, 1) := dk_29 (dk_at dksX3_readsStroke_8 18 rfl rfl)
theorem dX3_readsStroke_204 : decode cX3_readsStroke 204 = .ok (.iadd, 1) := dk_96 (dk_at dksX3_readsStroke_8 19 rfl rfl)
theorem dX3_readsStroke_205 : decode cX3_readsStroke 205 = .ok (.iload 4, 2) := dk_21 4 (dk_at dksX3_readsStroke_8 20 rfl rfl)
theorem dX3_readsStroke_207 : decode cX3_readsStroke 207 = .ok (.iconst 2, 1) := dk_5 (dk_at dksX3_readsStroke_8 22 rfl rfl)
theorem dX3_readsStroke_208 : decode cX3_readsStroke 208 = .ok (.idiv, 1) := dk_108 (dk_at dksX3_readsStroke_8 23 rfl rfl)
theorem dX3_readsStroke_209 : decode cX3_readsStroke 209 = .ok (.iastore, 1) := dk_79 (dk_at dksX3_readsStroke_9 0 rfl rfl)
theorem dX3_readsStroke_210 : decode cX3_readsStroke 210 = .ok (.iload_n 1, 1) := dk_27 (dk_at dksX3_readsStroke_9 1 rfl rfl)
theorem dX3_readsStroke_211 : decode cX3_readsStroke 211 = .ok (.iconst (-1), 1) := dk_2 (dk_at dksX3_readsStroke_9 2 rfl rfl)
theorem dX3_readsStroke_212 : decode cX3_readsStroke 212 = .ok (.if_icmp .ne 18, 3) := dk_160 0 18 (dk_at dksX3_readsStroke_9 3 rfl rfl)
theorem dX3_readsStroke_215 : decode cX3_readsStroke 215 = .ok (.aload_n 0, 1) := dk_42 (dk_at dksX3_readsStroke_9 6 rfl rfl)
theorem dX3_readsStroke_216 : decode cX3_readsStroke 216 = .ok (.getfield 13, 3) := dk_180 0 13 (dk_at dksX3_readsStroke_9 7 rfl rfl)
theorem dX3_readsStroke_219 : decode cX3_readsStroke 219 = .ok (.sipush 1009, 3) := dk_17 3 241 (dk_at dksX3_readsStroke_9 10 rfl rfl)
theorem dX3_readsStroke_222 : decode cX3_readsStroke 222 = .ok (.dup2, 1) := dk_92 (dk_at dksX3_readsStroke_9 13 rfl rfl)
theorem dX3_readsStroke_223 : decode cX3_readsStroke 223 = .ok (.iaload, 1) := dk_46 (dk_at dksX3_readsStroke_9 14 rfl rfl)
theorem dX3_readsStroke_224 : decode cX3_readsStroke 224 = .ok (.iconst 1, 1) := dk_4 (dk_at dksX3_readsStroke_9 15 rfl rfl)
theorem dX3_readsStroke_225 : decode cX3_readsStroke 225 = .ok (.iadd, 1) := dk_96 (dk_at dksX3_readsStroke_9 16 rfl rfl)
theorem dX3_readsStroke_226 : decode cX3_readsStroke 226 = .ok (.iastore, 1) := dk_79 (dk_at dksX3_readsStroke_9 17 rfl rfl)
theorem dX3_readsStroke_227 : decode cX3_readsStroke 227 = .ok (.goto 17, 3) := dk_167 0 17 (dk_at dksX3_readsStroke_9 18 rfl rfl)
theorem dX3_readsStroke_230 : decode cX3_readsStroke 230 = .ok (.aload_n 0, 1) := dk_42 (dk_at dksX3_readsStroke_9 21 rfl rfl)
theorem dX3_readsStroke_231 : decode cX3_readsStroke 231 = .ok (.getfield 13, 3) := dk_180 0 13 (dk_at dksX3_readsStroke_10 0 rfl rfl)
theorem dX3_readsStroke_234 : decode cX3_readsStroke 234 = .ok (.sipush 1001, 3) := dk_17 3 233 (dk_at dksX3_readsStroke_10 3 rfl rfl)
theorem dX3_readsStroke_237 : decode cX3_readsStroke 237 = .ok (.iload_n 1, 1) := dk_27 (dk_at dksX3_readsStroke_10 6 rfl rfl)
theorem dX3_readsStroke_238 : decode cX3_readsStroke 238 = .ok (.iadd, 1) := dk_96 (dk_at dksX3_readsStroke_10 7 rfl rfl)
theorem dX3_readsStroke_239 : decode cX3_readsStroke 239 = .ok (.dup2, 1) := dk_92 (dk_at dksX3_readsStroke_10 8 rfl rfl)
theorem dX3_readsStroke_240 : decode cX3_readsStroke 240 = .ok (.iaload, 1) := dk_46 (dk_at dksX3_readsStroke_10 9 rfl rfl)
theorem dX3_readsStroke_241 : decode cX3_readsStroke 241 = .ok (.iconst 1, 1) := dk_4 (dk_at dksX3_readsStroke_10 10 rfl rfl)
theorem dX3_readsStroke_242 : decode cX3_readsStroke 242 = .ok (.iadd, 1) := dk_96 (dk_at dksX3_readsStroke_10 11 rfl rfl)
theorem dX3_readsStroke_243 : decode cX3_readsStroke 243 = .ok (.iastore, 1) := dk_79 (dk_at dksX3_readsStroke_10 12 rfl rfl)
theorem dX3_readsStroke_244 : decode cX3_readsStroke 244 = .ok (.return_, 1) := dk_177 (dk_at dksX3_readsStroke_10 13 rfl rfl)
abbrev cX3_endsWell : ByteArray := prog_12_method_21_code
def yX3_endsWell : MethodName := ⟨RX3, "endsWell", "()V"⟩
def dkwX3_endsWell_1 : List UInt8 := [181, 0, 62, 167, 0, 12, 42, 4, 42, 180, 0, 62, 182, 0, 167, 177]
abbrev dktX3_endsWell_1 : List UInt8 := dkwX3_endsWell_1 ++ []
def dkwX3_endsWell_0 : List UInt8 := [42, 182, 0, 153, 154, 0, 4, 177, 42, 182, 0, 157, 16, 59, 160, 0, 16, 42, 89, 180, 0, 62, 4, 96]
abbrev dktX3_endsWell_0 : List UInt8 := dkwX3_endsWell_0 ++ dktX3_endsWell_1
theorem dksX3_endsWell_0 : cX3_endsWell.data.toList.drop 0 = dktX3_endsWell_0 := by decide +kernel
theorem dksX3_endsWell_1 : cX3_endsWell.data.toList.drop 24 = dktX3_endsWell_1 := dk_seg dksX3_endsWell_0 24 rfl rfl
theorem dX3_endsWell_0 : decode cX3_endsWell 0 = .ok (.aload_n 0, 1) := dk_42 (dk_at dksX3_endsWell_0 0 rfl rfl)
theorem dX3_endsWell_1 : decode cX3_endsWell 1 = .ok (.invokevirtual 153, 3) := dk_182 0 153 (dk_at dksX3_endsWell_0 1 rfl rfl)
theorem dX3_endsWell_4 : decode cX3_endsWell 4 = .ok (.ifCond .ne 4, 3) := dk_154 0 4 (dk_at dksX3_endsWell_0 4 rfl rfl)
theorem dX3_endsWell_7 : decode cX3_endsWell 7 = .ok (.return_, 1) := dk_177 (dk_at dksX3_endsWell_0 7 rfl rfl)
theorem dX3_endsWell_8 : decode cX3_endsWell 8 = .ok (.aload_n 0, 1) := dk_42 (dk_at dksX3_endsWell_0 8 rfl rfl)
theorem dX3_endsWell_9 : decode cX3_endsWell 9 = .ok (.invokevirtual 157, 3) := dk_182 0 157 (dk_at dksX3_endsWell_0 9 rfl rfl)
theorem dX3_endsWell_12 : decode cX3_endsWell 12 = .ok (.bipush 59, 2) := dk_16 59 (dk_at dksX3_endsWell_0 12 rfl rfl)
theorem dX3_endsWell_14 : decode cX3_endsWell 14 = .ok (.if_icmp .ne 16, 3) := dk_160 0 16 (dk_at dksX3_endsWell_0 14 rfl rfl)
theorem dX3_endsWell_17 : decode cX3_endsWell 17 = .ok (.aload_n 0, 1) := dk_42 (dk_at dksX3_endsWell_0 17 rfl rfl)
theorem dX3_endsWell_18 : decode cX3_endsWell 18 = .ok (.dup, 1) := dk_89 (dk_at dksX3_endsWell_0 18 rfl rfl)
theorem dX3_endsWell_19 : decode cX3_endsWell 19 = .ok (.getfield 62, 3) := dk_180 0 62 (dk_at dksX3_endsWell_0 19 rfl rfl)
theorem dX3_endsWell_22 : decode cX3_endsWell 22 = .ok (.iconst 1, 1) := dk_4 (dk_at dksX3_endsWell_0 22 rfl rfl)
theorem dX3_endsWell_23 : decode cX3_endsWell 23 = .ok (.iadd, 1) := dk_96 (dk_at dksX3_endsWell_0 23 rfl rfl)
theorem dX3_endsWell_24 : decode cX3_endsWell 24 = .ok (.putfield 62, 3) := dk_181 0 62 (dk_at dksX3_endsWell_1 0 rfl rfl)
theorem dX3_endsWell_27 : decode cX3_endsWell 27 = .ok (.goto 12, 3) := dk_167 0 12 (dk_at dksX3_endsWell_1 3 rfl rfl)
theorem dX3_endsWell_30 : decode cX3_endsWell 30 = .ok (.aload_n 0, 1) := dk_42 (dk_at dksX3_endsWell_1 6 rfl rfl)
theorem dX3_endsWell_31 : decode cX3_endsWell 31 = .ok (.iconst 1, 1) := dk_4 (dk_at dksX3_endsWell_1 7 rfl rfl)
theorem dX3_endsWell_32 : decode cX3_endsWell 32 = .ok (.aload_n 0, 1) := dk_42 (dk_at dksX3_endsWell_1 8 rfl rfl)
theorem dX3_endsWell_33 : decode cX3_endsWell 33 = .ok (.getfield 62, 3) := dk_180 0 62 (dk_at dksX3_endsWell_1 9 rfl rfl)
theorem dX3_endsWell_36 : decode cX3_endsWell 36 = .ok (.invokevirtual 167, 3) := dk_182 0 167 (dk_at dksX3_endsWell_1 12 rfl rfl)
theorem dX3_endsWell_39 : decode cX3_endsWell 39 = .ok (.return_, 1) := dk_177 (dk_at dksX3_endsWell_1 15 rfl rfl)
abbrev cX3_fault : ByteArray := prog_12_method_32_code
def yX3_fault : MethodName := ⟨RX3, "fault", "(I)I"⟩
def dkwX3_fault_1 : List UInt8 := [172]
abbrev dktX3_fault_1 : List UInt8 := dkwX3_fault_1 ++ []
def dkwX3_fault_0 : List UInt8 := [27, 154, 0, 10, 42, 180, 0, 53, 167, 0, 16, 27, 4, 160, 0, 10, 42, 180, 0, 56, 167, 0, 4, 2]
abbrev dktX3_fault_0 : List UInt8 := dkwX3_fault_0 ++ dktX3_fault_1
theorem dksX3_fault_0 : cX3_fault.data.toList.drop 0 = dktX3_fault_0 := by decide +kernel
theorem dksX3_fault_1 : cX3_fault.data.toList.drop 24 = dktX3_fault_1 := dk_seg dksX3_fault_0 24 rfl rfl
theorem dX3_fault_0 : decode cX3_fault 0 = .ok (.iload_n 1, 1) := dk_27 (dk_at dksX3_fault_0 0 rfl rfl)
theorem dX3_fault_1 : decode cX3_fault 1 = .ok (.ifCond .ne 10, 3) := dk_154 0 10 (dk_at dksX3_fault_0 1 rfl rfl)
theorem dX3_fault_4 : decode cX3_fault 4 = .ok (.aload_n 0, 1) := dk_42 (dk_at dksX3_fault_0 4 rfl rfl)
theorem dX3_fault_5 : decode cX3_fault 5 = .ok (.getfield 53, 3) := dk_180 0 53 (dk_at dksX3_fault_0 5 rfl rfl)
theorem dX3_fault_8 : decode cX3_fault 8 = .ok (.goto 16, 3) := dk_167 0 16 (dk_at dksX3_fault_0 8 rfl rfl)
theorem dX3_fault_11 : decode cX3_fault 11 = .ok (.iload_n 1, 1) := dk_27 (dk_at dksX3_fault_0 11 rfl rfl)
theorem dX3_fault_12 : decode cX3_fault 12 = .ok (.iconst 1, 1) := dk_4 (dk_at dksX3_fault_0 12 rfl rfl)
theorem dX3_fault_13 : decode cX3_fault 13 = .ok (.if_icmp .ne 10, 3) := dk_160 0 10 (dk_at dksX3_fault_0 13 rfl rfl)
theorem dX3_fault_16 : decode cX3_fault 16 = .ok (.aload_n 0, 1) := dk_42 (dk_at dksX3_fault_0 16 rfl rfl)
theorem dX3_fault_17 : decode cX3_fault 17 = .ok (.getfield 56, 3) := dk_180 0 56 (dk_at dksX3_fault_0 17 rfl rfl)
theorem dX3_fault_20 : decode cX3_fault 20 = .ok (.goto 4, 3) := dk_167 0 4 (dk_at dksX3_fault_0 20 rfl rfl)
theorem dX3_fault_23 : decode cX3_fault 23 = .ok (.iconst (-1), 1) := dk_2 (dk_at dksX3_fault_0 23 rfl rfl)
theorem dX3_fault_24 : decode cX3_fault 24 = .ok (.ireturn, 1) := dk_172 (dk_at dksX3_fault_1 0 rfl rfl)
abbrev cX3_has : ByteArray := prog_12_method_33_code
def yX3_has : MethodName := ⟨RX3, "has", "(I)I"⟩
def dkwX3_has_3 : List UInt8 := [180, 0, 22, 172, 42, 180, 0, 26, 172, 2, 172]
abbrev dktX3_has_3 : List UInt8 := dkwX3_has_3 ++ []
def dkwX3_has_2 : List UInt8 := [42, 180, 0, 7, 17, 3, 232, 46, 172, 42, 180, 0, 7, 17, 3, 241, 46, 172, 42, 180, 0, 29, 172, 42]
abbrev dktX3_has_2 : List UInt8 := dkwX3_has_2 ++ dktX3_has_3
def dkwX3_has_1 : List UInt8 := [170, 0, 0, 0, 0, 0, 0, 93, 0, 0, 0, 0, 0, 0, 0, 10, 0, 0, 0, 60, 0, 0, 0, 69, 0, 0, 0, 93, 0, 0, 0, 93, 0, 0, 0, 93, 0, 0, 0, 93, 0, 0, 0, 93, 0, 0, 0, 93, 0, 0, 0, 78, 0, 0, 0, 83, 0, 0, 0, 88]
abbrev dktX3_has_1 : List UInt8 := dkwX3_has_1 ++ dktX3_has_2
def dkwX3_has_0 : List UInt8 := [27, 5, 16, 7, 184, 0, 171, 153, 0, 16, 42, 180, 0, 7, 17, 4, 18, 27, 96, 5, 100, 46, 172, 27]
abbrev dktX3_has_0 : List UInt8 := dkwX3_has_0 ++ dktX3_has_1
theorem dksX3_has_0 : cX3_has.data.toList.drop 0 = dktX3_has_0 := by decide +kernel
theorem dksX3_has_1 : cX3_has.data.toList.drop 24 = dktX3_has_1 := dk_seg dksX3_has_0 24 rfl rfl
theorem dksX3_has_2 : cX3_has.data.toList.drop 84 = dktX3_has_2 := dk_seg dksX3_has_1 60 rfl rfl
theorem dksX3_has_3 : cX3_has.data.toList.drop 108 = dktX3_has_3 := dk_seg dksX3_has_2 24 rfl rfl
theorem dX3_has_0 : decode cX3_has 0 = .ok (.iload_n 1, 1) := dk_27 (dk_at dksX3_has_0 0 rfl rfl)
theorem dX3_has_1 : decode cX3_has 1 = .ok (.iconst 2, 1) := dk_5 (dk_at dksX3_has_0 1 rfl rfl)
theorem dX3_has_2 : decode cX3_has 2 = .ok (.bipush 7, 2) := dk_16 7 (dk_at dksX3_has_0 2 rfl rfl)
theorem dX3_has_4 : decode cX3_has 4 = .ok (.invokestatic 171, 3) := dk_184 0 171 (dk_at dksX3_has_0 4 rfl rfl)
theorem dX3_has_7 : decode cX3_has 7 = .ok (.ifCond .eq 16, 3) := dk_153 0 16 (dk_at dksX3_has_0 7 rfl rfl)
theorem dX3_has_10 : decode cX3_has 10 = .ok (.aload_n 0, 1) := dk_42 (dk_at dksX3_has_0 10 rfl rfl)
theorem dX3_has_11 : decode cX3_has 11 = .ok (.getfield 7, 3) := dk_180 0 7 (dk_at dksX3_has_0 11 rfl rfl)
theorem dX3_has_14 : decode cX3_has 14 = .ok (.sipush 1042, 3) := dk_17 4 18 (dk_at dksX3_has_0 14 rfl rfl)
theorem dX3_has_17 : decode cX3_has 17 = .ok (.iload_n 1, 1) := dk_27 (dk_at dksX3_has_0 17 rfl rfl)
theorem dX3_has_18 : decode cX3_has 18 = .ok (.iadd, 1) := dk_96 (dk_at dksX3_has_0 18 rfl rfl)
theorem dX3_has_19 : decode cX3_has 19 = .ok (.iconst 2, 1) := dk_5 (dk_at dksX3_has_0 19 rfl rfl)
theorem dX3_has_20 : decode cX3_has 20 = .ok (.isub, 1) := dk_100 (dk_at dksX3_has_0 20 rfl rfl)
theorem dX3_has_21 : decode cX3_has 21 = .ok (.iaload, 1) := dk_46 (dk_at dksX3_has_0 21 rfl rfl)
theorem dX3_has_22 : decode cX3_has 22 = .ok (.ireturn, 1) := dk_172 (dk_at dksX3_has_0 22 rfl rfl)
theorem dX3_has_23 : decode cX3_has 23 = .ok (.iload_n 1, 1) := dk_27 (dk_at dksX3_has_0 23 rfl rfl)
theorem dX3_has_24 : decode cX3_has 24 = .ok (.tableswitch 93 0 10 #[60, 69, 93, 93, 93, 93, 93, 93, 78, 83, 88], 60) := by decide +kernel
theorem dX3_has_84 : decode cX3_has 84 = .ok (.aload_n 0, 1) := dk_42 (dk_at dksX3_has_2 0 rfl rfl)
theorem dX3_has_85 : decode cX3_has 85 = .ok (.getfield 7, 3) := dk_180 0 7 (dk_at dksX3_has_2 1 rfl rfl)
theorem dX3_has_88 : decode cX3_has 88 = .ok (.sipush 1000, 3) := dk_17 3 232 (dk_at dksX3_has_2 4 rfl rfl)
theorem dX3_has_91 : decode cX3_has 91 = .ok (.iaload, 1) := dk_46 (dk_at dksX3_has_2 7 rfl rfl)
theorem dX3_has_92 : decode cX3_has 92 = .ok (.ireturn, 1) := dk_172 (dk_at dksX3_has_2 8 rfl rfl)
theorem dX3_has_93 : decode cX3_has 93 = .ok (.aload_n 0, 1) := dk_42 (dk_at dksX3_has_2 9 rfl rfl)
theorem dX3_has_94 : decode cX3_has 94 = .ok (.getfield 7, 3) := dk_180 0 7 (dk_at dksX3_has_2 10 rfl rfl)
theorem dX3_has_97 : decode cX3_has 97 = .ok (.sipush 1009, 3) := dk_17 3 241 (dk_at dksX3_has_2 13 rfl rfl)
theorem dX3_has_100 : decode cX3_has 100 = .ok (.iaload, 1) := dk_46 (dk_at dksX3_has_2 16 rfl rfl)
theorem dX3_has_101 : decode cX3_has 101 = .ok (.ireturn, 1) := dk_172 (dk_at dksX3_has_2 17 rfl rfl)
theorem dX3_has_102 : decode cX3_has 102 = .ok (.aload_n 0, 1) := dk_42 (dk_at dksX3_has_2 18 rfl rfl)
theorem dX3_has_103 : decode cX3_has 103 = .ok (.getfield 29, 3) := dk_180 0 29 (dk_at dksX3_has_2 19 rfl rfl)
theorem dX3_has_106 : decode cX3_has 106 = .ok (.ireturn, 1) := dk_172 (dk_at dksX3_has_2 22 rfl rfl)
theorem dX3_has_107 : decode cX3_has 107 = .ok (.aload_n 0, 1) := dk_42 (dk_at dksX3_has_2 23 rfl rfl)
theorem dX3_has_108 : decode cX3_has 108 = .ok (.getfield 22, 3) := dk_180 0 22 (dk_at dksX3_has_3 0 rfl rfl)
theorem dX3_has_111 : decode cX3_has 111 = .ok (.ireturn, 1) := dk_172 (dk_at dksX3_has_3 3 rfl rfl)
theorem dX3_has_112 : decode cX3_has 112 = .ok (.aload_n 0, 1) := dk_42 (dk_at dksX3_has_3 4 rfl rfl)
theorem dX3_has_113 : decode cX3_has 113 = .ok (.getfield 26, 3) := dk_180 0 26 (dk_at dksX3_has_3 5 rfl rfl)
theorem dX3_has_116 : decode cX3_has 116 = .ok (.ireturn, 1) := dk_172 (dk_at dksX3_has_3 8 rfl rfl)
theorem dX3_has_117 : decode cX3_has 117 = .ok (.iconst (-1), 1) := dk_2 (dk_at dksX3_has_3 9 rfl rfl)
theorem dX3_has_118 : decode cX3_has 118 = .ok (.ireturn, 1) := dk_172 (dk_at dksX3_has_3 10 rfl rfl)
abbrev cX3_named : ByteArray := prog_12_method_35_code
def yX3_named : MethodName := ⟨RX3, "named", "(II)I"⟩
def dkwX3_named_1 : List UInt8 := [7, 27, 104, 96, 28, 96, 46, 167, 0, 4, 2, 172]
abbrev dktX3_named_1 : List UInt8 := dkwX3_named_1 ++ []
def dkwX3_named_0 : List UInt8 := [42, 27, 182, 0, 215, 153, 0, 29, 28, 3, 6, 184, 0, 171, 153, 0, 20, 42, 180, 0, 7, 17, 3, 242]
abbrev dktX3_named_0 : List UInt8 := dkwX3_named_0 ++ dktX3_named_1
theorem dksX3_named_0 : cX3_named.data.toList.drop 0 = dktX3_named_0 := by decide +kernel
theorem dksX3_named_1 : cX3_named.data.toList.drop 24 = dktX3_named_1 := dk_seg dksX3_named_0 24 rfl rfl
theorem dX3_named_0 : decode cX3_named 0 = .ok (.aload_n 0, 1) := dk_42 (dk_at dksX3_named_0 0 rfl rfl)
theorem dX3_named_1 : decode cX3_named 1 = .ok (.iload_n 1, 1) := dk_27 (dk_at dksX3_named_0 1 rfl rfl)
theorem dX3_named_2 : decode cX3_named 2 = .ok (.invokevirtual 215, 3) := dk_182 0 215 (dk_at dksX3_named_0 2 rfl rfl)
theorem dX3_named_5 : decode cX3_named 5 = .ok (.ifCond .eq 29, 3) := dk_153 0 29 (dk_at dksX3_named_0 5 rfl rfl)
theorem dX3_named_8 : decode cX3_named 8 = .ok (.iload_n 2, 1) := dk_28 (dk_at dksX3_named_0 8 rfl rfl)
theorem dX3_named_9 : decode cX3_named 9 = .ok (.iconst 0, 1) := dk_3 (dk_at dksX3_named_0 9 rfl rfl)
theorem dX3_named_10 : decode cX3_named 10 = .ok (.iconst 3, 1) := dk_6 (dk_at dksX3_named_0 10 rfl rfl)
theorem dX3_named_11 : decode cX3_named 11 = .ok (.invokestatic 171, 3) := dk_184 0 171 (dk_at dksX3_named_0 11 rfl rfl)
theorem dX3_named_14 : decode cX3_named 14 = .ok (.ifCond .eq 20, 3) := dk_153 0 20 (dk_at dksX3_named_0 14 rfl rfl)
theorem dX3_named_17 : decode cX3_named 17 = .ok (.aload_n 0, 1) := dk_42 (dk_at dksX3_named_0 17 rfl rfl)
theorem dX3_named_18 : decode cX3_named 18 = .ok (.getfield 7, 3) := dk_180 0 7 (dk_at dksX3_named_0 18 rfl rfl)
theorem dX3_named_21 : decode cX3_named 21 = .ok (.sipush 1010, 3) := dk_17 3 242 (dk_at dksX3_named_0 21 rfl rfl)
theorem dX3_named_24 : decode cX3_named 24 = .ok (.iconst 4, 1) := dk_7 (dk_at dksX3_named_1 0 rfl rfl)
theorem dX3_named_25 : decode cX3_named 25 = .ok (.iload_n 1, 1) := dk_27 (dk_at dksX3_named_1 1 rfl rfl)
theorem dX3_named_26 : decode cX3_named 26 = .ok (.imul, 1) := dk_104 (dk_at dksX3_named_1 2 rfl rfl)
theorem dX3_named_27 : decode cX3_named 27 = .ok (.iadd, 1) := dk_96 (dk_at dksX3_named_1 3 rfl rfl)
theorem dX3_named_28 : decode cX3_named 28 = .ok (.iload_n 2, 1) := dk_28 (dk_at dksX3_named_1 4 rfl rfl)
theorem dX3_named_29 : decode cX3_named 29 = .ok (.iadd, 1) := dk_96 (dk_at dksX3_named_1 5 rfl rfl)
theorem dX3_named_30 : decode cX3_named 30 = .ok (.iaload, 1) := dk_46 (dk_at dksX3_named_1 6 rfl rfl)
theorem dX3_named_31 : decode cX3_named 31 = .ok (.goto 4, 3) := dk_167 0 4 (dk_at dksX3_named_1 7 rfl rfl)
theorem dX3_named_34 : decode cX3_named 34 = .ok (.iconst (-1), 1) := dk_2 (dk_at dksX3_named_1 10 rfl rfl)
theorem dX3_named_35 : decode cX3_named 35 = .ok (.ireturn, 1) := dk_172 (dk_at dksX3_named_1 11 rfl rfl)
abbrev cX3_isModel : ByteArray := prog_12_method_34_code
def yX3_isModel : MethodName := ⟨RX3, "isModel", "(I)Z"⟩
def dkwX3_isModel_0 : List UInt8 := [27, 3, 42, 180, 0, 7, 17, 3, 232, 46, 4, 100, 184, 0, 171, 172]
abbrev dktX3_isModel_0 : List UInt8 := dkwX3_isModel_0 ++ []
theorem dksX3_isModel_0 : cX3_isModel.data.toList.drop 0 = dktX3_isModel_0 := by decide +kernel
theorem dX3_isModel_0 : decode cX3_isModel 0 = .ok (.iload_n 1, 1) := dk_27 (dk_at dksX3_isModel_0 0 rfl rfl)
theorem dX3_isModel_1 : decode cX3_isModel 1 = .ok (.iconst 0, 1) := dk_3 (dk_at dksX3_isModel_0 1 rfl rfl)
theorem dX3_isModel_2 : decode cX3_isModel 2 = .ok (.aload_n 0, 1) := dk_42 (dk_at dksX3_isModel_0 2 rfl rfl)
theorem dX3_isModel_3 : decode cX3_isModel 3 = .ok (.getfield 7, 3) := dk_180 0 7 (dk_at dksX3_isModel_0 3 rfl rfl)
theorem dX3_isModel_6 : decode cX3_isModel 6 = .ok (.sipush 1000, 3) := dk_17 3 232 (dk_at dksX3_isModel_0 6 rfl rfl)
theorem dX3_isModel_9 : decode cX3_isModel 9 = .ok (.iaload, 1) := dk_46 (dk_at dksX3_isModel_0 9 rfl rfl)
theorem dX3_isModel_10 : decode cX3_isModel 10 = .ok (.iconst 1, 1) := dk_4 (dk_at dksX3_isModel_0 10 rfl rfl)
theorem dX3_isModel_11 : decode cX3_isModel 11 = .ok (.isub, 1) := dk_100 (dk_at dksX3_isModel_0 11 rfl rfl)
theorem dX3_isModel_12 : decode cX3_isModel 12 = .ok (.invokestatic 171, 3) := dk_184 0 171 (dk_at dksX3_isModel_0 12 rfl rfl)
theorem dX3_isModel_15 : decode cX3_isModel 15 = .ok (.ireturn, 1) := dk_172 (dk_at dksX3_isModel_0 15 rfl rfl)
abbrev cX3_strokes : ByteArray := prog_12_method_39_code
def yX3_strokes : MethodName := ⟨RX3, "strokes", "(I)I"⟩
def dkwX3_strokes_0 : List UInt8 := [42, 27, 182, 0, 218, 153, 0, 11, 42, 27, 182, 0, 221, 167, 0, 4, 2, 172]
abbrev dktX3_strokes_0 : List UInt8 := dkwX3_strokes_0 ++ []
theorem dksX3_strokes_0 : cX3_strokes.data.toList.drop 0 = dktX3_strokes_0 := by decide +kernel
theorem dX3_strokes_0 : decode cX3_strokes 0 = .ok (.aload_n 0, 1) := dk_42 (dk_at dksX3_strokes_0 0 rfl rfl)
theorem dX3_strokes_1 : decode cX3_strokes 1 = .ok (.iload_n 1, 1) := dk_27 (dk_at dksX3_strokes_0 1 rfl rfl)
theorem dX3_strokes_2 : decode cX3_strokes 2 = .ok (.invokevirtual 218, 3) := dk_182 0 218 (dk_at dksX3_strokes_0 2 rfl rfl)
theorem dX3_strokes_5 : decode cX3_strokes 5 = .ok (.ifCond .eq 11, 3) := dk_153 0 11 (dk_at dksX3_strokes_0 5 rfl rfl)
theorem dX3_strokes_8 : decode cX3_strokes 8 = .ok (.aload_n 0, 1) := dk_42 (dk_at dksX3_strokes_0 8 rfl rfl)
theorem dX3_strokes_9 : decode cX3_strokes 9 = .ok (.iload_n 1, 1) := dk_27 (dk_at dksX3_strokes_0 9 rfl rfl)
theorem dX3_strokes_10 : decode cX3_strokes 10 = .ok (.invokevirtual 221, 3) := dk_182 0 221 (dk_at dksX3_strokes_0 10 rfl rfl)
theorem dX3_strokes_13 : decode cX3_strokes 13 = .ok (.goto 4, 3) := dk_167 0 4 (dk_at dksX3_strokes_0 13 rfl rfl)
theorem dX3_strokes_16 : decode cX3_strokes 16 = .ok (.iconst (-1), 1) := dk_2 (dk_at dksX3_strokes_0 16 rfl rfl)
theorem dX3_strokes_17 : decode cX3_strokes 17 = .ok (.ireturn, 1) := dk_172 (dk_at dksX3_strokes_0 17 rfl rfl)
abbrev cX3_isLetter : ByteArray := prog_12_method_36_code
def yX3_isLetter : MethodName := ⟨RX3, "isLetter", "(I)Z"⟩
def dkwX3_isLetter_0 : List UInt8 := [27, 2, 159, 0, 11, 42, 27, 182, 0, 215, 153, 0, 7, 4, 167, 0, 4, 3, 172]
abbrev dktX3_isLetter_0 : List UInt8 := dkwX3_isLetter_0 ++ []
theorem dksX3_isLetter_0 : cX3_isLetter.data.toList.drop 0 = dktX3_isLetter_0 := by decide +kernel
theorem dX3_isLetter_0 : decode cX3_isLetter 0 = .ok (.iload_n 1, 1) := dk_27 (dk_at dksX3_isLetter_0 0 rfl rfl)
theorem dX3_isLetter_1 : decode cX3_isLetter 1 = .ok (.iconst (-1), 1) := dk_2 (dk_at dksX3_isLetter_0 1 rfl rfl)
theorem dX3_isLetter_2 : decode cX3_isLetter 2 = .ok (.if_icmp .eq 11, 3) := dk_159 0 11 (dk_at dksX3_isLetter_0 2 rfl rfl)
theorem dX3_isLetter_5 : decode cX3_isLetter 5 = .ok (.aload_n 0, 1) := dk_42 (dk_at dksX3_isLetter_0 5 rfl rfl)
theorem dX3_isLetter_6 : decode cX3_isLetter 6 = .ok (.iload_n 1, 1) := dk_27 (dk_at dksX3_isLetter_0 6 rfl rfl)
theorem dX3_isLetter_7 : decode cX3_isLetter 7 = .ok (.invokevirtual 215, 3) := dk_182 0 215 (dk_at dksX3_isLetter_0 7 rfl rfl)
theorem dX3_isLetter_10 : decode cX3_isLetter 10 = .ok (.ifCond .eq 7, 3) := dk_153 0 7 (dk_at dksX3_isLetter_0 10 rfl rfl)
theorem dX3_isLetter_13 : decode cX3_isLetter 13 = .ok (.iconst 1, 1) := dk_4 (dk_at dksX3_isLetter_0 13 rfl rfl)
theorem dX3_isLetter_14 : decode cX3_isLetter 14 = .ok (.goto 4, 3) := dk_167 0 4 (dk_at dksX3_isLetter_0 14 rfl rfl)
theorem dX3_isLetter_17 : decode cX3_isLetter 17 = .ok (.iconst 0, 1) := dk_3 (dk_at dksX3_isLetter_0 17 rfl rfl)
theorem dX3_isLetter_18 : decode cX3_isLetter 18 = .ok (.ireturn, 1) := dk_172 (dk_at dksX3_isLetter_0 18 rfl rfl)
abbrev cX3_manyOf : ByteArray := prog_12_method_38_code
def yX3_manyOf : MethodName := ⟨RX3, "manyOf", "(I)I"⟩
def dkwX3_manyOf_1 : List UInt8 := [96, 46, 172]
abbrev dktX3_manyOf_1 : List UInt8 := dkwX3_manyOf_1 ++ []
def dkwX3_manyOf_0 : List UInt8 := [27, 2, 160, 0, 14, 42, 180, 0, 7, 17, 3, 241, 46, 167, 0, 13, 42, 180, 0, 7, 17, 3, 233, 27]
abbrev dktX3_manyOf_0 : List UInt8 := dkwX3_manyOf_0 ++ dktX3_manyOf_1
theorem dksX3_manyOf_0 : cX3_manyOf.data.toList.drop 0 = dktX3_manyOf_0 := by decide +kernel
theorem dksX3_manyOf_1 : cX3_manyOf.data.toList.drop 24 = dktX3_manyOf_1 := dk_seg dksX3_manyOf_0 24 rfl rfl
theorem dX3_manyOf_0 : decode cX3_manyOf 0 = .ok (.iload_n 1, 1) := dk_27 (dk_at dksX3_manyOf_0 0 rfl rfl)
theorem dX3_manyOf_1 : decode cX3_manyOf 1 = .ok (.iconst (-1), 1) := dk_2 (dk_at dksX3_manyOf_0 1 rfl rfl)
theorem dX3_manyOf_2 : decode cX3_manyOf 2 = .ok (.if_icmp .ne 14, 3) := dk_160 0 14 (dk_at dksX3_manyOf_0 2 rfl rfl)
theorem dX3_manyOf_5 : decode cX3_manyOf 5 = .ok (.aload_n 0, 1) := dk_42 (dk_at dksX3_manyOf_0 5 rfl rfl)
theorem dX3_manyOf_6 : decode cX3_manyOf 6 = .ok (.getfield 7, 3) := dk_180 0 7 (dk_at dksX3_manyOf_0 6 rfl rfl)
theorem dX3_manyOf_9 : decode cX3_manyOf 9 = .ok (.sipush 1009, 3) := dk_17 3 241 (dk_at dksX3_manyOf_0 9 rfl rfl)
theorem dX3_manyOf_12 : decode cX3_manyOf 12 = .ok (.iaload, 1) := dk_46 (dk_at dksX3_manyOf_0 12 rfl rfl)
theorem dX3_manyOf_13 : decode cX3_manyOf 13 = .ok (.goto 13, 3) := dk_167 0 13 (dk_at dksX3_manyOf_0 13 rfl rfl)
theorem dX3_manyOf_16 : decode cX3_manyOf 16 = .ok (.aload_n 0, 1) := dk_42 (dk_at dksX3_manyOf_0 16 rfl rfl)
theorem dX3_manyOf_17 : decode cX3_manyOf 17 = .ok (.getfield 7, 3) := dk_180 0 7 (dk_at dksX3_manyOf_0 17 rfl rfl)
theorem dX3_manyOf_20 : decode cX3_manyOf 20 = .ok (.sipush 1001, 3) := dk_17 3 233 (dk_at dksX3_manyOf_0 20 rfl rfl)
theorem dX3_manyOf_23 : decode cX3_manyOf 23 = .ok (.iload_n 1, 1) := dk_27 (dk_at dksX3_manyOf_0 23 rfl rfl)
theorem dX3_manyOf_24 : decode cX3_manyOf 24 = .ok (.iadd, 1) := dk_96 (dk_at dksX3_manyOf_1 0 rfl rfl)
theorem dX3_manyOf_25 : decode cX3_manyOf 25 = .ok (.iaload, 1) := dk_46 (dk_at dksX3_manyOf_1 1 rfl rfl)
theorem dX3_manyOf_26 : decode cX3_manyOf 26 = .ok (.ireturn, 1) := dk_172 (dk_at dksX3_manyOf_1 2 rfl rfl)
abbrev cX3_point : ByteArray := prog_12_method_43_code
def yX3_point : MethodName := ⟨RX3, "point", "(IIII)I"⟩
def dkwX3_point_2 : List UInt8 := [184, 0, 171, 153, 0, 15, 42, 21, 5, 29, 21, 4, 182, 0, 233, 167, 0, 4, 2, 172]
abbrev dktX3_point_2 : List UInt8 := dkwX3_point_2 ++ []
def dkwX3_point_1 : List UInt8 := [182, 0, 230, 172, 29, 3, 42, 21, 5, 182, 0, 230, 4, 100, 184, 0, 171, 153, 0, 25, 21, 4, 3, 4]
abbrev dktX3_point_1 : List UInt8 := dkwX3_point_1 ++ dktX3_point_2
def dkwX3_point_0 : List UInt8 := [42, 27, 28, 182, 0, 227, 54, 5, 21, 5, 2, 160, 0, 5, 2, 172, 29, 2, 160, 0, 10, 42, 21, 5]
abbrev dktX3_point_0 : List UInt8 := dkwX3_point_0 ++ dktX3_point_1
theorem dksX3_point_0 : cX3_point.data.toList.drop 0 = dktX3_point_0 := by decide +kernel
theorem dksX3_point_1 : cX3_point.data.toList.drop 24 = dktX3_point_1 := dk_seg dksX3_point_0 24 rfl rfl
theorem dksX3_point_2 : cX3_point.data.toList.drop 48 = dktX3_point_2 := dk_seg dksX3_point_1 24 rfl rfl
theorem dX3_point_0 : decode cX3_point 0 = .ok (.aload_n 0, 1) := dk_42 (dk_at dksX3_point_0 0 rfl rfl)
theorem dX3_point_1 : decode cX3_point 1 = .ok (.iload_n 1, 1) := dk_27 (dk_at dksX3_point_0 1 rfl rfl)
theorem dX3_point_2 : decode cX3_point 2 = .ok (.iload_n 2, 1) := dk_28 (dk_at dksX3_point_0 2 rfl rfl)
theorem dX3_point_3 : decode cX3_point 3 = .ok (.invokevirtual 227, 3) := dk_182 0 227 (dk_at dksX3_point_0 3 rfl rfl)
theorem dX3_point_6 : decode cX3_point 6 = .ok (.istore 5, 2) := dk_54 5 (dk_at dksX3_point_0 6 rfl rfl)
theorem dX3_point_8 : decode cX3_point 8 = .ok (.iload 5, 2) := dk_21 5 (dk_at dksX3_point_0 8 rfl rfl)
theorem dX3_point_10 : decode cX3_point 10 = .ok (.iconst (-1), 1) := dk_2 (dk_at dksX3_point_0 10 rfl rfl)
theorem dX3_point_11 : decode cX3_point 11 = .ok (.if_icmp .ne 5, 3) := dk_160 0 5 (dk_at dksX3_point_0 11 rfl rfl)
theorem dX3_point_14 : decode cX3_point 14 = .ok (.iconst (-1), 1) := dk_2 (dk_at dksX3_point_0 14 rfl rfl)
theorem dX3_point_15 : decode cX3_point 15 = .ok (.ireturn, 1) := dk_172 (dk_at dksX3_point_0 15 rfl rfl)
theorem dX3_point_16 : decode cX3_point 16 = .ok (.iload_n 3, 1) := dk_29 (dk_at dksX3_point_0 16 rfl rfl)
theorem dX3_point_17 : decode cX3_point 17 = .ok (.iconst (-1), 1) := dk_2 (dk_at dksX3_point_0 17 rfl rfl)
theorem dX3_point_18 : decode cX3_point 18 = .ok (.if_icmp .ne 10, 3) := dk_160 0 10 (dk_at dksX3_point_0 18 rfl rfl)
theorem dX3_point_21 : decode cX3_point 21 = .ok (.aload_n 0, 1) := dk_42 (dk_at dksX3_point_0 21 rfl rfl)
theorem dX3_point_22 : decode cX3_point 22 = .ok (.iload 5, 2) := dk_21 5 (dk_at dksX3_point_0 22 rfl rfl)
theorem dX3_point_24 : decode cX3_point 24 = .ok (.invokevirtual 230, 3) := dk_182 0 230 (dk_at dksX3_point_1 0 rfl rfl)
theorem dX3_point_27 : decode cX3_point 27 = .ok (.ireturn, 1) := dk_172 (dk_at dksX3_point_1 3 rfl rfl)
theorem dX3_point_28 : decode cX3_point 28 = .ok (.iload_n 3, 1) := dk_29 (dk_at dksX3_point_1 4 rfl rfl)
theorem dX3_point_29 : decode cX3_point 29 = .ok (.iconst 0, 1) := dk_3 (dk_at dksX3_point_1 5 rfl rfl)
theorem dX3_point_30 : decode cX3_point 30 = .ok (.aload_n 0, 1) := dk_42 (dk_at dksX3_point_1 6 rfl rfl)
theorem dX3_point_31 : decode cX3_point 31 = .ok (.iload 5, 2) := dk_21 5 (dk_at dksX3_point_1 7 rfl rfl)
theorem dX3_point_33 : decode cX3_point 33 = .ok (.invokevirtual 230, 3) := dk_182 0 230 (dk_at dksX3_point_1 9 rfl rfl)
theorem dX3_point_36 : decode cX3_point 36 = .ok (.iconst 1, 1) := dk_4 (dk_at dksX3_point_1 12 rfl rfl)
theorem dX3_point_37 : decode cX3_point 37 = .ok (.isub, 1) := dk_100 (dk_at dksX3_point_1 13 rfl rfl)
theorem dX3_point_38 : decode cX3_point 38 = .ok (.invokestatic 171, 3) := dk_184 0 171 (dk_at dksX3_point_1 14 rfl rfl)
theorem dX3_point_41 : decode cX3_point 41 = .ok (.ifCond .eq 25, 3) := dk_153 0 25 (dk_at dksX3_point_1 17 rfl rfl)
theorem dX3_point_44 : decode cX3_point 44 = .ok (.iload 4, 2) := dk_21 4 (dk_at dksX3_point_1 20 rfl rfl)
theorem dX3_point_46 : decode cX3_point 46 = .ok (.iconst 0, 1) := dk_3 (dk_at dksX3_point_1 22 rfl rfl)
theorem dX3_point_47 : decode cX3_point 47 = .ok (.iconst 1, 1) := dk_4 (dk_at dksX3_point_1 23 rfl rfl)
theorem dX3_point_48 : decode cX3_point 48 = .ok (.invokestatic 171, 3) := dk_184 0 171 (dk_at dksX3_point_2 0 rfl rfl)
theorem dX3_point_51 : decode cX3_point 51 = .ok (.ifCond .eq 15, 3) := dk_153 0 15 (dk_at dksX3_point_2 3 rfl rfl)
theorem dX3_point_54 : decode cX3_point 54 = .ok (.aload_n 0, 1) := dk_42 (dk_at dksX3_point_2 6 rfl rfl)
theorem dX3_point_55 : decode cX3_point 55 = .ok (.iload 5, 2) := dk_21 5 (dk_at dksX3_point_2 7 rfl rfl)
theorem dX3_point_57 : decode cX3_point 57 = .ok (.iload_n 3, 1) := dk_29 (dk_at dksX3_point_2 9 rfl rfl)
theorem dX3_point_58 : decode cX3_point 58 = .ok (.iload 4, 2) := dk_21 4 (dk_at dksX3_point_2 10 rfl rfl)
theorem dX3_point_60 : decode cX3_point 60 = .ok (.invokevirtual 233, 3) := dk_182 0 233 (dk_at dksX3_point_2 12 rfl rfl)
theorem dX3_point_63 : decode cX3_point 63 = .ok (.goto 4, 3) := dk_167 0 4 (dk_at dksX3_point_2 15 rfl rfl)
theorem dX3_point_66 : decode cX3_point 66 = .ok (.iconst (-1), 1) := dk_2 (dk_at dksX3_point_2 18 rfl rfl)
theorem dX3_point_67 : decode cX3_point 67 = .ok (.ireturn, 1) := dk_172 (dk_at dksX3_point_2 19 rfl rfl)
abbrev cX3_strokeOf : ByteArray := prog_12_method_42_code
def yX3_strokeOf : MethodName := ⟨RX3, "strokeOf", "(II)I"⟩
def dkwX3_strokeOf_1 : List UInt8 := [27, 182, 0, 224, 28, 96, 167, 0, 4, 2, 172]
abbrev dktX3_strokeOf_1 : List UInt8 := dkwX3_strokeOf_1 ++ []
def dkwX3_strokeOf_0 : List UInt8 := [42, 27, 182, 0, 218, 153, 0, 28, 28, 3, 42, 27, 182, 0, 221, 4, 100, 184, 0, 171, 153, 0, 13, 42]
abbrev dktX3_strokeOf_0 : List UInt8 := dkwX3_strokeOf_0 ++ dktX3_strokeOf_1
theorem dksX3_strokeOf_0 : cX3_strokeOf.data.toList.drop 0 = dktX3_strokeOf_0 := by decide +kernel
theorem dksX3_strokeOf_1 : cX3_strokeOf.data.toList.drop 24 = dktX3_strokeOf_1 := dk_seg dksX3_strokeOf_0 24 rfl rfl
theorem dX3_strokeOf_0 : decode cX3_strokeOf 0 = .ok (.aload_n 0, 1) := dk_42 (dk_at dksX3_strokeOf_0 0 rfl rfl)
theorem dX3_strokeOf_1 : decode cX3_strokeOf 1 = .ok (.iload_n 1, 1) := dk_27 (dk_at dksX3_strokeOf_0 1 rfl rfl)
theorem dX3_strokeOf_2 : decode cX3_strokeOf 2 = .ok (.invokevirtual 218, 3) := dk_182 0 218 (dk_at dksX3_strokeOf_0 2 rfl rfl)
theorem dX3_strokeOf_5 : decode cX3_strokeOf 5 = .ok (.ifCond .eq 28, 3) := dk_153 0 28 (dk_at dksX3_strokeOf_0 5 rfl rfl)
theorem dX3_strokeOf_8 : decode cX3_strokeOf 8 = .ok (.iload_n 2, 1) := dk_28 (dk_at dksX3_strokeOf_0 8 rfl rfl)
theorem dX3_strokeOf_9 : decode cX3_strokeOf 9 = .ok (.iconst 0, 1) := dk_3 (dk_at dksX3_strokeOf_0 9 rfl rfl)
theorem dX3_strokeOf_10 : decode cX3_strokeOf 10 = .ok (.aload_n 0, 1) := dk_42 (dk_at dksX3_strokeOf_0 10 rfl rfl)
theorem dX3_strokeOf_11 : decode cX3_strokeOf 11 = .ok (.iload_n 1, 1) := dk_27 (dk_at dksX3_strokeOf_0 11 rfl rfl)
theorem dX3_strokeOf_12 : decode cX3_strokeOf 12 = .ok (.invokevirtual 221, 3) := dk_182 0 221 (dk_at dksX3_strokeOf_0 12 rfl rfl)
theorem dX3_strokeOf_15 : decode cX3_strokeOf 15 = .ok (.iconst 1, 1) := dk_4 (dk_at dksX3_strokeOf_0 15 rfl rfl)
theorem dX3_strokeOf_16 : decode cX3_strokeOf 16 = .ok (.isub, 1) := dk_100 (dk_at dksX3_strokeOf_0 16 rfl rfl)
theorem dX3_strokeOf_17 : decode cX3_strokeOf 17 = .ok (.invokestatic 171, 3) := dk_184 0 171 (dk_at dksX3_strokeOf_0 17 rfl rfl)
theorem dX3_strokeOf_20 : decode cX3_strokeOf 20 = .ok (.ifCond .eq 13, 3) := dk_153 0 13 (dk_at dksX3_strokeOf_0 20 rfl rfl)
theorem dX3_strokeOf_23 : decode cX3_strokeOf 23 = .ok (.aload_n 0, 1) := dk_42 (dk_at dksX3_strokeOf_0 23 rfl rfl)
theorem dX3_strokeOf_24 : decode cX3_strokeOf 24 = .ok (.iload_n 1, 1) := dk_27 (dk_at dksX3_strokeOf_1 0 rfl rfl)
theorem dX3_strokeOf_25 : decode cX3_strokeOf 25 = .ok (.invokevirtual 224, 3) := dk_182 0 224 (dk_at dksX3_strokeOf_1 1 rfl rfl)
theorem dX3_strokeOf_28 : decode cX3_strokeOf 28 = .ok (.iload_n 2, 1) := dk_28 (dk_at dksX3_strokeOf_1 4 rfl rfl)
theorem dX3_strokeOf_29 : decode cX3_strokeOf 29 = .ok (.iadd, 1) := dk_96 (dk_at dksX3_strokeOf_1 5 rfl rfl)
theorem dX3_strokeOf_30 : decode cX3_strokeOf 30 = .ok (.goto 4, 3) := dk_167 0 4 (dk_at dksX3_strokeOf_1 6 rfl rfl)
theorem dX3_strokeOf_33 : decode cX3_strokeOf 33 = .ok (.iconst (-1), 1) := dk_2 (dk_at dksX3_strokeOf_1 9 rfl rfl)
theorem dX3_strokeOf_34 : decode cX3_strokeOf 34 = .ok (.ireturn, 1) := dk_172 (dk_at dksX3_strokeOf_1 10 rfl rfl)
abbrev cX3_firstOf : ByteArray := prog_12_method_37_code
def yX3_firstOf : MethodName := ⟨RX3, "firstOf", "(I)I"⟩
def dkwX3_firstOf_0 : List UInt8 := [27, 2, 160, 0, 7, 3, 167, 0, 9, 16, 8, 7, 27, 104, 96, 172]
abbrev dktX3_firstOf_0 : List UInt8 := dkwX3_firstOf_0 ++ []
theorem dksX3_firstOf_0 : cX3_firstOf.data.toList.drop 0 = dktX3_firstOf_0 := by decide +kernel
theorem dX3_firstOf_0 : decode cX3_firstOf 0 = .ok (.iload_n 1, 1) := dk_27 (dk_at dksX3_firstOf_0 0 rfl rfl)
theorem dX3_firstOf_1 : decode cX3_firstOf 1 = .ok (.iconst (-1), 1) := dk_2 (dk_at dksX3_firstOf_0 1 rfl rfl)
theorem dX3_firstOf_2 : decode cX3_firstOf 2 = .ok (.if_icmp .ne 7, 3) := dk_160 0 7 (dk_at dksX3_firstOf_0 2 rfl rfl)
theorem dX3_firstOf_5 : decode cX3_firstOf 5 = .ok (.iconst 0, 1) := dk_3 (dk_at dksX3_firstOf_0 5 rfl rfl)
theorem dX3_firstOf_6 : decode cX3_firstOf 6 = .ok (.goto 9, 3) := dk_167 0 9 (dk_at dksX3_firstOf_0 6 rfl rfl)
theorem dX3_firstOf_9 : decode cX3_firstOf 9 = .ok (.bipush 8, 2) := dk_16 8 (dk_at dksX3_firstOf_0 9 rfl rfl)
theorem dX3_firstOf_11 : decode cX3_firstOf 11 = .ok (.iconst 4, 1) := dk_7 (dk_at dksX3_firstOf_0 11 rfl rfl)
theorem dX3_firstOf_12 : decode cX3_firstOf 12 = .ok (.iload_n 1, 1) := dk_27 (dk_at dksX3_firstOf_0 12 rfl rfl)
theorem dX3_firstOf_13 : decode cX3_firstOf 13 = .ok (.imul, 1) := dk_104 (dk_at dksX3_firstOf_0 13 rfl rfl)
theorem dX3_firstOf_14 : decode cX3_firstOf 14 = .ok (.iadd, 1) := dk_96 (dk_at dksX3_firstOf_0 14 rfl rfl)
theorem dX3_firstOf_15 : decode cX3_firstOf 15 = .ok (.ireturn, 1) := dk_172 (dk_at dksX3_firstOf_0 15 rfl rfl)
abbrev cX3_pointsOf : ByteArray := prog_12_method_40_code
def yX3_pointsOf : MethodName := ⟨RX3, "pointsOf", "(I)I"⟩
def dkwX3_pointsOf_1 : List UInt8 := [16, 40, 100, 46, 172]
abbrev dktX3_pointsOf_1 : List UInt8 := dkwX3_pointsOf_1 ++ []
def dkwX3_pointsOf_0 : List UInt8 := [27, 16, 40, 162, 0, 16, 42, 180, 0, 7, 17, 3, 192, 27, 96, 46, 167, 0, 12, 42, 180, 0, 35, 27]
abbrev dktX3_pointsOf_0 : List UInt8 := dkwX3_pointsOf_0 ++ dktX3_pointsOf_1
theorem dksX3_pointsOf_0 : cX3_pointsOf.data.toList.drop 0 = dktX3_pointsOf_0 := by decide +kernel
theorem dksX3_pointsOf_1 : cX3_pointsOf.data.toList.drop 24 = dktX3_pointsOf_1 := dk_seg dksX3_pointsOf_0 24 rfl rfl
theorem dX3_pointsOf_0 : decode cX3_pointsOf 0 = .ok (.iload_n 1, 1) := dk_27 (dk_at dksX3_pointsOf_0 0 rfl rfl)
theorem dX3_pointsOf_1 : decode cX3_pointsOf 1 = .ok (.bipush 40, 2) := dk_16 40 (dk_at dksX3_pointsOf_0 1 rfl rfl)
theorem dX3_pointsOf_3 : decode cX3_pointsOf 3 = .ok (.if_icmp .ge 16, 3) := dk_162 0 16 (dk_at dksX3_pointsOf_0 3 rfl rfl)
theorem dX3_pointsOf_6 : decode cX3_pointsOf 6 = .ok (.aload_n 0, 1) := dk_42 (dk_at dksX3_pointsOf_0 6 rfl rfl)
theorem dX3_pointsOf_7 : decode cX3_pointsOf 7 = .ok (.getfield 7, 3) := dk_180 0 7 (dk_at dksX3_pointsOf_0 7 rfl rfl)
theorem dX3_pointsOf_10 : decode cX3_pointsOf 10 = .ok (.sipush 960, 3) := dk_17 3 192 (dk_at dksX3_pointsOf_0 10 rfl rfl)
theorem dX3_pointsOf_13 : decode cX3_pointsOf 13 = .ok (.iload_n 1, 1) := dk_27 (dk_at dksX3_pointsOf_0 13 rfl rfl)
theorem dX3_pointsOf_14 : decode cX3_pointsOf 14 = .ok (.iadd, 1) := dk_96 (dk_at dksX3_pointsOf_0 14 rfl rfl)
theorem dX3_pointsOf_15 : decode cX3_pointsOf 15 = .ok (.iaload, 1) := dk_46 (dk_at dksX3_pointsOf_0 15 rfl rfl)
theorem dX3_pointsOf_16 : decode cX3_pointsOf 16 = .ok (.goto 12, 3) := dk_167 0 12 (dk_at dksX3_pointsOf_0 16 rfl rfl)
theorem dX3_pointsOf_19 : decode cX3_pointsOf 19 = .ok (.aload_n 0, 1) := dk_42 (dk_at dksX3_pointsOf_0 19 rfl rfl)
theorem dX3_pointsOf_20 : decode cX3_pointsOf 20 = .ok (.getfield 35, 3) := dk_180 0 35 (dk_at dksX3_pointsOf_0 20 rfl rfl)
theorem dX3_pointsOf_23 : decode cX3_pointsOf 23 = .ok (.iload_n 1, 1) := dk_27 (dk_at dksX3_pointsOf_0 23 rfl rfl)
theorem dX3_pointsOf_24 : decode cX3_pointsOf 24 = .ok (.bipush 40, 2) := dk_16 40 (dk_at dksX3_pointsOf_1 0 rfl rfl)
theorem dX3_pointsOf_26 : decode cX3_pointsOf 26 = .ok (.isub, 1) := dk_100 (dk_at dksX3_pointsOf_1 2 rfl rfl)
theorem dX3_pointsOf_27 : decode cX3_pointsOf 27 = .ok (.iaload, 1) := dk_46 (dk_at dksX3_pointsOf_1 3 rfl rfl)
theorem dX3_pointsOf_28 : decode cX3_pointsOf 28 = .ok (.ireturn, 1) := dk_172 (dk_at dksX3_pointsOf_1 4 rfl rfl)
abbrev cX3_numberOf : ByteArray := prog_12_method_41_code
def yX3_numberOf : MethodName := ⟨RX3, "numberOf", "(III)I"⟩
def dkwX3_numberOf_1 : List UInt8 := [167, 0, 21, 42, 180, 0, 32, 16, 24, 27, 16, 40, 100, 104, 5, 28, 104, 96, 29, 96, 46, 172]
abbrev dktX3_numberOf_1 : List UInt8 := dkwX3_numberOf_1 ++ []
def dkwX3_numberOf_0 : List UInt8 := [27, 16, 40, 162, 0, 23, 42, 180, 0, 7, 3, 16, 24, 27, 104, 96, 5, 28, 104, 96, 29, 96, 46]
abbrev dktX3_numberOf_0 : List UInt8 := dkwX3_numberOf_0 ++ dktX3_numberOf_1
theorem dksX3_numberOf_0 : cX3_numberOf.data.toList.drop 0 = dktX3_numberOf_0 := by decide +kernel
theorem dksX3_numberOf_1 : cX3_numberOf.data.toList.drop 23 = dktX3_numberOf_1 := dk_seg dksX3_numberOf_0 23 rfl rfl
theorem dX3_numberOf_0 : decode cX3_numberOf 0 = .ok (.iload_n 1, 1) := dk_27 (dk_at dksX3_numberOf_0 0 rfl rfl)
theorem dX3_numberOf_1 : decode cX3_numberOf 1 = .ok (.bipush 40, 2) := dk_16 40 (dk_at dksX3_numberOf_0 1 rfl rfl)
theorem dX3_numberOf_3 : decode cX3_numberOf 3 = .ok (.if_icmp .ge 23, 3) := dk_162 0 23 (dk_at dksX3_numberOf_0 3 rfl rfl)
theorem dX3_numberOf_6 : decode cX3_numberOf 6 = .ok (.aload_n 0, 1) := dk_42 (dk_at dksX3_numberOf_0 6 rfl rfl)
theorem dX3_numberOf_7 : decode cX3_numberOf 7 = .ok (.getfield 7, 3) := dk_180 0 7 (dk_at dksX3_numberOf_0 7 rfl rfl)
theorem dX3_numberOf_10 : decode cX3_numberOf 10 = .ok (.iconst 0, 1) := dk_3 (dk_at dksX3_numberOf_0 10 rfl rfl)
theorem dX3_numberOf_11 : decode cX3_numberOf 11 = .ok (.bipush 24, 2) := dk_16 24 (dk_at dksX3_numberOf_0 11 rfl rfl)
theorem dX3_numberOf_13 : decode cX3_numberOf 13 = .ok (.iload_n 1, 1) := dk_27 (dk_at dksX3_numberOf_0 13 rfl rfl)
theorem dX3_numberOf_14 : decode cX3_numberOf 14 = .ok (.imul, 1) := dk_104 (dk_at dksX3_numberOf_0 14 rfl rfl)
theorem dX3_numberOf_15 : decode cX3_numberOf 15 = .ok (.iadd, 1) := dk_96 (dk_at dksX3_numberOf_0 15 rfl rfl)
theorem dX3_numberOf_16 : decode cX3_numberOf 16 = .ok (.iconst 2, 1) := dk_5 (dk_at dksX3_numberOf_0 16 rfl rfl)
theorem dX3_numberOf_17 : decode cX3_numberOf 17 = .ok (.iload_n 2, 1) := dk_28 (dk_at dksX3_numberOf_0 17 rfl rfl)
theorem dX3_numberOf_18 : decode cX3_numberOf 18 = .ok (.imul, 1) := dk_104 (dk_at dksX3_numberOf_0 18 rfl rfl)
theorem dX3_numberOf_19 : decode cX3_numberOf 19 = .ok (.iadd, 1) := dk_96 (dk_at dksX3_numberOf_0 19 rfl rfl)
theorem dX3_numberOf_20 : decode cX3_numberOf 20 = .ok (.iload_n 3, 1) := dk_29 (dk_at dksX3_numberOf_0 20 rfl rfl)
theorem dX3_numberOf_21 : decode cX3_numberOf 21 = .ok (.iadd, 1) := dk_96 (dk_at dksX3_numberOf_0 21 rfl rfl)
theorem dX3_numberOf_22 : decode cX3_numberOf 22 = .ok (.iaload, 1) := dk_46 (dk_at dksX3_numberOf_0 22 rfl rfl)
theorem dX3_numberOf_23 : decode cX3_numberOf 23 = .ok (.goto 21, 3) := dk_167 0 21 (dk_at dksX3_numberOf_1 0 rfl rfl)
theorem dX3_numberOf_26 : decode cX3_numberOf 26 = .ok (.aload_n 0, 1) := dk_42 (dk_at dksX3_numberOf_1 3 rfl rfl)
theorem dX3_numberOf_27 : decode cX3_numberOf 27 = .ok (.getfield 32, 3) := dk_180 0 32 (dk_at dksX3_numberOf_1 4 rfl rfl)
theorem dX3_numberOf_30 : decode cX3_numberOf 30 = .ok (.bipush 24, 2) := dk_16 24 (dk_at dksX3_numberOf_1 7 rfl rfl)
theorem dX3_numberOf_32 : decode cX3_numberOf 32 = .ok (.iload_n 1, 1) := dk_27 (dk_at dksX3_numberOf_1 9 rfl rfl)
theorem dX3_numberOf_33 : decode cX3_numberOf 33 = .ok (.bipush 40, 2) := dk_16 40 (dk_at dksX3_numberOf_1 10 rfl rfl)
theorem dX3_numberOf_35 : decode cX3_numberOf 35 = .ok (.isub, 1) := dk_100 (dk_at dksX3_numberOf_1 12 rfl rfl)
theorem dX3_numberOf_36 : decode cX3_numberOf 36 = .ok (.imul, 1) := dk_104 (dk_at dksX3_numberOf_1 13 rfl rfl)
theorem dX3_numberOf_37 : decode cX3_numberOf 37 = .ok (.iconst 2, 1) := dk_5 (dk_at dksX3_numberOf_1 14 rfl rfl)
theorem dX3_numberOf_38 : decode cX3_numberOf 38 = .ok (.iload_n 2, 1) := dk_28 (dk_at dksX3_numberOf_1 15 rfl rfl)
theorem dX3_numberOf_39 : decode cX3_numberOf 39 = .ok (.imul, 1) := dk_104 (dk_at dksX3_numberOf_1 16 rfl rfl)
theorem dX3_numberOf_40 : decode cX3_numberOf 40 = .ok (.iadd, 1) := dk_96 (dk_at dksX3_numberOf_1 17 rfl rfl)
theorem dX3_numberOf_41 : decode cX3_numberOf 41 = .ok (.iload_n 3, 1) := dk_29 (dk_at dksX3_numberOf_1 18 rfl rfl)
theorem dX3_numberOf_42 : decode cX3_numberOf 42 = .ok (.iadd, 1) := dk_96 (dk_at dksX3_numberOf_1 19 rfl rfl)
theorem dX3_numberOf_43 : decode cX3_numberOf 43 = .ok (.iaload, 1) := dk_46 (dk_at dksX3_numberOf_1 20 rfl rfl)
theorem dX3_numberOf_44 : decode cX3_numberOf 44 = .ok (.ireturn, 1) := dk_172 (dk_at dksX3_numberOf_1 21 rfl rfl)
abbrev cX3_length : ByteArray := prog_12_method_47_code
def yX3_length : MethodName := ⟨RX3, "length", "(II)I"⟩
def dkwX3_length_0 : List UInt8 := [42, 27, 28, 182, 0, 227, 62, 29, 2, 160, 0, 7, 2, 167, 0, 8, 42, 29, 182, 0, 243, 172]
abbrev dktX3_length_0 : List UInt8 := dkwX3_length_0 ++ []
theorem dksX3_length_0 : cX3_length.data.toList.drop 0 = dktX3_length_0 := by decide +kernel
theorem dX3_length_0 : decode cX3_length 0 = .ok (.aload_n 0, 1) := dk_42 (dk_at dksX3_length_0 0 rfl rfl)
theorem dX3_length_1 : decode cX3_length 1 = .ok (.iload_n 1, 1) := dk_27 (dk_at dksX3_length_0 1 rfl rfl)
theorem dX3_length_2 : decode cX3_length 2 = .ok (.iload_n 2, 1) := dk_28 (dk_at dksX3_length_0 2 rfl rfl)
theorem dX3_length_3 : decode cX3_length 3 = .ok (.invokevirtual 227, 3) := dk_182 0 227 (dk_at dksX3_length_0 3 rfl rfl)
theorem dX3_length_6 : decode cX3_length 6 = .ok (.istore_n 3, 1) := dk_62 (dk_at dksX3_length_0 6 rfl rfl)
theorem dX3_length_7 : decode cX3_length 7 = .ok (.iload_n 3, 1) := dk_29 (dk_at dksX3_length_0 7 rfl rfl)
theorem dX3_length_8 : decode cX3_length 8 = .ok (.iconst (-1), 1) := dk_2 (dk_at dksX3_length_0 8 rfl rfl)
theorem dX3_length_9 : decode cX3_length 9 = .ok (.if_icmp .ne 7, 3) := dk_160 0 7 (dk_at dksX3_length_0 9 rfl rfl)
theorem dX3_length_12 : decode cX3_length 12 = .ok (.iconst (-1), 1) := dk_2 (dk_at dksX3_length_0 12 rfl rfl)
theorem dX3_length_13 : decode cX3_length 13 = .ok (.goto 8, 3) := dk_167 0 8 (dk_at dksX3_length_0 13 rfl rfl)
theorem dX3_length_16 : decode cX3_length 16 = .ok (.aload_n 0, 1) := dk_42 (dk_at dksX3_length_0 16 rfl rfl)
theorem dX3_length_17 : decode cX3_length 17 = .ok (.iload_n 3, 1) := dk_29 (dk_at dksX3_length_0 17 rfl rfl)
theorem dX3_length_18 : decode cX3_length 18 = .ok (.invokevirtual 243, 3) := dk_182 0 243 (dk_at dksX3_length_0 18 rfl rfl)
theorem dX3_length_21 : decode cX3_length 21 = .ok (.ireturn, 1) := dk_172 (dk_at dksX3_length_0 21 rfl rfl)
abbrev cX3_lengthOf : ByteArray := prog_12_method_46_code
def yX3_lengthOf : MethodName := ⟨RX3, "lengthOf", "(I)I"⟩
def dkwX3_lengthOf_1 : List UInt8 := [132, 3, 1, 167, 255, 233, 28, 172]
abbrev dktX3_lengthOf_1 : List UInt8 := dkwX3_lengthOf_1 ++ []
def dkwX3_lengthOf_0 : List UInt8 := [3, 61, 3, 62, 29, 4, 96, 42, 27, 182, 0, 230, 162, 0, 18, 28, 42, 27, 29, 182, 0, 240, 96, 61]
abbrev dktX3_lengthOf_0 : List UInt8 := dkwX3_lengthOf_0 ++ dktX3_lengthOf_1
theorem dksX3_lengthOf_0 : cX3_lengthOf.data.toList.drop 0 = dktX3_lengthOf_0 := by decide +kernel
theorem dksX3_lengthOf_1 : cX3_lengthOf.data.toList.drop 24 = dktX3_lengthOf_1 := dk_seg dksX3_lengthOf_0 24 rfl rfl
theorem dX3_lengthOf_0 : decode cX3_lengthOf 0 = .ok (.iconst 0, 1) := dk_3 (dk_at dksX3_lengthOf_0 0 rfl rfl)
theorem dX3_lengthOf_1 : decode cX3_lengthOf 1 = .ok (.istore_n 2, 1) := dk_61 (dk_at dksX3_lengthOf_0 1 rfl rfl)
theorem dX3_lengthOf_2 : decode cX3_lengthOf 2 = .ok (.iconst 0, 1) := dk_3 (dk_at dksX3_lengthOf_0 2 rfl rfl)
theorem dX3_lengthOf_3 : decode cX3_lengthOf 3 = .ok (.istore_n 3, 1) := dk_62 (dk_at dksX3_lengthOf_0 3 rfl rfl)
theorem dX3_lengthOf_4 : decode cX3_lengthOf 4 = .ok (.iload_n 3, 1) := dk_29 (dk_at dksX3_lengthOf_0 4 rfl rfl)
theorem dX3_lengthOf_5 : decode cX3_lengthOf 5 = .ok (.iconst 1, 1) := dk_4 (dk_at dksX3_lengthOf_0 5 rfl rfl)
theorem dX3_lengthOf_6 : decode cX3_lengthOf 6 = .ok (.iadd, 1) := dk_96 (dk_at dksX3_lengthOf_0 6 rfl rfl)
theorem dX3_lengthOf_7 : decode cX3_lengthOf 7 = .ok (.aload_n 0, 1) := dk_42 (dk_at dksX3_lengthOf_0 7 rfl rfl)
theorem dX3_lengthOf_8 : decode cX3_lengthOf 8 = .ok (.iload_n 1, 1) := dk_27 (dk_at dksX3_lengthOf_0 8 rfl rfl)
theorem dX3_lengthOf_9 : decode cX3_lengthOf 9 = .ok (.invokevirtual 230, 3) := dk_182 0 230 (dk_at dksX3_lengthOf_0 9 rfl rfl)
theorem dX3_lengthOf_12 : decode cX3_lengthOf 12 = .ok (.if_icmp .ge 18, 3) := dk_162 0 18 (dk_at dksX3_lengthOf_0 12 rfl rfl)
theorem dX3_lengthOf_15 : decode cX3_lengthOf 15 = .ok (.iload_n 2, 1) := dk_28 (dk_at dksX3_lengthOf_0 15 rfl rfl)
theorem dX3_lengthOf_16 : decode cX3_lengthOf 16 = .ok (.aload_n 0, 1) := dk_42 (dk_at dksX3_lengthOf_0 16 rfl rfl)
theorem dX3_lengthOf_17 : decode cX3_lengthOf 17 = .ok (.iload_n 1, 1) := dk_27 (dk_at dksX3_lengthOf_0 17 rfl rfl)
theorem dX3_lengthOf_18 : decode cX3_lengthOf 18 = .ok (.iload_n 3, 1) := dk_29 (dk_at dksX3_lengthOf_0 18 rfl rfl)
theorem dX3_lengthOf_19 : decode cX3_lengthOf 19 = .ok (.invokevirtual 240, 3) := dk_182 0 240 (dk_at dksX3_lengthOf_0 19 rfl rfl)
theorem dX3_lengthOf_22 : decode cX3_lengthOf 22 = .ok (.iadd, 1) := dk_96 (dk_at dksX3_lengthOf_0 22 rfl rfl)
theorem dX3_lengthOf_23 : decode cX3_lengthOf 23 = .ok (.istore_n 2, 1) := dk_61 (dk_at dksX3_lengthOf_0 23 rfl rfl)
theorem dX3_lengthOf_24 : decode cX3_lengthOf 24 = .ok (.iinc 3 1, 3) := dk_132 3 1 (dk_at dksX3_lengthOf_1 0 rfl rfl)
theorem dX3_lengthOf_27 : decode cX3_lengthOf 27 = .ok (.goto (-23), 3) := dk_167 255 233 (dk_at dksX3_lengthOf_1 3 rfl rfl)
theorem dX3_lengthOf_30 : decode cX3_lengthOf 30 = .ok (.iload_n 2, 1) := dk_28 (dk_at dksX3_lengthOf_1 6 rfl rfl)
theorem dX3_lengthOf_31 : decode cX3_lengthOf 31 = .ok (.ireturn, 1) := dk_172 (dk_at dksX3_lengthOf_1 7 rfl rfl)
abbrev cX3_pieceOf : ByteArray := prog_12_method_45_code
def yX3_pieceOf : MethodName := ⟨RX3, "pieceOf", "(II)I"⟩
def dkwX3_pieceOf_2 : List UInt8 := [96, 104, 184, 0, 237, 172]
abbrev dktX3_pieceOf_2 : List UInt8 := dkwX3_pieceOf_2 ++ []
def dkwX3_pieceOf_1 : List UInt8 := [182, 0, 233, 42, 27, 28, 4, 182, 0, 233, 100, 54, 4, 17, 39, 16, 29, 29, 104, 21, 4, 21, 4, 104]
abbrev dktX3_pieceOf_1 : List UInt8 := dkwX3_pieceOf_1 ++ dktX3_pieceOf_2
def dkwX3_pieceOf_0 : List UInt8 := [42, 27, 28, 4, 96, 3, 182, 0, 233, 42, 27, 28, 3, 182, 0, 233, 100, 62, 42, 27, 28, 4, 96, 4]
abbrev dktX3_pieceOf_0 : List UInt8 := dkwX3_pieceOf_0 ++ dktX3_pieceOf_1
theorem dksX3_pieceOf_0 : cX3_pieceOf.data.toList.drop 0 = dktX3_pieceOf_0 := by decide +kernel
theorem dksX3_pieceOf_1 : cX3_pieceOf.data.toList.drop 24 = dktX3_pieceOf_1 := dk_seg dksX3_pieceOf_0 24 rfl rfl
theorem dksX3_pieceOf_2 : cX3_pieceOf.data.toList.drop 48 = dktX3_pieceOf_2 := dk_seg dksX3_pieceOf_1 24 rfl rfl
theorem dX3_pieceOf_0 : decode cX3_pieceOf 0 = .ok (.aload_n 0, 1) := dk_42 (dk_at dksX3_pieceOf_0 0 rfl rfl)
theorem dX3_pieceOf_1 : decode cX3_pieceOf 1 = .ok (.iload_n 1, 1) := dk_27 (dk_at dksX3_pieceOf_0 1 rfl rfl)
theorem dX3_pieceOf_2 : decode cX3_pieceOf 2 = .ok (.iload_n 2, 1) := dk_28 (dk_at dksX3_pieceOf_0 2 rfl rfl)
theorem dX3_pieceOf_3 : decode cX3_pieceOf 3 = .ok (.iconst 1, 1) := dk_4 (dk_at dksX3_pieceOf_0 3 rfl rfl)
theorem dX3_pieceOf_4 : decode cX3_pieceOf 4 = .ok (.iadd, 1) := dk_96 (dk_at dksX3_pieceOf_0 4 rfl rfl)
theorem dX3_pieceOf_5 : decode cX3_pieceOf 5 = .ok (.iconst 0, 1) := dk_3 (dk_at dksX3_pieceOf_0 5 rfl rfl)
theorem dX3_pieceOf_6 : decode cX3_pieceOf 6 = .ok (.invokevirtual 233, 3) := dk_182 0 233 (dk_at dksX3_pieceOf_0 6 rfl rfl)
theorem dX3_pieceOf_9 : decode cX3_pieceOf 9 = .ok (.aload_n 0, 1) := dk_42 (dk_at dksX3_pieceOf_0 9 rfl rfl)
theorem dX3_pieceOf_10 : decode cX3_pieceOf 10 = .ok (.iload_n 1, 1) := dk_27 (dk_at dksX3_pieceOf_0 10 rfl rfl)
theorem dX3_pieceOf_11 : decode cX3_pieceOf 11 = .ok (.iload_n 2, 1) := dk_28 (dk_at dksX3_pieceOf_0 11 rfl rfl)
theorem dX3_pieceOf_12 : decode cX3_pieceOf 12 = .ok (.iconst 0, 1) := dk_3 (dk_at dksX3_pieceOf_0 12 rfl rfl)
theorem dX3_pieceOf_13 : decode cX3_pieceOf 13 = .ok (.invokevirtual 233, 3) := dk_182 0 233 (dk_at dksX3_pieceOf_0 13 rfl rfl)
theorem dX3_pieceOf_16 : decode cX3_pieceOf 16 = .ok (.isub, 1) := dk_100 (dk_at dksX3_pieceOf_0 16 rfl rfl)
theorem dX3_pieceOf_17 : decode cX3_pieceOf 17 = .ok (.istore_n 3, 1) := dk_62 (dk_at dksX3_pieceOf_0 17 rfl rfl)
theorem dX3_pieceOf_18 : decode cX3_pieceOf 18 = .ok (.aload_n 0, 1) := dk_42 (dk_at dksX3_pieceOf_0 18 rfl rfl)
theorem dX3_pieceOf_19 : decode cX3_pieceOf 19 = .ok (.iload_n 1, 1) := dk_27 (dk_at dksX3_pieceOf_0 19 rfl rfl)
theorem dX3_pieceOf_20 : decode cX3_pieceOf 20 = .ok (.iload_n 2, 1) := dk_28 (dk_at dksX3_pieceOf_0 20 rfl rfl)
theorem dX3_pieceOf_21 : decode cX3_pieceOf 21 = .ok (.iconst 1, 1) := dk_4 (dk_at dksX3_pieceOf_0 21 rfl rfl)
theorem dX3_pieceOf_22 : decode cX3_pieceOf 22 = .ok (.iadd, 1) := dk_96 (dk_at dksX3_pieceOf_0 22 rfl rfl)
theorem dX3_pieceOf_23 : decode cX3_pieceOf 23 = .ok (.iconst 1, 1) := dk_4 (dk_at dksX3_pieceOf_0 23 rfl rfl)
theorem dX3_pieceOf_24 : decode cX3_pieceOf 24 = .ok (.invokevirtual 233, 3) := dk_182 0 233 (dk_at dksX3_pieceOf_1 0 rfl rfl)
theorem dX3_pieceOf_27 : decode cX3_pieceOf 27 = .ok (.aload_n 0, 1) := dk_42 (dk_at dksX3_pieceOf_1 3 rfl rfl)
theorem dX3_pieceOf_28 : decode cX3_pieceOf 28 = .ok (.iload_n 1, 1) := dk_27 (dk_at dksX3_pieceOf_1 4 rfl rfl)
theorem dX3_pieceOf_29 : decode cX3_pieceOf 29 = .ok (.iload_n 2, 1) := dk_28 (dk_at dksX3_pieceOf_1 5 rfl rfl)
theorem dX3_pieceOf_30 : decode cX3_pieceOf 30 = .ok (.iconst 1, 1) := dk_4 (dk_at dksX3_pieceOf_1 6 rfl rfl)
theorem dX3_pieceOf_31 : decode cX3_pieceOf 31 = .ok (.invokevirtual 233, 3) := dk_182 0 233 (dk_at dksX3_pieceOf_1 7 rfl rfl)
theorem dX3_pieceOf_34 : decode cX3_pieceOf 34 = .ok (.isub, 1) := dk_100 (dk_at dksX3_pieceOf_1 10 rfl rfl)
theorem dX3_pieceOf_35 : decode cX3_pieceOf 35 = .ok (.istore 4, 2) := dk_54 4 (dk_at dksX3_pieceOf_1 11 rfl rfl)
theorem dX3_pieceOf_37 : decode cX3_pieceOf 37 = .ok (.sipush 10000, 3) := dk_17 39 16 (dk_at dksX3_pieceOf_1 13 rfl rfl)
theorem dX3_pieceOf_40 : decode cX3_pieceOf 40 = .ok (.iload_n 3, 1) := dk_29 (dk_at dksX3_pieceOf_1 16 rfl rfl)
theorem dX3_pieceOf_41 : decode cX3_pieceOf 41 = .ok (.iload_n 3, 1) := dk_29 (dk_at dksX3_pieceOf_1 17 rfl rfl)
theorem dX3_pieceOf_42 : decode cX3_pieceOf 42 = .ok (.imul, 1) := dk_104 (dk_at dksX3_pieceOf_1 18 rfl rfl)
theorem dX3_pieceOf_43 : decode cX3_pieceOf 43 = .ok (.iload 4, 2) := dk_21 4 (dk_at dksX3_pieceOf_1 19 rfl rfl)
theorem dX3_pieceOf_45 : decode cX3_pieceOf 45 = .ok (.iload 4, 2) := dk_21 4 (dk_at dksX3_pieceOf_1 21 rfl rfl)
theorem dX3_pieceOf_47 : decode cX3_pieceOf 47 = .ok (.imul, 1) := dk_104 (dk_at dksX3_pieceOf_1 23 rfl rfl)
theorem dX3_pieceOf_48 : decode cX3_pieceOf 48 = .ok (.iadd, 1) := dk_96 (dk_at dksX3_pieceOf_2 0 rfl rfl)
theorem dX3_pieceOf_49 : decode cX3_pieceOf 49 = .ok (.imul, 1) := dk_104 (dk_at dksX3_pieceOf_2 1 rfl rfl)
theorem dX3_pieceOf_50 : decode cX3_pieceOf 50 = .ok (.invokestatic 237, 3) := dk_184 0 237 (dk_at dksX3_pieceOf_2 2 rfl rfl)
theorem dX3_pieceOf_53 : decode cX3_pieceOf 53 = .ok (.ireturn, 1) := dk_172 (dk_at dksX3_pieceOf_2 5 rfl rfl)
abbrev cX3_rootOf : ByteArray := prog_12_method_44_code
def yX3_rootOf : MethodName := ⟨RX3, "rootOf", "(I)I"⟩
def dkwX3_rootOf_1 : List UInt8 := [163, 0, 8, 29, 60, 167, 0, 7, 29, 4, 100, 61, 167, 255, 227, 27, 172]
abbrev dktX3_rootOf_1 : List UInt8 := dkwX3_rootOf_1 ++ []
def dkwX3_rootOf_0 : List UInt8 := [3, 60, 17, 78, 32, 61, 27, 28, 162, 0, 30, 27, 28, 96, 4, 96, 5, 108, 62, 29, 29, 104, 26]
abbrev dktX3_rootOf_0 : List UInt8 := dkwX3_rootOf_0 ++ dktX3_rootOf_1
theorem dksX3_rootOf_0 : cX3_rootOf.data.toList.drop 0 = dktX3_rootOf_0 := by decide +kernel
theorem dksX3_rootOf_1 : cX3_rootOf.data.toList.drop 23 = dktX3_rootOf_1 := dk_seg dksX3_rootOf_0 23 rfl rfl
theorem dX3_rootOf_0 : decode cX3_rootOf 0 = .ok (.iconst 0, 1) := dk_3 (dk_at dksX3_rootOf_0 0 rfl rfl)
theorem dX3_rootOf_1 : decode cX3_rootOf 1 = .ok (.istore_n 1, 1) := dk_60 (dk_at dksX3_rootOf_0 1 rfl rfl)
theorem dX3_rootOf_2 : decode cX3_rootOf 2 = .ok (.sipush 20000, 3) := dk_17 78 32 (dk_at dksX3_rootOf_0 2 rfl rfl)
theorem dX3_rootOf_5 : decode cX3_rootOf 5 = .ok (.istore_n 2, 1) := dk_61 (dk_at dksX3_rootOf_0 5 rfl rfl)
theorem dX3_rootOf_6 : decode cX3_rootOf 6 = .ok (.iload_n 1, 1) := dk_27 (dk_at dksX3_rootOf_0 6 rfl rfl)
theorem dX3_rootOf_7 : decode cX3_rootOf 7 = .ok (.iload_n 2, 1) := dk_28 (dk_at dksX3_rootOf_0 7 rfl rfl)
theorem dX3_rootOf_8 : decode cX3_rootOf 8 = .ok (.if_icmp .ge 30, 3) := dk_162 0 30 (dk_at dksX3_rootOf_0 8 rfl rfl)
theorem dX3_rootOf_11 : decode cX3_rootOf 11 = .ok (.iload_n 1, 1) := dk_27 (dk_at dksX3_rootOf_0 11 rfl rfl)
theorem dX3_rootOf_12 : decode cX3_rootOf 12 = .ok (.iload_n 2, 1) := dk_28 (dk_at dksX3_rootOf_0 12 rfl rfl)
theorem dX3_rootOf_13 : decode cX3_rootOf 13 = .ok (.iadd, 1) := dk_96 (dk_at dksX3_rootOf_0 13 rfl rfl)
theorem dX3_rootOf_14 : decode cX3_rootOf 14 = .ok (.iconst 1, 1) := dk_4 (dk_at dksX3_rootOf_0 14 rfl rfl)
theorem dX3_rootOf_15 : decode cX3_rootOf 15 = .ok (.iadd, 1) := dk_96 (dk_at dksX3_rootOf_0 15 rfl rfl)
theorem dX3_rootOf_16 : decode cX3_rootOf 16 = .ok (.iconst 2, 1) := dk_5 (dk_at dksX3_rootOf_0 16 rfl rfl)
theorem dX3_rootOf_17 : decode cX3_rootOf 17 = .ok (.idiv, 1) := dk_108 (dk_at dksX3_rootOf_0 17 rfl rfl)
theorem dX3_rootOf_18 : decode cX3_rootOf 18 = .ok (.istore_n 3, 1) := dk_62 (dk_at dksX3_rootOf_0 18 rfl rfl)
theorem dX3_rootOf_19 : decode cX3_rootOf 19 = .ok (.iload_n 3, 1) := dk_29 (dk_at dksX3_rootOf_0 19 rfl rfl)
theorem dX3_rootOf_20 : decode cX3_rootOf 20 = .ok (.iload_n 3, 1) := dk_29 (dk_at dksX3_rootOf_0 20 rfl rfl)
theorem dX3_rootOf_21 : decode cX3_rootOf 21 = .ok (.imul, 1) := dk_104 (dk_at dksX3_rootOf_0 21 rfl rfl)
theorem dX3_rootOf_22 : decode cX3_rootOf 22 = .ok (.iload_n 0, 1) := dk_26 (dk_at dksX3_rootOf_0 22 rfl rfl)
theorem dX3_rootOf_23 : decode cX3_rootOf 23 = .ok (.if_icmp .gt 8, 3) := dk_163 0 8 (dk_at dksX3_rootOf_1 0 rfl rfl)
theorem dX3_rootOf_26 : decode cX3_rootOf 26 = .ok (.iload_n 3, 1) := dk_29 (dk_at dksX3_rootOf_1 3 rfl rfl)
theorem dX3_rootOf_27 : decode cX3_rootOf 27 = .ok (.istore_n 1, 1) := dk_60 (dk_at dksX3_rootOf_1 4 rfl rfl)
theorem dX3_rootOf_28 : decode cX3_rootOf 28 = .ok (.goto 7, 3) := dk_167 0 7 (dk_at dksX3_rootOf_1 5 rfl rfl)
theorem dX3_rootOf_31 : decode cX3_rootOf 31 = .ok (.iload_n 3, 1) := dk_29 (dk_at dksX3_rootOf_1 8 rfl rfl)
theorem dX3_rootOf_32 : decode cX3_rootOf 32 = .ok (.iconst 1, 1) := dk_4 (dk_at dksX3_rootOf_1 9 rfl rfl)
theorem dX3_rootOf_33 : decode cX3_rootOf 33 = .ok (.isub, 1) := dk_100 (dk_at dksX3_rootOf_1 10 rfl rfl)
theorem dX3_rootOf_34 : decode cX3_rootOf 34 = .ok (.istore_n 2, 1) := dk_61 (dk_at dksX3_rootOf_1 11 rfl rfl)
theorem dX3_rootOf_35 : decode cX3_rootOf 35 = .ok (.goto (-29), 3) := dk_167 255 227 (dk_at dksX3_rootOf_1 12 rfl rfl)
theorem dX3_rootOf_38 : decode cX3_rootOf 38 = .ok (.iload_n 1, 1) := dk_27 (dk_at dksX3_rootOf_1 15 rfl rfl)
theorem dX3_rootOf_39 : decode cX3_rootOf 39 = .ok (.ireturn, 1) := dk_172 (dk_at dksX3_rootOf_1 16 rfl rfl)
abbrev cX3_sample : ByteArray := prog_12_method_49_code
def yX3_sample : MethodName := ⟨RX3, "sample", "(IIII)I"⟩
def dkwX3_sample_2 : List UInt8 := [182, 0, 246, 167, 0, 4, 2, 172]
abbrev dktX3_sample_2 : List UInt8 := dkwX3_sample_2 ++ []
def dkwX3_sample_1 : List UInt8 := [184, 0, 171, 153, 0, 25, 21, 4, 3, 4, 184, 0, 171, 153, 0, 15, 42, 21, 5, 29, 21, 4]
abbrev dktX3_sample_1 : List UInt8 := dkwX3_sample_1 ++ dktX3_sample_2
def dkwX3_sample_0 : List UInt8 := [42, 27, 28, 182, 0, 227, 54, 5, 21, 5, 2, 159, 0, 41, 29, 3, 42, 180, 0, 7, 17, 4, 18, 46]
abbrev dktX3_sample_0 : List UInt8 := dkwX3_sample_0 ++ dktX3_sample_1
theorem dksX3_sample_0 : cX3_sample.data.toList.drop 0 = dktX3_sample_0 := by decide +kernel
theorem dksX3_sample_1 : cX3_sample.data.toList.drop 24 = dktX3_sample_1 := dk_seg dksX3_sample_0 24 rfl rfl
theorem dksX3_sample_2 : cX3_sample.data.toList.drop 46 = dktX3_sample_2 := dk_seg dksX3_sample_1 22 rfl rfl
theorem dX3_sample_0 : decode cX3_sample 0 = .ok (.aload_n 0, 1) := dk_42 (dk_at dksX3_sample_0 0 rfl rfl)
theorem dX3_sample_1 : decode cX3_sample 1 = .ok (.iload_n 1, 1) := dk_27 (dk_at dksX3_sample_0 1 rfl rfl)
theorem dX3_sample_2 : decode cX3_sample 2 = .ok (.iload_n 2, 1) := dk_28 (dk_at dksX3_sample_0 2 rfl rfl)
theorem dX3_sample_3 : decode cX3_sample 3 = .ok (.invokevirtual 227, 3) := dk_182 0 227 (dk_at dksX3_sample_0 3 rfl rfl)
theorem dX3_sample_6 : decode cX3_sample 6 = .ok (.istore 5, 2) := dk_54 5 (dk_at dksX3_sample_0 6 rfl rfl)
theorem dX3_sample_8 : decode cX3_sample 8 = .ok (.iload 5, 2) := dk_21 5 (dk_at dksX3_sample_0 8 rfl rfl)
theorem dX3_sample_10 : decode cX3_sample 10 = .ok (.iconst (-1), 1) := dk_2 (dk_at dksX3_sample_0 10 rfl rfl)
theorem dX3_sample_11 : decode cX3_sample 11 = .ok (.if_icmp .eq 41, 3) := dk_159 0 41 (dk_at dksX3_sample_0 11 rfl rfl)
theorem dX3_sample_14 : decode cX3_sample 14 = .ok (.iload_n 3, 1) := dk_29 (dk_at dksX3_sample_0 14 rfl rfl)
theorem dX3_sample_15 : decode cX3_sample 15 = .ok (.iconst 0, 1) := dk_3 (dk_at dksX3_sample_0 15 rfl rfl)
theorem dX3_sample_16 : decode cX3_sample 16 = .ok (.aload_n 0, 1) := dk_42 (dk_at dksX3_sample_0 16 rfl rfl)
theorem dX3_sample_17 : decode cX3_sample 17 = .ok (.getfield 7, 3) := dk_180 0 7 (dk_at dksX3_sample_0 17 rfl rfl)
theorem dX3_sample_20 : decode cX3_sample 20 = .ok (.sipush 1042, 3) := dk_17 4 18 (dk_at dksX3_sample_0 20 rfl rfl)
theorem dX3_sample_23 : decode cX3_sample 23 = .ok (.iaload, 1) := dk_46 (dk_at dksX3_sample_0 23 rfl rfl)
theorem dX3_sample_24 : decode cX3_sample 24 = .ok (.invokestatic 171, 3) := dk_184 0 171 (dk_at dksX3_sample_1 0 rfl rfl)
theorem dX3_sample_27 : decode cX3_sample 27 = .ok (.ifCond .eq 25, 3) := dk_153 0 25 (dk_at dksX3_sample_1 3 rfl rfl)
theorem dX3_sample_30 : decode cX3_sample 30 = .ok (.iload 4, 2) := dk_21 4 (dk_at dksX3_sample_1 6 rfl rfl)
theorem dX3_sample_32 : decode cX3_sample 32 = .ok (.iconst 0, 1) := dk_3 (dk_at dksX3_sample_1 8 rfl rfl)
theorem dX3_sample_33 : decode cX3_sample 33 = .ok (.iconst 1, 1) := dk_4 (dk_at dksX3_sample_1 9 rfl rfl)
theorem dX3_sample_34 : decode cX3_sample 34 = .ok (.invokestatic 171, 3) := dk_184 0 171 (dk_at dksX3_sample_1 10 rfl rfl)
theorem dX3_sample_37 : decode cX3_sample 37 = .ok (.ifCond .eq 15, 3) := dk_153 0 15 (dk_at dksX3_sample_1 13 rfl rfl)
theorem dX3_sample_40 : decode cX3_sample 40 = .ok (.aload_n 0, 1) := dk_42 (dk_at dksX3_sample_1 16 rfl rfl)
theorem dX3_sample_41 : decode cX3_sample 41 = .ok (.iload 5, 2) := dk_21 5 (dk_at dksX3_sample_1 17 rfl rfl)
theorem dX3_sample_43 : decode cX3_sample 43 = .ok (.iload_n 3, 1) := dk_29 (dk_at dksX3_sample_1 19 rfl rfl)
theorem dX3_sample_44 : decode cX3_sample 44 = .ok (.iload 4, 2) := dk_21 4 (dk_at dksX3_sample_1 20 rfl rfl)
theorem dX3_sample_46 : decode cX3_sample 46 = .ok (.invokevirtual 246, 3) := dk_182 0 246 (dk_at dksX3_sample_2 0 rfl rfl)
theorem dX3_sample_49 : decode cX3_sample 49 = .ok (.goto 4, 3) := dk_167 0 4 (dk_at dksX3_sample_2 3 rfl rfl)
theorem dX3_sample_52 : decode cX3_sample 52 = .ok (.iconst (-1), 1) := dk_2 (dk_at dksX3_sample_2 6 rfl rfl)
theorem dX3_sample_53 : decode cX3_sample 53 = .ok (.ireturn, 1) := dk_172 (dk_at dksX3_sample_2 7 rfl rfl)
abbrev cX3_sampleOf : ByteArray := prog_12_method_48_code
def yX3_sampleOf : MethodName := ⟨RX3, "sampleOf", "(III)I"⟩
def dkwX3_sampleOf_4 : List UInt8 := [21, 6, 154, 0, 7, 3, 167, 0, 11, 21, 7, 21, 4, 104, 21, 6, 108, 96, 172]
abbrev dktX3_sampleOf_4 : List UInt8 := dkwX3_sampleOf_4 ++ []
def dkwX3_sampleOf_3 : List UInt8 := [42, 27, 21, 5, 29, 182, 0, 233, 100, 104, 54, 7, 16, 100, 42, 27, 21, 5, 29, 182, 0, 233, 104]
abbrev dktX3_sampleOf_3 : List UInt8 := dkwX3_sampleOf_3 ++ dktX3_sampleOf_4
def dkwX3_sampleOf_2 : List UInt8 := [167, 255, 229, 42, 27, 21, 5, 182, 0, 240, 54, 6, 16, 100, 42, 27, 21, 5, 4, 96, 29, 182, 0, 233]
abbrev dktX3_sampleOf_2 : List UInt8 := dkwX3_sampleOf_2 ++ dktX3_sampleOf_3
def dkwX3_sampleOf_1 : List UInt8 := [27, 21, 5, 182, 0, 240, 164, 0, 21, 21, 4, 42, 27, 21, 5, 182, 0, 240, 100, 54, 4, 132, 5, 1]
abbrev dktX3_sampleOf_1 : List UInt8 := dkwX3_sampleOf_1 ++ dktX3_sampleOf_2
def dkwX3_sampleOf_0 : List UInt8 := [28, 42, 27, 182, 0, 243, 104, 42, 180, 0, 7, 17, 4, 18, 46, 108, 54, 4, 3, 54, 5, 21, 4, 42]
abbrev dktX3_sampleOf_0 : List UInt8 := dkwX3_sampleOf_0 ++ dktX3_sampleOf_1
theorem dksX3_sampleOf_0 : cX3_sampleOf.data.toList.drop 0 = dktX3_sampleOf_0 := by decide +kernel
theorem dksX3_sampleOf_1 : cX3_sampleOf.data.toList.drop 24 = dktX3_sampleOf_1 := dk_seg dksX3_sampleOf_0 24 rfl rfl
theorem dksX3_sampleOf_2 : cX3_sampleOf.data.toList.drop 48 = dktX3_sampleOf_2 := dk_seg dksX3_sampleOf_1 24 rfl rfl
theorem dksX3_sampleOf_3 : cX3_sampleOf.data.toList.drop 72 = dktX3_sampleOf_3 := dk_seg dksX3_sampleOf_2 24 rfl rfl
theorem dksX3_sampleOf_4 : cX3_sampleOf.data.toList.drop 95 = dktX3_sampleOf_4 := dk_seg dksX3_sampleOf_3 23 rfl rfl
theorem dX3_sampleOf_0 : decode cX3_sampleOf 0 = .ok (.iload_n 2, 1) := dk_28 (dk_at dksX3_sampleOf_0 0 rfl rfl)
theorem dX3_sampleOf_1 : decode cX3_sampleOf 1 = .ok (.aload_n 0, 1) := dk_42 (dk_at dksX3_sampleOf_0 1 rfl rfl)
theorem dX3_sampleOf_2 : decode cX3_sampleOf 2 = .ok (.iload_n 1, 1) := dk_27 (dk_at dksX3_sampleOf_0 2 rfl rfl)
theorem dX3_sampleOf_3 : decode cX3_sampleOf 3 = .ok (.invokevirtual 243, 3) := dk_182 0 243 (dk_at dksX3_sampleOf_0 3 rfl rfl)
theorem dX3_sampleOf_6 : decode cX3_sampleOf 6 = .ok (.imul, 1) := dk_104 (dk_at dksX3_sampleOf_0 6 rfl rfl)
theorem dX3_sampleOf_7 : decode cX3_sampleOf 7 = .ok (.aload_n 0, 1) := dk_42 (dk_at dksX3_sampleOf_0 7 rfl rfl)
theorem dX3_sampleOf_8 : decode cX3_sampleOf 8 = .ok (.getfield 7, 3) := dk_180 0 7 (dk_at dksX3_sampleOf_0 8 rfl rfl)
theorem dX3_sampleOf_11 : decode cX3_sampleOf 11 = .ok (.sipush 1042, 3) := dk_17 4 18 (dk_at dksX3_sampleOf_0 11 rfl rfl)
theorem dX3_sampleOf_14 : decode cX3_sampleOf 14 = .ok (.iaload, 1) := dk_46 (dk_at dksX3_sampleOf_0 14 rfl rfl)
theorem dX3_sampleOf_15 : decode cX3_sampleOf 15 = .ok (.idiv, 1) := dk_108 (dk_at dksX3_sampleOf_0 15 rfl rfl)
theorem dX3_sampleOf_16 : decode cX3_sampleOf 16 = .ok (.istore 4, 2) := dk_54 4 (dk_at dksX3_sampleOf_0 16 rfl rfl)
theorem dX3_sampleOf_18 : decode cX3_sampleOf 18 = .ok (.iconst 0, 1) := dk_3 (dk_at dksX3_sampleOf_0 18 rfl rfl)
theorem dX3_sampleOf_19 : decode cX3_sampleOf 19 = .ok (.istore 5, 2) := dk_54 5 (dk_at dksX3_sampleOf_0 19 rfl rfl)
theorem dX3_sampleOf_21 : decode cX3_sampleOf 21 = .ok (.iload 4, 2) := dk_21 4 (dk_at dksX3_sampleOf_0 21 rfl rfl)
theorem dX3_sampleOf_23 : decode cX3_sampleOf 23 = .ok (.aload_n 0, 1) := dk_42 (dk_at dksX3_sampleOf_0 23 rfl rfl)
theorem dX3_sampleOf_24 : decode cX3_sampleOf 24 = .ok (.iload_n 1, 1) := dk_27 (dk_at dksX3_sampleOf_1 0 rfl rfl)
theorem dX3_sampleOf_25 : decode cX3_sampleOf 25 = .ok (.iload 5, 2) := dk_21 5 (dk_at dksX3_sampleOf_1 1 rfl rfl)
theorem dX3_sampleOf_27 : decode cX3_sampleOf 27 = .ok (.invokevirtual 240, 3) := dk_182 0 240 (dk_at dksX3_sampleOf_1 3 rfl rfl)
theorem dX3_sampleOf_30 : decode cX3_sampleOf 30 = .ok (.if_icmp .le 21, 3) := dk_164 0 21 (dk_at dksX3_sampleOf_1 6 rfl rfl)
theorem dX3_sampleOf_33 : decode cX3_sampleOf 33 = .ok (.iload 4, 2) := dk_21 4 (dk_at dksX3_sampleOf_1 9 rfl rfl)
theorem dX3_sampleOf_35 : decode cX3_sampleOf 35 = .ok (.aload_n 0, 1) := dk_42 (dk_at dksX3_sampleOf_1 11 rfl rfl)
theorem dX3_sampleOf_36 : decode cX3_sampleOf 36 = .ok (.iload_n 1, 1) := dk_27 (dk_at dksX3_sampleOf_1 12 rfl rfl)
theorem dX3_sampleOf_37 : decode cX3_sampleOf 37 = .ok (.iload 5, 2) := dk_21 5 (dk_at dksX3_sampleOf_1 13 rfl rfl)
theorem dX3_sampleOf_39 : decode cX3_sampleOf 39 = .ok (.invokevirtual 240, 3) := dk_182 0 240 (dk_at dksX3_sampleOf_1 15 rfl rfl)
theorem dX3_sampleOf_42 : decode cX3_sampleOf 42 = .ok (.isub, 1) := dk_100 (dk_at dksX3_sampleOf_1 18 rfl rfl)
theorem dX3_sampleOf_43 : decode cX3_sampleOf 43 = .ok (.istore 4, 2) := dk_54 4 (dk_at dksX3_sampleOf_1 19 rfl rfl)
theorem dX3_sampleOf_45 : decode cX3_sampleOf 45 = .ok (.iinc 5 1, 3) := dk_132 5 1 (dk_at dksX3_sampleOf_1 21 rfl rfl)
theorem dX3_sampleOf_48 : decode cX3_sampleOf 48 = .ok (.goto (-27), 3) := dk_167 255 229 (dk_at dksX3_sampleOf_2 0 rfl rfl)
theorem dX3_sampleOf_51 : decode cX3_sampleOf 51 = .ok (.aload_n 0, 1) := dk_42 (dk_at dksX3_sampleOf_2 3 rfl rfl)
theorem dX3_sampleOf_52 : decode cX3_sampleOf 52 = .ok (.iload_n 1, 1) := dk_27 (dk_at dksX3_sampleOf_2 4 rfl rfl)
theorem dX3_sampleOf_53 : decode cX3_sampleOf 53 = .ok (.iload 5, 2) := dk_21 5 (dk_at dksX3_sampleOf_2 5 rfl rfl)
theorem dX3_sampleOf_55 : decode cX3_sampleOf 55 = .ok (.invokevirtual 240, 3) := dk_182 0 240 (dk_at dksX3_sampleOf_2 7 rfl rfl)
theorem dX3_sampleOf_58 : decode cX3_sampleOf 58 = .ok (.istore 6, 2) := dk_54 6 (dk_at dksX3_sampleOf_2 10 rfl rfl)
theorem dX3_sampleOf_60 : decode cX3_sampleOf 60 = .ok (.bipush 100, 2) := dk_16 100 (dk_at dksX3_sampleOf_2 12 rfl rfl)
theorem dX3_sampleOf_62 : decode cX3_sampleOf 62 = .ok (.aload_n 0, 1) := dk_42 (dk_at dksX3_sampleOf_2 14 rfl rfl)
theorem dX3_sampleOf_63 : decode cX3_sampleOf 63 = .ok (.iload_n 1, 1) := dk_27 (dk_at dksX3_sampleOf_2 15 rfl rfl)
theorem dX3_sampleOf_64 : decode cX3_sampleOf 64 = .ok (.iload 5, 2) := dk_21 5 (dk_at dksX3_sampleOf_2 16 rfl rfl)
theorem dX3_sampleOf_66 : decode cX3_sampleOf 66 = .ok (.iconst 1, 1) := dk_4 (dk_at dksX3_sampleOf_2 18 rfl rfl)
theorem dX3_sampleOf_67 : decode cX3_sampleOf 67 = .ok (.iadd, 1) := dk_96 (dk_at dksX3_sampleOf_2 19 rfl rfl)
theorem dX3_sampleOf_68 : decode cX3_sampleOf 68 = .ok (.iload_n 3, 1) := dk_29 (dk_at dksX3_sampleOf_2 20 rfl rfl)
theorem dX3_sampleOf_69 : decode cX3_sampleOf 69 = .ok (.invokevirtual 233, 3) := dk_182 0 233 (dk_at dksX3_sampleOf_2 21 rfl rfl)
theorem dX3_sampleOf_72 : decode cX3_sampleOf 72 = .ok (.aload_n 0, 1) := dk_42 (dk_at dksX3_sampleOf_3 0 rfl rfl)
theorem dX3_sampleOf_73 : decode cX3_sampleOf 73 = .ok (.iload_n 1, 1) := dk_27 (dk_at dksX3_sampleOf_3 1 rfl rfl)
theorem dX3_sampleOf_74 : decode cX3_sampleOf 74 = .ok (.iload 5, 2) := dk_21 5 (dk_at dksX3_sampleOf_3 2 rfl rfl)
theorem dX3_sampleOf_76 : decode cX3_sampleOf 76 = .ok (.iload_n 3, 1) := dk_29 (dk_at dksX3_sampleOf_3 4 rfl rfl)
theorem dX3_sampleOf_77 : decode cX3_sampleOf 77 = .ok (.invokevirtual 233, 3) := dk_182 0 233 (dk_at dksX3_sampleOf_3 5 rfl rfl)
theorem dX3_sampleOf_80 : decode cX3_sampleOf 80 = .ok (.isub, 1) := dk_100 (dk_at dksX3_sampleOf_3 8 rfl rfl)
theorem dX3_sampleOf_81 : decode cX3_sampleOf 81 = .ok (.imul, 1) := dk_104 (dk_at dksX3_sampleOf_3 9 rfl rfl)
theorem dX3_sampleOf_82 : decode cX3_sampleOf 82 = .ok (.istore 7, 2) := dk_54 7 (dk_at dksX3_sampleOf_3 10 rfl rfl)
theorem dX3_sampleOf_84 : decode cX3_sampleOf 84 = .ok (.bipush 100, 2) := dk_16 100 (dk_at dksX3_sampleOf_3 12 rfl rfl)
theorem dX3_sampleOf_86 : decode cX3_sampleOf 86 = .ok (.aload_n 0, 1) := dk_42 (dk_at dksX3_sampleOf_3 14 rfl rfl)
theorem dX3_sampleOf_87 : decode cX3_sampleOf 87 = .ok (.iload_n 1, 1) := dk_27 (dk_at dksX3_sampleOf_3 15 rfl rfl)
theorem dX3_sampleOf_88 : decode cX3_sampleOf 88 = .ok (.iload 5, 2) := dk_21 5 (dk_at dksX3_sampleOf_3 16 rfl rfl)
theorem dX3_sampleOf_90 : decode cX3_sampleOf 90 = .ok (.iload_n 3, 1) := dk_29 (dk_at dksX3_sampleOf_3 18 rfl rfl)
theorem dX3_sampleOf_91 : decode cX3_sampleOf 91 = .ok (.invokevirtual 233, 3) := dk_182 0 233 (dk_at dksX3_sampleOf_3 19 rfl rfl)
theorem dX3_sampleOf_94 : decode cX3_sampleOf 94 = .ok (.imul, 1) := dk_104 (dk_at dksX3_sampleOf_3 22 rfl rfl)
theorem dX3_sampleOf_95 : decode cX3_sampleOf 95 = .ok (.iload 6, 2) := dk_21 6 (dk_at dksX3_sampleOf_4 0 rfl rfl)
theorem dX3_sampleOf_97 : decode cX3_sampleOf 97 = .ok (.ifCond .ne 7, 3) := dk_154 0 7 (dk_at dksX3_sampleOf_4 2 rfl rfl)
theorem dX3_sampleOf_100 : decode cX3_sampleOf 100 = .ok (.iconst 0, 1) := dk_3 (dk_at dksX3_sampleOf_4 5 rfl rfl)
theorem dX3_sampleOf_101 : decode cX3_sampleOf 101 = .ok (.goto 11, 3) := dk_167 0 11 (dk_at dksX3_sampleOf_4 6 rfl rfl)
theorem dX3_sampleOf_104 : decode cX3_sampleOf 104 = .ok (.iload 7, 2) := dk_21 7 (dk_at dksX3_sampleOf_4 9 rfl rfl)
theorem dX3_sampleOf_106 : decode cX3_sampleOf 106 = .ok (.iload 4, 2) := dk_21 4 (dk_at dksX3_sampleOf_4 11 rfl rfl)
theorem dX3_sampleOf_108 : decode cX3_sampleOf 108 = .ok (.imul, 1) := dk_104 (dk_at dksX3_sampleOf_4 13 rfl rfl)
theorem dX3_sampleOf_109 : decode cX3_sampleOf 109 = .ok (.iload 6, 2) := dk_21 6 (dk_at dksX3_sampleOf_4 14 rfl rfl)
theorem dX3_sampleOf_111 : decode cX3_sampleOf 111 = .ok (.idiv, 1) := dk_108 (dk_at dksX3_sampleOf_4 16 rfl rfl)
theorem dX3_sampleOf_112 : decode cX3_sampleOf 112 = .ok (.iadd, 1) := dk_96 (dk_at dksX3_sampleOf_4 17 rfl rfl)
theorem dX3_sampleOf_113 : decode cX3_sampleOf 113 = .ok (.ireturn, 1) := dk_172 (dk_at dksX3_sampleOf_4 18 rfl rfl)
abbrev cX3_code : ByteArray := prog_12_method_53_code
def yX3_code : MethodName := ⟨RX3, "code", "(III)I"⟩
def dkwX3_code_2 : List UInt8 := [104, 29, 96, 46, 172]
abbrev dktX3_code_2 : List UInt8 := dkwX3_code_2 ++ []
def dkwX3_code_1 : List UInt8 := [4, 100, 184, 0, 171, 154, 0, 5, 2, 172, 42, 21, 4, 182, 0, 255, 42, 180, 0, 77, 16, 16, 21, 4]
abbrev dktX3_code_1 : List UInt8 := dkwX3_code_1 ++ dktX3_code_2
def dkwX3_code_0 : List UInt8 := [42, 27, 28, 182, 0, 227, 54, 4, 21, 4, 2, 159, 0, 21, 29, 3, 42, 180, 0, 7, 17, 4, 18, 46]
abbrev dktX3_code_0 : List UInt8 := dkwX3_code_0 ++ dktX3_code_1
theorem dksX3_code_0 : cX3_code.data.toList.drop 0 = dktX3_code_0 := by decide +kernel
theorem dksX3_code_1 : cX3_code.data.toList.drop 24 = dktX3_code_1 := dk_seg dksX3_code_0 24 rfl rfl
theorem dksX3_code_2 : cX3_code.data.toList.drop 48 = dktX3_code_2 := dk_seg dksX3_code_1 24 rfl rfl
theorem dX3_code_0 : decode cX3_code 0 = .ok (.aload_n 0, 1) := dk_42 (dk_at dksX3_code_0 0 rfl rfl)
theorem dX3_code_1 : decode cX3_code 1 = .ok (.iload_n 1, 1) := dk_27 (dk_at dksX3_code_0 1 rfl rfl)
theorem dX3_code_2 : decode cX3_code 2 = .ok (.iload_n 2, 1) := dk_28 (dk_at dksX3_code_0 2 rfl rfl)
theorem dX3_code_3 : decode cX3_code 3 = .ok (.invokevirtual 227, 3) := dk_182 0 227 (dk_at dksX3_code_0 3 rfl rfl)
theorem dX3_code_6 : decode cX3_code 6 = .ok (.istore 4, 2) := dk_54 4 (dk_at dksX3_code_0 6 rfl rfl)
theorem dX3_code_8 : decode cX3_code 8 = .ok (.iload 4, 2) := dk_21 4 (dk_at dksX3_code_0 8 rfl rfl)
theorem dX3_code_10 : decode cX3_code 10 = .ok (.iconst (-1), 1) := dk_2 (dk_at dksX3_code_0 10 rfl rfl)
theorem dX3_code_11 : decode cX3_code 11 = .ok (.if_icmp .eq 21, 3) := dk_159 0 21 (dk_at dksX3_code_0 11 rfl rfl)
theorem dX3_code_14 : decode cX3_code 14 = .ok (.iload_n 3, 1) := dk_29 (dk_at dksX3_code_0 14 rfl rfl)
theorem dX3_code_15 : decode cX3_code 15 = .ok (.iconst 0, 1) := dk_3 (dk_at dksX3_code_0 15 rfl rfl)
theorem dX3_code_16 : decode cX3_code 16 = .ok (.aload_n 0, 1) := dk_42 (dk_at dksX3_code_0 16 rfl rfl)
theorem dX3_code_17 : decode cX3_code 17 = .ok (.getfield 7, 3) := dk_180 0 7 (dk_at dksX3_code_0 17 rfl rfl)
theorem dX3_code_20 : decode cX3_code 20 = .ok (.sipush 1042, 3) := dk_17 4 18 (dk_at dksX3_code_0 20 rfl rfl)
theorem dX3_code_23 : decode cX3_code 23 = .ok (.iaload, 1) := dk_46 (dk_at dksX3_code_0 23 rfl rfl)
theorem dX3_code_24 : decode cX3_code 24 = .ok (.iconst 1, 1) := dk_4 (dk_at dksX3_code_1 0 rfl rfl)
theorem dX3_code_25 : decode cX3_code 25 = .ok (.isub, 1) := dk_100 (dk_at dksX3_code_1 1 rfl rfl)
theorem dX3_code_26 : decode cX3_code 26 = .ok (.invokestatic 171, 3) := dk_184 0 171 (dk_at dksX3_code_1 2 rfl rfl)
theorem dX3_code_29 : decode cX3_code 29 = .ok (.ifCond .ne 5, 3) := dk_154 0 5 (dk_at dksX3_code_1 5 rfl rfl)
theorem dX3_code_32 : decode cX3_code 32 = .ok (.iconst (-1), 1) := dk_2 (dk_at dksX3_code_1 8 rfl rfl)
theorem dX3_code_33 : decode cX3_code 33 = .ok (.ireturn, 1) := dk_172 (dk_at dksX3_code_1 9 rfl rfl)
theorem dX3_code_34 : decode cX3_code 34 = .ok (.aload_n 0, 1) := dk_42 (dk_at dksX3_code_1 10 rfl rfl)
theorem dX3_code_35 : decode cX3_code 35 = .ok (.iload 4, 2) := dk_21 4 (dk_at dksX3_code_1 11 rfl rfl)
theorem dX3_code_37 : decode cX3_code 37 = .ok (.invokevirtual 255, 3) := dk_182 0 255 (dk_at dksX3_code_1 13 rfl rfl)
theorem dX3_code_40 : decode cX3_code 40 = .ok (.aload_n 0, 1) := dk_42 (dk_at dksX3_code_1 16 rfl rfl)
theorem dX3_code_41 : decode cX3_code 41 = .ok (.getfield 77, 3) := dk_180 0 77 (dk_at dksX3_code_1 17 rfl rfl)
theorem dX3_code_44 : decode cX3_code 44 = .ok (.bipush 16, 2) := dk_16 16 (dk_at dksX3_code_1 20 rfl rfl)
theorem dX3_code_46 : decode cX3_code 46 = .ok (.iload 4, 2) := dk_21 4 (dk_at dksX3_code_1 22 rfl rfl)
theorem dX3_code_48 : decode cX3_code 48 = .ok (.imul, 1) := dk_104 (dk_at dksX3_code_2 0 rfl rfl)
theorem dX3_code_49 : decode cX3_code 49 = .ok (.iload_n 3, 1) := dk_29 (dk_at dksX3_code_2 1 rfl rfl)
theorem dX3_code_50 : decode cX3_code 50 = .ok (.iadd, 1) := dk_96 (dk_at dksX3_code_2 2 rfl rfl)
theorem dX3_code_51 : decode cX3_code 51 = .ok (.iaload, 1) := dk_46 (dk_at dksX3_code_2 3 rfl rfl)
theorem dX3_code_52 : decode cX3_code 52 = .ok (.ireturn, 1) := dk_172 (dk_at dksX3_code_2 4 rfl rfl)
abbrev cX3_laysCodes : ByteArray := prog_12_method_51_code
def yX3_laysCodes : MethodName := ⟨RX3, "laysCodes", "(I)V"⟩
def dkwX3_laysCodes_4 : List UInt8 := [167, 255, 182, 177]
abbrev dktX3_laysCodes_4 : List UInt8 := dkwX3_laysCodes_4 ++ []
def dkwX3_laysCodes_3 : List UInt8 := [61, 42, 180, 0, 77, 16, 16, 27, 104, 21, 5, 96, 28, 79, 21, 6, 62, 21, 7, 54, 4, 132, 5, 1]
abbrev dktX3_laysCodes_3 : List UInt8 := dkwX3_laysCodes_3 ++ dktX3_laysCodes_4
def dkwX3_laysCodes_2 : List UInt8 := [27, 21, 5, 4, 96, 4, 182, 0, 246, 54, 7, 21, 6, 29, 100, 21, 7, 21, 4, 100, 28, 184, 0, 252]
abbrev dktX3_laysCodes_2 : List UInt8 := dkwX3_laysCodes_2 ++ dktX3_laysCodes_3
def dkwX3_laysCodes_1 : List UInt8 := [42, 180, 0, 7, 17, 4, 18, 46, 162, 0, 67, 42, 27, 21, 5, 4, 96, 3, 182, 0, 246, 54, 6, 42]
abbrev dktX3_laysCodes_1 : List UInt8 := dkwX3_laysCodes_1 ++ dktX3_laysCodes_2
def dkwX3_laysCodes_0 : List UInt8 := [3, 61, 42, 27, 3, 3, 182, 0, 246, 62, 42, 27, 3, 4, 182, 0, 246, 54, 4, 3, 54, 5, 21, 5]
abbrev dktX3_laysCodes_0 : List UInt8 := dkwX3_laysCodes_0 ++ dktX3_laysCodes_1
theorem dksX3_laysCodes_0 : cX3_laysCodes.data.toList.drop 0 = dktX3_laysCodes_0 := by decide +kernel
theorem dksX3_laysCodes_1 : cX3_laysCodes.data.toList.drop 24 = dktX3_laysCodes_1 := dk_seg dksX3_laysCodes_0 24 rfl rfl
theorem dksX3_laysCodes_2 : cX3_laysCodes.data.toList.drop 48 = dktX3_laysCodes_2 := dk_seg dksX3_laysCodes_1 24 rfl rfl
theorem dksX3_laysCodes_3 : cX3_laysCodes.data.toList.drop 72 = dktX3_laysCodes_3 := dk_seg dksX3_laysCodes_2 24 rfl rfl
theorem dksX3_laysCodes_4 : cX3_laysCodes.data.toList.drop 96 = dktX3_laysCodes_4 := dk_seg dksX3_laysCodes_3 24 rfl rfl
theorem dX3_laysCodes_0 : decode cX3_laysCodes 0 = .ok (.iconst 0, 1) := dk_3 (dk_at dksX3_laysCodes_0 0 rfl rfl)
theorem dX3_laysCodes_1 : decode cX3_laysCodes 1 = .ok (.istore_n 2, 1) := dk_61 (dk_at dksX3_laysCodes_0 1 rfl rfl)
theorem dX3_laysCodes_2 : decode cX3_laysCodes 2 = .ok (.aload_n 0, 1) := dk_42 (dk_at dksX3_laysCodes_0 2 rfl rfl)
theorem dX3_laysCodes_3 : decode cX3_laysCodes 3 = .ok (.iload_n 1, 1) := dk_27 (dk_at dksX3_laysCodes_0 3 rfl rfl)
theorem dX3_laysCodes_4 : decode cX3_laysCodes 4 = .ok (.iconst 0, 1) := dk_3 (dk_at dksX3_laysCodes_0 4 rfl rfl)
theorem dX3_laysCodes_5 : decode cX3_laysCodes 5 = .ok (.iconst 0, 1) := dk_3 (dk_at dksX3_laysCodes_0 5 rfl rfl)
theorem dX3_laysCodes_6 : decode cX3_laysCodes 6 = .ok (.invokevirtual 246, 3) := dk_182 0 246 (dk_at dksX3_laysCodes_0 6 rfl rfl)
theorem dX3_laysCodes_9 : decode cX3_laysCodes 9 = .ok (.istore_n 3, 1) := dk_62 (dk_at dksX3_laysCodes_0 9 rfl rfl)
theorem dX3_laysCodes_10 : decode cX3_laysCodes 10 = .ok (.aload_n 0, 1) := dk_42 (dk_at dksX3_laysCodes_0 10 rfl rfl)
theorem dX3_laysCodes_11 : decode cX3_laysCodes 11 = .ok (.iload_n 1, 1) := dk_27 (dk_at dksX3_laysCodes_0 11 rfl rfl)
theorem dX3_laysCodes_12 : decode cX3_laysCodes 12 = .ok (.iconst 0, 1) := dk_3 (dk_at dksX3_laysCodes_0 12 rfl rfl)
theorem dX3_laysCodes_13 : decode cX3_laysCodes 13 = .ok (.iconst 1, 1) := dk_4 (dk_at dksX3_laysCodes_0 13 rfl rfl)
theorem dX3_laysCodes_14 : decode cX3_laysCodes 14 = .ok (.invokevirtual 246, 3) := dk_182 0 246 (dk_at dksX3_laysCodes_0 14 rfl rfl)
theorem dX3_laysCodes_17 : decode cX3_laysCodes 17 = .ok (.istore 4, 2) := dk_54 4 (dk_at dksX3_laysCodes_0 17 rfl rfl)
theorem dX3_laysCodes_19 : decode cX3_laysCodes 19 = .ok (.iconst 0, 1) := dk_3 (dk_at dksX3_laysCodes_0 19 rfl rfl)
theorem dX3_laysCodes_20 : decode cX3_laysCodes 20 = .ok (.istore 5, 2) := dk_54 5 (dk_at dksX3_laysCodes_0 20 rfl rfl)
theorem dX3_laysCodes_22 : decode cX3_laysCodes 22 = .ok (.iload 5, 2) := dk_21 5 (dk_at dksX3_laysCodes_0 22 rfl rfl)
theorem dX3_laysCodes_24 : decode cX3_laysCodes 24 = .ok (.aload_n 0, 1) := dk_42 (dk_at dksX3_laysCodes_1 0 rfl rfl)
theorem dX3_laysCodes_25 : decode cX3_laysCodes 25 = .ok (.getfield 7, 3) := dk_180 0 7 (dk_at dksX3_laysCodes_1 1 rfl rfl)
theorem dX3_laysCodes_28 : decode cX3_laysCodes 28 = .ok (.sipush 1042, 3) := dk_17 4 18 (dk_at dksX3_laysCodes_1 4 rfl rfl)
theorem dX3_laysCodes_31 : decode cX3_laysCodes 31 = .ok (.iaload, 1) := dk_46 (dk_at dksX3_laysCodes_1 7 rfl rfl)
theorem dX3_laysCodes_32 : decode cX3_laysCodes 32 = .ok (.if_icmp .ge 67, 3) := dk_162 0 67 (dk_at dksX3_laysCodes_1 8 rfl rfl)
theorem dX3_laysCodes_35 : decode cX3_laysCodes 35 = .ok (.aload_n 0, 1) := dk_42 (dk_at dksX3_laysCodes_1 11 rfl rfl)
theorem dX3_laysCodes_36 : decode cX3_laysCodes 36 = .ok (.iload_n 1, 1) := dk_27 (dk_at dksX3_laysCodes_1 12 rfl rfl)
theorem dX3_laysCodes_37 : decode cX3_laysCodes 37 = .ok (.iload 5, 2) := dk_21 5 (dk_at dksX3_laysCodes_1 13 rfl rfl)
theorem dX3_laysCodes_39 : decode cX3_laysCodes 39 = .ok (.iconst 1, 1) := dk_4 (dk_at dksX3_laysCodes_1 15 rfl rfl)
theorem dX3_laysCodes_40 : decode cX3_laysCodes 40 = .ok (.iadd, 1) := dk_96 (dk_at dksX3_laysCodes_1 16 rfl rfl)
theorem dX3_laysCodes_41 : decode cX3_laysCodes 41 = .ok (.iconst 0, 1) := dk_3 (dk_at dksX3_laysCodes_1 17 rfl rfl)
theorem dX3_laysCodes_42 : decode cX3_laysCodes 42 = .ok (.invokevirtual 246, 3) := dk_182 0 246 (dk_at dksX3_laysCodes_1 18 rfl rfl)
theorem dX3_laysCodes_45 : decode cX3_laysCodes 45 = .ok (.istore 6, 2) := dk_54 6 (dk_at dksX3_laysCodes_1 21 rfl rfl)
theorem dX3_laysCodes_47 : decode cX3_laysCodes 47 = .ok (.aload_n 0, 1) := dk_42 (dk_at dksX3_laysCodes_1 23 rfl rfl)
theorem dX3_laysCodes_48 : decode cX3_laysCodes 48 = .ok (.iload_n 1, 1) := dk_27 (dk_at dksX3_laysCodes_2 0 rfl rfl)
theorem dX3_laysCodes_49 : decode cX3_laysCodes 49 = .ok (.iload 5, 2) := dk_21 5 (dk_at dksX3_laysCodes_2 1 rfl rfl)
theorem dX3_laysCodes_51 : decode cX3_laysCodes 51 = .ok (.iconst 1, 1) := dk_4 (dk_at dksX3_laysCodes_2 3 rfl rfl)
theorem dX3_laysCodes_52 : decode cX3_laysCodes 52 = .ok (.iadd, 1) := dk_96 (dk_at dksX3_laysCodes_2 4 rfl rfl)
theorem dX3_laysCodes_53 : decode cX3_laysCodes 53 = .ok (.iconst 1, 1) := dk_4 (dk_at dksX3_laysCodes_2 5 rfl rfl)
theorem dX3_laysCodes_54 : decode cX3_laysCodes 54 = .ok (.invokevirtual 246, 3) := dk_182 0 246 (dk_at dksX3_laysCodes_2 6 rfl rfl)
theorem dX3_laysCodes_57 : decode cX3_laysCodes 57 = .ok (.istore 7, 2) := dk_54 7 (dk_at dksX3_laysCodes_2 9 rfl rfl)
theorem dX3_laysCodes_59 : decode cX3_laysCodes 59 = .ok (.iload 6, 2) := dk_21 6 (dk_at dksX3_laysCodes_2 11 rfl rfl)
theorem dX3_laysCodes_61 : decode cX3_laysCodes 61 = .ok (.iload_n 3, 1) := dk_29 (dk_at dksX3_laysCodes_2 13 rfl rfl)
theorem dX3_laysCodes_62 : decode cX3_laysCodes 62 = .ok (.isub, 1) := dk_100 (dk_at dksX3_laysCodes_2 14 rfl rfl)
theorem dX3_laysCodes_63 : decode cX3_laysCodes 63 = .ok (.iload 7, 2) := dk_21 7 (dk_at dksX3_laysCodes_2 15 rfl rfl)
theorem dX3_laysCodes_65 : decode cX3_laysCodes 65 = .ok (.iload 4, 2) := dk_21 4 (dk_at dksX3_laysCodes_2 17 rfl rfl)
theorem dX3_laysCodes_67 : decode cX3_laysCodes 67 = .ok (.isub, 1) := dk_100 (dk_at dksX3_laysCodes_2 19 rfl rfl)
theorem dX3_laysCodes_68 : decode cX3_laysCodes 68 = .ok (.iload_n 2, 1) := dk_28 (dk_at dksX3_laysCodes_2 20 rfl rfl)
theorem dX3_laysCodes_69 : decode cX3_laysCodes 69 = .ok (.invokestatic 252, 3) := dk_184 0 252 (dk_at dksX3_laysCodes_2 21 rfl rfl)
theorem dX3_laysCodes_72 : decode cX3_laysCodes 72 = .ok (.istore_n 2, 1) := dk_61 (dk_at dksX3_laysCodes_3 0 rfl rfl)
theorem dX3_laysCodes_73 : decode cX3_laysCodes 73 = .ok (.aload_n 0, 1) := dk_42 (dk_at dksX3_laysCodes_3 1 rfl rfl)
theorem dX3_laysCodes_74 : decode cX3_laysCodes 74 = .ok (.getfield 77, 3) := dk_180 0 77 (dk_at dksX3_laysCodes_3 2 rfl rfl)
theorem dX3_laysCodes_77 : decode cX3_laysCodes 77 = .ok (.bipush 16, 2) := dk_16 16 (dk_at dksX3_laysCodes_3 5 rfl rfl)
theorem dX3_laysCodes_79 : decode cX3_laysCodes 79 = .ok (.iload_n 1, 1) := dk_27 (dk_at dksX3_laysCodes_3 7 rfl rfl)
theorem dX3_laysCodes_80 : decode cX3_laysCodes 80 = .ok (.imul, 1) := dk_104 (dk_at dksX3_laysCodes_3 8 rfl rfl)
theorem dX3_laysCodes_81 : decode cX3_laysCodes 81 = .ok (.iload 5, 2) := dk_21 5 (dk_at dksX3_laysCodes_3 9 rfl rfl)
theorem dX3_laysCodes_83 : decode cX3_laysCodes 83 = .ok (.iadd, 1) := dk_96 (dk_at dksX3_laysCodes_3 11 rfl rfl)
theorem dX3_laysCodes_84 : decode cX3_laysCodes 84 = .ok (.iload_n 2, 1) := dk_28 (dk_at dksX3_laysCodes_3 12 rfl rfl)
theorem dX3_laysCodes_85 : decode cX3_laysCodes 85 = .ok (.iastore, 1) := dk_79 (dk_at dksX3_laysCodes_3 13 rfl rfl)
theorem dX3_laysCodes_86 : decode cX3_laysCodes 86 = .ok (.iload 6, 2) := dk_21 6 (dk_at dksX3_laysCodes_3 14 rfl rfl)
theorem dX3_laysCodes_88 : decode cX3_laysCodes 88 = .ok (.istore_n 3, 1) := dk_62 (dk_at dksX3_laysCodes_3 16 rfl rfl)
theorem dX3_laysCodes_89 : decode cX3_laysCodes 89 = .ok (.iload 7, 2) := dk_21 7 (dk_at dksX3_laysCodes_3 17 rfl rfl)
theorem dX3_laysCodes_91 : decode cX3_laysCodes 91 = .ok (.istore 4, 2) := dk_54 4 (dk_at dksX3_laysCodes_3 19 rfl rfl)
theorem dX3_laysCodes_93 : decode cX3_laysCodes 93 = .ok (.iinc 5 1, 3) := dk_132 5 1 (dk_at dksX3_laysCodes_3 21 rfl rfl)
theorem dX3_laysCodes_96 : decode cX3_laysCodes 96 = .ok (.goto (-74), 3) := dk_167 255 182 (dk_at dksX3_laysCodes_4 0 rfl rfl)
theorem dX3_laysCodes_99 : decode cX3_laysCodes 99 = .ok (.return_, 1) := dk_177 (dk_at dksX3_laysCodes_4 3 rfl rfl)
abbrev cX3_codeOf : ByteArray := prog_12_method_50_code
def yX3_codeOf : MethodName := ⟨RX3, "codeOf", "(III)I"⟩
def dkwX3_codeOf_3 : List UInt8 := [158, 0, 7, 4, 167, 0, 17, 6, 167, 0, 13, 26, 156, 0, 7, 8, 167, 0, 5, 16, 7, 172]
abbrev dktX3_codeOf_3 : List UInt8 := dkwX3_codeOf_3 ++ []
def dkwX3_codeOf_2 : List UInt8 := [184, 0, 249, 104, 163, 0, 14, 27, 158, 0, 7, 5, 167, 0, 5, 16, 6, 172, 27, 158, 0, 15, 26]
abbrev dktX3_codeOf_2 : List UInt8 := dkwX3_codeOf_2 ++ dktX3_codeOf_3
def dkwX3_codeOf_1 : List UInt8 := [163, 0, 13, 26, 158, 0, 7, 3, 167, 0, 4, 7, 172, 16, 70, 26, 184, 0, 249, 104, 16, 29, 27]
abbrev dktX3_codeOf_1 : List UInt8 := dkwX3_codeOf_1 ++ dktX3_codeOf_2
def dkwX3_codeOf_0 : List UInt8 := [26, 154, 0, 9, 27, 154, 0, 5, 28, 172, 16, 70, 27, 184, 0, 249, 104, 16, 29, 26, 184, 0, 249, 104]
abbrev dktX3_codeOf_0 : List UInt8 := dkwX3_codeOf_0 ++ dktX3_codeOf_1
theorem dksX3_codeOf_0 : cX3_codeOf.data.toList.drop 0 = dktX3_codeOf_0 := by decide +kernel
theorem dksX3_codeOf_1 : cX3_codeOf.data.toList.drop 24 = dktX3_codeOf_1 := dk_seg dksX3_codeOf_0 24 rfl rfl
theorem dksX3_codeOf_2 : cX3_codeOf.data.toList.drop 47 = dktX3_codeOf_2 := dk_seg dksX3_codeOf_1 23 rfl rfl
theorem dksX3_codeOf_3 : cX3_codeOf.data.toList.drop 70 = dktX3_codeOf_3 := dk_seg dksX3_codeOf_2 23 rfl rfl
theorem dX3_codeOf_0 : decode cX3_codeOf 0 = .ok (.iload_n 0, 1) := dk_26 (dk_at dksX3_codeOf_0 0 rfl rfl)
theorem dX3_codeOf_1 : decode cX3_codeOf 1 = .ok (.ifCond .ne 9, 3) := dk_154 0 9 (dk_at dksX3_codeOf_0 1 rfl rfl)
theorem dX3_codeOf_4 : decode cX3_codeOf 4 = .ok (.iload_n 1, 1) := dk_27 (dk_at dksX3_codeOf_0 4 rfl rfl)
theorem dX3_codeOf_5 : decode cX3_codeOf 5 = .ok (.ifCond .ne 5, 3) := dk_154 0 5 (dk_at dksX3_codeOf_0 5 rfl rfl)
theorem dX3_codeOf_8 : decode cX3_codeOf 8 = .ok (.iload_n 2, 1) := dk_28 (dk_at dksX3_codeOf_0 8 rfl rfl)
theorem dX3_codeOf_9 : decode cX3_codeOf 9 = .ok (.ireturn, 1) := dk_172 (dk_at dksX3_codeOf_0 9 rfl rfl)
theorem dX3_codeOf_10 : decode cX3_codeOf 10 = .ok (.bipush 70, 2) := dk_16 70 (dk_at dksX3_codeOf_0 10 rfl rfl)
theorem dX3_codeOf_12 : decode cX3_codeOf 12 = .ok (.iload_n 1, 1) := dk_27 (dk_at dksX3_codeOf_0 12 rfl rfl)
theorem dX3_codeOf_13 : decode cX3_codeOf 13 = .ok (.invokestatic 249, 3) := dk_184 0 249 (dk_at dksX3_codeOf_0 13 rfl rfl)
theorem dX3_codeOf_16 : decode cX3_codeOf 16 = .ok (.imul, 1) := dk_104 (dk_at dksX3_codeOf_0 16 rfl rfl)
theorem dX3_codeOf_17 : decode cX3_codeOf 17 = .ok (.bipush 29, 2) := dk_16 29 (dk_at dksX3_codeOf_0 17 rfl rfl)
theorem dX3_codeOf_19 : decode cX3_codeOf 19 = .ok (.iload_n 0, 1) := dk_26 (dk_at dksX3_codeOf_0 19 rfl rfl)
theorem dX3_codeOf_20 : decode cX3_codeOf 20 = .ok (.invokestatic 249, 3) := dk_184 0 249 (dk_at dksX3_codeOf_0 20 rfl rfl)
theorem dX3_codeOf_23 : decode cX3_codeOf 23 = .ok (.imul, 1) := dk_104 (dk_at dksX3_codeOf_0 23 rfl rfl)
theorem dX3_codeOf_24 : decode cX3_codeOf 24 = .ok (.if_icmp .gt 13, 3) := dk_163 0 13 (dk_at dksX3_codeOf_1 0 rfl rfl)
theorem dX3_codeOf_27 : decode cX3_codeOf 27 = .ok (.iload_n 0, 1) := dk_26 (dk_at dksX3_codeOf_1 3 rfl rfl)
theorem dX3_codeOf_28 : decode cX3_codeOf 28 = .ok (.ifCond .le 7, 3) := dk_158 0 7 (dk_at dksX3_codeOf_1 4 rfl rfl)
theorem dX3_codeOf_31 : decode cX3_codeOf 31 = .ok (.iconst 0, 1) := dk_3 (dk_at dksX3_codeOf_1 7 rfl rfl)
theorem dX3_codeOf_32 : decode cX3_codeOf 32 = .ok (.goto 4, 3) := dk_167 0 4 (dk_at dksX3_codeOf_1 8 rfl rfl)
theorem dX3_codeOf_35 : decode cX3_codeOf 35 = .ok (.iconst 4, 1) := dk_7 (dk_at dksX3_codeOf_1 11 rfl rfl)
theorem dX3_codeOf_36 : decode cX3_codeOf 36 = .ok (.ireturn, 1) := dk_172 (dk_at dksX3_codeOf_1 12 rfl rfl)
theorem dX3_codeOf_37 : decode cX3_codeOf 37 = .ok (.bipush 70, 2) := dk_16 70 (dk_at dksX3_codeOf_1 13 rfl rfl)
theorem dX3_codeOf_39 : decode cX3_codeOf 39 = .ok (.iload_n 0, 1) := dk_26 (dk_at dksX3_codeOf_1 15 rfl rfl)
theorem dX3_codeOf_40 : decode cX3_codeOf 40 = .ok (.invokestatic 249, 3) := dk_184 0 249 (dk_at dksX3_codeOf_1 16 rfl rfl)
theorem dX3_codeOf_43 : decode cX3_codeOf 43 = .ok (.imul, 1) := dk_104 (dk_at dksX3_codeOf_1 19 rfl rfl)
theorem dX3_codeOf_44 : decode cX3_codeOf 44 = .ok (.bipush 29, 2) := dk_16 29 (dk_at dksX3_codeOf_1 20 rfl rfl)
theorem dX3_codeOf_46 : decode cX3_codeOf 46 = .ok (.iload_n 1, 1) := dk_27 (dk_at dksX3_codeOf_1 22 rfl rfl)
theorem dX3_codeOf_47 : decode cX3_codeOf 47 = .ok (.invokestatic 249, 3) := dk_184 0 249 (dk_at dksX3_codeOf_2 0 rfl rfl)
theorem dX3_codeOf_50 : decode cX3_codeOf 50 = .ok (.imul, 1) := dk_104 (dk_at dksX3_codeOf_2 3 rfl rfl)
theorem dX3_codeOf_51 : decode cX3_codeOf 51 = .ok (.if_icmp .gt 14, 3) := dk_163 0 14 (dk_at dksX3_codeOf_2 4 rfl rfl)
theorem dX3_codeOf_54 : decode cX3_codeOf 54 = .ok (.iload_n 1, 1) := dk_27 (dk_at dksX3_codeOf_2 7 rfl rfl)
theorem dX3_codeOf_55 : decode cX3_codeOf 55 = .ok (.ifCond .le 7, 3) := dk_158 0 7 (dk_at dksX3_codeOf_2 8 rfl rfl)
theorem dX3_codeOf_58 : decode cX3_codeOf 58 = .ok (.iconst 2, 1) := dk_5 (dk_at dksX3_codeOf_2 11 rfl rfl)
theorem dX3_codeOf_59 : decode cX3_codeOf 59 = .ok (.goto 5, 3) := dk_167 0 5 (dk_at dksX3_codeOf_2 12 rfl rfl)
theorem dX3_codeOf_62 : decode cX3_codeOf 62 = .ok (.bipush 6, 2) := dk_16 6 (dk_at dksX3_codeOf_2 15 rfl rfl)
theorem dX3_codeOf_64 : decode cX3_codeOf 64 = .ok (.ireturn, 1) := dk_172 (dk_at dksX3_codeOf_2 17 rfl rfl)
theorem dX3_codeOf_65 : decode cX3_codeOf 65 = .ok (.iload_n 1, 1) := dk_27 (dk_at dksX3_codeOf_2 18 rfl rfl)
theorem dX3_codeOf_66 : decode cX3_codeOf 66 = .ok (.ifCond .le 15, 3) := dk_158 0 15 (dk_at dksX3_codeOf_2 19 rfl rfl)
theorem dX3_codeOf_69 : decode cX3_codeOf 69 = .ok (.iload_n 0, 1) := dk_26 (dk_at dksX3_codeOf_2 22 rfl rfl)
theorem dX3_codeOf_70 : decode cX3_codeOf 70 = .ok (.ifCond .le 7, 3) := dk_158 0 7 (dk_at dksX3_codeOf_3 0 rfl rfl)
theorem dX3_codeOf_73 : decode cX3_codeOf 73 = .ok (.iconst 1, 1) := dk_4 (dk_at dksX3_codeOf_3 3 rfl rfl)
theorem dX3_codeOf_74 : decode cX3_codeOf 74 = .ok (.goto 17, 3) := dk_167 0 17 (dk_at dksX3_codeOf_3 4 rfl rfl)
theorem dX3_codeOf_77 : decode cX3_codeOf 77 = .ok (.iconst 3, 1) := dk_6 (dk_at dksX3_codeOf_3 7 rfl rfl)
theorem dX3_codeOf_78 : decode cX3_codeOf 78 = .ok (.goto 13, 3) := dk_167 0 13 (dk_at dksX3_codeOf_3 8 rfl rfl)
theorem dX3_codeOf_81 : decode cX3_codeOf 81 = .ok (.iload_n 0, 1) := dk_26 (dk_at dksX3_codeOf_3 11 rfl rfl)
theorem dX3_codeOf_82 : decode cX3_codeOf 82 = .ok (.ifCond .ge 7, 3) := dk_156 0 7 (dk_at dksX3_codeOf_3 12 rfl rfl)
theorem dX3_codeOf_85 : decode cX3_codeOf 85 = .ok (.iconst 5, 1) := dk_8 (dk_at dksX3_codeOf_3 15 rfl rfl)
theorem dX3_codeOf_86 : decode cX3_codeOf 86 = .ok (.goto 5, 3) := dk_167 0 5 (dk_at dksX3_codeOf_3 16 rfl rfl)
theorem dX3_codeOf_89 : decode cX3_codeOf 89 = .ok (.bipush 7, 2) := dk_16 7 (dk_at dksX3_codeOf_3 19 rfl rfl)
theorem dX3_codeOf_91 : decode cX3_codeOf 91 = .ok (.ireturn, 1) := dk_172 (dk_at dksX3_codeOf_3 21 rfl rfl)
abbrev cX3_plain : ByteArray := prog_12_method_4_code
def yX3_plain : MethodName := ⟨RX3, "plain", "(I)I"⟩
def dkwX3_plain_0 : List UInt8 := [26, 156, 0, 8, 26, 116, 167, 0, 4, 26, 172]
abbrev dktX3_plain_0 : List UInt8 := dkwX3_plain_0 ++ []
theorem dksX3_plain_0 : cX3_plain.data.toList.drop 0 = dktX3_plain_0 := by decide +kernel
theorem dX3_plain_0 : decode cX3_plain 0 = .ok (.iload_n 0, 1) := dk_26 (dk_at dksX3_plain_0 0 rfl rfl)
theorem dX3_plain_1 : decode cX3_plain 1 = .ok (.ifCond .ge 8, 3) := dk_156 0 8 (dk_at dksX3_plain_0 1 rfl rfl)
theorem dX3_plain_4 : decode cX3_plain 4 = .ok (.iload_n 0, 1) := dk_26 (dk_at dksX3_plain_0 4 rfl rfl)
theorem dX3_plain_5 : decode cX3_plain 5 = .ok (.ineg, 1) := dk_116 (dk_at dksX3_plain_0 5 rfl rfl)
theorem dX3_plain_6 : decode cX3_plain 6 = .ok (.goto 4, 3) := dk_167 0 4 (dk_at dksX3_plain_0 6 rfl rfl)
theorem dX3_plain_9 : decode cX3_plain 9 = .ok (.iload_n 0, 1) := dk_26 (dk_at dksX3_plain_0 9 rfl rfl)
theorem dX3_plain_10 : decode cX3_plain 10 = .ok (.ireturn, 1) := dk_172 (dk_at dksX3_plain_0 10 rfl rfl)
abbrev cX3_bends : ByteArray := prog_12_method_55_code
def yX3_bends : MethodName := ⟨RX3, "bends", "(II)I"⟩
def dkwX3_bends_3 : List UInt8 := [184, 1, 5, 96, 54, 4, 132, 5, 1, 167, 255, 204, 21, 4, 172]
abbrev dktX3_bends_3 : List UInt8 := dkwX3_bends_3 ++ []
def dkwX3_bends_2 : List UInt8 := [16, 16, 29, 104, 21, 5, 96, 46, 42, 180, 0, 77, 16, 16, 29, 104, 21, 5, 96, 4, 96, 46]
abbrev dktX3_bends_2 : List UInt8 := dkwX3_bends_2 ++ dktX3_bends_3
def dkwX3_bends_1 : List UInt8 := [54, 5, 21, 5, 4, 96, 42, 180, 0, 7, 17, 4, 18, 46, 162, 0, 43, 21, 4, 42, 180, 0, 77]
abbrev dktX3_bends_1 : List UInt8 := dkwX3_bends_1 ++ dktX3_bends_2
def dkwX3_bends_0 : List UInt8 := [42, 27, 28, 182, 0, 227, 62, 29, 2, 160, 0, 5, 2, 172, 42, 29, 182, 0, 255, 3, 54, 4, 3]
abbrev dktX3_bends_0 : List UInt8 := dkwX3_bends_0 ++ dktX3_bends_1
theorem dksX3_bends_0 : cX3_bends.data.toList.drop 0 = dktX3_bends_0 := by decide +kernel
theorem dksX3_bends_1 : cX3_bends.data.toList.drop 23 = dktX3_bends_1 := dk_seg dksX3_bends_0 23 rfl rfl
theorem dksX3_bends_2 : cX3_bends.data.toList.drop 46 = dktX3_bends_2 := dk_seg dksX3_bends_1 23 rfl rfl
theorem dksX3_bends_3 : cX3_bends.data.toList.drop 68 = dktX3_bends_3 := dk_seg dksX3_bends_2 22 rfl rfl
theorem dX3_bends_0 : decode cX3_bends 0 = .ok (.aload_n 0, 1) := dk_42 (dk_at dksX3_bends_0 0 rfl rfl)
theorem dX3_bends_1 : decode cX3_bends 1 = .ok (.iload_n 1, 1) := dk_27 (dk_at dksX3_bends_0 1 rfl rfl)
theorem dX3_bends_2 : decode cX3_bends 2 = .ok (.iload_n 2, 1) := dk_28 (dk_at dksX3_bends_0 2 rfl rfl)
theorem dX3_bends_3 : decode cX3_bends 3 = .ok (.invokevirtual 227, 3) := dk_182 0 227 (dk_at dksX3_bends_0 3 rfl rfl)
theorem dX3_bends_6 : decode cX3_bends 6 = .ok (.istore_n 3, 1) := dk_62 (dk_at dksX3_bends_0 6 rfl rfl)
theorem dX3_bends_7 : decode cX3_bends 7 = .ok (.iload_n 3, 1) := dk_29 (dk_at dksX3_bends_0 7 rfl rfl)
theorem dX3_bends_8 : decode cX3_bends 8 = .ok (.iconst (-1), 1) := dk_2 (dk_at dksX3_bends_0 8 rfl rfl)
theorem dX3_bends_9 : decode cX3_bends 9 = .ok (.if_icmp .ne 5, 3) := dk_160 0 5 (dk_at dksX3_bends_0 9 rfl rfl)
theorem dX3_bends_12 : decode cX3_bends 12 = .ok (.iconst (-1), 1) := dk_2 (dk_at dksX3_bends_0 12 rfl rfl)
theorem dX3_bends_13 : decode cX3_bends 13 = .ok (.ireturn, 1) := dk_172 (dk_at dksX3_bends_0 13 rfl rfl)
theorem dX3_bends_14 : decode cX3_bends 14 = .ok (.aload_n 0, 1) := dk_42 (dk_at dksX3_bends_0 14 rfl rfl)
theorem dX3_bends_15 : decode cX3_bends 15 = .ok (.iload_n 3, 1) := dk_29 (dk_at dksX3_bends_0 15 rfl rfl)
theorem dX3_bends_16 : decode cX3_bends 16 = .ok (.invokevirtual 255, 3) := dk_182 0 255 (dk_at dksX3_bends_0 16 rfl rfl)
theorem dX3_bends_19 : decode cX3_bends 19 = .ok (.iconst 0, 1) := dk_3 (dk_at dksX3_bends_0 19 rfl rfl)
theorem dX3_bends_20 : decode cX3_bends 20 = .ok (.istore 4, 2) := dk_54 4 (dk_at dksX3_bends_0 20 rfl rfl)
theorem dX3_bends_22 : decode cX3_bends 22 = .ok (.iconst 0, 1) := dk_3 (dk_at dksX3_bends_0 22 rfl rfl)
theorem dX3_bends_23 : decode cX3_bends 23 = .ok (.istore 5, 2) := dk_54 5 (dk_at dksX3_bends_1 0 rfl rfl)
theorem dX3_bends_25 : decode cX3_bends 25 = .ok (.iload 5, 2) := dk_21 5 (dk_at dksX3_bends_1 2 rfl rfl)
theorem dX3_bends_27 : decode cX3_bends 27 = .ok (.iconst 1, 1) := dk_4 (dk_at dksX3_bends_1 4 rfl rfl)
theorem dX3_bends_28 : decode cX3_bends 28 = .ok (.iadd, 1) := dk_96 (dk_at dksX3_bends_1 5 rfl rfl)
theorem dX3_bends_29 : decode cX3_bends 29 = .ok (.aload_n 0, 1) := dk_42 (dk_at dksX3_bends_1 6 rfl rfl)
theorem dX3_bends_30 : decode cX3_bends 30 = .ok (.getfield 7, 3) := dk_180 0 7 (dk_at dksX3_bends_1 7 rfl rfl)
theorem dX3_bends_33 : decode cX3_bends 33 = .ok (.sipush 1042, 3) := dk_17 4 18 (dk_at dksX3_bends_1 10 rfl rfl)
theorem dX3_bends_36 : decode cX3_bends 36 = .ok (.iaload, 1) := dk_46 (dk_at dksX3_bends_1 13 rfl rfl)
theorem dX3_bends_37 : decode cX3_bends 37 = .ok (.if_icmp .ge 43, 3) := dk_162 0 43 (dk_at dksX3_bends_1 14 rfl rfl)
theorem dX3_bends_40 : decode cX3_bends 40 = .ok (.iload 4, 2) := dk_21 4 (dk_at dksX3_bends_1 17 rfl rfl)
theorem dX3_bends_42 : decode cX3_bends 42 = .ok (.aload_n 0, 1) := dk_42 (dk_at dksX3_bends_1 19 rfl rfl)
theorem dX3_bends_43 : decode cX3_bends 43 = .ok (.getfield 77, 3) := dk_180 0 77 (dk_at dksX3_bends_1 20 rfl rfl)
theorem dX3_bends_46 : decode cX3_bends 46 = .ok (.bipush 16, 2) := dk_16 16 (dk_at dksX3_bends_2 0 rfl rfl)
theorem dX3_bends_48 : decode cX3_bends 48 = .ok (.iload_n 3, 1) := dk_29 (dk_at dksX3_bends_2 2 rfl rfl)
theorem dX3_bends_49 : decode cX3_bends 49 = .ok (.imul, 1) := dk_104 (dk_at dksX3_bends_2 3 rfl rfl)
theorem dX3_bends_50 : decode cX3_bends 50 = .ok (.iload 5, 2) := dk_21 5 (dk_at dksX3_bends_2 4 rfl rfl)
theorem dX3_bends_52 : decode cX3_bends 52 = .ok (.iadd, 1) := dk_96 (dk_at dksX3_bends_2 6 rfl rfl)
theorem dX3_bends_53 : decode cX3_bends 53 = .ok (.iaload, 1) := dk_46 (dk_at dksX3_bends_2 7 rfl rfl)
theorem dX3_bends_54 : decode cX3_bends 54 = .ok (.aload_n 0, 1) := dk_42 (dk_at dksX3_bends_2 8 rfl rfl)
theorem dX3_bends_55 : decode cX3_bends 55 = .ok (.getfield 77, 3) := dk_180 0 77 (dk_at dksX3_bends_2 9 rfl rfl)
theorem dX3_bends_58 : decode cX3_bends 58 = .ok (.bipush 16, 2) := dk_16 16 (dk_at dksX3_bends_2 12 rfl rfl)
theorem dX3_bends_60 : decode cX3_bends 60 = .ok (.iload_n 3, 1) := dk_29 (dk_at dksX3_bends_2 14 rfl rfl)
theorem dX3_bends_61 : decode cX3_bends 61 = .ok (.imul, 1) := dk_104 (dk_at dksX3_bends_2 15 rfl rfl)
theorem dX3_bends_62 : decode cX3_bends 62 = .ok (.iload 5, 2) := dk_21 5 (dk_at dksX3_bends_2 16 rfl rfl)
theorem dX3_bends_64 : decode cX3_bends 64 = .ok (.iadd, 1) := dk_96 (dk_at dksX3_bends_2 18 rfl rfl)
theorem dX3_bends_65 : decode cX3_bends 65 = .ok (.iconst 1, 1) := dk_4 (dk_at dksX3_bends_2 19 rfl rfl)
theorem dX3_bends_66 : decode cX3_bends 66 = .ok (.iadd, 1) := dk_96 (dk_at dksX3_bends_2 20 rfl rfl)
theorem dX3_bends_67 : decode cX3_bends 67 = .ok (.iaload, 1) := dk_46 (dk_at dksX3_bends_2 21 rfl rfl)
theorem dX3_bends_68 : decode cX3_bends 68 = .ok (.invokestatic 261, 3) := dk_184 1 5 (dk_at dksX3_bends_3 0 rfl rfl)
theorem dX3_bends_71 : decode cX3_bends 71 = .ok (.iadd, 1) := dk_96 (dk_at dksX3_bends_3 3 rfl rfl)
theorem dX3_bends_72 : decode cX3_bends 72 = .ok (.istore 4, 2) := dk_54 4 (dk_at dksX3_bends_3 4 rfl rfl)
theorem dX3_bends_74 : decode cX3_bends 74 = .ok (.iinc 5 1, 3) := dk_132 5 1 (dk_at dksX3_bends_3 6 rfl rfl)
theorem dX3_bends_77 : decode cX3_bends 77 = .ok (.goto (-52), 3) := dk_167 255 204 (dk_at dksX3_bends_3 9 rfl rfl)
theorem dX3_bends_80 : decode cX3_bends 80 = .ok (.iload 4, 2) := dk_21 4 (dk_at dksX3_bends_3 12 rfl rfl)
theorem dX3_bends_82 : decode cX3_bends 82 = .ok (.ireturn, 1) := dk_172 (dk_at dksX3_bends_3 14 rfl rfl)
abbrev cX3_apart : ByteArray := prog_12_method_54_code
def yX3_apart : MethodName := ⟨RX3, "apart", "(II)I"⟩
def dkwX3_apart_0 : List UInt8 := [26, 27, 100, 184, 0, 249, 61, 28, 16, 8, 28, 100, 184, 1, 2, 172]
abbrev dktX3_apart_0 : List UInt8 := dkwX3_apart_0 ++ []
theorem dksX3_apart_0 : cX3_apart.data.toList.drop 0 = dktX3_apart_0 := by decide +kernel
theorem dX3_apart_0 : decode cX3_apart 0 = .ok (.iload_n 0, 1) := dk_26 (dk_at dksX3_apart_0 0 rfl rfl)
theorem dX3_apart_1 : decode cX3_apart 1 = .ok (.iload_n 1, 1) := dk_27 (dk_at dksX3_apart_0 1 rfl rfl)
theorem dX3_apart_2 : decode cX3_apart 2 = .ok (.isub, 1) := dk_100 (dk_at dksX3_apart_0 2 rfl rfl)
theorem dX3_apart_3 : decode cX3_apart 3 = .ok (.invokestatic 249, 3) := dk_184 0 249 (dk_at dksX3_apart_0 3 rfl rfl)
theorem dX3_apart_6 : decode cX3_apart 6 = .ok (.istore_n 2, 1) := dk_61 (dk_at dksX3_apart_0 6 rfl rfl)
theorem dX3_apart_7 : decode cX3_apart 7 = .ok (.iload_n 2, 1) := dk_28 (dk_at dksX3_apart_0 7 rfl rfl)
theorem dX3_apart_8 : decode cX3_apart 8 = .ok (.bipush 8, 2) := dk_16 8 (dk_at dksX3_apart_0 8 rfl rfl)
theorem dX3_apart_10 : decode cX3_apart 10 = .ok (.iload_n 2, 1) := dk_28 (dk_at dksX3_apart_0 10 rfl rfl)
theorem dX3_apart_11 : decode cX3_apart 11 = .ok (.isub, 1) := dk_100 (dk_at dksX3_apart_0 11 rfl rfl)
theorem dX3_apart_12 : decode cX3_apart 12 = .ok (.invokestatic 258, 3) := dk_184 1 2 (dk_at dksX3_apart_0 12 rfl rfl)
theorem dX3_apart_15 : decode cX3_apart 15 = .ok (.ireturn, 1) := dk_172 (dk_at dksX3_apart_0 15 rfl rfl)
abbrev cX3_lesser : ByteArray := prog_12_method_2_code
def yX3_lesser : MethodName := ⟨RX3, "lesser", "(II)I"⟩
def dkwX3_lesser_0 : List UInt8 := [26, 27, 162, 0, 7, 26, 167, 0, 4, 27, 172]
abbrev dktX3_lesser_0 : List UInt8 := dkwX3_lesser_0 ++ []
theorem dksX3_lesser_0 : cX3_lesser.data.toList.drop 0 = dktX3_lesser_0 := by decide +kernel
theorem dX3_lesser_0 : decode cX3_lesser 0 = .ok (.iload_n 0, 1) := dk_26 (dk_at dksX3_lesser_0 0 rfl rfl)
theorem dX3_lesser_1 : decode cX3_lesser 1 = .ok (.iload_n 1, 1) := dk_27 (dk_at dksX3_lesser_0 1 rfl rfl)
theorem dX3_lesser_2 : decode cX3_lesser 2 = .ok (.if_icmp .ge 7, 3) := dk_162 0 7 (dk_at dksX3_lesser_0 2 rfl rfl)
theorem dX3_lesser_5 : decode cX3_lesser 5 = .ok (.iload_n 0, 1) := dk_26 (dk_at dksX3_lesser_0 5 rfl rfl)
theorem dX3_lesser_6 : decode cX3_lesser 6 = .ok (.goto 4, 3) := dk_167 0 4 (dk_at dksX3_lesser_0 6 rfl rfl)
theorem dX3_lesser_9 : decode cX3_lesser 9 = .ok (.iload_n 1, 1) := dk_27 (dk_at dksX3_lesser_0 9 rfl rfl)
theorem dX3_lesser_10 : decode cX3_lesser 10 = .ok (.ireturn, 1) := dk_172 (dk_at dksX3_lesser_0 10 rfl rfl)
abbrev cX3_corner : ByteArray := prog_12_method_56_code
def yX3_corner : MethodName := ⟨RX3, "corner", "(III)I"⟩
def dkwX3_corner_4 : List UInt8 := [132, 5, 1, 132, 6, 1, 167, 255, 190, 29, 2, 160, 0, 8, 21, 5, 167, 0, 4, 2, 172]
abbrev dktX3_corner_4 : List UInt8 := dkwX3_corner_4 ++ []
def dkwX3_corner_3 : List UInt8 := [21, 6, 96, 46, 184, 1, 5, 5, 162, 0, 6, 167, 0, 15, 21, 5, 29, 160, 0, 6, 21, 6, 172]
abbrev dktX3_corner_3 : List UInt8 := dkwX3_corner_3 ++ dktX3_corner_4
def dkwX3_corner_2 : List UInt8 := [180, 0, 77, 16, 16, 21, 4, 104, 21, 6, 96, 4, 100, 46, 42, 180, 0, 77, 16, 16, 21, 4, 104]
abbrev dktX3_corner_2 : List UInt8 := dkwX3_corner_2 ++ dktX3_corner_3
def dkwX3_corner_1 : List UInt8 := [182, 0, 255, 3, 54, 5, 4, 54, 6, 21, 6, 42, 180, 0, 7, 17, 4, 18, 46, 162, 0, 59, 42]
abbrev dktX3_corner_1 : List UInt8 := dkwX3_corner_1 ++ dktX3_corner_2
def dkwX3_corner_0 : List UInt8 := [42, 27, 28, 182, 0, 227, 54, 4, 21, 4, 2, 159, 0, 8, 29, 2, 162, 0, 5, 2, 172, 42, 21, 4]
abbrev dktX3_corner_0 : List UInt8 := dkwX3_corner_0 ++ dktX3_corner_1
theorem dksX3_corner_0 : cX3_corner.data.toList.drop 0 = dktX3_corner_0 := by decide +kernel
theorem dksX3_corner_1 : cX3_corner.data.toList.drop 24 = dktX3_corner_1 := dk_seg dksX3_corner_0 24 rfl rfl
theorem dksX3_corner_2 : cX3_corner.data.toList.drop 47 = dktX3_corner_2 := dk_seg dksX3_corner_1 23 rfl rfl
theorem dksX3_corner_3 : cX3_corner.data.toList.drop 70 = dktX3_corner_3 := dk_seg dksX3_corner_2 23 rfl rfl
theorem dksX3_corner_4 : cX3_corner.data.toList.drop 93 = dktX3_corner_4 := dk_seg dksX3_corner_3 23 rfl rfl
theorem dX3_corner_0 : decode cX3_corner 0 = .ok (.aload_n 0, 1) := dk_42 (dk_at dksX3_corner_0 0 rfl rfl)
theorem dX3_corner_1 : decode cX3_corner 1 = .ok (.iload_n 1, 1) := dk_27 (dk_at dksX3_corner_0 1 rfl rfl)
theorem dX3_corner_2 : decode cX3_corner 2 = .ok (.iload_n 2, 1) := dk_28 (dk_at dksX3_corner_0 2 rfl rfl)
theorem dX3_corner_3 : decode cX3_corner 3 = .ok (.invokevirtual 227, 3) := dk_182 0 227 (dk_at dksX3_corner_0 3 rfl rfl)
theorem dX3_corner_6 : decode cX3_corner 6 = .ok (.istore 4, 2) := dk_54 4 (dk_at dksX3_corner_0 6 rfl rfl)
theorem dX3_corner_8 : decode cX3_corner 8 = .ok (.iload 4, 2) := dk_21 4 (dk_at dksX3_corner_0 8 rfl rfl)
theorem dX3_corner_10 : decode cX3_corner 10 = .ok (.iconst (-1), 1) := dk_2 (dk_at dksX3_corner_0 10 rfl rfl)
theorem dX3_corner_11 : decode cX3_corner 11 = .ok (.if_icmp .eq 8, 3) := dk_159 0 8 (dk_at dksX3_corner_0 11 rfl rfl)
theorem dX3_corner_14 : decode cX3_corner 14 = .ok (.iload_n 3, 1) := dk_29 (dk_at dksX3_corner_0 14 rfl rfl)
theorem dX3_corner_15 : decode cX3_corner 15 = .ok (.iconst (-1), 1) := dk_2 (dk_at dksX3_corner_0 15 rfl rfl)
theorem dX3_corner_16 : decode cX3_corner 16 = .ok (.if_icmp .ge 5, 3) := dk_162 0 5 (dk_at dksX3_corner_0 16 rfl rfl)
theorem dX3_corner_19 : decode cX3_corner 19 = .ok (.iconst (-1), 1) := dk_2 (dk_at dksX3_corner_0 19 rfl rfl)
theorem dX3_corner_20 : decode cX3_corner 20 = .ok (.ireturn, 1) := dk_172 (dk_at dksX3_corner_0 20 rfl rfl)
theorem dX3_corner_21 : decode cX3_corner 21 = .ok (.aload_n 0, 1) := dk_42 (dk_at dksX3_corner_0 21 rfl rfl)
theorem dX3_corner_22 : decode cX3_corner 22 = .ok (.iload 4, 2) := dk_21 4 (dk_at dksX3_corner_0 22 rfl rfl)
theorem dX3_corner_24 : decode cX3_corner 24 = .ok (.invokevirtual 255, 3) := dk_182 0 255 (dk_at dksX3_corner_1 0 rfl rfl)
theorem dX3_corner_27 : decode cX3_corner 27 = .ok (.iconst 0, 1) := dk_3 (dk_at dksX3_corner_1 3 rfl rfl)
theorem dX3_corner_28 : decode cX3_corner 28 = .ok (.istore 5, 2) := dk_54 5 (dk_at dksX3_corner_1 4 rfl rfl)
theorem dX3_corner_30 : decode cX3_corner 30 = .ok (.iconst 1, 1) := dk_4 (dk_at dksX3_corner_1 6 rfl rfl)
theorem dX3_corner_31 : decode cX3_corner 31 = .ok (.istore 6, 2) := dk_54 6 (dk_at dksX3_corner_1 7 rfl rfl)
theorem dX3_corner_33 : decode cX3_corner 33 = .ok (.iload 6, 2) := dk_21 6 (dk_at dksX3_corner_1 9 rfl rfl)
theorem dX3_corner_35 : decode cX3_corner 35 = .ok (.aload_n 0, 1) := dk_42 (dk_at dksX3_corner_1 11 rfl rfl)
theorem dX3_corner_36 : decode cX3_corner 36 = .ok (.getfield 7, 3) := dk_180 0 7 (dk_at dksX3_corner_1 12 rfl rfl)
theorem dX3_corner_39 : decode cX3_corner 39 = .ok (.sipush 1042, 3) := dk_17 4 18 (dk_at dksX3_corner_1 15 rfl rfl)
theorem dX3_corner_42 : decode cX3_corner 42 = .ok (.iaload, 1) := dk_46 (dk_at dksX3_corner_1 18 rfl rfl)
theorem dX3_corner_43 : decode cX3_corner 43 = .ok (.if_icmp .ge 59, 3) := dk_162 0 59 (dk_at dksX3_corner_1 19 rfl rfl)
theorem dX3_corner_46 : decode cX3_corner 46 = .ok (.aload_n 0, 1) := dk_42 (dk_at dksX3_corner_1 22 rfl rfl)
theorem dX3_corner_47 : decode cX3_corner 47 = .ok (.getfield 77, 3) := dk_180 0 77 (dk_at dksX3_corner_2 0 rfl rfl)
theorem dX3_corner_50 : decode cX3_corner 50 = .ok (.bipush 16, 2) := dk_16 16 (dk_at dksX3_corner_2 3 rfl rfl)
theorem dX3_corner_52 : decode cX3_corner 52 = .ok (.iload 4, 2) := dk_21 4 (dk_at dksX3_corner_2 5 rfl rfl)
theorem dX3_corner_54 : decode cX3_corner 54 = .ok (.imul, 1) := dk_104 (dk_at dksX3_corner_2 7 rfl rfl)
theorem dX3_corner_55 : decode cX3_corner 55 = .ok (.iload 6, 2) := dk_21 6 (dk_at dksX3_corner_2 8 rfl rfl)
theorem dX3_corner_57 : decode cX3_corner 57 = .ok (.iadd, 1) := dk_96 (dk_at dksX3_corner_2 10 rfl rfl)
theorem dX3_corner_58 : decode cX3_corner 58 = .ok (.iconst 1, 1) := dk_4 (dk_at dksX3_corner_2 11 rfl rfl)
theorem dX3_corner_59 : decode cX3_corner 59 = .ok (.isub, 1) := dk_100 (dk_at dksX3_corner_2 12 rfl rfl)
theorem dX3_corner_60 : decode cX3_corner 60 = .ok (.iaload, 1) := dk_46 (dk_at dksX3_corner_2 13 rfl rfl)
theorem dX3_corner_61 : decode cX3_corner 61 = .ok (.aload_n 0, 1) := dk_42 (dk_at dksX3_corner_2 14 rfl rfl)
theorem dX3_corner_62 : decode cX3_corner 62 = .ok (.getfield 77, 3) := dk_180 0 77 (dk_at dksX3_corner_2 15 rfl rfl)
theorem dX3_corner_65 : decode cX3_corner 65 = .ok (.bipush 16, 2) := dk_16 16 (dk_at dksX3_corner_2 18 rfl rfl)
theorem dX3_corner_67 : decode cX3_corner 67 = .ok (.iload 4, 2) := dk_21 4 (dk_at dksX3_corner_2 20 rfl rfl)
theorem dX3_corner_69 : decode cX3_corner 69 = .ok (.imul, 1) := dk_104 (dk_at dksX3_corner_2 22 rfl rfl)
theorem dX3_corner_70 : decode cX3_corner 70 = .ok (.iload 6, 2) := dk_21 6 (dk_at dksX3_corner_3 0 rfl rfl)
theorem dX3_corner_72 : decode cX3_corner 72 = .ok (.iadd, 1) := dk_96 (dk_at dksX3_corner_3 2 rfl rfl)
theorem dX3_corner_73 : decode cX3_corner 73 = .ok (.iaload, 1) := dk_46 (dk_at dksX3_corner_3 3 rfl rfl)
theorem dX3_corner_74 : decode cX3_corner 74 = .ok (.invokestatic 261, 3) := dk_184 1 5 (dk_at dksX3_corner_3 4 rfl rfl)
theorem dX3_corner_77 : decode cX3_corner 77 = .ok (.iconst 2, 1) := dk_5 (dk_at dksX3_corner_3 7 rfl rfl)
theorem dX3_corner_78 : decode cX3_corner 78 = .ok (.if_icmp .ge 6, 3) := dk_162 0 6 (dk_at dksX3_corner_3 8 rfl rfl)
theorem dX3_corner_81 : decode cX3_corner 81 = .ok (.goto 15, 3) := dk_167 0 15 (dk_at dksX3_corner_3 11 rfl rfl)
theorem dX3_corner_84 : decode cX3_corner 84 = .ok (.iload 5, 2) := dk_21 5 (dk_at dksX3_corner_3 14 rfl rfl)
theorem dX3_corner_86 : decode cX3_corner 86 = .ok (.iload_n 3, 1) := dk_29 (dk_at dksX3_corner_3 16 rfl rfl)
theorem dX3_corner_87 : decode cX3_corner 87 = .ok (.if_icmp .ne 6, 3) := dk_160 0 6 (dk_at dksX3_corner_3 17 rfl rfl)
theorem dX3_corner_90 : decode cX3_corner 90 = .ok (.iload 6, 2) := dk_21 6 (dk_at dksX3_corner_3 20 rfl rfl)
theorem dX3_corner_92 : decode cX3_corner 92 = .ok (.ireturn, 1) := dk_172 (dk_at dksX3_corner_3 22 rfl rfl)
theorem dX3_corner_93 : decode cX3_corner 93 = .ok (.iinc 5 1, 3) := dk_132 5 1 (dk_at dksX3_corner_4 0 rfl rfl)
theorem dX3_corner_96 : decode cX3_corner 96 = .ok (.iinc 6 1, 3) := dk_132 6 1 (dk_at dksX3_corner_4 3 rfl rfl)
theorem dX3_corner_99 : decode cX3_corner 99 = .ok (.goto (-66), 3) := dk_167 255 190 (dk_at dksX3_corner_4 6 rfl rfl)
theorem dX3_corner_102 : decode cX3_corner 102 = .ok (.iload_n 3, 1) := dk_29 (dk_at dksX3_corner_4 9 rfl rfl)
theorem dX3_corner_103 : decode cX3_corner 103 = .ok (.iconst (-1), 1) := dk_2 (dk_at dksX3_corner_4 10 rfl rfl)
theorem dX3_corner_104 : decode cX3_corner 104 = .ok (.if_icmp .ne 8, 3) := dk_160 0 8 (dk_at dksX3_corner_4 11 rfl rfl)
theorem dX3_corner_107 : decode cX3_corner 107 = .ok (.iload 5, 2) := dk_21 5 (dk_at dksX3_corner_4 14 rfl rfl)
theorem dX3_corner_109 : decode cX3_corner 109 = .ok (.goto 4, 3) := dk_167 0 4 (dk_at dksX3_corner_4 16 rfl rfl)
theorem dX3_corner_112 : decode cX3_corner 112 = .ok (.iconst (-1), 1) := dk_2 (dk_at dksX3_corner_4 19 rfl rfl)
theorem dX3_corner_113 : decode cX3_corner 113 = .ok (.ireturn, 1) := dk_172 (dk_at dksX3_corner_4 20 rfl rfl)
abbrev cX3_cell : ByteArray := prog_12_method_59_code
def yX3_cell : MethodName := ⟨RX3, "cell", "(III)I"⟩
def dkwX3_cell_1 : List UInt8 := [21, 4, 42, 27, 182, 0, 224, 42, 27, 182, 0, 221, 29, 182, 1, 15, 167, 0, 4, 2, 172]
abbrev dktX3_cell_1 : List UInt8 := dkwX3_cell_1 ++ []
def dkwX3_cell_0 : List UInt8 := [42, 27, 28, 182, 0, 227, 54, 4, 21, 4, 2, 159, 0, 32, 29, 3, 4, 184, 0, 171, 153, 0, 23, 42]
abbrev dktX3_cell_0 : List UInt8 := dkwX3_cell_0 ++ dktX3_cell_1
theorem dksX3_cell_0 : cX3_cell.data.toList.drop 0 = dktX3_cell_0 := by decide +kernel
theorem dksX3_cell_1 : cX3_cell.data.toList.drop 24 = dktX3_cell_1 := dk_seg dksX3_cell_0 24 rfl rfl
theorem dX3_cell_0 : decode cX3_cell 0 = .ok (.aload_n 0, 1) := dk_42 (dk_at dksX3_cell_0 0 rfl rfl)
theorem dX3_cell_1 : decode cX3_cell 1 = .ok (.iload_n 1, 1) := dk_27 (dk_at dksX3_cell_0 1 rfl rfl)
theorem dX3_cell_2 : decode cX3_cell 2 = .ok (.iload_n 2, 1) := dk_28 (dk_at dksX3_cell_0 2 rfl rfl)
theorem dX3_cell_3 : decode cX3_cell 3 = .ok (.invokevirtual 227, 3) := dk_182 0 227 (dk_at dksX3_cell_0 3 rfl rfl)
theorem dX3_cell_6 : decode cX3_cell 6 = .ok (.istore 4, 2) := dk_54 4 (dk_at dksX3_cell_0 6 rfl rfl)
theorem dX3_cell_8 : decode cX3_cell 8 = .ok (.iload 4, 2) := dk_21 4 (dk_at dksX3_cell_0 8 rfl rfl)
theorem dX3_cell_10 : decode cX3_cell 10 = .ok (.iconst (-1), 1) := dk_2 (dk_at dksX3_cell_0 10 rfl rfl)
theorem dX3_cell_11 : decode cX3_cell 11 = .ok (.if_icmp .eq 32, 3) := dk_159 0 32 (dk_at dksX3_cell_0 11 rfl rfl)
theorem dX3_cell_14 : decode cX3_cell 14 = .ok (.iload_n 3, 1) := dk_29 (dk_at dksX3_cell_0 14 rfl rfl)
theorem dX3_cell_15 : decode cX3_cell 15 = .ok (.iconst 0, 1) := dk_3 (dk_at dksX3_cell_0 15 rfl rfl)
theorem dX3_cell_16 : decode cX3_cell 16 = .ok (.iconst 1, 1) := dk_4 (dk_at dksX3_cell_0 16 rfl rfl)
theorem dX3_cell_17 : decode cX3_cell 17 = .ok (.invokestatic 171, 3) := dk_184 0 171 (dk_at dksX3_cell_0 17 rfl rfl)
theorem dX3_cell_20 : decode cX3_cell 20 = .ok (.ifCond .eq 23, 3) := dk_153 0 23 (dk_at dksX3_cell_0 20 rfl rfl)
theorem dX3_cell_23 : decode cX3_cell 23 = .ok (.aload_n 0, 1) := dk_42 (dk_at dksX3_cell_0 23 rfl rfl)
theorem dX3_cell_24 : decode cX3_cell 24 = .ok (.iload 4, 2) := dk_21 4 (dk_at dksX3_cell_1 0 rfl rfl)
theorem dX3_cell_26 : decode cX3_cell 26 = .ok (.aload_n 0, 1) := dk_42 (dk_at dksX3_cell_1 2 rfl rfl)
theorem dX3_cell_27 : decode cX3_cell 27 = .ok (.iload_n 1, 1) := dk_27 (dk_at dksX3_cell_1 3 rfl rfl)
theorem dX3_cell_28 : decode cX3_cell 28 = .ok (.invokevirtual 224, 3) := dk_182 0 224 (dk_at dksX3_cell_1 4 rfl rfl)
theorem dX3_cell_31 : decode cX3_cell 31 = .ok (.aload_n 0, 1) := dk_42 (dk_at dksX3_cell_1 7 rfl rfl)
theorem dX3_cell_32 : decode cX3_cell 32 = .ok (.iload_n 1, 1) := dk_27 (dk_at dksX3_cell_1 8 rfl rfl)
theorem dX3_cell_33 : decode cX3_cell 33 = .ok (.invokevirtual 221, 3) := dk_182 0 221 (dk_at dksX3_cell_1 9 rfl rfl)
theorem dX3_cell_36 : decode cX3_cell 36 = .ok (.iload_n 3, 1) := dk_29 (dk_at dksX3_cell_1 12 rfl rfl)
theorem dX3_cell_37 : decode cX3_cell 37 = .ok (.invokevirtual 271, 3) := dk_182 1 15 (dk_at dksX3_cell_1 13 rfl rfl)
theorem dX3_cell_40 : decode cX3_cell 40 = .ok (.goto 4, 3) := dk_167 0 4 (dk_at dksX3_cell_1 16 rfl rfl)
theorem dX3_cell_43 : decode cX3_cell 43 = .ok (.iconst (-1), 1) := dk_2 (dk_at dksX3_cell_1 19 rfl rfl)
theorem dX3_cell_44 : decode cX3_cell 44 = .ok (.ireturn, 1) := dk_172 (dk_at dksX3_cell_1 20 rfl rfl)
abbrev cX3_cellOf : ByteArray := prog_12_method_58_code
def yX3_cellOf : MethodName := ⟨RX3, "cellOf", "(IIII)I"⟩
def dkwX3_cellOf_2 : List UInt8 := [21, 5, 104, 100, 104, 5, 21, 6, 21, 5, 100, 104, 4, 96, 108, 172]
abbrev dktX3_cellOf_2 : List UInt8 := dkwX3_cellOf_2 ++ []
def dkwX3_cellOf_1 : List UInt8 := [4, 21, 4, 3, 182, 1, 11, 42, 27, 4, 21, 4, 4, 182, 1, 11, 96, 54, 7, 6, 21, 7, 5]
abbrev dktX3_cellOf_1 : List UInt8 := dkwX3_cellOf_1 ++ dktX3_cellOf_2
def dkwX3_cellOf_0 : List UInt8 := [42, 28, 29, 21, 4, 3, 182, 1, 11, 54, 5, 42, 28, 29, 21, 4, 4, 182, 1, 11, 54, 6, 42, 27]
abbrev dktX3_cellOf_0 : List UInt8 := dkwX3_cellOf_0 ++ dktX3_cellOf_1
theorem dksX3_cellOf_0 : cX3_cellOf.data.toList.drop 0 = dktX3_cellOf_0 := by decide +kernel
theorem dksX3_cellOf_1 : cX3_cellOf.data.toList.drop 24 = dktX3_cellOf_1 := dk_seg dksX3_cellOf_0 24 rfl rfl
theorem dksX3_cellOf_2 : cX3_cellOf.data.toList.drop 47 = dktX3_cellOf_2 := dk_seg dksX3_cellOf_1 23 rfl rfl
theorem dX3_cellOf_0 : decode cX3_cellOf 0 = .ok (.aload_n 0, 1) := dk_42 (dk_at dksX3_cellOf_0 0 rfl rfl)
theorem dX3_cellOf_1 : decode cX3_cellOf 1 = .ok (.iload_n 2, 1) := dk_28 (dk_at dksX3_cellOf_0 1 rfl rfl)
theorem dX3_cellOf_2 : decode cX3_cellOf 2 = .ok (.iload_n 3, 1) := dk_29 (dk_at dksX3_cellOf_0 2 rfl rfl)
theorem dX3_cellOf_3 : decode cX3_cellOf 3 = .ok (.iload 4, 2) := dk_21 4 (dk_at dksX3_cellOf_0 3 rfl rfl)
theorem dX3_cellOf_5 : decode cX3_cellOf 5 = .ok (.iconst 0, 1) := dk_3 (dk_at dksX3_cellOf_0 5 rfl rfl)
theorem dX3_cellOf_6 : decode cX3_cellOf 6 = .ok (.invokevirtual 267, 3) := dk_182 1 11 (dk_at dksX3_cellOf_0 6 rfl rfl)
theorem dX3_cellOf_9 : decode cX3_cellOf 9 = .ok (.istore 5, 2) := dk_54 5 (dk_at dksX3_cellOf_0 9 rfl rfl)
theorem dX3_cellOf_11 : decode cX3_cellOf 11 = .ok (.aload_n 0, 1) := dk_42 (dk_at dksX3_cellOf_0 11 rfl rfl)
theorem dX3_cellOf_12 : decode cX3_cellOf 12 = .ok (.iload_n 2, 1) := dk_28 (dk_at dksX3_cellOf_0 12 rfl rfl)
theorem dX3_cellOf_13 : decode cX3_cellOf 13 = .ok (.iload_n 3, 1) := dk_29 (dk_at dksX3_cellOf_0 13 rfl rfl)
theorem dX3_cellOf_14 : decode cX3_cellOf 14 = .ok (.iload 4, 2) := dk_21 4 (dk_at dksX3_cellOf_0 14 rfl rfl)
theorem dX3_cellOf_16 : decode cX3_cellOf 16 = .ok (.iconst 1, 1) := dk_4 (dk_at dksX3_cellOf_0 16 rfl rfl)
theorem dX3_cellOf_17 : decode cX3_cellOf 17 = .ok (.invokevirtual 267, 3) := dk_182 1 11 (dk_at dksX3_cellOf_0 17 rfl rfl)
theorem dX3_cellOf_20 : decode cX3_cellOf 20 = .ok (.istore 6, 2) := dk_54 6 (dk_at dksX3_cellOf_0 20 rfl rfl)
theorem dX3_cellOf_22 : decode cX3_cellOf 22 = .ok (.aload_n 0, 1) := dk_42 (dk_at dksX3_cellOf_0 22 rfl rfl)
theorem dX3_cellOf_23 : decode cX3_cellOf 23 = .ok (.iload_n 1, 1) := dk_27 (dk_at dksX3_cellOf_0 23 rfl rfl)
theorem dX3_cellOf_24 : decode cX3_cellOf 24 = .ok (.iconst 1, 1) := dk_4 (dk_at dksX3_cellOf_1 0 rfl rfl)
theorem dX3_cellOf_25 : decode cX3_cellOf 25 = .ok (.iload 4, 2) := dk_21 4 (dk_at dksX3_cellOf_1 1 rfl rfl)
theorem dX3_cellOf_27 : decode cX3_cellOf 27 = .ok (.iconst 0, 1) := dk_3 (dk_at dksX3_cellOf_1 3 rfl rfl)
theorem dX3_cellOf_28 : decode cX3_cellOf 28 = .ok (.invokevirtual 267, 3) := dk_182 1 11 (dk_at dksX3_cellOf_1 4 rfl rfl)
theorem dX3_cellOf_31 : decode cX3_cellOf 31 = .ok (.aload_n 0, 1) := dk_42 (dk_at dksX3_cellOf_1 7 rfl rfl)
theorem dX3_cellOf_32 : decode cX3_cellOf 32 = .ok (.iload_n 1, 1) := dk_27 (dk_at dksX3_cellOf_1 8 rfl rfl)
theorem dX3_cellOf_33 : decode cX3_cellOf 33 = .ok (.iconst 1, 1) := dk_4 (dk_at dksX3_cellOf_1 9 rfl rfl)
theorem dX3_cellOf_34 : decode cX3_cellOf 34 = .ok (.iload 4, 2) := dk_21 4 (dk_at dksX3_cellOf_1 10 rfl rfl)
theorem dX3_cellOf_36 : decode cX3_cellOf 36 = .ok (.iconst 1, 1) := dk_4 (dk_at dksX3_cellOf_1 12 rfl rfl)
theorem dX3_cellOf_37 : decode cX3_cellOf 37 = .ok (.invokevirtual 267, 3) := dk_182 1 11 (dk_at dksX3_cellOf_1 13 rfl rfl)
theorem dX3_cellOf_40 : decode cX3_cellOf 40 = .ok (.iadd, 1) := dk_96 (dk_at dksX3_cellOf_1 16 rfl rfl)
theorem dX3_cellOf_41 : decode cX3_cellOf 41 = .ok (.istore 7, 2) := dk_54 7 (dk_at dksX3_cellOf_1 17 rfl rfl)
theorem dX3_cellOf_43 : decode cX3_cellOf 43 = .ok (.iconst 3, 1) := dk_6 (dk_at dksX3_cellOf_1 19 rfl rfl)
theorem dX3_cellOf_44 : decode cX3_cellOf 44 = .ok (.iload 7, 2) := dk_21 7 (dk_at dksX3_cellOf_1 20 rfl rfl)
theorem dX3_cellOf_46 : decode cX3_cellOf 46 = .ok (.iconst 2, 1) := dk_5 (dk_at dksX3_cellOf_1 22 rfl rfl)
theorem dX3_cellOf_47 : decode cX3_cellOf 47 = .ok (.iload 5, 2) := dk_21 5 (dk_at dksX3_cellOf_2 0 rfl rfl)
theorem dX3_cellOf_49 : decode cX3_cellOf 49 = .ok (.imul, 1) := dk_104 (dk_at dksX3_cellOf_2 2 rfl rfl)
theorem dX3_cellOf_50 : decode cX3_cellOf 50 = .ok (.isub, 1) := dk_100 (dk_at dksX3_cellOf_2 3 rfl rfl)
theorem dX3_cellOf_51 : decode cX3_cellOf 51 = .ok (.imul, 1) := dk_104 (dk_at dksX3_cellOf_2 4 rfl rfl)
theorem dX3_cellOf_52 : decode cX3_cellOf 52 = .ok (.iconst 2, 1) := dk_5 (dk_at dksX3_cellOf_2 5 rfl rfl)
theorem dX3_cellOf_53 : decode cX3_cellOf 53 = .ok (.iload 6, 2) := dk_21 6 (dk_at dksX3_cellOf_2 6 rfl rfl)
theorem dX3_cellOf_55 : decode cX3_cellOf 55 = .ok (.iload 5, 2) := dk_21 5 (dk_at dksX3_cellOf_2 8 rfl rfl)
theorem dX3_cellOf_57 : decode cX3_cellOf 57 = .ok (.isub, 1) := dk_100 (dk_at dksX3_cellOf_2 10 rfl rfl)
theorem dX3_cellOf_58 : decode cX3_cellOf 58 = .ok (.imul, 1) := dk_104 (dk_at dksX3_cellOf_2 11 rfl rfl)
theorem dX3_cellOf_59 : decode cX3_cellOf 59 = .ok (.iconst 1, 1) := dk_4 (dk_at dksX3_cellOf_2 12 rfl rfl)
theorem dX3_cellOf_60 : decode cX3_cellOf 60 = .ok (.iadd, 1) := dk_96 (dk_at dksX3_cellOf_2 13 rfl rfl)
theorem dX3_cellOf_61 : decode cX3_cellOf 61 = .ok (.idiv, 1) := dk_108 (dk_at dksX3_cellOf_2 14 rfl rfl)
theorem dX3_cellOf_62 : decode cX3_cellOf 62 = .ok (.ireturn, 1) := dk_172 (dk_at dksX3_cellOf_2 15 rfl rfl)
abbrev cX3_edgeOf : ByteArray := prog_12_method_57_code
def yX3_edgeOf : MethodName := ⟨RX3, "edgeOf", "(IIIZ)I"⟩
def dkwX3_edgeOf_3 : List UInt8 := [54, 5, 132, 7, 1, 167, 255, 204, 132, 6, 1, 167, 255, 187, 21, 5, 172]
abbrev dktX3_edgeOf_3 : List UInt8 := dkwX3_edgeOf_3 ++ []
def dkwX3_edgeOf_2 : List UInt8 := [182, 0, 233, 184, 1, 8, 167, 0, 17, 21, 5, 42, 21, 6, 21, 7, 29, 182, 0, 233, 184, 1, 2]
abbrev dktX3_edgeOf_2 : List UInt8 := dkwX3_edgeOf_2 ++ dktX3_edgeOf_3
def dkwX3_edgeOf_1 : List UInt8 := [21, 7, 42, 21, 6, 182, 0, 230, 162, 0, 47, 21, 4, 153, 0, 20, 21, 5, 42, 21, 6, 21, 7, 29]
abbrev dktX3_edgeOf_1 : List UInt8 := dkwX3_edgeOf_1 ++ dktX3_edgeOf_2
def dkwX3_edgeOf_0 : List UInt8 := [42, 27, 3, 29, 182, 0, 233, 54, 5, 27, 54, 6, 21, 6, 27, 28, 96, 162, 0, 67, 3, 54, 7]
abbrev dktX3_edgeOf_0 : List UInt8 := dkwX3_edgeOf_0 ++ dktX3_edgeOf_1
theorem dksX3_edgeOf_0 : cX3_edgeOf.data.toList.drop 0 = dktX3_edgeOf_0 := by decide +kernel
theorem dksX3_edgeOf_1 : cX3_edgeOf.data.toList.drop 23 = dktX3_edgeOf_1 := dk_seg dksX3_edgeOf_0 23 rfl rfl
theorem dksX3_edgeOf_2 : cX3_edgeOf.data.toList.drop 47 = dktX3_edgeOf_2 := dk_seg dksX3_edgeOf_1 24 rfl rfl
theorem dksX3_edgeOf_3 : cX3_edgeOf.data.toList.drop 70 = dktX3_edgeOf_3 := dk_seg dksX3_edgeOf_2 23 rfl rfl
theorem dX3_edgeOf_0 : decode cX3_edgeOf 0 = .ok (.aload_n 0, 1) := dk_42 (dk_at dksX3_edgeOf_0 0 rfl rfl)
theorem dX3_edgeOf_1 : decode cX3_edgeOf 1 = .ok (.iload_n 1, 1) := dk_27 (dk_at dksX3_edgeOf_0 1 rfl rfl)
theorem dX3_edgeOf_2 : decode cX3_edgeOf 2 = .ok (.iconst 0, 1) := dk_3 (dk_at dksX3_edgeOf_0 2 rfl rfl)
theorem dX3_edgeOf_3 : decode cX3_edgeOf 3 = .ok (.iload_n 3, 1) := dk_29 (dk_at dksX3_edgeOf_0 3 rfl rfl)
theorem dX3_edgeOf_4 : decode cX3_edgeOf 4 = .ok (.invokevirtual 233, 3) := dk_182 0 233 (dk_at dksX3_edgeOf_0 4 rfl rfl)
theorem dX3_edgeOf_7 : decode cX3_edgeOf 7 = .ok (.istore 5, 2) := dk_54 5 (dk_at dksX3_edgeOf_0 7 rfl rfl)
theorem dX3_edgeOf_9 : decode cX3_edgeOf 9 = .ok (.iload_n 1, 1) := dk_27 (dk_at dksX3_edgeOf_0 9 rfl rfl)
theorem dX3_edgeOf_10 : decode cX3_edgeOf 10 = .ok (.istore 6, 2) := dk_54 6 (dk_at dksX3_edgeOf_0 10 rfl rfl)
theorem dX3_edgeOf_12 : decode cX3_edgeOf 12 = .ok (.iload 6, 2) := dk_21 6 (dk_at dksX3_edgeOf_0 12 rfl rfl)
theorem dX3_edgeOf_14 : decode cX3_edgeOf 14 = .ok (.iload_n 1, 1) := dk_27 (dk_at dksX3_edgeOf_0 14 rfl rfl)
theorem dX3_edgeOf_15 : decode cX3_edgeOf 15 = .ok (.iload_n 2, 1) := dk_28 (dk_at dksX3_edgeOf_0 15 rfl rfl)
theorem dX3_edgeOf_16 : decode cX3_edgeOf 16 = .ok (.iadd, 1) := dk_96 (dk_at dksX3_edgeOf_0 16 rfl rfl)
theorem dX3_edgeOf_17 : decode cX3_edgeOf 17 = .ok (.if_icmp .ge 67, 3) := dk_162 0 67 (dk_at dksX3_edgeOf_0 17 rfl rfl)
theorem dX3_edgeOf_20 : decode cX3_edgeOf 20 = .ok (.iconst 0, 1) := dk_3 (dk_at dksX3_edgeOf_0 20 rfl rfl)
theorem dX3_edgeOf_21 : decode cX3_edgeOf 21 = .ok (.istore 7, 2) := dk_54 7 (dk_at dksX3_edgeOf_0 21 rfl rfl)
theorem dX3_edgeOf_23 : decode cX3_edgeOf 23 = .ok (.iload 7, 2) := dk_21 7 (dk_at dksX3_edgeOf_1 0 rfl rfl)
theorem dX3_edgeOf_25 : decode cX3_edgeOf 25 = .ok (.aload_n 0, 1) := dk_42 (dk_at dksX3_edgeOf_1 2 rfl rfl)
theorem dX3_edgeOf_26 : decode cX3_edgeOf 26 = .ok (.iload 6, 2) := dk_21 6 (dk_at dksX3_edgeOf_1 3 rfl rfl)
theorem dX3_edgeOf_28 : decode cX3_edgeOf 28 = .ok (.invokevirtual 230, 3) := dk_182 0 230 (dk_at dksX3_edgeOf_1 5 rfl rfl)
theorem dX3_edgeOf_31 : decode cX3_edgeOf 31 = .ok (.if_icmp .ge 47, 3) := dk_162 0 47 (dk_at dksX3_edgeOf_1 8 rfl rfl)
theorem dX3_edgeOf_34 : decode cX3_edgeOf 34 = .ok (.iload 4, 2) := dk_21 4 (dk_at dksX3_edgeOf_1 11 rfl rfl)
theorem dX3_edgeOf_36 : decode cX3_edgeOf 36 = .ok (.ifCond .eq 20, 3) := dk_153 0 20 (dk_at dksX3_edgeOf_1 13 rfl rfl)
theorem dX3_edgeOf_39 : decode cX3_edgeOf 39 = .ok (.iload 5, 2) := dk_21 5 (dk_at dksX3_edgeOf_1 16 rfl rfl)
theorem dX3_edgeOf_41 : decode cX3_edgeOf 41 = .ok (.aload_n 0, 1) := dk_42 (dk_at dksX3_edgeOf_1 18 rfl rfl)
theorem dX3_edgeOf_42 : decode cX3_edgeOf 42 = .ok (.iload 6, 2) := dk_21 6 (dk_at dksX3_edgeOf_1 19 rfl rfl)
theorem dX3_edgeOf_44 : decode cX3_edgeOf 44 = .ok (.iload 7, 2) := dk_21 7 (dk_at dksX3_edgeOf_1 21 rfl rfl)
theorem dX3_edgeOf_46 : decode cX3_edgeOf 46 = .ok (.iload_n 3, 1) := dk_29 (dk_at dksX3_edgeOf_1 23 rfl rfl)
theorem dX3_edgeOf_47 : decode cX3_edgeOf 47 = .ok (.invokevirtual 233, 3) := dk_182 0 233 (dk_at dksX3_edgeOf_2 0 rfl rfl)
theorem dX3_edgeOf_50 : decode cX3_edgeOf 50 = .ok (.invokestatic 264, 3) := dk_184 1 8 (dk_at dksX3_edgeOf_2 3 rfl rfl)
theorem dX3_edgeOf_53 : decode cX3_edgeOf 53 = .ok (.goto 17, 3) := dk_167 0 17 (dk_at dksX3_edgeOf_2 6 rfl rfl)
theorem dX3_edgeOf_56 : decode cX3_edgeOf 56 = .ok (.iload 5, 2) := dk_21 5 (dk_at dksX3_edgeOf_2 9 rfl rfl)
theorem dX3_edgeOf_58 : decode cX3_edgeOf 58 = .ok (.aload_n 0, 1) := dk_42 (dk_at dksX3_edgeOf_2 11 rfl rfl)
theorem dX3_edgeOf_59 : decode cX3_edgeOf 59 = .ok (.iload 6, 2) := dk_21 6 (dk_at dksX3_edgeOf_2 12 rfl rfl)
theorem dX3_edgeOf_61 : decode cX3_edgeOf 61 = .ok (.iload 7, 2) := dk_21 7 (dk_at dksX3_edgeOf_2 14 rfl rfl)
theorem dX3_edgeOf_63 : decode cX3_edgeOf 63 = .ok (.iload_n 3, 1) := dk_29 (dk_at dksX3_edgeOf_2 16 rfl rfl)
theorem dX3_edgeOf_64 : decode cX3_edgeOf 64 = .ok (.invokevirtual 233, 3) := dk_182 0 233 (dk_at dksX3_edgeOf_2 17 rfl rfl)
theorem dX3_edgeOf_67 : decode cX3_edgeOf 67 = .ok (.invokestatic 258, 3) := dk_184 1 2 (dk_at dksX3_edgeOf_2 20 rfl rfl)
theorem dX3_edgeOf_70 : decode cX3_edgeOf 70 = .ok (.istore 5, 2) := dk_54 5 (dk_at dksX3_edgeOf_3 0 rfl rfl)
theorem dX3_edgeOf_72 : decode cX3_edgeOf 72 = .ok (.iinc 7 1, 3) := dk_132 7 1 (dk_at dksX3_edgeOf_3 2 rfl rfl)
theorem dX3_edgeOf_75 : decode cX3_edgeOf 75 = .ok (.goto (-52), 3) := dk_167 255 204 (dk_at dksX3_edgeOf_3 5 rfl rfl)
theorem dX3_edgeOf_78 : decode cX3_edgeOf 78 = .ok (.iinc 6 1, 3) := dk_132 6 1 (dk_at dksX3_edgeOf_3 8 rfl rfl)
theorem dX3_edgeOf_81 : decode cX3_edgeOf 81 = .ok (.goto (-69), 3) := dk_167 255 187 (dk_at dksX3_edgeOf_3 11 rfl rfl)
theorem dX3_edgeOf_84 : decode cX3_edgeOf 84 = .ok (.iload 5, 2) := dk_21 5 (dk_at dksX3_edgeOf_3 14 rfl rfl)
theorem dX3_edgeOf_86 : decode cX3_edgeOf 86 = .ok (.ireturn, 1) := dk_172 (dk_at dksX3_edgeOf_3 16 rfl rfl)
abbrev cX3_greater : ByteArray := prog_12_method_3_code
def yX3_greater : MethodName := ⟨RX3, "greater", "(II)I"⟩
def dkwX3_greater_0 : List UInt8 := [26, 27, 164, 0, 7, 26, 167, 0, 4, 27, 172]
abbrev dktX3_greater_0 : List UInt8 := dkwX3_greater_0 ++ []
theorem dksX3_greater_0 : cX3_greater.data.toList.drop 0 = dktX3_greater_0 := by decide +kernel
theorem dX3_greater_0 : decode cX3_greater 0 = .ok (.iload_n 0, 1) := dk_26 (dk_at dksX3_greater_0 0 rfl rfl)
theorem dX3_greater_1 : decode cX3_greater 1 = .ok (.iload_n 1, 1) := dk_27 (dk_at dksX3_greater_0 1 rfl rfl)
theorem dX3_greater_2 : decode cX3_greater 2 = .ok (.if_icmp .le 7, 3) := dk_164 0 7 (dk_at dksX3_greater_0 2 rfl rfl)
theorem dX3_greater_5 : decode cX3_greater 5 = .ok (.iload_n 0, 1) := dk_26 (dk_at dksX3_greater_0 5 rfl rfl)
theorem dX3_greater_6 : decode cX3_greater 6 = .ok (.goto 4, 3) := dk_167 0 4 (dk_at dksX3_greater_0 6 rfl rfl)
theorem dX3_greater_9 : decode cX3_greater 9 = .ok (.iload_n 1, 1) := dk_27 (dk_at dksX3_greater_0 9 rfl rfl)
theorem dX3_greater_10 : decode cX3_greater 10 = .ok (.ireturn, 1) := dk_172 (dk_at dksX3_greater_0 10 rfl rfl)
abbrev cX3_elastic : ByteArray := prog_12_method_65_code
def yX3_elastic : MethodName := ⟨RX3, "elastic", "(IIZ)I"⟩
def dkwX3_elastic_1 : List UInt8 := [167, 0, 4, 2, 172]
abbrev dktX3_elastic_1 : List UInt8 := dkwX3_elastic_1 ++ []
def dkwX3_elastic_0 : List UInt8 := [42, 27, 28, 182, 1, 30, 153, 0, 21, 42, 27, 28, 29, 42, 180, 0, 7, 17, 4, 19, 46, 182, 1, 34]
abbrev dktX3_elastic_0 : List UInt8 := dkwX3_elastic_0 ++ dktX3_elastic_1
theorem dksX3_elastic_0 : cX3_elastic.data.toList.drop 0 = dktX3_elastic_0 := by decide +kernel
theorem dksX3_elastic_1 : cX3_elastic.data.toList.drop 24 = dktX3_elastic_1 := dk_seg dksX3_elastic_0 24 rfl rfl
theorem dX3_elastic_0 : decode cX3_elastic 0 = .ok (.aload_n 0, 1) := dk_42 (dk_at dksX3_elastic_0 0 rfl rfl)
theorem dX3_elastic_1 : decode cX3_elastic 1 = .ok (.iload_n 1, 1) := dk_27 (dk_at dksX3_elastic_0 1 rfl rfl)
theorem dX3_elastic_2 : decode cX3_elastic 2 = .ok (.iload_n 2, 1) := dk_28 (dk_at dksX3_elastic_0 2 rfl rfl)
theorem dX3_elastic_3 : decode cX3_elastic 3 = .ok (.invokevirtual 286, 3) := dk_182 1 30 (dk_at dksX3_elastic_0 3 rfl rfl)
theorem dX3_elastic_6 : decode cX3_elastic 6 = .ok (.ifCond .eq 21, 3) := dk_153 0 21 (dk_at dksX3_elastic_0 6 rfl rfl)
theorem dX3_elastic_9 : decode cX3_elastic 9 = .ok (.aload_n 0, 1) := dk_42 (dk_at dksX3_elastic_0 9 rfl rfl)
theorem dX3_elastic_10 : decode cX3_elastic 10 = .ok (.iload_n 1, 1) := dk_27 (dk_at dksX3_elastic_0 10 rfl rfl)
theorem dX3_elastic_11 : decode cX3_elastic 11 = .ok (.iload_n 2, 1) := dk_28 (dk_at dksX3_elastic_0 11 rfl rfl)
theorem dX3_elastic_12 : decode cX3_elastic 12 = .ok (.iload_n 3, 1) := dk_29 (dk_at dksX3_elastic_0 12 rfl rfl)
theorem dX3_elastic_13 : decode cX3_elastic 13 = .ok (.aload_n 0, 1) := dk_42 (dk_at dksX3_elastic_0 13 rfl rfl)
theorem dX3_elastic_14 : decode cX3_elastic 14 = .ok (.getfield 7, 3) := dk_180 0 7 (dk_at dksX3_elastic_0 14 rfl rfl)
theorem dX3_elastic_17 : decode cX3_elastic 17 = .ok (.sipush 1043, 3) := dk_17 4 19 (dk_at dksX3_elastic_0 17 rfl rfl)
theorem dX3_elastic_20 : decode cX3_elastic 20 = .ok (.iaload, 1) := dk_46 (dk_at dksX3_elastic_0 20 rfl rfl)
theorem dX3_elastic_21 : decode cX3_elastic 21 = .ok (.invokevirtual 290, 3) := dk_182 1 34 (dk_at dksX3_elastic_0 21 rfl rfl)
theorem dX3_elastic_24 : decode cX3_elastic 24 = .ok (.goto 4, 3) := dk_167 0 4 (dk_at dksX3_elastic_1 0 rfl rfl)
theorem dX3_elastic_27 : decode cX3_elastic 27 = .ok (.iconst (-1), 1) := dk_2 (dk_at dksX3_elastic_1 3 rfl rfl)
theorem dX3_elastic_28 : decode cX3_elastic 28 = .ok (.ireturn, 1) := dk_172 (dk_at dksX3_elastic_1 4 rfl rfl)
abbrev cX3_areStrokes : ByteArray := prog_12_method_64_code
def yX3_areStrokes : MethodName := ⟨RX3, "areStrokes", "(II)Z"⟩
def dkwX3_areStrokes_1 : List UInt8 := [182, 0, 255, 42, 28, 182, 0, 255, 4, 172]
abbrev dktX3_areStrokes_1 : List UInt8 := dkwX3_areStrokes_1 ++ []
def dkwX3_areStrokes_0 : List UInt8 := [42, 27, 182, 1, 27, 2, 159, 0, 12, 42, 28, 182, 1, 27, 2, 160, 0, 5, 3, 172, 42, 27]
abbrev dktX3_areStrokes_0 : List UInt8 := dkwX3_areStrokes_0 ++ dktX3_areStrokes_1
theorem dksX3_areStrokes_0 : cX3_areStrokes.data.toList.drop 0 = dktX3_areStrokes_0 := by decide +kernel
theorem dksX3_areStrokes_1 : cX3_areStrokes.data.toList.drop 22 = dktX3_areStrokes_1 := dk_seg dksX3_areStrokes_0 22 rfl rfl
theorem dX3_areStrokes_0 : decode cX3_areStrokes 0 = .ok (.aload_n 0, 1) := dk_42 (dk_at dksX3_areStrokes_0 0 rfl rfl)
theorem dX3_areStrokes_1 : decode cX3_areStrokes 1 = .ok (.iload_n 1, 1) := dk_27 (dk_at dksX3_areStrokes_0 1 rfl rfl)
theorem dX3_areStrokes_2 : decode cX3_areStrokes 2 = .ok (.invokevirtual 283, 3) := dk_182 1 27 (dk_at dksX3_areStrokes_0 2 rfl rfl)
theorem dX3_areStrokes_5 : decode cX3_areStrokes 5 = .ok (.iconst (-1), 1) := dk_2 (dk_at dksX3_areStrokes_0 5 rfl rfl)
theorem dX3_areStrokes_6 : decode cX3_areStrokes 6 = .ok (.if_icmp .eq 12, 3) := dk_159 0 12 (dk_at dksX3_areStrokes_0 6 rfl rfl)
theorem dX3_areStrokes_9 : decode cX3_areStrokes 9 = .ok (.aload_n 0, 1) := dk_42 (dk_at dksX3_areStrokes_0 9 rfl rfl)
theorem dX3_areStrokes_10 : decode cX3_areStrokes 10 = .ok (.iload_n 2, 1) := dk_28 (dk_at dksX3_areStrokes_0 10 rfl rfl)
theorem dX3_areStrokes_11 : decode cX3_areStrokes 11 = .ok (.invokevirtual 283, 3) := dk_182 1 27 (dk_at dksX3_areStrokes_0 11 rfl rfl)
theorem dX3_areStrokes_14 : decode cX3_areStrokes 14 = .ok (.iconst (-1), 1) := dk_2 (dk_at dksX3_areStrokes_0 14 rfl rfl)
theorem dX3_areStrokes_15 : decode cX3_areStrokes 15 = .ok (.if_icmp .ne 5, 3) := dk_160 0 5 (dk_at dksX3_areStrokes_0 15 rfl rfl)
theorem dX3_areStrokes_18 : decode cX3_areStrokes 18 = .ok (.iconst 0, 1) := dk_3 (dk_at dksX3_areStrokes_0 18 rfl rfl)
theorem dX3_areStrokes_19 : decode cX3_areStrokes 19 = .ok (.ireturn, 1) := dk_172 (dk_at dksX3_areStrokes_0 19 rfl rfl)
theorem dX3_areStrokes_20 : decode cX3_areStrokes 20 = .ok (.aload_n 0, 1) := dk_42 (dk_at dksX3_areStrokes_0 20 rfl rfl)
theorem dX3_areStrokes_21 : decode cX3_areStrokes 21 = .ok (.iload_n 1, 1) := dk_27 (dk_at dksX3_areStrokes_0 21 rfl rfl)
theorem dX3_areStrokes_22 : decode cX3_areStrokes 22 = .ok (.invokevirtual 255, 3) := dk_182 0 255 (dk_at dksX3_areStrokes_1 0 rfl rfl)
theorem dX3_areStrokes_25 : decode cX3_areStrokes 25 = .ok (.aload_n 0, 1) := dk_42 (dk_at dksX3_areStrokes_1 3 rfl rfl)
theorem dX3_areStrokes_26 : decode cX3_areStrokes 26 = .ok (.iload_n 2, 1) := dk_28 (dk_at dksX3_areStrokes_1 4 rfl rfl)
theorem dX3_areStrokes_27 : decode cX3_areStrokes 27 = .ok (.invokevirtual 255, 3) := dk_182 0 255 (dk_at dksX3_areStrokes_1 5 rfl rfl)
theorem dX3_areStrokes_30 : decode cX3_areStrokes 30 = .ok (.iconst 1, 1) := dk_4 (dk_at dksX3_areStrokes_1 8 rfl rfl)
theorem dX3_areStrokes_31 : decode cX3_areStrokes 31 = .ok (.ireturn, 1) := dk_172 (dk_at dksX3_areStrokes_1 9 rfl rfl)
abbrev cX3_toldStroke : ByteArray := prog_12_method_63_code
def yX3_toldStroke : MethodName := ⟨RX3, "toldStroke", "(I)I"⟩
def dkwX3_toldStroke_3 : List UInt8 := [172]
abbrev dktX3_toldStroke_3 : List UInt8 := dkwX3_toldStroke_3 ++ []
def dkwX3_toldStroke_2 : List UInt8 := [153, 0, 23, 27, 7, 112, 42, 180, 0, 7, 17, 3, 233, 28, 96, 46, 162, 0, 7, 27, 167, 0, 4, 2]
abbrev dktX3_toldStroke_2 : List UInt8 := dkwX3_toldStroke_2 ++ dktX3_toldStroke_3
def dkwX3_toldStroke_1 : List UInt8 := [167, 0, 4, 2, 172, 27, 7, 108, 5, 100, 61, 27, 16, 8, 161, 0, 31, 42, 28, 182, 0, 215]
abbrev dktX3_toldStroke_1 : List UInt8 := dkwX3_toldStroke_1 ++ dktX3_toldStroke_2
def dkwX3_toldStroke_0 : List UInt8 := [27, 3, 16, 7, 184, 0, 171, 153, 0, 21, 27, 42, 180, 0, 7, 17, 3, 241, 46, 162, 0, 7, 27]
abbrev dktX3_toldStroke_0 : List UInt8 := dkwX3_toldStroke_0 ++ dktX3_toldStroke_1
theorem dksX3_toldStroke_0 : cX3_toldStroke.data.toList.drop 0 = dktX3_toldStroke_0 := by decide +kernel
theorem dksX3_toldStroke_1 : cX3_toldStroke.data.toList.drop 23 = dktX3_toldStroke_1 := dk_seg dksX3_toldStroke_0 23 rfl rfl
theorem dksX3_toldStroke_2 : cX3_toldStroke.data.toList.drop 45 = dktX3_toldStroke_2 := dk_seg dksX3_toldStroke_1 22 rfl rfl
theorem dksX3_toldStroke_3 : cX3_toldStroke.data.toList.drop 69 = dktX3_toldStroke_3 := dk_seg dksX3_toldStroke_2 24 rfl rfl
theorem dX3_toldStroke_0 : decode cX3_toldStroke 0 = .ok (.iload_n 1, 1) := dk_27 (dk_at dksX3_toldStroke_0 0 rfl rfl)
theorem dX3_toldStroke_1 : decode cX3_toldStroke 1 = .ok (.iconst 0, 1) := dk_3 (dk_at dksX3_toldStroke_0 1 rfl rfl)
theorem dX3_toldStroke_2 : decode cX3_toldStroke 2 = .ok (.bipush 7, 2) := dk_16 7 (dk_at dksX3_toldStroke_0 2 rfl rfl)
theorem dX3_toldStroke_4 : decode cX3_toldStroke 4 = .ok (.invokestatic 171, 3) := dk_184 0 171 (dk_at dksX3_toldStroke_0 4 rfl rfl)
theorem dX3_toldStroke_7 : decode cX3_toldStroke 7 = .ok (.ifCond .eq 21, 3) := dk_153 0 21 (dk_at dksX3_toldStroke_0 7 rfl rfl)
theorem dX3_toldStroke_10 : decode cX3_toldStroke 10 = .ok (.iload_n 1, 1) := dk_27 (dk_at dksX3_toldStroke_0 10 rfl rfl)
theorem dX3_toldStroke_11 : decode cX3_toldStroke 11 = .ok (.aload_n 0, 1) := dk_42 (dk_at dksX3_toldStroke_0 11 rfl rfl)
theorem dX3_toldStroke_12 : decode cX3_toldStroke 12 = .ok (.getfield 7, 3) := dk_180 0 7 (dk_at dksX3_toldStroke_0 12 rfl rfl)
theorem dX3_toldStroke_15 : decode cX3_toldStroke 15 = .ok (.sipush 1009, 3) := dk_17 3 241 (dk_at dksX3_toldStroke_0 15 rfl rfl)
theorem dX3_toldStroke_18 : decode cX3_toldStroke 18 = .ok (.iaload, 1) := dk_46 (dk_at dksX3_toldStroke_0 18 rfl rfl)
theorem dX3_toldStroke_19 : decode cX3_toldStroke 19 = .ok (.if_icmp .ge 7, 3) := dk_162 0 7 (dk_at dksX3_toldStroke_0 19 rfl rfl)
theorem dX3_toldStroke_22 : decode cX3_toldStroke 22 = .ok (.iload_n 1, 1) := dk_27 (dk_at dksX3_toldStroke_0 22 rfl rfl)
theorem dX3_toldStroke_23 : decode cX3_toldStroke 23 = .ok (.goto 4, 3) := dk_167 0 4 (dk_at dksX3_toldStroke_1 0 rfl rfl)
theorem dX3_toldStroke_26 : decode cX3_toldStroke 26 = .ok (.iconst (-1), 1) := dk_2 (dk_at dksX3_toldStroke_1 3 rfl rfl)
theorem dX3_toldStroke_27 : decode cX3_toldStroke 27 = .ok (.ireturn, 1) := dk_172 (dk_at dksX3_toldStroke_1 4 rfl rfl)
theorem dX3_toldStroke_28 : decode cX3_toldStroke 28 = .ok (.iload_n 1, 1) := dk_27 (dk_at dksX3_toldStroke_1 5 rfl rfl)
theorem dX3_toldStroke_29 : decode cX3_toldStroke 29 = .ok (.iconst 4, 1) := dk_7 (dk_at dksX3_toldStroke_1 6 rfl rfl)
theorem dX3_toldStroke_30 : decode cX3_toldStroke 30 = .ok (.idiv, 1) := dk_108 (dk_at dksX3_toldStroke_1 7 rfl rfl)
theorem dX3_toldStroke_31 : decode cX3_toldStroke 31 = .ok (.iconst 2, 1) := dk_5 (dk_at dksX3_toldStroke_1 8 rfl rfl)
theorem dX3_toldStroke_32 : decode cX3_toldStroke 32 = .ok (.isub, 1) := dk_100 (dk_at dksX3_toldStroke_1 9 rfl rfl)
theorem dX3_toldStroke_33 : decode cX3_toldStroke 33 = .ok (.istore_n 2, 1) := dk_61 (dk_at dksX3_toldStroke_1 10 rfl rfl)
theorem dX3_toldStroke_34 : decode cX3_toldStroke 34 = .ok (.iload_n 1, 1) := dk_27 (dk_at dksX3_toldStroke_1 11 rfl rfl)
theorem dX3_toldStroke_35 : decode cX3_toldStroke 35 = .ok (.bipush 8, 2) := dk_16 8 (dk_at dksX3_toldStroke_1 12 rfl rfl)
theorem dX3_toldStroke_37 : decode cX3_toldStroke 37 = .ok (.if_icmp .lt 31, 3) := dk_161 0 31 (dk_at dksX3_toldStroke_1 14 rfl rfl)
theorem dX3_toldStroke_40 : decode cX3_toldStroke 40 = .ok (.aload_n 0, 1) := dk_42 (dk_at dksX3_toldStroke_1 17 rfl rfl)
theorem dX3_toldStroke_41 : decode cX3_toldStroke 41 = .ok (.iload_n 2, 1) := dk_28 (dk_at dksX3_toldStroke_1 18 rfl rfl)
theorem dX3_toldStroke_42 : decode cX3_toldStroke 42 = .ok (.invokevirtual 215, 3) := dk_182 0 215 (dk_at dksX3_toldStroke_1 19 rfl rfl)
theorem dX3_toldStroke_45 : decode cX3_toldStroke 45 = .ok (.ifCond .eq 23, 3) := dk_153 0 23 (dk_at dksX3_toldStroke_2 0 rfl rfl)
theorem dX3_toldStroke_48 : decode cX3_toldStroke 48 = .ok (.iload_n 1, 1) := dk_27 (dk_at dksX3_toldStroke_2 3 rfl rfl)
theorem dX3_toldStroke_49 : decode cX3_toldStroke 49 = .ok (.iconst 4, 1) := dk_7 (dk_at dksX3_toldStroke_2 4 rfl rfl)
theorem dX3_toldStroke_50 : decode cX3_toldStroke 50 = .ok (.irem, 1) := dk_112 (dk_at dksX3_toldStroke_2 5 rfl rfl)
theorem dX3_toldStroke_51 : decode cX3_toldStroke 51 = .ok (.aload_n 0, 1) := dk_42 (dk_at dksX3_toldStroke_2 6 rfl rfl)
theorem dX3_toldStroke_52 : decode cX3_toldStroke 52 = .ok (.getfield 7, 3) := dk_180 0 7 (dk_at dksX3_toldStroke_2 7 rfl rfl)
theorem dX3_toldStroke_55 : decode cX3_toldStroke 55 = .ok (.sipush 1001, 3) := dk_17 3 233 (dk_at dksX3_toldStroke_2 10 rfl rfl)
theorem dX3_toldStroke_58 : decode cX3_toldStroke 58 = .ok (.iload_n 2, 1) := dk_28 (dk_at dksX3_toldStroke_2 13 rfl rfl)
theorem dX3_toldStroke_59 : decode cX3_toldStroke 59 = .ok (.iadd, 1) := dk_96 (dk_at dksX3_toldStroke_2 14 rfl rfl)
theorem dX3_toldStroke_60 : decode cX3_toldStroke 60 = .ok (.iaload, 1) := dk_46 (dk_at dksX3_toldStroke_2 15 rfl rfl)
theorem dX3_toldStroke_61 : decode cX3_toldStroke 61 = .ok (.if_icmp .ge 7, 3) := dk_162 0 7 (dk_at dksX3_toldStroke_2 16 rfl rfl)
theorem dX3_toldStroke_64 : decode cX3_toldStroke 64 = .ok (.iload_n 1, 1) := dk_27 (dk_at dksX3_toldStroke_2 19 rfl rfl)
theorem dX3_toldStroke_65 : decode cX3_toldStroke 65 = .ok (.goto 4, 3) := dk_167 0 4 (dk_at dksX3_toldStroke_2 20 rfl rfl)
theorem dX3_toldStroke_68 : decode cX3_toldStroke 68 = .ok (.iconst (-1), 1) := dk_2 (dk_at dksX3_toldStroke_2 23 rfl rfl)
theorem dX3_toldStroke_69 : decode cX3_toldStroke 69 = .ok (.ireturn, 1) := dk_172 (dk_at dksX3_toldStroke_3 0 rfl rfl)
abbrev cX3_elasticOf : ByteArray := prog_12_method_62_code
def yX3_elasticOf : MethodName := ⟨RX3, "elasticOf", "(IIZI)I"⟩
def dkwX3_elasticOf_7 : List UInt8 := [167, 255, 113, 42, 180, 0, 80, 3, 46, 172]
abbrev dktX3_elasticOf_7 : List UInt8 := dkwX3_elasticOf_7 ++ []
def dkwX3_elasticOf_6 : List UInt8 := [42, 28, 21, 7, 29, 182, 1, 23, 184, 1, 5, 96, 79, 132, 7, 255, 167, 255, 128, 132, 6, 255]
abbrev dktX3_elasticOf_6 : List UInt8 := dkwX3_elasticOf_6 ++ dktX3_elasticOf_7
def dkwX3_elasticOf_5 : List UInt8 := [21, 8, 19, 1, 19, 161, 0, 9, 19, 1, 19, 167, 0, 25, 21, 8, 42, 27, 21, 6, 3, 182, 1, 23]
abbrev dktX3_elasticOf_5 : List UInt8 := dkwX3_elasticOf_5 ++ dktX3_elasticOf_6
def dkwX3_elasticOf_4 : List UInt8 := [180, 0, 80, 16, 16, 21, 6, 104, 21, 7, 96, 21, 6, 21, 7, 100, 184, 0, 249, 21, 4, 163, 0, 11]
abbrev dktX3_elasticOf_4 : List UInt8 := dkwX3_elasticOf_4 ++ dktX3_elasticOf_5
def dkwX3_elasticOf_3 : List UInt8 := [182, 1, 20, 42, 21, 6, 21, 7, 4, 96, 182, 1, 20, 184, 1, 2, 184, 1, 2, 54, 8, 42]
abbrev dktX3_elasticOf_3 : List UInt8 := dkwX3_elasticOf_3 ++ dktX3_elasticOf_4
def dkwX3_elasticOf_2 : List UInt8 := [167, 0, 41, 42, 21, 6, 4, 96, 21, 7, 4, 96, 182, 1, 20, 42, 21, 6, 4, 96, 21, 7]
abbrev dktX3_elasticOf_2 : List UInt8 := dkwX3_elasticOf_2 ++ dktX3_elasticOf_3
def dkwX3_elasticOf_1 : List UInt8 := [54, 7, 21, 7, 155, 0, 129, 21, 6, 21, 5, 160, 0, 14, 21, 7, 21, 5, 160, 0, 7, 3]
abbrev dktX3_elasticOf_1 : List UInt8 := dkwX3_elasticOf_1 ++ dktX3_elasticOf_2
def dkwX3_elasticOf_0 : List UInt8 := [42, 180, 0, 7, 17, 4, 18, 46, 4, 100, 54, 5, 21, 5, 54, 6, 21, 6, 155, 0, 144, 21, 5]
abbrev dktX3_elasticOf_0 : List UInt8 := dkwX3_elasticOf_0 ++ dktX3_elasticOf_1
theorem dksX3_elasticOf_0 : cX3_elasticOf.data.toList.drop 0 = dktX3_elasticOf_0 := by decide +kernel
theorem dksX3_elasticOf_1 : cX3_elasticOf.data.toList.drop 23 = dktX3_elasticOf_1 := dk_seg dksX3_elasticOf_0 23 rfl rfl
theorem dksX3_elasticOf_2 : cX3_elasticOf.data.toList.drop 45 = dktX3_elasticOf_2 := dk_seg dksX3_elasticOf_1 22 rfl rfl
theorem dksX3_elasticOf_3 : cX3_elasticOf.data.toList.drop 67 = dktX3_elasticOf_3 := dk_seg dksX3_elasticOf_2 22 rfl rfl
theorem dksX3_elasticOf_4 : cX3_elasticOf.data.toList.drop 89 = dktX3_elasticOf_4 := dk_seg dksX3_elasticOf_3 22 rfl rfl
theorem dksX3_elasticOf_5 : cX3_elasticOf.data.toList.drop 113 = dktX3_elasticOf_5 := dk_seg dksX3_elasticOf_4 24 rfl rfl
theorem dksX3_elasticOf_6 : cX3_elasticOf.data.toList.drop 137 = dktX3_elasticOf_6 := dk_seg dksX3_elasticOf_5 24 rfl rfl
theorem dksX3_elasticOf_7 : cX3_elasticOf.data.toList.drop 159 = dktX3_elasticOf_7 := dk_seg dksX3_elasticOf_6 22 rfl rfl
theorem dX3_elasticOf_0 : decode cX3_elasticOf 0 = .ok (.aload_n 0, 1) := dk_42 (dk_at dksX3_elasticOf_0 0 rfl rfl)
theorem dX3_elasticOf_1 : decode cX3_elasticOf 1 = .ok (.getfield 7, 3) := dk_180 0 7 (dk_at dksX3_elasticOf_0 1 rfl rfl)
theorem dX3_elasticOf_4 : decode cX3_elasticOf 4 = .ok (.sipush 1042, 3) := dk_17 4 18 (dk_at dksX3_elasticOf_0 4 rfl rfl)
theorem dX3_elasticOf_7 : decode cX3_elasticOf 7 = .ok (.iaload, 1) := dk_46 (dk_at dksX3_elasticOf_0 7 rfl rfl)
theorem dX3_elasticOf_8 : decode cX3_elasticOf 8 = .ok (.iconst 1, 1) := dk_4 (dk_at dksX3_elasticOf_0 8 rfl rfl)
theorem dX3_elasticOf_9 : decode cX3_elasticOf 9 = .ok (.isub, 1) := dk_100 (dk_at dksX3_elasticOf_0 9 rfl rfl)
theorem dX3_elasticOf_10 : decode cX3_elasticOf 10 = .ok (.istore 5, 2) := dk_54 5 (dk_at dksX3_elasticOf_0 10 rfl rfl)
theorem dX3_elasticOf_12 : decode cX3_elasticOf 12 = .ok (.iload 5, 2) := dk_21 5 (dk_at dksX3_elasticOf_0 12 rfl rfl)
theorem dX3_elasticOf_14 : decode cX3_elasticOf 14 = .ok (.istore 6, 2) := dk_54 6 (dk_at dksX3_elasticOf_0 14 rfl rfl)
theorem dX3_elasticOf_16 : decode cX3_elasticOf 16 = .ok (.iload 6, 2) := dk_21 6 (dk_at dksX3_elasticOf_0 16 rfl rfl)
theorem dX3_elasticOf_18 : decode cX3_elasticOf 18 = .ok (.ifCond .lt 144, 3) := dk_155 0 144 (dk_at dksX3_elasticOf_0 18 rfl rfl)
theorem dX3_elasticOf_21 : decode cX3_elasticOf 21 = .ok (.iload 5, 2) := dk_21 5 (dk_at dksX3_elasticOf_0 21 rfl rfl)
theorem dX3_elasticOf_23 : decode cX3_elasticOf 23 = .ok (.istore 7, 2) := dk_54 7 (dk_at dksX3_elasticOf_1 0 rfl rfl)
theorem dX3_elasticOf_25 : decode cX3_elasticOf 25 = .ok (.iload 7, 2) := dk_21 7 (dk_at dksX3_elasticOf_1 2 rfl rfl)
theorem dX3_elasticOf_27 : decode cX3_elasticOf 27 = .ok (.ifCond .lt 129, 3) := dk_155 0 129 (dk_at dksX3_elasticOf_1 4 rfl rfl)
theorem dX3_elasticOf_30 : decode cX3_elasticOf 30 = .ok (.iload 6, 2) := dk_21 6 (dk_at dksX3_elasticOf_1 7 rfl rfl)
theorem dX3_elasticOf_32 : decode cX3_elasticOf 32 = .ok (.iload 5, 2) := dk_21 5 (dk_at dksX3_elasticOf_1 9 rfl rfl)
theorem dX3_elasticOf_34 : decode cX3_elasticOf 34 = .ok (.if_icmp .ne 14, 3) := dk_160 0 14 (dk_at dksX3_elasticOf_1 11 rfl rfl)
theorem dX3_elasticOf_37 : decode cX3_elasticOf 37 = .ok (.iload 7, 2) := dk_21 7 (dk_at dksX3_elasticOf_1 14 rfl rfl)
theorem dX3_elasticOf_39 : decode cX3_elasticOf 39 = .ok (.iload 5, 2) := dk_21 5 (dk_at dksX3_elasticOf_1 16 rfl rfl)
theorem dX3_elasticOf_41 : decode cX3_elasticOf 41 = .ok (.if_icmp .ne 7, 3) := dk_160 0 7 (dk_at dksX3_elasticOf_1 18 rfl rfl)
theorem dX3_elasticOf_44 : decode cX3_elasticOf 44 = .ok (.iconst 0, 1) := dk_3 (dk_at dksX3_elasticOf_1 21 rfl rfl)
theorem dX3_elasticOf_45 : decode cX3_elasticOf 45 = .ok (.goto 41, 3) := dk_167 0 41 (dk_at dksX3_elasticOf_2 0 rfl rfl)
theorem dX3_elasticOf_48 : decode cX3_elasticOf 48 = .ok (.aload_n 0, 1) := dk_42 (dk_at dksX3_elasticOf_2 3 rfl rfl)
theorem dX3_elasticOf_49 : decode cX3_elasticOf 49 = .ok (.iload 6, 2) := dk_21 6 (dk_at dksX3_elasticOf_2 4 rfl rfl)
theorem dX3_elasticOf_51 : decode cX3_elasticOf 51 = .ok (.iconst 1, 1) := dk_4 (dk_at dksX3_elasticOf_2 6 rfl rfl)
theorem dX3_elasticOf_52 : decode cX3_elasticOf 52 = .ok (.iadd, 1) := dk_96 (dk_at dksX3_elasticOf_2 7 rfl rfl)
theorem dX3_elasticOf_53 : decode cX3_elasticOf 53 = .ok (.iload 7, 2) := dk_21 7 (dk_at dksX3_elasticOf_2 8 rfl rfl)
theorem dX3_elasticOf_55 : decode cX3_elasticOf 55 = .ok (.iconst 1, 1) := dk_4 (dk_at dksX3_elasticOf_2 10 rfl rfl)
theorem dX3_elasticOf_56 : decode cX3_elasticOf 56 = .ok (.iadd, 1) := dk_96 (dk_at dksX3_elasticOf_2 11 rfl rfl)
theorem dX3_elasticOf_57 : decode cX3_elasticOf 57 = .ok (.invokevirtual 276, 3) := dk_182 1 20 (dk_at dksX3_elasticOf_2 12 rfl rfl)
theorem dX3_elasticOf_60 : decode cX3_elasticOf 60 = .ok (.aload_n 0, 1) := dk_42 (dk_at dksX3_elasticOf_2 15 rfl rfl)
theorem dX3_elasticOf_61 : decode cX3_elasticOf 61 = .ok (.iload 6, 2) := dk_21 6 (dk_at dksX3_elasticOf_2 16 rfl rfl)
theorem dX3_elasticOf_63 : decode cX3_elasticOf 63 = .ok (.iconst 1, 1) := dk_4 (dk_at dksX3_elasticOf_2 18 rfl rfl)
theorem dX3_elasticOf_64 : decode cX3_elasticOf 64 = .ok (.iadd, 1) := dk_96 (dk_at dksX3_elasticOf_2 19 rfl rfl)
theorem dX3_elasticOf_65 : decode cX3_elasticOf 65 = .ok (.iload 7, 2) := dk_21 7 (dk_at dksX3_elasticOf_2 20 rfl rfl)
theorem dX3_elasticOf_67 : decode cX3_elasticOf 67 = .ok (.invokevirtual 276, 3) := dk_182 1 20 (dk_at dksX3_elasticOf_3 0 rfl rfl)
theorem dX3_elasticOf_70 : decode cX3_elasticOf 70 = .ok (.aload_n 0, 1) := dk_42 (dk_at dksX3_elasticOf_3 3 rfl rfl)
theorem dX3_elasticOf_71 : decode cX3_elasticOf 71 = .ok (.iload 6, 2) := dk_21 6 (dk_at dksX3_elasticOf_3 4 rfl rfl)
theorem dX3_elasticOf_73 : decode cX3_elasticOf 73 = .ok (.iload 7, 2) := dk_21 7 (dk_at dksX3_elasticOf_3 6 rfl rfl)
theorem dX3_elasticOf_75 : decode cX3_elasticOf 75 = .ok (.iconst 1, 1) := dk_4 (dk_at dksX3_elasticOf_3 8 rfl rfl)
theorem dX3_elasticOf_76 : decode cX3_elasticOf 76 = .ok (.iadd, 1) := dk_96 (dk_at dksX3_elasticOf_3 9 rfl rfl)
theorem dX3_elasticOf_77 : decode cX3_elasticOf 77 = .ok (.invokevirtual 276, 3) := dk_182 1 20 (dk_at dksX3_elasticOf_3 10 rfl rfl)
theorem dX3_elasticOf_80 : decode cX3_elasticOf 80 = .ok (.invokestatic 258, 3) := dk_184 1 2 (dk_at dksX3_elasticOf_3 13 rfl rfl)
theorem dX3_elasticOf_83 : decode cX3_elasticOf 83 = .ok (.invokestatic 258, 3) := dk_184 1 2 (dk_at dksX3_elasticOf_3 16 rfl rfl)
theorem dX3_elasticOf_86 : decode cX3_elasticOf 86 = .ok (.istore 8, 2) := dk_54 8 (dk_at dksX3_elasticOf_3 19 rfl rfl)
theorem dX3_elasticOf_88 : decode cX3_elasticOf 88 = .ok (.aload_n 0, 1) := dk_42 (dk_at dksX3_elasticOf_3 21 rfl rfl)
theorem dX3_elasticOf_89 : decode cX3_elasticOf 89 = .ok (.getfield 80, 3) := dk_180 0 80 (dk_at dksX3_elasticOf_4 0 rfl rfl)
theorem dX3_elasticOf_92 : decode cX3_elasticOf 92 = .ok (.bipush 16, 2) := dk_16 16 (dk_at dksX3_elasticOf_4 3 rfl rfl)
theorem dX3_elasticOf_94 : decode cX3_elasticOf 94 = .ok (.iload 6, 2) := dk_21 6 (dk_at dksX3_elasticOf_4 5 rfl rfl)
theorem dX3_elasticOf_96 : decode cX3_elasticOf 96 = .ok (.imul, 1) := dk_104 (dk_at dksX3_elasticOf_4 7 rfl rfl)
theorem dX3_elasticOf_97 : decode cX3_elasticOf 97 = .ok (.iload 7, 2) := dk_21 7 (dk_at dksX3_elasticOf_4 8 rfl rfl)
theorem dX3_elasticOf_99 : decode cX3_elasticOf 99 = .ok (.iadd, 1) := dk_96 (dk_at dksX3_elasticOf_4 10 rfl rfl)
theorem dX3_elasticOf_100 : decode cX3_elasticOf 100 = .ok (.iload 6, 2) := dk_21 6 (dk_at dksX3_elasticOf_4 11 rfl rfl)
theorem dX3_elasticOf_102 : decode cX3_elasticOf 102 = .ok (.iload 7, 2) := dk_21 7 (dk_at dksX3_elasticOf_4 13 rfl rfl)
theorem dX3_elasticOf_104 : decode cX3_elasticOf 104 = .ok (.isub, 1) := dk_100 (dk_at dksX3_elasticOf_4 15 rfl rfl)
theorem dX3_elasticOf_105 : decode cX3_elasticOf 105 = .ok (.invokestatic 249, 3) := dk_184 0 249 (dk_at dksX3_elasticOf_4 16 rfl rfl)
theorem dX3_elasticOf_108 : decode cX3_elasticOf 108 = .ok (.iload 4, 2) := dk_21 4 (dk_at dksX3_elasticOf_4 19 rfl rfl)
theorem dX3_elasticOf_110 : decode cX3_elasticOf 110 = .ok (.if_icmp .gt 11, 3) := dk_163 0 11 (dk_at dksX3_elasticOf_4 21 rfl rfl)
theorem dX3_elasticOf_113 : decode cX3_elasticOf 113 = .ok (.iload 8, 2) := dk_21 8 (dk_at dksX3_elasticOf_5 0 rfl rfl)
theorem dX3_elasticOf_115 : decode cX3_elasticOf 115 = .ok (.ldc_w 275, 3) := dk_19 1 19 (dk_at dksX3_elasticOf_5 2 rfl rfl)
theorem dX3_elasticOf_118 : decode cX3_elasticOf 118 = .ok (.if_icmp .lt 9, 3) := dk_161 0 9 (dk_at dksX3_elasticOf_5 5 rfl rfl)
theorem dX3_elasticOf_121 : decode cX3_elasticOf 121 = .ok (.ldc_w 275, 3) := dk_19 1 19 (dk_at dksX3_elasticOf_5 8 rfl rfl)
theorem dX3_elasticOf_124 : decode cX3_elasticOf 124 = .ok (.goto 25, 3) := dk_167 0 25 (dk_at dksX3_elasticOf_5 11 rfl rfl)
theorem dX3_elasticOf_127 : decode cX3_elasticOf 127 = .ok (.iload 8, 2) := dk_21 8 (dk_at dksX3_elasticOf_5 14 rfl rfl)
theorem dX3_elasticOf_129 : decode cX3_elasticOf 129 = .ok (.aload_n 0, 1) := dk_42 (dk_at dksX3_elasticOf_5 16 rfl rfl)
theorem dX3_elasticOf_130 : decode cX3_elasticOf 130 = .ok (.iload_n 1, 1) := dk_27 (dk_at dksX3_elasticOf_5 17 rfl rfl)
theorem dX3_elasticOf_131 : decode cX3_elasticOf 131 = .ok (.iload 6, 2) := dk_21 6 (dk_at dksX3_elasticOf_5 18 rfl rfl)
theorem dX3_elasticOf_133 : decode cX3_elasticOf 133 = .ok (.iconst 0, 1) := dk_3 (dk_at dksX3_elasticOf_5 20 rfl rfl)
theorem dX3_elasticOf_134 : decode cX3_elasticOf 134 = .ok (.invokevirtual 279, 3) := dk_182 1 23 (dk_at dksX3_elasticOf_5 21 rfl rfl)
theorem dX3_elasticOf_137 : decode cX3_elasticOf 137 = .ok (.aload_n 0, 1) := dk_42 (dk_at dksX3_elasticOf_6 0 rfl rfl)
theorem dX3_elasticOf_138 : decode cX3_elasticOf 138 = .ok (.iload_n 2, 1) := dk_28 (dk_at dksX3_elasticOf_6 1 rfl rfl)
theorem dX3_elasticOf_139 : decode cX3_elasticOf 139 = .ok (.iload 7, 2) := dk_21 7 (dk_at dksX3_elasticOf_6 2 rfl rfl)
theorem dX3_elasticOf_141 : decode cX3_elasticOf 141 = .ok (.iload_n 3, 1) := dk_29 (dk_at dksX3_elasticOf_6 4 rfl rfl)
theorem dX3_elasticOf_142 : decode cX3_elasticOf 142 = .ok (.invokevirtual 279, 3) := dk_182 1 23 (dk_at dksX3_elasticOf_6 5 rfl rfl)
theorem dX3_elasticOf_145 : decode cX3_elasticOf 145 = .ok (.invokestatic 261, 3) := dk_184 1 5 (dk_at dksX3_elasticOf_6 8 rfl rfl)
theorem dX3_elasticOf_148 : decode cX3_elasticOf 148 = .ok (.iadd, 1) := dk_96 (dk_at dksX3_elasticOf_6 11 rfl rfl)
theorem dX3_elasticOf_149 : decode cX3_elasticOf 149 = .ok (.iastore, 1) := dk_79 (dk_at dksX3_elasticOf_6 12 rfl rfl)
theorem dX3_elasticOf_150 : decode cX3_elasticOf 150 = .ok (.iinc 7 (-1), 3) := dk_132 7 255 (dk_at dksX3_elasticOf_6 13 rfl rfl)
theorem dX3_elasticOf_153 : decode cX3_elasticOf 153 = .ok (.goto (-128), 3) := dk_167 255 128 (dk_at dksX3_elasticOf_6 16 rfl rfl)
theorem dX3_elasticOf_156 : decode cX3_elasticOf 156 = .ok (.iinc 6 (-1), 3) := dk_132 6 255 (dk_at dksX3_elasticOf_6 19 rfl rfl)
theorem dX3_elasticOf_159 : decode cX3_elasticOf 159 = .ok (.goto (-143), 3) := dk_167 255 113 (dk_at dksX3_elasticOf_7 0 rfl rfl)
theorem dX3_elasticOf_162 : decode cX3_elasticOf 162 = .ok (.aload_n 0, 1) := dk_42 (dk_at dksX3_elasticOf_7 3 rfl rfl)
theorem dX3_elasticOf_163 : decode cX3_elasticOf 163 = .ok (.getfield 80, 3) := dk_180 0 80 (dk_at dksX3_elasticOf_7 4 rfl rfl)
theorem dX3_elasticOf_166 : decode cX3_elasticOf 166 = .ok (.iconst 0, 1) := dk_3 (dk_at dksX3_elasticOf_7 7 rfl rfl)
theorem dX3_elasticOf_167 : decode cX3_elasticOf 167 = .ok (.iaload, 1) := dk_46 (dk_at dksX3_elasticOf_7 8 rfl rfl)
theorem dX3_elasticOf_168 : decode cX3_elasticOf 168 = .ok (.ireturn, 1) := dk_172 (dk_at dksX3_elasticOf_7 9 rfl rfl)
abbrev cX3_restAt : ByteArray := prog_12_method_61_code
def yX3_restAt : MethodName := ⟨RX3, "restAt", "(II)I"⟩
def dkwX3_restAt_1 : List UInt8 := [42, 180, 0, 80, 16, 16, 27, 104, 28, 96, 46, 167, 0, 6, 19, 1, 19, 172]
abbrev dktX3_restAt_1 : List UInt8 := dkwX3_restAt_1 ++ []
def dkwX3_restAt_0 : List UInt8 := [27, 42, 180, 0, 7, 17, 4, 18, 46, 162, 0, 29, 28, 42, 180, 0, 7, 17, 4, 18, 46, 162, 0, 17]
abbrev dktX3_restAt_0 : List UInt8 := dkwX3_restAt_0 ++ dktX3_restAt_1
theorem dksX3_restAt_0 : cX3_restAt.data.toList.drop 0 = dktX3_restAt_0 := by decide +kernel
theorem dksX3_restAt_1 : cX3_restAt.data.toList.drop 24 = dktX3_restAt_1 := dk_seg dksX3_restAt_0 24 rfl rfl
theorem dX3_restAt_0 : decode cX3_restAt 0 = .ok (.iload_n 1, 1) := dk_27 (dk_at dksX3_restAt_0 0 rfl rfl)
theorem dX3_restAt_1 : decode cX3_restAt 1 = .ok (.aload_n 0, 1) := dk_42 (dk_at dksX3_restAt_0 1 rfl rfl)
theorem dX3_restAt_2 : decode cX3_restAt 2 = .ok (.getfield 7, 3) := dk_180 0 7 (dk_at dksX3_restAt_0 2 rfl rfl)
theorem dX3_restAt_5 : decode cX3_restAt 5 = .ok (.sipush 1042, 3) := dk_17 4 18 (dk_at dksX3_restAt_0 5 rfl rfl)
theorem dX3_restAt_8 : decode cX3_restAt 8 = .ok (.iaload, 1) := dk_46 (dk_at dksX3_restAt_0 8 rfl rfl)
theorem dX3_restAt_9 : decode cX3_restAt 9 = .ok (.if_icmp .ge 29, 3) := dk_162 0 29 (dk_at dksX3_restAt_0 9 rfl rfl)
theorem dX3_restAt_12 : decode cX3_restAt 12 = .ok (.iload_n 2, 1) := dk_28 (dk_at dksX3_restAt_0 12 rfl rfl)
theorem dX3_restAt_13 : decode cX3_restAt 13 = .ok (.aload_n 0, 1) := dk_42 (dk_at dksX3_restAt_0 13 rfl rfl)
theorem dX3_restAt_14 : decode cX3_restAt 14 = .ok (.getfield 7, 3) := dk_180 0 7 (dk_at dksX3_restAt_0 14 rfl rfl)
theorem dX3_restAt_17 : decode cX3_restAt 17 = .ok (.sipush 1042, 3) := dk_17 4 18 (dk_at dksX3_restAt_0 17 rfl rfl)
theorem dX3_restAt_20 : decode cX3_restAt 20 = .ok (.iaload, 1) := dk_46 (dk_at dksX3_restAt_0 20 rfl rfl)
theorem dX3_restAt_21 : decode cX3_restAt 21 = .ok (.if_icmp .ge 17, 3) := dk_162 0 17 (dk_at dksX3_restAt_0 21 rfl rfl)
theorem dX3_restAt_24 : decode cX3_restAt 24 = .ok (.aload_n 0, 1) := dk_42 (dk_at dksX3_restAt_1 0 rfl rfl)
theorem dX3_restAt_25 : decode cX3_restAt 25 = .ok (.getfield 80, 3) := dk_180 0 80 (dk_at dksX3_restAt_1 1 rfl rfl)
theorem dX3_restAt_28 : decode cX3_restAt 28 = .ok (.bipush 16, 2) := dk_16 16 (dk_at dksX3_restAt_1 4 rfl rfl)
theorem dX3_restAt_30 : decode cX3_restAt 30 = .ok (.iload_n 1, 1) := dk_27 (dk_at dksX3_restAt_1 6 rfl rfl)
theorem dX3_restAt_31 : decode cX3_restAt 31 = .ok (.imul, 1) := dk_104 (dk_at dksX3_restAt_1 7 rfl rfl)
theorem dX3_restAt_32 : decode cX3_restAt 32 = .ok (.iload_n 2, 1) := dk_28 (dk_at dksX3_restAt_1 8 rfl rfl)
theorem dX3_restAt_33 : decode cX3_restAt 33 = .ok (.iadd, 1) := dk_96 (dk_at dksX3_restAt_1 9 rfl rfl)
theorem dX3_restAt_34 : decode cX3_restAt 34 = .ok (.iaload, 1) := dk_46 (dk_at dksX3_restAt_1 10 rfl rfl)
theorem dX3_restAt_35 : decode cX3_restAt 35 = .ok (.goto 6, 3) := dk_167 0 6 (dk_at dksX3_restAt_1 11 rfl rfl)
theorem dX3_restAt_38 : decode cX3_restAt 38 = .ok (.ldc_w 275, 3) := dk_19 1 19 (dk_at dksX3_restAt_1 14 rfl rfl)
theorem dX3_restAt_41 : decode cX3_restAt 41 = .ok (.ireturn, 1) := dk_172 (dk_at dksX3_restAt_1 17 rfl rfl)
abbrev cX3_codeAt : ByteArray := prog_12_method_60_code
def yX3_codeAt : MethodName := ⟨RX3, "codeAt", "(IIZ)I"⟩
def dkwX3_codeAt_1 : List UInt8 := [100, 46, 7, 96, 16, 8, 112, 167, 0, 14, 42, 180, 0, 77, 16, 16, 27, 104, 28, 96, 46, 172]
abbrev dktX3_codeAt_1 : List UInt8 := dkwX3_codeAt_1 ++ []
def dkwX3_codeAt_0 : List UInt8 := [29, 153, 0, 33, 42, 180, 0, 77, 16, 16, 27, 104, 42, 180, 0, 7, 17, 4, 18, 46, 96, 4, 100, 28]
abbrev dktX3_codeAt_0 : List UInt8 := dkwX3_codeAt_0 ++ dktX3_codeAt_1
theorem dksX3_codeAt_0 : cX3_codeAt.data.toList.drop 0 = dktX3_codeAt_0 := by decide +kernel
theorem dksX3_codeAt_1 : cX3_codeAt.data.toList.drop 24 = dktX3_codeAt_1 := dk_seg dksX3_codeAt_0 24 rfl rfl
theorem dX3_codeAt_0 : decode cX3_codeAt 0 = .ok (.iload_n 3, 1) := dk_29 (dk_at dksX3_codeAt_0 0 rfl rfl)
theorem dX3_codeAt_1 : decode cX3_codeAt 1 = .ok (.ifCond .eq 33, 3) := dk_153 0 33 (dk_at dksX3_codeAt_0 1 rfl rfl)
theorem dX3_codeAt_4 : decode cX3_codeAt 4 = .ok (.aload_n 0, 1) := dk_42 (dk_at dksX3_codeAt_0 4 rfl rfl)
theorem dX3_codeAt_5 : decode cX3_codeAt 5 = .ok (.getfield 77, 3) := dk_180 0 77 (dk_at dksX3_codeAt_0 5 rfl rfl)
theorem dX3_codeAt_8 : decode cX3_codeAt 8 = .ok (.bipush 16, 2) := dk_16 16 (dk_at dksX3_codeAt_0 8 rfl rfl)
theorem dX3_codeAt_10 : decode cX3_codeAt 10 = .ok (.iload_n 1, 1) := dk_27 (dk_at dksX3_codeAt_0 10 rfl rfl)
theorem dX3_codeAt_11 : decode cX3_codeAt 11 = .ok (.imul, 1) := dk_104 (dk_at dksX3_codeAt_0 11 rfl rfl)
theorem dX3_codeAt_12 : decode cX3_codeAt 12 = .ok (.aload_n 0, 1) := dk_42 (dk_at dksX3_codeAt_0 12 rfl rfl)
theorem dX3_codeAt_13 : decode cX3_codeAt 13 = .ok (.getfield 7, 3) := dk_180 0 7 (dk_at dksX3_codeAt_0 13 rfl rfl)
theorem dX3_codeAt_16 : decode cX3_codeAt 16 = .ok (.sipush 1042, 3) := dk_17 4 18 (dk_at dksX3_codeAt_0 16 rfl rfl)
theorem dX3_codeAt_19 : decode cX3_codeAt 19 = .ok (.iaload, 1) := dk_46 (dk_at dksX3_codeAt_0 19 rfl rfl)
theorem dX3_codeAt_20 : decode cX3_codeAt 20 = .ok (.iadd, 1) := dk_96 (dk_at dksX3_codeAt_0 20 rfl rfl)
theorem dX3_codeAt_21 : decode cX3_codeAt 21 = .ok (.iconst 1, 1) := dk_4 (dk_at dksX3_codeAt_0 21 rfl rfl)
theorem dX3_codeAt_22 : decode cX3_codeAt 22 = .ok (.isub, 1) := dk_100 (dk_at dksX3_codeAt_0 22 rfl rfl)
theorem dX3_codeAt_23 : decode cX3_codeAt 23 = .ok (.iload_n 2, 1) := dk_28 (dk_at dksX3_codeAt_0 23 rfl rfl)
theorem dX3_codeAt_24 : decode cX3_codeAt 24 = .ok (.isub, 1) := dk_100 (dk_at dksX3_codeAt_1 0 rfl rfl)
theorem dX3_codeAt_25 : decode cX3_codeAt 25 = .ok (.iaload, 1) := dk_46 (dk_at dksX3_codeAt_1 1 rfl rfl)
theorem dX3_codeAt_26 : decode cX3_codeAt 26 = .ok (.iconst 4, 1) := dk_7 (dk_at dksX3_codeAt_1 2 rfl rfl)
theorem dX3_codeAt_27 : decode cX3_codeAt 27 = .ok (.iadd, 1) := dk_96 (dk_at dksX3_codeAt_1 3 rfl rfl)
theorem dX3_codeAt_28 : decode cX3_codeAt 28 = .ok (.bipush 8, 2) := dk_16 8 (dk_at dksX3_codeAt_1 4 rfl rfl)
theorem dX3_codeAt_30 : decode cX3_codeAt 30 = .ok (.irem, 1) := dk_112 (dk_at dksX3_codeAt_1 6 rfl rfl)
theorem dX3_codeAt_31 : decode cX3_codeAt 31 = .ok (.goto 14, 3) := dk_167 0 14 (dk_at dksX3_codeAt_1 7 rfl rfl)
theorem dX3_codeAt_34 : decode cX3_codeAt 34 = .ok (.aload_n 0, 1) := dk_42 (dk_at dksX3_codeAt_1 10 rfl rfl)
theorem dX3_codeAt_35 : decode cX3_codeAt 35 = .ok (.getfield 77, 3) := dk_180 0 77 (dk_at dksX3_codeAt_1 11 rfl rfl)
theorem dX3_codeAt_38 : decode cX3_codeAt 38 = .ok (.bipush 16, 2) := dk_16 16 (dk_at dksX3_codeAt_1 14 rfl rfl)
theorem dX3_codeAt_40 : decode cX3_codeAt 40 = .ok (.iload_n 1, 1) := dk_27 (dk_at dksX3_codeAt_1 16 rfl rfl)
theorem dX3_codeAt_41 : decode cX3_codeAt 41 = .ok (.imul, 1) := dk_104 (dk_at dksX3_codeAt_1 17 rfl rfl)
theorem dX3_codeAt_42 : decode cX3_codeAt 42 = .ok (.iload_n 2, 1) := dk_28 (dk_at dksX3_codeAt_1 18 rfl rfl)
theorem dX3_codeAt_43 : decode cX3_codeAt 43 = .ok (.iadd, 1) := dk_96 (dk_at dksX3_codeAt_1 19 rfl rfl)
theorem dX3_codeAt_44 : decode cX3_codeAt 44 = .ok (.iaload, 1) := dk_46 (dk_at dksX3_codeAt_1 20 rfl rfl)
theorem dX3_codeAt_45 : decode cX3_codeAt 45 = .ok (.ireturn, 1) := dk_172 (dk_at dksX3_codeAt_1 21 rfl rfl)
abbrev cX3_way : ByteArray := prog_12_method_66_code
def yX3_way : MethodName := ⟨RX3, "way", "(IIII)I"⟩
def dkwX3_way_8 : List UInt8 := [172, 21, 7, 29, 162, 0, 7, 2, 167, 0, 15, 21, 4, 154, 0, 8, 21, 5, 167, 0, 5, 21, 6, 172]
abbrev dktX3_way_8 : List UInt8 := dkwX3_way_8 ++ []
def dkwX3_way_7 : List UInt8 := [132, 5, 1, 167, 0, 6, 132, 6, 1, 132, 7, 1, 167, 255, 148, 29, 2, 160, 0, 8, 21, 7, 4, 96]
abbrev dktX3_way_7 : List UInt8 := dkwX3_way_7 ++ dktX3_way_8
def dkwX3_way_6 : List UInt8 := [132, 5, 1, 132, 6, 1, 167, 0, 27, 42, 21, 5, 4, 96, 21, 6, 182, 1, 20, 21, 9, 160, 0, 9]
abbrev dktX3_way_6 : List UInt8 := dkwX3_way_6 ++ dktX3_way_7
def dkwX3_way_5 : List UInt8 := [184, 1, 5, 100, 54, 9, 42, 21, 5, 4, 96, 21, 6, 4, 96, 182, 1, 20, 21, 9, 160, 0, 12]
abbrev dktX3_way_5 : List UInt8 := dkwX3_way_5 ++ dktX3_way_6
def dkwX3_way_4 : List UInt8 := [21, 5, 104, 21, 6, 96, 46, 42, 27, 21, 5, 3, 182, 1, 23, 42, 28, 21, 6, 3, 182, 1, 23]
abbrev dktX3_way_4 : List UInt8 := dkwX3_way_4 ++ dktX3_way_5
def dkwX3_way_3 : List UInt8 := [159, 0, 108, 21, 5, 21, 8, 160, 0, 10, 21, 6, 21, 8, 159, 0, 94, 42, 180, 0, 80, 16, 16]
abbrev dktX3_way_3 : List UInt8 := dkwX3_way_3 ++ dktX3_way_4
def dkwX3_way_2 : List UInt8 := [3, 54, 5, 3, 54, 6, 3, 54, 7, 42, 180, 0, 7, 17, 4, 18, 46, 4, 100, 54, 8, 21, 7, 29]
abbrev dktX3_way_2 : List UInt8 := dkwX3_way_2 ++ dktX3_way_3
def dkwX3_way_1 : List UInt8 := [184, 0, 171, 154, 0, 5, 2, 172, 42, 27, 28, 3, 42, 180, 0, 7, 17, 4, 19, 46, 182, 1, 34, 87]
abbrev dktX3_way_1 : List UInt8 := dkwX3_way_1 ++ dktX3_way_2
def dkwX3_way_0 : List UInt8 := [42, 27, 28, 182, 1, 30, 153, 0, 23, 29, 2, 161, 0, 18, 29, 2, 159, 0, 15, 21, 4, 3, 4]
abbrev dktX3_way_0 : List UInt8 := dkwX3_way_0 ++ dktX3_way_1
theorem dksX3_way_0 : cX3_way.data.toList.drop 0 = dktX3_way_0 := by decide +kernel
theorem dksX3_way_1 : cX3_way.data.toList.drop 23 = dktX3_way_1 := dk_seg dksX3_way_0 23 rfl rfl
theorem dksX3_way_2 : cX3_way.data.toList.drop 47 = dktX3_way_2 := dk_seg dksX3_way_1 24 rfl rfl
theorem dksX3_way_3 : cX3_way.data.toList.drop 71 = dktX3_way_3 := dk_seg dksX3_way_2 24 rfl rfl
theorem dksX3_way_4 : cX3_way.data.toList.drop 94 = dktX3_way_4 := dk_seg dksX3_way_3 23 rfl rfl
theorem dksX3_way_5 : cX3_way.data.toList.drop 117 = dktX3_way_5 := dk_seg dksX3_way_4 23 rfl rfl
theorem dksX3_way_6 : cX3_way.data.toList.drop 140 = dktX3_way_6 := dk_seg dksX3_way_5 23 rfl rfl
theorem dksX3_way_7 : cX3_way.data.toList.drop 164 = dktX3_way_7 := dk_seg dksX3_way_6 24 rfl rfl
theorem dksX3_way_8 : cX3_way.data.toList.drop 188 = dktX3_way_8 := dk_seg dksX3_way_7 24 rfl rfl
theorem dX3_way_0 : decode cX3_way 0 = .ok (.aload_n 0, 1) := dk_42 (dk_at dksX3_way_0 0 rfl rfl)
theorem dX3_way_1 : decode cX3_way 1 = .ok (.iload_n 1, 1) := dk_27 (dk_at dksX3_way_0 1 rfl rfl)
theorem dX3_way_2 : decode cX3_way 2 = .ok (.iload_n 2, 1) := dk_28 (dk_at dksX3_way_0 2 rfl rfl)
theorem dX3_way_3 : decode cX3_way 3 = .ok (.invokevirtual 286, 3) := dk_182 1 30 (dk_at dksX3_way_0 3 rfl rfl)
theorem dX3_way_6 : decode cX3_way 6 = .ok (.ifCond .eq 23, 3) := dk_153 0 23 (dk_at dksX3_way_0 6 rfl rfl)
theorem dX3_way_9 : decode cX3_way 9 = .ok (.iload_n 3, 1) := dk_29 (dk_at dksX3_way_0 9 rfl rfl)
theorem dX3_way_10 : decode cX3_way 10 = .ok (.iconst (-1), 1) := dk_2 (dk_at dksX3_way_0 10 rfl rfl)
theorem dX3_way_11 : decode cX3_way 11 = .ok (.if_icmp .lt 18, 3) := dk_161 0 18 (dk_at dksX3_way_0 11 rfl rfl)
theorem dX3_way_14 : decode cX3_way 14 = .ok (.iload_n 3, 1) := dk_29 (dk_at dksX3_way_0 14 rfl rfl)
theorem dX3_way_15 : decode cX3_way 15 = .ok (.iconst (-1), 1) := dk_2 (dk_at dksX3_way_0 15 rfl rfl)
theorem dX3_way_16 : decode cX3_way 16 = .ok (.if_icmp .eq 15, 3) := dk_159 0 15 (dk_at dksX3_way_0 16 rfl rfl)
theorem dX3_way_19 : decode cX3_way 19 = .ok (.iload 4, 2) := dk_21 4 (dk_at dksX3_way_0 19 rfl rfl)
theorem dX3_way_21 : decode cX3_way 21 = .ok (.iconst 0, 1) := dk_3 (dk_at dksX3_way_0 21 rfl rfl)
theorem dX3_way_22 : decode cX3_way 22 = .ok (.iconst 1, 1) := dk_4 (dk_at dksX3_way_0 22 rfl rfl)
theorem dX3_way_23 : decode cX3_way 23 = .ok (.invokestatic 171, 3) := dk_184 0 171 (dk_at dksX3_way_1 0 rfl rfl)
theorem dX3_way_26 : decode cX3_way 26 = .ok (.ifCond .ne 5, 3) := dk_154 0 5 (dk_at dksX3_way_1 3 rfl rfl)
theorem dX3_way_29 : decode cX3_way 29 = .ok (.iconst (-1), 1) := dk_2 (dk_at dksX3_way_1 6 rfl rfl)
theorem dX3_way_30 : decode cX3_way 30 = .ok (.ireturn, 1) := dk_172 (dk_at dksX3_way_1 7 rfl rfl)
theorem dX3_way_31 : decode cX3_way 31 = .ok (.aload_n 0, 1) := dk_42 (dk_at dksX3_way_1 8 rfl rfl)
theorem dX3_way_32 : decode cX3_way 32 = .ok (.iload_n 1, 1) := dk_27 (dk_at dksX3_way_1 9 rfl rfl)
theorem dX3_way_33 : decode cX3_way 33 = .ok (.iload_n 2, 1) := dk_28 (dk_at dksX3_way_1 10 rfl rfl)
theorem dX3_way_34 : decode cX3_way 34 = .ok (.iconst 0, 1) := dk_3 (dk_at dksX3_way_1 11 rfl rfl)
theorem dX3_way_35 : decode cX3_way 35 = .ok (.aload_n 0, 1) := dk_42 (dk_at dksX3_way_1 12 rfl rfl)
theorem dX3_way_36 : decode cX3_way 36 = .ok (.getfield 7, 3) := dk_180 0 7 (dk_at dksX3_way_1 13 rfl rfl)
theorem dX3_way_39 : decode cX3_way 39 = .ok (.sipush 1043, 3) := dk_17 4 19 (dk_at dksX3_way_1 16 rfl rfl)
theorem dX3_way_42 : decode cX3_way 42 = .ok (.iaload, 1) := dk_46 (dk_at dksX3_way_1 19 rfl rfl)
theorem dX3_way_43 : decode cX3_way 43 = .ok (.invokevirtual 290, 3) := dk_182 1 34 (dk_at dksX3_way_1 20 rfl rfl)
theorem dX3_way_46 : decode cX3_way 46 = .ok (.pop, 1) := dk_87 (dk_at dksX3_way_1 23 rfl rfl)
theorem dX3_way_47 : decode cX3_way 47 = .ok (.iconst 0, 1) := dk_3 (dk_at dksX3_way_2 0 rfl rfl)
theorem dX3_way_48 : decode cX3_way 48 = .ok (.istore 5, 2) := dk_54 5 (dk_at dksX3_way_2 1 rfl rfl)
theorem dX3_way_50 : decode cX3_way 50 = .ok (.iconst 0, 1) := dk_3 (dk_at dksX3_way_2 3 rfl rfl)
theorem dX3_way_51 : decode cX3_way 51 = .ok (.istore 6, 2) := dk_54 6 (dk_at dksX3_way_2 4 rfl rfl)
theorem dX3_way_53 : decode cX3_way 53 = .ok (.iconst 0, 1) := dk_3 (dk_at dksX3_way_2 6 rfl rfl)
theorem dX3_way_54 : decode cX3_way 54 = .ok (.istore 7, 2) := dk_54 7 (dk_at dksX3_way_2 7 rfl rfl)
theorem dX3_way_56 : decode cX3_way 56 = .ok (.aload_n 0, 1) := dk_42 (dk_at dksX3_way_2 9 rfl rfl)
theorem dX3_way_57 : decode cX3_way 57 = .ok (.getfield 7, 3) := dk_180 0 7 (dk_at dksX3_way_2 10 rfl rfl)
theorem dX3_way_60 : decode cX3_way 60 = .ok (.sipush 1042, 3) := dk_17 4 18 (dk_at dksX3_way_2 13 rfl rfl)
theorem dX3_way_63 : decode cX3_way 63 = .ok (.iaload, 1) := dk_46 (dk_at dksX3_way_2 16 rfl rfl)
theorem dX3_way_64 : decode cX3_way 64 = .ok (.iconst 1, 1) := dk_4 (dk_at dksX3_way_2 17 rfl rfl)
theorem dX3_way_65 : decode cX3_way 65 = .ok (.isub, 1) := dk_100 (dk_at dksX3_way_2 18 rfl rfl)
theorem dX3_way_66 : decode cX3_way 66 = .ok (.istore 8, 2) := dk_54 8 (dk_at dksX3_way_2 19 rfl rfl)
theorem dX3_way_68 : decode cX3_way 68 = .ok (.iload 7, 2) := dk_21 7 (dk_at dksX3_way_2 21 rfl rfl)
theorem dX3_way_70 : decode cX3_way 70 = .ok (.iload_n 3, 1) := dk_29 (dk_at dksX3_way_2 23 rfl rfl)
theorem dX3_way_71 : decode cX3_way 71 = .ok (.if_icmp .eq 108, 3) := dk_159 0 108 (dk_at dksX3_way_3 0 rfl rfl)
theorem dX3_way_74 : decode cX3_way 74 = .ok (.iload 5, 2) := dk_21 5 (dk_at dksX3_way_3 3 rfl rfl)
theorem dX3_way_76 : decode cX3_way 76 = .ok (.iload 8, 2) := dk_21 8 (dk_at dksX3_way_3 5 rfl rfl)
theorem dX3_way_78 : decode cX3_way 78 = .ok (.if_icmp .ne 10, 3) := dk_160 0 10 (dk_at dksX3_way_3 7 rfl rfl)
theorem dX3_way_81 : decode cX3_way 81 = .ok (.iload 6, 2) := dk_21 6 (dk_at dksX3_way_3 10 rfl rfl)
theorem dX3_way_83 : decode cX3_way 83 = .ok (.iload 8, 2) := dk_21 8 (dk_at dksX3_way_3 12 rfl rfl)
theorem dX3_way_85 : decode cX3_way 85 = .ok (.if_icmp .eq 94, 3) := dk_159 0 94 (dk_at dksX3_way_3 14 rfl rfl)
theorem dX3_way_88 : decode cX3_way 88 = .ok (.aload_n 0, 1) := dk_42 (dk_at dksX3_way_3 17 rfl rfl)
theorem dX3_way_89 : decode cX3_way 89 = .ok (.getfield 80, 3) := dk_180 0 80 (dk_at dksX3_way_3 18 rfl rfl)
theorem dX3_way_92 : decode cX3_way 92 = .ok (.bipush 16, 2) := dk_16 16 (dk_at dksX3_way_3 21 rfl rfl)
theorem dX3_way_94 : decode cX3_way 94 = .ok (.iload 5, 2) := dk_21 5 (dk_at dksX3_way_4 0 rfl rfl)
theorem dX3_way_96 : decode cX3_way 96 = .ok (.imul, 1) := dk_104 (dk_at dksX3_way_4 2 rfl rfl)
theorem dX3_way_97 : decode cX3_way 97 = .ok (.iload 6, 2) := dk_21 6 (dk_at dksX3_way_4 3 rfl rfl)
theorem dX3_way_99 : decode cX3_way 99 = .ok (.iadd, 1) := dk_96 (dk_at dksX3_way_4 5 rfl rfl)
theorem dX3_way_100 : decode cX3_way 100 = .ok (.iaload, 1) := dk_46 (dk_at dksX3_way_4 6 rfl rfl)
theorem dX3_way_101 : decode cX3_way 101 = .ok (.aload_n 0, 1) := dk_42 (dk_at dksX3_way_4 7 rfl rfl)
theorem dX3_way_102 : decode cX3_way 102 = .ok (.iload_n 1, 1) := dk_27 (dk_at dksX3_way_4 8 rfl rfl)
theorem dX3_way_103 : decode cX3_way 103 = .ok (.iload 5, 2) := dk_21 5 (dk_at dksX3_way_4 9 rfl rfl)
theorem dX3_way_105 : decode cX3_way 105 = .ok (.iconst 0, 1) := dk_3 (dk_at dksX3_way_4 11 rfl rfl)
theorem dX3_way_106 : decode cX3_way 106 = .ok (.invokevirtual 279, 3) := dk_182 1 23 (dk_at dksX3_way_4 12 rfl rfl)
theorem dX3_way_109 : decode cX3_way 109 = .ok (.aload_n 0, 1) := dk_42 (dk_at dksX3_way_4 15 rfl rfl)
theorem dX3_way_110 : decode cX3_way 110 = .ok (.iload_n 2, 1) := dk_28 (dk_at dksX3_way_4 16 rfl rfl)
theorem dX3_way_111 : decode cX3_way 111 = .ok (.iload 6, 2) := dk_21 6 (dk_at dksX3_way_4 17 rfl rfl)
theorem dX3_way_113 : decode cX3_way 113 = .ok (.iconst 0, 1) := dk_3 (dk_at dksX3_way_4 19 rfl rfl)
theorem dX3_way_114 : decode cX3_way 114 = .ok (.invokevirtual 279, 3) := dk_182 1 23 (dk_at dksX3_way_4 20 rfl rfl)
theorem dX3_way_117 : decode cX3_way 117 = .ok (.invokestatic 261, 3) := dk_184 1 5 (dk_at dksX3_way_5 0 rfl rfl)
theorem dX3_way_120 : decode cX3_way 120 = .ok (.isub, 1) := dk_100 (dk_at dksX3_way_5 3 rfl rfl)
theorem dX3_way_121 : decode cX3_way 121 = .ok (.istore 9, 2) := dk_54 9 (dk_at dksX3_way_5 4 rfl rfl)
theorem dX3_way_123 : decode cX3_way 123 = .ok (.aload_n 0, 1) := dk_42 (dk_at dksX3_way_5 6 rfl rfl)
theorem dX3_way_124 : decode cX3_way 124 = .ok (.iload 5, 2) := dk_21 5 (dk_at dksX3_way_5 7 rfl rfl)
theorem dX3_way_126 : decode cX3_way 126 = .ok (.iconst 1, 1) := dk_4 (dk_at dksX3_way_5 9 rfl rfl)
theorem dX3_way_127 : decode cX3_way 127 = .ok (.iadd, 1) := dk_96 (dk_at dksX3_way_5 10 rfl rfl)
theorem dX3_way_128 : decode cX3_way 128 = .ok (.iload 6, 2) := dk_21 6 (dk_at dksX3_way_5 11 rfl rfl)
theorem dX3_way_130 : decode cX3_way 130 = .ok (.iconst 1, 1) := dk_4 (dk_at dksX3_way_5 13 rfl rfl)
theorem dX3_way_131 : decode cX3_way 131 = .ok (.iadd, 1) := dk_96 (dk_at dksX3_way_5 14 rfl rfl)
theorem dX3_way_132 : decode cX3_way 132 = .ok (.invokevirtual 276, 3) := dk_182 1 20 (dk_at dksX3_way_5 15 rfl rfl)
theorem dX3_way_135 : decode cX3_way 135 = .ok (.iload 9, 2) := dk_21 9 (dk_at dksX3_way_5 18 rfl rfl)
theorem dX3_way_137 : decode cX3_way 137 = .ok (.if_icmp .ne 12, 3) := dk_160 0 12 (dk_at dksX3_way_5 20 rfl rfl)
theorem dX3_way_140 : decode cX3_way 140 = .ok (.iinc 5 1, 3) := dk_132 5 1 (dk_at dksX3_way_6 0 rfl rfl)
theorem dX3_way_143 : decode cX3_way 143 = .ok (.iinc 6 1, 3) := dk_132 6 1 (dk_at dksX3_way_6 3 rfl rfl)
theorem dX3_way_146 : decode cX3_way 146 = .ok (.goto 27, 3) := dk_167 0 27 (dk_at dksX3_way_6 6 rfl rfl)
theorem dX3_way_149 : decode cX3_way 149 = .ok (.aload_n 0, 1) := dk_42 (dk_at dksX3_way_6 9 rfl rfl)
theorem dX3_way_150 : decode cX3_way 150 = .ok (.iload 5, 2) := dk_21 5 (dk_at dksX3_way_6 10 rfl rfl)
theorem dX3_way_152 : decode cX3_way 152 = .ok (.iconst 1, 1) := dk_4 (dk_at dksX3_way_6 12 rfl rfl)
theorem dX3_way_153 : decode cX3_way 153 = .ok (.iadd, 1) := dk_96 (dk_at dksX3_way_6 13 rfl rfl)
theorem dX3_way_154 : decode cX3_way 154 = .ok (.iload 6, 2) := dk_21 6 (dk_at dksX3_way_6 14 rfl rfl)
theorem dX3_way_156 : decode cX3_way 156 = .ok (.invokevirtual 276, 3) := dk_182 1 20 (dk_at dksX3_way_6 16 rfl rfl)
theorem dX3_way_159 : decode cX3_way 159 = .ok (.iload 9, 2) := dk_21 9 (dk_at dksX3_way_6 19 rfl rfl)
theorem dX3_way_161 : decode cX3_way 161 = .ok (.if_icmp .ne 9, 3) := dk_160 0 9 (dk_at dksX3_way_6 21 rfl rfl)
theorem dX3_way_164 : decode cX3_way 164 = .ok (.iinc 5 1, 3) := dk_132 5 1 (dk_at dksX3_way_7 0 rfl rfl)
theorem dX3_way_167 : decode cX3_way 167 = .ok (.goto 6, 3) := dk_167 0 6 (dk_at dksX3_way_7 3 rfl rfl)
theorem dX3_way_170 : decode cX3_way 170 = .ok (.iinc 6 1, 3) := dk_132 6 1 (dk_at dksX3_way_7 6 rfl rfl)
theorem dX3_way_173 : decode cX3_way 173 = .ok (.iinc 7 1, 3) := dk_132 7 1 (dk_at dksX3_way_7 9 rfl rfl)
theorem dX3_way_176 : decode cX3_way 176 = .ok (.goto (-108), 3) := dk_167 255 148 (dk_at dksX3_way_7 12 rfl rfl)
theorem dX3_way_179 : decode cX3_way 179 = .ok (.iload_n 3, 1) := dk_29 (dk_at dksX3_way_7 15 rfl rfl)
theorem dX3_way_180 : decode cX3_way 180 = .ok (.iconst (-1), 1) := dk_2 (dk_at dksX3_way_7 16 rfl rfl)
theorem dX3_way_181 : decode cX3_way 181 = .ok (.if_icmp .ne 8, 3) := dk_160 0 8 (dk_at dksX3_way_7 17 rfl rfl)
theorem dX3_way_184 : decode cX3_way 184 = .ok (.iload 7, 2) := dk_21 7 (dk_at dksX3_way_7 20 rfl rfl)
theorem dX3_way_186 : decode cX3_way 186 = .ok (.iconst 1, 1) := dk_4 (dk_at dksX3_way_7 22 rfl rfl)
theorem dX3_way_187 : decode cX3_way 187 = .ok (.iadd, 1) := dk_96 (dk_at dksX3_way_7 23 rfl rfl)
theorem dX3_way_188 : decode cX3_way 188 = .ok (.ireturn, 1) := dk_172 (dk_at dksX3_way_8 0 rfl rfl)
theorem dX3_way_189 : decode cX3_way 189 = .ok (.iload 7, 2) := dk_21 7 (dk_at dksX3_way_8 1 rfl rfl)
theorem dX3_way_191 : decode cX3_way 191 = .ok (.iload_n 3, 1) := dk_29 (dk_at dksX3_way_8 3 rfl rfl)
theorem dX3_way_192 : decode cX3_way 192 = .ok (.if_icmp .ge 7, 3) := dk_162 0 7 (dk_at dksX3_way_8 4 rfl rfl)
theorem dX3_way_195 : decode cX3_way 195 = .ok (.iconst (-1), 1) := dk_2 (dk_at dksX3_way_8 7 rfl rfl)
theorem dX3_way_196 : decode cX3_way 196 = .ok (.goto 15, 3) := dk_167 0 15 (dk_at dksX3_way_8 8 rfl rfl)
theorem dX3_way_199 : decode cX3_way 199 = .ok (.iload 4, 2) := dk_21 4 (dk_at dksX3_way_8 11 rfl rfl)
theorem dX3_way_201 : decode cX3_way 201 = .ok (.ifCond .ne 8, 3) := dk_154 0 8 (dk_at dksX3_way_8 13 rfl rfl)
theorem dX3_way_204 : decode cX3_way 204 = .ok (.iload 5, 2) := dk_21 5 (dk_at dksX3_way_8 16 rfl rfl)
theorem dX3_way_206 : decode cX3_way 206 = .ok (.goto 5, 3) := dk_167 0 5 (dk_at dksX3_way_8 18 rfl rfl)
theorem dX3_way_209 : decode cX3_way 209 = .ok (.iload 6, 2) := dk_21 6 (dk_at dksX3_way_8 21 rfl rfl)
theorem dX3_way_211 : decode cX3_way 211 = .ok (.ireturn, 1) := dk_172 (dk_at dksX3_way_8 23 rfl rfl)
abbrev cX3_strays : ByteArray := prog_12_method_67_code
def yX3_strays : MethodName := ⟨RX3, "strays", "(II)I"⟩
def dkwX3_strays_2 : List UInt8 := [182, 1, 38, 100, 184, 0, 249, 184, 1, 8, 54, 4, 132, 5, 1, 167, 255, 218, 21, 4, 172]
abbrev dktX3_strays_2 : List UInt8 := dkwX3_strays_2 ++ []
def dkwX3_strays_1 : List UInt8 := [21, 5, 29, 162, 0, 38, 21, 4, 42, 27, 28, 21, 5, 3, 182, 1, 38, 42, 27, 28, 21, 5, 4]
abbrev dktX3_strays_1 : List UInt8 := dkwX3_strays_1 ++ dktX3_strays_2
def dkwX3_strays_0 : List UInt8 := [42, 27, 28, 2, 3, 182, 1, 38, 62, 29, 2, 160, 0, 7, 2, 167, 0, 4, 3, 54, 4, 3, 54, 5]
abbrev dktX3_strays_0 : List UInt8 := dkwX3_strays_0 ++ dktX3_strays_1
theorem dksX3_strays_0 : cX3_strays.data.toList.drop 0 = dktX3_strays_0 := by decide +kernel
theorem dksX3_strays_1 : cX3_strays.data.toList.drop 24 = dktX3_strays_1 := dk_seg dksX3_strays_0 24 rfl rfl
theorem dksX3_strays_2 : cX3_strays.data.toList.drop 47 = dktX3_strays_2 := dk_seg dksX3_strays_1 23 rfl rfl
theorem dX3_strays_0 : decode cX3_strays 0 = .ok (.aload_n 0, 1) := dk_42 (dk_at dksX3_strays_0 0 rfl rfl)
theorem dX3_strays_1 : decode cX3_strays 1 = .ok (.iload_n 1, 1) := dk_27 (dk_at dksX3_strays_0 1 rfl rfl)
theorem dX3_strays_2 : decode cX3_strays 2 = .ok (.iload_n 2, 1) := dk_28 (dk_at dksX3_strays_0 2 rfl rfl)
theorem dX3_strays_3 : decode cX3_strays 3 = .ok (.iconst (-1), 1) := dk_2 (dk_at dksX3_strays_0 3 rfl rfl)
theorem dX3_strays_4 : decode cX3_strays 4 = .ok (.iconst 0, 1) := dk_3 (dk_at dksX3_strays_0 4 rfl rfl)
theorem dX3_strays_5 : decode cX3_strays 5 = .ok (.invokevirtual 294, 3) := dk_182 1 38 (dk_at dksX3_strays_0 5 rfl rfl)
theorem dX3_strays_8 : decode cX3_strays 8 = .ok (.istore_n 3, 1) := dk_62 (dk_at dksX3_strays_0 8 rfl rfl)
theorem dX3_strays_9 : decode cX3_strays 9 = .ok (.iload_n 3, 1) := dk_29 (dk_at dksX3_strays_0 9 rfl rfl)
theorem dX3_strays_10 : decode cX3_strays 10 = .ok (.iconst (-1), 1) := dk_2 (dk_at dksX3_strays_0 10 rfl rfl)
theorem dX3_strays_11 : decode cX3_strays 11 = .ok (.if_icmp .ne 7, 3) := dk_160 0 7 (dk_at dksX3_strays_0 11 rfl rfl)
theorem dX3_strays_14 : decode cX3_strays 14 = .ok (.iconst (-1), 1) := dk_2 (dk_at dksX3_strays_0 14 rfl rfl)
theorem dX3_strays_15 : decode cX3_strays 15 = .ok (.goto 4, 3) := dk_167 0 4 (dk_at dksX3_strays_0 15 rfl rfl)
theorem dX3_strays_18 : decode cX3_strays 18 = .ok (.iconst 0, 1) := dk_3 (dk_at dksX3_strays_0 18 rfl rfl)
theorem dX3_strays_19 : decode cX3_strays 19 = .ok (.istore 4, 2) := dk_54 4 (dk_at dksX3_strays_0 19 rfl rfl)
theorem dX3_strays_21 : decode cX3_strays 21 = .ok (.iconst 0, 1) := dk_3 (dk_at dksX3_strays_0 21 rfl rfl)
theorem dX3_strays_22 : decode cX3_strays 22 = .ok (.istore 5, 2) := dk_54 5 (dk_at dksX3_strays_0 22 rfl rfl)
theorem dX3_strays_24 : decode cX3_strays 24 = .ok (.iload 5, 2) := dk_21 5 (dk_at dksX3_strays_1 0 rfl rfl)
theorem dX3_strays_26 : decode cX3_strays 26 = .ok (.iload_n 3, 1) := dk_29 (dk_at dksX3_strays_1 2 rfl rfl)
theorem dX3_strays_27 : decode cX3_strays 27 = .ok (.if_icmp .ge 38, 3) := dk_162 0 38 (dk_at dksX3_strays_1 3 rfl rfl)
theorem dX3_strays_30 : decode cX3_strays 30 = .ok (.iload 4, 2) := dk_21 4 (dk_at dksX3_strays_1 6 rfl rfl)
theorem dX3_strays_32 : decode cX3_strays 32 = .ok (.aload_n 0, 1) := dk_42 (dk_at dksX3_strays_1 8 rfl rfl)
theorem dX3_strays_33 : decode cX3_strays 33 = .ok (.iload_n 1, 1) := dk_27 (dk_at dksX3_strays_1 9 rfl rfl)
theorem dX3_strays_34 : decode cX3_strays 34 = .ok (.iload_n 2, 1) := dk_28 (dk_at dksX3_strays_1 10 rfl rfl)
theorem dX3_strays_35 : decode cX3_strays 35 = .ok (.iload 5, 2) := dk_21 5 (dk_at dksX3_strays_1 11 rfl rfl)
theorem dX3_strays_37 : decode cX3_strays 37 = .ok (.iconst 0, 1) := dk_3 (dk_at dksX3_strays_1 13 rfl rfl)
theorem dX3_strays_38 : decode cX3_strays 38 = .ok (.invokevirtual 294, 3) := dk_182 1 38 (dk_at dksX3_strays_1 14 rfl rfl)
theorem dX3_strays_41 : decode cX3_strays 41 = .ok (.aload_n 0, 1) := dk_42 (dk_at dksX3_strays_1 17 rfl rfl)
theorem dX3_strays_42 : decode cX3_strays 42 = .ok (.iload_n 1, 1) := dk_27 (dk_at dksX3_strays_1 18 rfl rfl)
theorem dX3_strays_43 : decode cX3_strays 43 = .ok (.iload_n 2, 1) := dk_28 (dk_at dksX3_strays_1 19 rfl rfl)
theorem dX3_strays_44 : decode cX3_strays 44 = .ok (.iload 5, 2) := dk_21 5 (dk_at dksX3_strays_1 20 rfl rfl)
theorem dX3_strays_46 : decode cX3_strays 46 = .ok (.iconst 1, 1) := dk_4 (dk_at dksX3_strays_1 22 rfl rfl)
theorem dX3_strays_47 : decode cX3_strays 47 = .ok (.invokevirtual 294, 3) := dk_182 1 38 (dk_at dksX3_strays_2 0 rfl rfl)
theorem dX3_strays_50 : decode cX3_strays 50 = .ok (.isub, 1) := dk_100 (dk_at dksX3_strays_2 3 rfl rfl)
theorem dX3_strays_51 : decode cX3_strays 51 = .ok (.invokestatic 249, 3) := dk_184 0 249 (dk_at dksX3_strays_2 4 rfl rfl)
theorem dX3_strays_54 : decode cX3_strays 54 = .ok (.invokestatic 264, 3) := dk_184 1 8 (dk_at dksX3_strays_2 7 rfl rfl)
theorem dX3_strays_57 : decode cX3_strays 57 = .ok (.istore 4, 2) := dk_54 4 (dk_at dksX3_strays_2 10 rfl rfl)
theorem dX3_strays_59 : decode cX3_strays 59 = .ok (.iinc 5 1, 3) := dk_132 5 1 (dk_at dksX3_strays_2 12 rfl rfl)
theorem dX3_strays_62 : decode cX3_strays 62 = .ok (.goto (-38), 3) := dk_167 255 218 (dk_at dksX3_strays_2 15 rfl rfl)
theorem dX3_strays_65 : decode cX3_strays 65 = .ok (.iload 4, 2) := dk_21 4 (dk_at dksX3_strays_2 18 rfl rfl)
theorem dX3_strays_67 : decode cX3_strays 67 = .ok (.ireturn, 1) := dk_172 (dk_at dksX3_strays_2 20 rfl rfl)
abbrev cX3_paired : ByteArray := prog_12_method_69_code
def yX3_paired : MethodName := ⟨RX3, "paired", "(II)I"⟩
def dkwX3_paired_0 : List UInt8 := [42, 27, 28, 182, 1, 30, 153, 0, 12, 42, 27, 28, 182, 1, 41, 167, 0, 4, 2, 172]
abbrev dktX3_paired_0 : List UInt8 := dkwX3_paired_0 ++ []
theorem dksX3_paired_0 : cX3_paired.data.toList.drop 0 = dktX3_paired_0 := by decide +kernel
theorem dX3_paired_0 : decode cX3_paired 0 = .ok (.aload_n 0, 1) := dk_42 (dk_at dksX3_paired_0 0 rfl rfl)
theorem dX3_paired_1 : decode cX3_paired 1 = .ok (.iload_n 1, 1) := dk_27 (dk_at dksX3_paired_0 1 rfl rfl)
theorem dX3_paired_2 : decode cX3_paired 2 = .ok (.iload_n 2, 1) := dk_28 (dk_at dksX3_paired_0 2 rfl rfl)
theorem dX3_paired_3 : decode cX3_paired 3 = .ok (.invokevirtual 286, 3) := dk_182 1 30 (dk_at dksX3_paired_0 3 rfl rfl)
theorem dX3_paired_6 : decode cX3_paired 6 = .ok (.ifCond .eq 12, 3) := dk_153 0 12 (dk_at dksX3_paired_0 6 rfl rfl)
theorem dX3_paired_9 : decode cX3_paired 9 = .ok (.aload_n 0, 1) := dk_42 (dk_at dksX3_paired_0 9 rfl rfl)
theorem dX3_paired_10 : decode cX3_paired 10 = .ok (.iload_n 1, 1) := dk_27 (dk_at dksX3_paired_0 10 rfl rfl)
theorem dX3_paired_11 : decode cX3_paired 11 = .ok (.iload_n 2, 1) := dk_28 (dk_at dksX3_paired_0 11 rfl rfl)
theorem dX3_paired_12 : decode cX3_paired 12 = .ok (.invokevirtual 297, 3) := dk_182 1 41 (dk_at dksX3_paired_0 12 rfl rfl)
theorem dX3_paired_15 : decode cX3_paired 15 = .ok (.goto 4, 3) := dk_167 0 4 (dk_at dksX3_paired_0 15 rfl rfl)
theorem dX3_paired_18 : decode cX3_paired 18 = .ok (.iconst (-1), 1) := dk_2 (dk_at dksX3_paired_0 18 rfl rfl)
theorem dX3_paired_19 : decode cX3_paired 19 = .ok (.ireturn, 1) := dk_172 (dk_at dksX3_paired_0 19 rfl rfl)
abbrev cX3_pairedOf : ByteArray := prog_12_method_68_code
def yX3_pairedOf : MethodName := ⟨RX3, "pairedOf", "(II)I"⟩
def dkwX3_pairedOf_1 : List UInt8 := [17, 4, 19, 46, 182, 1, 34, 42, 180, 0, 7, 17, 4, 21, 46, 96, 184, 1, 2, 172]
abbrev dktX3_pairedOf_1 : List UInt8 := dkwX3_pairedOf_1 ++ []
def dkwX3_pairedOf_0 : List UInt8 := [42, 27, 28, 3, 42, 180, 0, 7, 17, 4, 19, 46, 182, 1, 34, 42, 27, 28, 4, 42, 180, 0, 7]
abbrev dktX3_pairedOf_0 : List UInt8 := dkwX3_pairedOf_0 ++ dktX3_pairedOf_1
theorem dksX3_pairedOf_0 : cX3_pairedOf.data.toList.drop 0 = dktX3_pairedOf_0 := by decide +kernel
theorem dksX3_pairedOf_1 : cX3_pairedOf.data.toList.drop 23 = dktX3_pairedOf_1 := dk_seg dksX3_pairedOf_0 23 rfl rfl
theorem dX3_pairedOf_0 : decode cX3_pairedOf 0 = .ok (.aload_n 0, 1) := dk_42 (dk_at dksX3_pairedOf_0 0 rfl rfl)
theorem dX3_pairedOf_1 : decode cX3_pairedOf 1 = .ok (.iload_n 1, 1) := dk_27 (dk_at dksX3_pairedOf_0 1 rfl rfl)
theorem dX3_pairedOf_2 : decode cX3_pairedOf 2 = .ok (.iload_n 2, 1) := dk_28 (dk_at dksX3_pairedOf_0 2 rfl rfl)
theorem dX3_pairedOf_3 : decode cX3_pairedOf 3 = .ok (.iconst 0, 1) := dk_3 (dk_at dksX3_pairedOf_0 3 rfl rfl)
theorem dX3_pairedOf_4 : decode cX3_pairedOf 4 = .ok (.aload_n 0, 1) := dk_42 (dk_at dksX3_pairedOf_0 4 rfl rfl)
theorem dX3_pairedOf_5 : decode cX3_pairedOf 5 = .ok (.getfield 7, 3) := dk_180 0 7 (dk_at dksX3_pairedOf_0 5 rfl rfl)
theorem dX3_pairedOf_8 : decode cX3_pairedOf 8 = .ok (.sipush 1043, 3) := dk_17 4 19 (dk_at dksX3_pairedOf_0 8 rfl rfl)
theorem dX3_pairedOf_11 : decode cX3_pairedOf 11 = .ok (.iaload, 1) := dk_46 (dk_at dksX3_pairedOf_0 11 rfl rfl)
theorem dX3_pairedOf_12 : decode cX3_pairedOf 12 = .ok (.invokevirtual 290, 3) := dk_182 1 34 (dk_at dksX3_pairedOf_0 12 rfl rfl)
theorem dX3_pairedOf_15 : decode cX3_pairedOf 15 = .ok (.aload_n 0, 1) := dk_42 (dk_at dksX3_pairedOf_0 15 rfl rfl)
theorem dX3_pairedOf_16 : decode cX3_pairedOf 16 = .ok (.iload_n 1, 1) := dk_27 (dk_at dksX3_pairedOf_0 16 rfl rfl)
theorem dX3_pairedOf_17 : decode cX3_pairedOf 17 = .ok (.iload_n 2, 1) := dk_28 (dk_at dksX3_pairedOf_0 17 rfl rfl)
theorem dX3_pairedOf_18 : decode cX3_pairedOf 18 = .ok (.iconst 1, 1) := dk_4 (dk_at dksX3_pairedOf_0 18 rfl rfl)
theorem dX3_pairedOf_19 : decode cX3_pairedOf 19 = .ok (.aload_n 0, 1) := dk_42 (dk_at dksX3_pairedOf_0 19 rfl rfl)
theorem dX3_pairedOf_20 : decode cX3_pairedOf 20 = .ok (.getfield 7, 3) := dk_180 0 7 (dk_at dksX3_pairedOf_0 20 rfl rfl)
theorem dX3_pairedOf_23 : decode cX3_pairedOf 23 = .ok (.sipush 1043, 3) := dk_17 4 19 (dk_at dksX3_pairedOf_1 0 rfl rfl)
theorem dX3_pairedOf_26 : decode cX3_pairedOf 26 = .ok (.iaload, 1) := dk_46 (dk_at dksX3_pairedOf_1 3 rfl rfl)
theorem dX3_pairedOf_27 : decode cX3_pairedOf 27 = .ok (.invokevirtual 290, 3) := dk_182 1 34 (dk_at dksX3_pairedOf_1 4 rfl rfl)
theorem dX3_pairedOf_30 : decode cX3_pairedOf 30 = .ok (.aload_n 0, 1) := dk_42 (dk_at dksX3_pairedOf_1 7 rfl rfl)
theorem dX3_pairedOf_31 : decode cX3_pairedOf 31 = .ok (.getfield 7, 3) := dk_180 0 7 (dk_at dksX3_pairedOf_1 8 rfl rfl)
theorem dX3_pairedOf_34 : decode cX3_pairedOf 34 = .ok (.sipush 1045, 3) := dk_17 4 21 (dk_at dksX3_pairedOf_1 11 rfl rfl)
theorem dX3_pairedOf_37 : decode cX3_pairedOf 37 = .ok (.iaload, 1) := dk_46 (dk_at dksX3_pairedOf_1 14 rfl rfl)
theorem dX3_pairedOf_38 : decode cX3_pairedOf 38 = .ok (.iadd, 1) := dk_96 (dk_at dksX3_pairedOf_1 15 rfl rfl)
theorem dX3_pairedOf_39 : decode cX3_pairedOf 39 = .ok (.invokestatic 258, 3) := dk_184 1 2 (dk_at dksX3_pairedOf_1 16 rfl rfl)
theorem dX3_pairedOf_42 : decode cX3_pairedOf 42 = .ok (.ireturn, 1) := dk_172 (dk_at dksX3_pairedOf_1 19 rfl rfl)
abbrev cX3_wide : ByteArray := prog_12_method_70_code
def yX3_wide : MethodName := ⟨RX3, "wide", "(II)I"⟩
def dkwX3_wide_1 : List UInt8 := [42, 27, 28, 3, 21, 4, 182, 1, 34, 29, 159, 0, 9, 132, 4, 1, 167, 255, 240, 21, 4, 172]
abbrev dktX3_wide_1 : List UInt8 := dkwX3_wide_1 ++ []
def dkwX3_wide_0 : List UInt8 := [42, 27, 28, 182, 1, 30, 154, 0, 5, 2, 172, 42, 27, 28, 3, 16, 16, 182, 1, 34, 62, 3, 54, 4]
abbrev dktX3_wide_0 : List UInt8 := dkwX3_wide_0 ++ dktX3_wide_1
theorem dksX3_wide_0 : cX3_wide.data.toList.drop 0 = dktX3_wide_0 := by decide +kernel
theorem dksX3_wide_1 : cX3_wide.data.toList.drop 24 = dktX3_wide_1 := dk_seg dksX3_wide_0 24 rfl rfl
theorem dX3_wide_0 : decode cX3_wide 0 = .ok (.aload_n 0, 1) := dk_42 (dk_at dksX3_wide_0 0 rfl rfl)
theorem dX3_wide_1 : decode cX3_wide 1 = .ok (.iload_n 1, 1) := dk_27 (dk_at dksX3_wide_0 1 rfl rfl)
theorem dX3_wide_2 : decode cX3_wide 2 = .ok (.iload_n 2, 1) := dk_28 (dk_at dksX3_wide_0 2 rfl rfl)
theorem dX3_wide_3 : decode cX3_wide 3 = .ok (.invokevirtual 286, 3) := dk_182 1 30 (dk_at dksX3_wide_0 3 rfl rfl)
theorem dX3_wide_6 : decode cX3_wide 6 = .ok (.ifCond .ne 5, 3) := dk_154 0 5 (dk_at dksX3_wide_0 6 rfl rfl)
theorem dX3_wide_9 : decode cX3_wide 9 = .ok (.iconst (-1), 1) := dk_2 (dk_at dksX3_wide_0 9 rfl rfl)
theorem dX3_wide_10 : decode cX3_wide 10 = .ok (.ireturn, 1) := dk_172 (dk_at dksX3_wide_0 10 rfl rfl)
theorem dX3_wide_11 : decode cX3_wide 11 = .ok (.aload_n 0, 1) := dk_42 (dk_at dksX3_wide_0 11 rfl rfl)
theorem dX3_wide_12 : decode cX3_wide 12 = .ok (.iload_n 1, 1) := dk_27 (dk_at dksX3_wide_0 12 rfl rfl)
theorem dX3_wide_13 : decode cX3_wide 13 = .ok (.iload_n 2, 1) := dk_28 (dk_at dksX3_wide_0 13 rfl rfl)
theorem dX3_wide_14 : decode cX3_wide 14 = .ok (.iconst 0, 1) := dk_3 (dk_at dksX3_wide_0 14 rfl rfl)
theorem dX3_wide_15 : decode cX3_wide 15 = .ok (.bipush 16, 2) := dk_16 16 (dk_at dksX3_wide_0 15 rfl rfl)
theorem dX3_wide_17 : decode cX3_wide 17 = .ok (.invokevirtual 290, 3) := dk_182 1 34 (dk_at dksX3_wide_0 17 rfl rfl)
theorem dX3_wide_20 : decode cX3_wide 20 = .ok (.istore_n 3, 1) := dk_62 (dk_at dksX3_wide_0 20 rfl rfl)
theorem dX3_wide_21 : decode cX3_wide 21 = .ok (.iconst 0, 1) := dk_3 (dk_at dksX3_wide_0 21 rfl rfl)
theorem dX3_wide_22 : decode cX3_wide 22 = .ok (.istore 4, 2) := dk_54 4 (dk_at dksX3_wide_0 22 rfl rfl)
theorem dX3_wide_24 : decode cX3_wide 24 = .ok (.aload_n 0, 1) := dk_42 (dk_at dksX3_wide_1 0 rfl rfl)
theorem dX3_wide_25 : decode cX3_wide 25 = .ok (.iload_n 1, 1) := dk_27 (dk_at dksX3_wide_1 1 rfl rfl)
theorem dX3_wide_26 : decode cX3_wide 26 = .ok (.iload_n 2, 1) := dk_28 (dk_at dksX3_wide_1 2 rfl rfl)
theorem dX3_wide_27 : decode cX3_wide 27 = .ok (.iconst 0, 1) := dk_3 (dk_at dksX3_wide_1 3 rfl rfl)
theorem dX3_wide_28 : decode cX3_wide 28 = .ok (.iload 4, 2) := dk_21 4 (dk_at dksX3_wide_1 4 rfl rfl)
theorem dX3_wide_30 : decode cX3_wide 30 = .ok (.invokevirtual 290, 3) := dk_182 1 34 (dk_at dksX3_wide_1 6 rfl rfl)
theorem dX3_wide_33 : decode cX3_wide 33 = .ok (.iload_n 3, 1) := dk_29 (dk_at dksX3_wide_1 9 rfl rfl)
theorem dX3_wide_34 : decode cX3_wide 34 = .ok (.if_icmp .eq 9, 3) := dk_159 0 9 (dk_at dksX3_wide_1 10 rfl rfl)
theorem dX3_wide_37 : decode cX3_wide 37 = .ok (.iinc 4 1, 3) := dk_132 4 1 (dk_at dksX3_wide_1 13 rfl rfl)
theorem dX3_wide_40 : decode cX3_wide 40 = .ok (.goto (-16), 3) := dk_167 255 240 (dk_at dksX3_wide_1 16 rfl rfl)
theorem dX3_wide_43 : decode cX3_wide 43 = .ok (.iload 4, 2) := dk_21 4 (dk_at dksX3_wide_1 19 rfl rfl)
theorem dX3_wide_45 : decode cX3_wide 45 = .ok (.ireturn, 1) := dk_172 (dk_at dksX3_wide_1 21 rfl rfl)
abbrev cX3_score : ByteArray := prog_12_method_77_code
def yX3_score : MethodName := ⟨RX3, "score", "(II)I"⟩
def dkwX3_score_1 : List UInt8 := [167, 0, 4, 2, 172]
abbrev dktX3_score_1 : List UInt8 := dkwX3_score_1 ++ []
def dkwX3_score_0 : List UInt8 := [42, 27, 182, 0, 218, 153, 0, 20, 42, 28, 182, 0, 218, 153, 0, 12, 42, 27, 28, 182, 1, 63]
abbrev dktX3_score_0 : List UInt8 := dkwX3_score_0 ++ dktX3_score_1
theorem dksX3_score_0 : cX3_score.data.toList.drop 0 = dktX3_score_0 := by decide +kernel
theorem dksX3_score_1 : cX3_score.data.toList.drop 22 = dktX3_score_1 := dk_seg dksX3_score_0 22 rfl rfl
theorem dX3_score_0 : decode cX3_score 0 = .ok (.aload_n 0, 1) := dk_42 (dk_at dksX3_score_0 0 rfl rfl)
theorem dX3_score_1 : decode cX3_score 1 = .ok (.iload_n 1, 1) := dk_27 (dk_at dksX3_score_0 1 rfl rfl)
theorem dX3_score_2 : decode cX3_score 2 = .ok (.invokevirtual 218, 3) := dk_182 0 218 (dk_at dksX3_score_0 2 rfl rfl)
theorem dX3_score_5 : decode cX3_score 5 = .ok (.ifCond .eq 20, 3) := dk_153 0 20 (dk_at dksX3_score_0 5 rfl rfl)
theorem dX3_score_8 : decode cX3_score 8 = .ok (.aload_n 0, 1) := dk_42 (dk_at dksX3_score_0 8 rfl rfl)
theorem dX3_score_9 : decode cX3_score 9 = .ok (.iload_n 2, 1) := dk_28 (dk_at dksX3_score_0 9 rfl rfl)
theorem dX3_score_10 : decode cX3_score 10 = .ok (.invokevirtual 218, 3) := dk_182 0 218 (dk_at dksX3_score_0 10 rfl rfl)
theorem dX3_score_13 : decode cX3_score 13 = .ok (.ifCond .eq 12, 3) := dk_153 0 12 (dk_at dksX3_score_0 13 rfl rfl)
theorem dX3_score_16 : decode cX3_score 16 = .ok (.aload_n 0, 1) := dk_42 (dk_at dksX3_score_0 16 rfl rfl)
theorem dX3_score_17 : decode cX3_score 17 = .ok (.iload_n 1, 1) := dk_27 (dk_at dksX3_score_0 17 rfl rfl)
theorem dX3_score_18 : decode cX3_score 18 = .ok (.iload_n 2, 1) := dk_28 (dk_at dksX3_score_0 18 rfl rfl)
theorem dX3_score_19 : decode cX3_score 19 = .ok (.invokevirtual 319, 3) := dk_182 1 63 (dk_at dksX3_score_0 19 rfl rfl)
theorem dX3_score_22 : decode cX3_score 22 = .ok (.goto 4, 3) := dk_167 0 4 (dk_at dksX3_score_1 0 rfl rfl)
theorem dX3_score_25 : decode cX3_score 25 = .ok (.iconst (-1), 1) := dk_2 (dk_at dksX3_score_1 3 rfl rfl)
theorem dX3_score_26 : decode cX3_score 26 = .ok (.ireturn, 1) := dk_172 (dk_at dksX3_score_1 4 rfl rfl)
abbrev cX3_scoreOfTwo : ByteArray := prog_12_method_76_code
def yX3_scoreOfTwo : MethodName := ⟨RX3, "scoreOfTwo", "(II)I"⟩
def dkwX3_scoreOfTwo_1 : List UInt8 := [172]
abbrev dktX3_scoreOfTwo_1 : List UInt8 := dkwX3_scoreOfTwo_1 ++ []
def dkwX3_scoreOfTwo_0 : List UInt8 := [42, 42, 27, 182, 0, 224, 42, 27, 182, 0, 221, 42, 28, 182, 0, 224, 42, 28, 182, 0, 221, 182, 1, 60]
abbrev dktX3_scoreOfTwo_0 : List UInt8 := dkwX3_scoreOfTwo_0 ++ dktX3_scoreOfTwo_1
theorem dksX3_scoreOfTwo_0 : cX3_scoreOfTwo.data.toList.drop 0 = dktX3_scoreOfTwo_0 := by decide +kernel
theorem dksX3_scoreOfTwo_1 : cX3_scoreOfTwo.data.toList.drop 24 = dktX3_scoreOfTwo_1 := dk_seg dksX3_scoreOfTwo_0 24 rfl rfl
theorem dX3_scoreOfTwo_0 : decode cX3_scoreOfTwo 0 = .ok (.aload_n 0, 1) := dk_42 (dk_at dksX3_scoreOfTwo_0 0 rfl rfl)
theorem dX3_scoreOfTwo_1 : decode cX3_scoreOfTwo 1 = .ok (.aload_n 0, 1) := dk_42 (dk_at dksX3_scoreOfTwo_0 1 rfl rfl)
theorem dX3_scoreOfTwo_2 : decode cX3_scoreOfTwo 2 = .ok (.iload_n 1, 1) := dk_27 (dk_at dksX3_scoreOfTwo_0 2 rfl rfl)
theorem dX3_scoreOfTwo_3 : decode cX3_scoreOfTwo 3 = .ok (.invokevirtual 224, 3) := dk_182 0 224 (dk_at dksX3_scoreOfTwo_0 3 rfl rfl)
theorem dX3_scoreOfTwo_6 : decode cX3_scoreOfTwo 6 = .ok (.aload_n 0, 1) := dk_42 (dk_at dksX3_scoreOfTwo_0 6 rfl rfl)
theorem dX3_scoreOfTwo_7 : decode cX3_scoreOfTwo 7 = .ok (.iload_n 1, 1) := dk_27 (dk_at dksX3_scoreOfTwo_0 7 rfl rfl)
theorem dX3_scoreOfTwo_8 : decode cX3_scoreOfTwo 8 = .ok (.invokevirtual 221, 3) := dk_182 0 221 (dk_at dksX3_scoreOfTwo_0 8 rfl rfl)
theorem dX3_scoreOfTwo_11 : decode cX3_scoreOfTwo 11 = .ok (.aload_n 0, 1) := dk_42 (dk_at dksX3_scoreOfTwo_0 11 rfl rfl)
theorem dX3_scoreOfTwo_12 : decode cX3_scoreOfTwo 12 = .ok (.iload_n 2, 1) := dk_28 (dk_at dksX3_scoreOfTwo_0 12 rfl rfl)
theorem dX3_scoreOfTwo_13 : decode cX3_scoreOfTwo 13 = .ok (.invokevirtual 224, 3) := dk_182 0 224 (dk_at dksX3_scoreOfTwo_0 13 rfl rfl)
theorem dX3_scoreOfTwo_16 : decode cX3_scoreOfTwo 16 = .ok (.aload_n 0, 1) := dk_42 (dk_at dksX3_scoreOfTwo_0 16 rfl rfl)
theorem dX3_scoreOfTwo_17 : decode cX3_scoreOfTwo 17 = .ok (.iload_n 2, 1) := dk_28 (dk_at dksX3_scoreOfTwo_0 17 rfl rfl)
theorem dX3_scoreOfTwo_18 : decode cX3_scoreOfTwo 18 = .ok (.invokevirtual 221, 3) := dk_182 0 221 (dk_at dksX3_scoreOfTwo_0 18 rfl rfl)
theorem dX3_scoreOfTwo_21 : decode cX3_scoreOfTwo 21 = .ok (.invokevirtual 316, 3) := dk_182 1 60 (dk_at dksX3_scoreOfTwo_0 21 rfl rfl)
theorem dX3_scoreOfTwo_24 : decode cX3_scoreOfTwo 24 = .ok (.ireturn, 1) := dk_172 (dk_at dksX3_scoreOfTwo_1 0 rfl rfl)
abbrev cX3_scoreOf : ByteArray := prog_12_method_75_code
def yX3_scoreOf : MethodName := ⟨RX3, "scoreOf", "(IIII)I"⟩
def dkwX3_scoreOf_1 : List UInt8 := [17, 4, 20, 46, 42, 180, 0, 7, 17, 4, 21, 46, 182, 1, 57, 172]
abbrev dktX3_scoreOf_1 : List UInt8 := dkwX3_scoreOf_1 ++ []
def dkwX3_scoreOf_0 : List UInt8 := [42, 27, 28, 29, 21, 4, 42, 180, 0, 7, 17, 4, 19, 46, 182, 1, 53, 42, 42, 180, 0, 7]
abbrev dktX3_scoreOf_0 : List UInt8 := dkwX3_scoreOf_0 ++ dktX3_scoreOf_1
theorem dksX3_scoreOf_0 : cX3_scoreOf.data.toList.drop 0 = dktX3_scoreOf_0 := by decide +kernel
theorem dksX3_scoreOf_1 : cX3_scoreOf.data.toList.drop 22 = dktX3_scoreOf_1 := dk_seg dksX3_scoreOf_0 22 rfl rfl
theorem dX3_scoreOf_0 : decode cX3_scoreOf 0 = .ok (.aload_n 0, 1) := dk_42 (dk_at dksX3_scoreOf_0 0 rfl rfl)
theorem dX3_scoreOf_1 : decode cX3_scoreOf 1 = .ok (.iload_n 1, 1) := dk_27 (dk_at dksX3_scoreOf_0 1 rfl rfl)
theorem dX3_scoreOf_2 : decode cX3_scoreOf 2 = .ok (.iload_n 2, 1) := dk_28 (dk_at dksX3_scoreOf_0 2 rfl rfl)
theorem dX3_scoreOf_3 : decode cX3_scoreOf 3 = .ok (.iload_n 3, 1) := dk_29 (dk_at dksX3_scoreOf_0 3 rfl rfl)
theorem dX3_scoreOf_4 : decode cX3_scoreOf 4 = .ok (.iload 4, 2) := dk_21 4 (dk_at dksX3_scoreOf_0 4 rfl rfl)
theorem dX3_scoreOf_6 : decode cX3_scoreOf 6 = .ok (.aload_n 0, 1) := dk_42 (dk_at dksX3_scoreOf_0 6 rfl rfl)
theorem dX3_scoreOf_7 : decode cX3_scoreOf 7 = .ok (.getfield 7, 3) := dk_180 0 7 (dk_at dksX3_scoreOf_0 7 rfl rfl)
theorem dX3_scoreOf_10 : decode cX3_scoreOf 10 = .ok (.sipush 1043, 3) := dk_17 4 19 (dk_at dksX3_scoreOf_0 10 rfl rfl)
theorem dX3_scoreOf_13 : decode cX3_scoreOf 13 = .ok (.iaload, 1) := dk_46 (dk_at dksX3_scoreOf_0 13 rfl rfl)
theorem dX3_scoreOf_14 : decode cX3_scoreOf 14 = .ok (.invokevirtual 309, 3) := dk_182 1 53 (dk_at dksX3_scoreOf_0 14 rfl rfl)
theorem dX3_scoreOf_17 : decode cX3_scoreOf 17 = .ok (.aload_n 0, 1) := dk_42 (dk_at dksX3_scoreOf_0 17 rfl rfl)
theorem dX3_scoreOf_18 : decode cX3_scoreOf 18 = .ok (.aload_n 0, 1) := dk_42 (dk_at dksX3_scoreOf_0 18 rfl rfl)
theorem dX3_scoreOf_19 : decode cX3_scoreOf 19 = .ok (.getfield 7, 3) := dk_180 0 7 (dk_at dksX3_scoreOf_0 19 rfl rfl)
theorem dX3_scoreOf_22 : decode cX3_scoreOf 22 = .ok (.sipush 1044, 3) := dk_17 4 20 (dk_at dksX3_scoreOf_1 0 rfl rfl)
theorem dX3_scoreOf_25 : decode cX3_scoreOf 25 = .ok (.iaload, 1) := dk_46 (dk_at dksX3_scoreOf_1 3 rfl rfl)
theorem dX3_scoreOf_26 : decode cX3_scoreOf 26 = .ok (.aload_n 0, 1) := dk_42 (dk_at dksX3_scoreOf_1 4 rfl rfl)
theorem dX3_scoreOf_27 : decode cX3_scoreOf 27 = .ok (.getfield 7, 3) := dk_180 0 7 (dk_at dksX3_scoreOf_1 5 rfl rfl)
theorem dX3_scoreOf_30 : decode cX3_scoreOf 30 = .ok (.sipush 1045, 3) := dk_17 4 21 (dk_at dksX3_scoreOf_1 8 rfl rfl)
theorem dX3_scoreOf_33 : decode cX3_scoreOf 33 = .ok (.iaload, 1) := dk_46 (dk_at dksX3_scoreOf_1 11 rfl rfl)
theorem dX3_scoreOf_34 : decode cX3_scoreOf 34 = .ok (.invokevirtual 313, 3) := dk_182 1 57 (dk_at dksX3_scoreOf_1 12 rfl rfl)
theorem dX3_scoreOf_37 : decode cX3_scoreOf 37 = .ok (.ireturn, 1) := dk_172 (dk_at dksX3_scoreOf_1 15 rfl rfl)
abbrev cX3_laysPairs : ByteArray := prog_12_method_71_code
def yX3_laysPairs : MethodName := ⟨RX3, "laysPairs", "(IIIII)V"⟩
def dkwX3_laysPairs_7 : List UInt8 := [132, 7, 1, 167, 255, 123, 132, 6, 1, 167, 255, 108, 177]
abbrev dktX3_laysPairs_7 : List UInt8 := dkwX3_laysPairs_7 ++ []
def dkwX3_laysPairs_6 : List UInt8 := [54, 8, 132, 9, 1, 167, 255, 213, 42, 180, 0, 95, 16, 8, 21, 6, 104, 21, 7, 96, 21, 8, 79]
abbrev dktX3_laysPairs_6 : List UInt8 := dkwX3_laysPairs_6 ++ dktX3_laysPairs_7
def dkwX3_laysPairs_5 : List UInt8 := [28, 21, 9, 182, 1, 15, 42, 29, 21, 7, 96, 29, 21, 4, 21, 9, 182, 1, 15, 100, 184, 0, 249, 96]
abbrev dktX3_laysPairs_5 : List UInt8 := dkwX3_laysPairs_5 ++ dktX3_laysPairs_6
def dkwX3_laysPairs_4 : List UInt8 := [182, 1, 34, 79, 3, 54, 8, 3, 54, 9, 21, 9, 5, 162, 0, 43, 21, 8, 42, 27, 21, 6, 96, 27]
abbrev dktX3_laysPairs_4 : List UInt8 := dkwX3_laysPairs_4 ++ dktX3_laysPairs_5
def dkwX3_laysPairs_3 : List UInt8 := [42, 180, 0, 92, 16, 8, 21, 6, 104, 21, 7, 96, 42, 27, 21, 6, 96, 29, 21, 7, 96, 4, 21, 5]
abbrev dktX3_laysPairs_3 : List UInt8 := dkwX3_laysPairs_3 ++ dktX3_laysPairs_4
def dkwX3_laysPairs_2 : List UInt8 := [16, 8, 21, 6, 104, 21, 7, 96, 42, 27, 21, 6, 96, 29, 21, 7, 96, 3, 21, 5, 182, 1, 34, 79]
abbrev dktX3_laysPairs_2 : List UInt8 := dkwX3_laysPairs_2 ++ dktX3_laysPairs_3
def dkwX3_laysPairs_1 : List UInt8 := [3, 54, 6, 21, 6, 28, 162, 0, 148, 3, 54, 7, 21, 7, 21, 4, 162, 0, 132, 42, 180, 0, 89]
abbrev dktX3_laysPairs_1 : List UInt8 := dkwX3_laysPairs_1 ++ dktX3_laysPairs_2
def dkwX3_laysPairs_0 : List UInt8 := [42, 28, 181, 0, 83, 42, 21, 4, 181, 0, 86, 42, 27, 28, 182, 1, 44, 42, 29, 21, 4, 182, 1, 44]
abbrev dktX3_laysPairs_0 : List UInt8 := dkwX3_laysPairs_0 ++ dktX3_laysPairs_1
theorem dksX3_laysPairs_0 : cX3_laysPairs.data.toList.drop 0 = dktX3_laysPairs_0 := by decide +kernel
theorem dksX3_laysPairs_1 : cX3_laysPairs.data.toList.drop 24 = dktX3_laysPairs_1 := dk_seg dksX3_laysPairs_0 24 rfl rfl
theorem dksX3_laysPairs_2 : cX3_laysPairs.data.toList.drop 47 = dktX3_laysPairs_2 := dk_seg dksX3_laysPairs_1 23 rfl rfl
theorem dksX3_laysPairs_3 : cX3_laysPairs.data.toList.drop 71 = dktX3_laysPairs_3 := dk_seg dksX3_laysPairs_2 24 rfl rfl
theorem dksX3_laysPairs_4 : cX3_laysPairs.data.toList.drop 95 = dktX3_laysPairs_4 := dk_seg dksX3_laysPairs_3 24 rfl rfl
theorem dksX3_laysPairs_5 : cX3_laysPairs.data.toList.drop 119 = dktX3_laysPairs_5 := dk_seg dksX3_laysPairs_4 24 rfl rfl
theorem dksX3_laysPairs_6 : cX3_laysPairs.data.toList.drop 143 = dktX3_laysPairs_6 := dk_seg dksX3_laysPairs_5 24 rfl rfl
theorem dksX3_laysPairs_7 : cX3_laysPairs.data.toList.drop 166 = dktX3_laysPairs_7 := dk_seg dksX3_laysPairs_6 23 rfl rfl
theorem dX3_laysPairs_0 : decode cX3_laysPairs 0 = .ok (.aload_n 0, 1) := dk_42 (dk_at dksX3_laysPairs_0 0 rfl rfl)
theorem dX3_laysPairs_1 : decode cX3_laysPairs 1 = .ok (.iload_n 2, 1) := dk_28 (dk_at dksX3_laysPairs_0 1 rfl rfl)
theorem dX3_laysPairs_2 : decode cX3_laysPairs 2 = .ok (.putfield 83, 3) := dk_181 0 83 (dk_at dksX3_laysPairs_0 2 rfl rfl)
theorem dX3_laysPairs_5 : decode cX3_laysPairs 5 = .ok (.aload_n 0, 1) := dk_42 (dk_at dksX3_laysPairs_0 5 rfl rfl)
theorem dX3_laysPairs_6 : decode cX3_laysPairs 6 = .ok (.iload 4, 2) := dk_21 4 (dk_at dksX3_laysPairs_0 6 rfl rfl)
theorem dX3_laysPairs_8 : decode cX3_laysPairs 8 = .ok (.putfield 86, 3) := dk_181 0 86 (dk_at dksX3_laysPairs_0 8 rfl rfl)
theorem dX3_laysPairs_11 : decode cX3_laysPairs 11 = .ok (.aload_n 0, 1) := dk_42 (dk_at dksX3_laysPairs_0 11 rfl rfl)
theorem dX3_laysPairs_12 : decode cX3_laysPairs 12 = .ok (.iload_n 1, 1) := dk_27 (dk_at dksX3_laysPairs_0 12 rfl rfl)
theorem dX3_laysPairs_13 : decode cX3_laysPairs 13 = .ok (.iload_n 2, 1) := dk_28 (dk_at dksX3_laysPairs_0 13 rfl rfl)
theorem dX3_laysPairs_14 : decode cX3_laysPairs 14 = .ok (.invokevirtual 300, 3) := dk_182 1 44 (dk_at dksX3_laysPairs_0 14 rfl rfl)
theorem dX3_laysPairs_17 : decode cX3_laysPairs 17 = .ok (.aload_n 0, 1) := dk_42 (dk_at dksX3_laysPairs_0 17 rfl rfl)
theorem dX3_laysPairs_18 : decode cX3_laysPairs 18 = .ok (.iload_n 3, 1) := dk_29 (dk_at dksX3_laysPairs_0 18 rfl rfl)
theorem dX3_laysPairs_19 : decode cX3_laysPairs 19 = .ok (.iload 4, 2) := dk_21 4 (dk_at dksX3_laysPairs_0 19 rfl rfl)
theorem dX3_laysPairs_21 : decode cX3_laysPairs 21 = .ok (.invokevirtual 300, 3) := dk_182 1 44 (dk_at dksX3_laysPairs_0 21 rfl rfl)
theorem dX3_laysPairs_24 : decode cX3_laysPairs 24 = .ok (.iconst 0, 1) := dk_3 (dk_at dksX3_laysPairs_1 0 rfl rfl)
theorem dX3_laysPairs_25 : decode cX3_laysPairs 25 = .ok (.istore 6, 2) := dk_54 6 (dk_at dksX3_laysPairs_1 1 rfl rfl)
theorem dX3_laysPairs_27 : decode cX3_laysPairs 27 = .ok (.iload 6, 2) := dk_21 6 (dk_at dksX3_laysPairs_1 3 rfl rfl)
theorem dX3_laysPairs_29 : decode cX3_laysPairs 29 = .ok (.iload_n 2, 1) := dk_28 (dk_at dksX3_laysPairs_1 5 rfl rfl)
theorem dX3_laysPairs_30 : decode cX3_laysPairs 30 = .ok (.if_icmp .ge 148, 3) := dk_162 0 148 (dk_at dksX3_laysPairs_1 6 rfl rfl)
theorem dX3_laysPairs_33 : decode cX3_laysPairs 33 = .ok (.iconst 0, 1) := dk_3 (dk_at dksX3_laysPairs_1 9 rfl rfl)
theorem dX3_laysPairs_34 : decode cX3_laysPairs 34 = .ok (.istore 7, 2) := dk_54 7 (dk_at dksX3_laysPairs_1 10 rfl rfl)
theorem dX3_laysPairs_36 : decode cX3_laysPairs 36 = .ok (.iload 7, 2) := dk_21 7 (dk_at dksX3_laysPairs_1 12 rfl rfl)
theorem dX3_laysPairs_38 : decode cX3_laysPairs 38 = .ok (.iload 4, 2) := dk_21 4 (dk_at dksX3_laysPairs_1 14 rfl rfl)
theorem dX3_laysPairs_40 : decode cX3_laysPairs 40 = .ok (.if_icmp .ge 132, 3) := dk_162 0 132 (dk_at dksX3_laysPairs_1 16 rfl rfl)
theorem dX3_laysPairs_43 : decode cX3_laysPairs 43 = .ok (.aload_n 0, 1) := dk_42 (dk_at dksX3_laysPairs_1 19 rfl rfl)
theorem dX3_laysPairs_44 : decode cX3_laysPairs 44 = .ok (.getfield 89, 3) := dk_180 0 89 (dk_at dksX3_laysPairs_1 20 rfl rfl)
theorem dX3_laysPairs_47 : decode cX3_laysPairs 47 = .ok (.bipush 8, 2) := dk_16 8 (dk_at dksX3_laysPairs_2 0 rfl rfl)
theorem dX3_laysPairs_49 : decode cX3_laysPairs 49 = .ok (.iload 6, 2) := dk_21 6 (dk_at dksX3_laysPairs_2 2 rfl rfl)
theorem dX3_laysPairs_51 : decode cX3_laysPairs 51 = .ok (.imul, 1) := dk_104 (dk_at dksX3_laysPairs_2 4 rfl rfl)
theorem dX3_laysPairs_52 : decode cX3_laysPairs 52 = .ok (.iload 7, 2) := dk_21 7 (dk_at dksX3_laysPairs_2 5 rfl rfl)
theorem dX3_laysPairs_54 : decode cX3_laysPairs 54 = .ok (.iadd, 1) := dk_96 (dk_at dksX3_laysPairs_2 7 rfl rfl)
theorem dX3_laysPairs_55 : decode cX3_laysPairs 55 = .ok (.aload_n 0, 1) := dk_42 (dk_at dksX3_laysPairs_2 8 rfl rfl)
theorem dX3_laysPairs_56 : decode cX3_laysPairs 56 = .ok (.iload_n 1, 1) := dk_27 (dk_at dksX3_laysPairs_2 9 rfl rfl)
theorem dX3_laysPairs_57 : decode cX3_laysPairs 57 = .ok (.iload 6, 2) := dk_21 6 (dk_at dksX3_laysPairs_2 10 rfl rfl)
theorem dX3_laysPairs_59 : decode cX3_laysPairs 59 = .ok (.iadd, 1) := dk_96 (dk_at dksX3_laysPairs_2 12 rfl rfl)
theorem dX3_laysPairs_60 : decode cX3_laysPairs 60 = .ok (.iload_n 3, 1) := dk_29 (dk_at dksX3_laysPairs_2 13 rfl rfl)
theorem dX3_laysPairs_61 : decode cX3_laysPairs 61 = .ok (.iload 7, 2) := dk_21 7 (dk_at dksX3_laysPairs_2 14 rfl rfl)
theorem dX3_laysPairs_63 : decode cX3_laysPairs 63 = .ok (.iadd, 1) := dk_96 (dk_at dksX3_laysPairs_2 16 rfl rfl)
theorem dX3_laysPairs_64 : decode cX3_laysPairs 64 = .ok (.iconst 0, 1) := dk_3 (dk_at dksX3_laysPairs_2 17 rfl rfl)
theorem dX3_laysPairs_65 : decode cX3_laysPairs 65 = .ok (.iload 5, 2) := dk_21 5 (dk_at dksX3_laysPairs_2 18 rfl rfl)
theorem dX3_laysPairs_67 : decode cX3_laysPairs 67 = .ok (.invokevirtual 290, 3) := dk_182 1 34 (dk_at dksX3_laysPairs_2 20 rfl rfl)
theorem dX3_laysPairs_70 : decode cX3_laysPairs 70 = .ok (.iastore, 1) := dk_79 (dk_at dksX3_laysPairs_2 23 rfl rfl)
theorem dX3_laysPairs_71 : decode cX3_laysPairs 71 = .ok (.aload_n 0, 1) := dk_42 (dk_at dksX3_laysPairs_3 0 rfl rfl)
theorem dX3_laysPairs_72 : decode cX3_laysPairs 72 = .ok (.getfield 92, 3) := dk_180 0 92 (dk_at dksX3_laysPairs_3 1 rfl rfl)
theorem dX3_laysPairs_75 : decode cX3_laysPairs 75 = .ok (.bipush 8, 2) := dk_16 8 (dk_at dksX3_laysPairs_3 4 rfl rfl)
theorem dX3_laysPairs_77 : decode cX3_laysPairs 77 = .ok (.iload 6, 2) := dk_21 6 (dk_at dksX3_laysPairs_3 6 rfl rfl)
theorem dX3_laysPairs_79 : decode cX3_laysPairs 79 = .ok (.imul, 1) := dk_104 (dk_at dksX3_laysPairs_3 8 rfl rfl)
theorem dX3_laysPairs_80 : decode cX3_laysPairs 80 = .ok (.iload 7, 2) := dk_21 7 (dk_at dksX3_laysPairs_3 9 rfl rfl)
theorem dX3_laysPairs_82 : decode cX3_laysPairs 82 = .ok (.iadd, 1) := dk_96 (dk_at dksX3_laysPairs_3 11 rfl rfl)
theorem dX3_laysPairs_83 : decode cX3_laysPairs 83 = .ok (.aload_n 0, 1) := dk_42 (dk_at dksX3_laysPairs_3 12 rfl rfl)
theorem dX3_laysPairs_84 : decode cX3_laysPairs 84 = .ok (.iload_n 1, 1) := dk_27 (dk_at dksX3_laysPairs_3 13 rfl rfl)
theorem dX3_laysPairs_85 : decode cX3_laysPairs 85 = .ok (.iload 6, 2) := dk_21 6 (dk_at dksX3_laysPairs_3 14 rfl rfl)
theorem dX3_laysPairs_87 : decode cX3_laysPairs 87 = .ok (.iadd, 1) := dk_96 (dk_at dksX3_laysPairs_3 16 rfl rfl)
theorem dX3_laysPairs_88 : decode cX3_laysPairs 88 = .ok (.iload_n 3, 1) := dk_29 (dk_at dksX3_laysPairs_3 17 rfl rfl)
theorem dX3_laysPairs_89 : decode cX3_laysPairs 89 = .ok (.iload 7, 2) := dk_21 7 (dk_at dksX3_laysPairs_3 18 rfl rfl)
theorem dX3_laysPairs_91 : decode cX3_laysPairs 91 = .ok (.iadd, 1) := dk_96 (dk_at dksX3_laysPairs_3 20 rfl rfl)
theorem dX3_laysPairs_92 : decode cX3_laysPairs 92 = .ok (.iconst 1, 1) := dk_4 (dk_at dksX3_laysPairs_3 21 rfl rfl)
theorem dX3_laysPairs_93 : decode cX3_laysPairs 93 = .ok (.iload 5, 2) := dk_21 5 (dk_at dksX3_laysPairs_3 22 rfl rfl)
theorem dX3_laysPairs_95 : decode cX3_laysPairs 95 = .ok (.invokevirtual 290, 3) := dk_182 1 34 (dk_at dksX3_laysPairs_4 0 rfl rfl)
theorem dX3_laysPairs_98 : decode cX3_laysPairs 98 = .ok (.iastore, 1) := dk_79 (dk_at dksX3_laysPairs_4 3 rfl rfl)
theorem dX3_laysPairs_99 : decode cX3_laysPairs 99 = .ok (.iconst 0, 1) := dk_3 (dk_at dksX3_laysPairs_4 4 rfl rfl)
theorem dX3_laysPairs_100 : decode cX3_laysPairs 100 = .ok (.istore 8, 2) := dk_54 8 (dk_at dksX3_laysPairs_4 5 rfl rfl)
theorem dX3_laysPairs_102 : decode cX3_laysPairs 102 = .ok (.iconst 0, 1) := dk_3 (dk_at dksX3_laysPairs_4 7 rfl rfl)
theorem dX3_laysPairs_103 : decode cX3_laysPairs 103 = .ok (.istore 9, 2) := dk_54 9 (dk_at dksX3_laysPairs_4 8 rfl rfl)
theorem dX3_laysPairs_105 : decode cX3_laysPairs 105 = .ok (.iload 9, 2) := dk_21 9 (dk_at dksX3_laysPairs_4 10 rfl rfl)
theorem dX3_laysPairs_107 : decode cX3_laysPairs 107 = .ok (.iconst 2, 1) := dk_5 (dk_at dksX3_laysPairs_4 12 rfl rfl)
theorem dX3_laysPairs_108 : decode cX3_laysPairs 108 = .ok (.if_icmp .ge 43, 3) := dk_162 0 43 (dk_at dksX3_laysPairs_4 13 rfl rfl)
theorem dX3_laysPairs_111 : decode cX3_laysPairs 111 = .ok (.iload 8, 2) := dk_21 8 (dk_at dksX3_laysPairs_4 16 rfl rfl)
theorem dX3_laysPairs_113 : decode cX3_laysPairs 113 = .ok (.aload_n 0, 1) := dk_42 (dk_at dksX3_laysPairs_4 18 rfl rfl)
theorem dX3_laysPairs_114 : decode cX3_laysPairs 114 = .ok (.iload_n 1, 1) := dk_27 (dk_at dksX3_laysPairs_4 19 rfl rfl)
theorem dX3_laysPairs_115 : decode cX3_laysPairs 115 = .ok (.iload 6, 2) := dk_21 6 (dk_at dksX3_laysPairs_4 20 rfl rfl)
theorem dX3_laysPairs_117 : decode cX3_laysPairs 117 = .ok (.iadd, 1) := dk_96 (dk_at dksX3_laysPairs_4 22 rfl rfl)
theorem dX3_laysPairs_118 : decode cX3_laysPairs 118 = .ok (.iload_n 1, 1) := dk_27 (dk_at dksX3_laysPairs_4 23 rfl rfl)
theorem dX3_laysPairs_119 : decode cX3_laysPairs 119 = .ok (.iload_n 2, 1) := dk_28 (dk_at dksX3_laysPairs_5 0 rfl rfl)
theorem dX3_laysPairs_120 : decode cX3_laysPairs 120 = .ok (.iload 9, 2) := dk_21 9 (dk_at dksX3_laysPairs_5 1 rfl rfl)
theorem dX3_laysPairs_122 : decode cX3_laysPairs 122 = .ok (.invokevirtual 271, 3) := dk_182 1 15 (dk_at dksX3_laysPairs_5 3 rfl rfl)
theorem dX3_laysPairs_125 : decode cX3_laysPairs 125 = .ok (.aload_n 0, 1) := dk_42 (dk_at dksX3_laysPairs_5 6 rfl rfl)
theorem dX3_laysPairs_126 : decode cX3_laysPairs 126 = .ok (.iload_n 3, 1) := dk_29 (dk_at dksX3_laysPairs_5 7 rfl rfl)
theorem dX3_laysPairs_127 : decode cX3_laysPairs 127 = .ok (.iload 7, 2) := dk_21 7 (dk_at dksX3_laysPairs_5 8 rfl rfl)
theorem dX3_laysPairs_129 : decode cX3_laysPairs 129 = .ok (.iadd, 1) := dk_96 (dk_at dksX3_laysPairs_5 10 rfl rfl)
theorem dX3_laysPairs_130 : decode cX3_laysPairs 130 = .ok (.iload_n 3, 1) := dk_29 (dk_at dksX3_laysPairs_5 11 rfl rfl)
theorem dX3_laysPairs_131 : decode cX3_laysPairs 131 = .ok (.iload 4, 2) := dk_21 4 (dk_at dksX3_laysPairs_5 12 rfl rfl)
theorem dX3_laysPairs_133 : decode cX3_laysPairs 133 = .ok (.iload 9, 2) := dk_21 9 (dk_at dksX3_laysPairs_5 14 rfl rfl)
theorem dX3_laysPairs_135 : decode cX3_laysPairs 135 = .ok (.invokevirtual 271, 3) := dk_182 1 15 (dk_at dksX3_laysPairs_5 16 rfl rfl)
theorem dX3_laysPairs_138 : decode cX3_laysPairs 138 = .ok (.isub, 1) := dk_100 (dk_at dksX3_laysPairs_5 19 rfl rfl)
theorem dX3_laysPairs_139 : decode cX3_laysPairs 139 = .ok (.invokestatic 249, 3) := dk_184 0 249 (dk_at dksX3_laysPairs_5 20 rfl rfl)
theorem dX3_laysPairs_142 : decode cX3_laysPairs 142 = .ok (.iadd, 1) := dk_96 (dk_at dksX3_laysPairs_5 23 rfl rfl)
theorem dX3_laysPairs_143 : decode cX3_laysPairs 143 = .ok (.istore 8, 2) := dk_54 8 (dk_at dksX3_laysPairs_6 0 rfl rfl)
theorem dX3_laysPairs_145 : decode cX3_laysPairs 145 = .ok (.iinc 9 1, 3) := dk_132 9 1 (dk_at dksX3_laysPairs_6 2 rfl rfl)
theorem dX3_laysPairs_148 : decode cX3_laysPairs 148 = .ok (.goto (-43), 3) := dk_167 255 213 (dk_at dksX3_laysPairs_6 5 rfl rfl)
theorem dX3_laysPairs_151 : decode cX3_laysPairs 151 = .ok (.aload_n 0, 1) := dk_42 (dk_at dksX3_laysPairs_6 8 rfl rfl)
theorem dX3_laysPairs_152 : decode cX3_laysPairs 152 = .ok (.getfield 95, 3) := dk_180 0 95 (dk_at dksX3_laysPairs_6 9 rfl rfl)
theorem dX3_laysPairs_155 : decode cX3_laysPairs 155 = .ok (.bipush 8, 2) := dk_16 8 (dk_at dksX3_laysPairs_6 12 rfl rfl)
theorem dX3_laysPairs_157 : decode cX3_laysPairs 157 = .ok (.iload 6, 2) := dk_21 6 (dk_at dksX3_laysPairs_6 14 rfl rfl)
theorem dX3_laysPairs_159 : decode cX3_laysPairs 159 = .ok (.imul, 1) := dk_104 (dk_at dksX3_laysPairs_6 16 rfl rfl)
theorem dX3_laysPairs_160 : decode cX3_laysPairs 160 = .ok (.iload 7, 2) := dk_21 7 (dk_at dksX3_laysPairs_6 17 rfl rfl)
theorem dX3_laysPairs_162 : decode cX3_laysPairs 162 = .ok (.iadd, 1) := dk_96 (dk_at dksX3_laysPairs_6 19 rfl rfl)
theorem dX3_laysPairs_163 : decode cX3_laysPairs 163 = .ok (.iload 8, 2) := dk_21 8 (dk_at dksX3_laysPairs_6 20 rfl rfl)
theorem dX3_laysPairs_165 : decode cX3_laysPairs 165 = .ok (.iastore, 1) := dk_79 (dk_at dksX3_laysPairs_6 22 rfl rfl)
theorem dX3_laysPairs_166 : decode cX3_laysPairs 166 = .ok (.iinc 7 1, 3) := dk_132 7 1 (dk_at dksX3_laysPairs_7 0 rfl rfl)
theorem dX3_laysPairs_169 : decode cX3_laysPairs 169 = .ok (.goto (-133), 3) := dk_167 255 123 (dk_at dksX3_laysPairs_7 3 rfl rfl)
theorem dX3_laysPairs_172 : decode cX3_laysPairs 172 = .ok (.iinc 6 1, 3) := dk_132 6 1 (dk_at dksX3_laysPairs_7 6 rfl rfl)
theorem dX3_laysPairs_175 : decode cX3_laysPairs 175 = .ok (.goto (-148), 3) := dk_167 255 108 (dk_at dksX3_laysPairs_7 9 rfl rfl)
theorem dX3_laysPairs_178 : decode cX3_laysPairs 178 = .ok (.return_, 1) := dk_177 (dk_at dksX3_laysPairs_7 12 rfl rfl)
abbrev cX3_laysLetter : ByteArray := prog_12_method_52_code
def yX3_laysLetter : MethodName := ⟨RX3, "laysLetter", "(II)V"⟩
def dkwX3_laysLetter_0 : List UInt8 := [27, 62, 29, 27, 28, 96, 162, 0, 14, 42, 29, 182, 0, 255, 132, 3, 1, 167, 255, 241, 177]
abbrev dktX3_laysLetter_0 : List UInt8 := dkwX3_laysLetter_0 ++ []
theorem dksX3_laysLetter_0 : cX3_laysLetter.data.toList.drop 0 = dktX3_laysLetter_0 := by decide +kernel
theorem dX3_laysLetter_0 : decode cX3_laysLetter 0 = .ok (.iload_n 1, 1) := dk_27 (dk_at dksX3_laysLetter_0 0 rfl rfl)
theorem dX3_laysLetter_1 : decode cX3_laysLetter 1 = .ok (.istore_n 3, 1) := dk_62 (dk_at dksX3_laysLetter_0 1 rfl rfl)
theorem dX3_laysLetter_2 : decode cX3_laysLetter 2 = .ok (.iload_n 3, 1) := dk_29 (dk_at dksX3_laysLetter_0 2 rfl rfl)
theorem dX3_laysLetter_3 : decode cX3_laysLetter 3 = .ok (.iload_n 1, 1) := dk_27 (dk_at dksX3_laysLetter_0 3 rfl rfl)
theorem dX3_laysLetter_4 : decode cX3_laysLetter 4 = .ok (.iload_n 2, 1) := dk_28 (dk_at dksX3_laysLetter_0 4 rfl rfl)
theorem dX3_laysLetter_5 : decode cX3_laysLetter 5 = .ok (.iadd, 1) := dk_96 (dk_at dksX3_laysLetter_0 5 rfl rfl)
theorem dX3_laysLetter_6 : decode cX3_laysLetter 6 = .ok (.if_icmp .ge 14, 3) := dk_162 0 14 (dk_at dksX3_laysLetter_0 6 rfl rfl)
theorem dX3_laysLetter_9 : decode cX3_laysLetter 9 = .ok (.aload_n 0, 1) := dk_42 (dk_at dksX3_laysLetter_0 9 rfl rfl)
theorem dX3_laysLetter_10 : decode cX3_laysLetter 10 = .ok (.iload_n 3, 1) := dk_29 (dk_at dksX3_laysLetter_0 10 rfl rfl)
theorem dX3_laysLetter_11 : decode cX3_laysLetter 11 = .ok (.invokevirtual 255, 3) := dk_182 0 255 (dk_at dksX3_laysLetter_0 11 rfl rfl)
theorem dX3_laysLetter_14 : decode cX3_laysLetter 14 = .ok (.iinc 3 1, 3) := dk_132 3 1 (dk_at dksX3_laysLetter_0 14 rfl rfl)
theorem dX3_laysLetter_17 : decode cX3_laysLetter 17 = .ok (.goto (-15), 3) := dk_167 255 241 (dk_at dksX3_laysLetter_0 17 rfl rfl)
theorem dX3_laysLetter_20 : decode cX3_laysLetter 20 = .ok (.return_, 1) := dk_177 (dk_at dksX3_laysLetter_0 20 rfl rfl)
abbrev cX3_scoreBy : ByteArray := prog_12_method_74_code
def yX3_scoreBy : MethodName := ⟨RX3, "scoreBy", "(II)I"⟩
def dkwX3_scoreBy_8 : List UInt8 := [42, 180, 0, 98, 3, 46, 172]
abbrev dktX3_scoreBy_8 : List UInt8 := dkwX3_scoreBy_8 ++ []
def dkwX3_scoreBy_7 : List UInt8 := [17, 1, 0, 21, 4, 104, 21, 5, 96, 21, 6, 79, 132, 5, 1, 167, 255, 145, 132, 4, 255, 167, 255, 131]
abbrev dktX3_scoreBy_7 : List UInt8 := dkwX3_scoreBy_7 ++ dktX3_scoreBy_8
def dkwX3_scoreBy_6 : List UInt8 := [21, 7, 120, 128, 96, 46, 96, 184, 1, 2, 54, 6, 132, 7, 1, 167, 255, 196, 42, 180, 0, 98]
abbrev dktX3_scoreBy_6 : List UInt8 := dkwX3_scoreBy_6 ++ dktX3_scoreBy_7
def dkwX3_scoreBy_5 : List UInt8 := [21, 4, 21, 7, 28, 182, 1, 50, 42, 180, 0, 98, 17, 1, 0, 21, 4, 4, 96, 104, 21, 5, 4]
abbrev dktX3_scoreBy_5 : List UInt8 := dkwX3_scoreBy_5 ++ dktX3_scoreBy_6
def dkwX3_scoreBy_4 : List UInt8 := [54, 7, 21, 7, 42, 180, 0, 86, 162, 0, 57, 21, 5, 21, 7, 122, 4, 126, 154, 0, 41, 21, 6, 42]
abbrev dktX3_scoreBy_4 : List UInt8 := dkwX3_scoreBy_4 ++ dktX3_scoreBy_5
def dkwX3_scoreBy_3 : List UInt8 := [162, 0, 111, 27, 42, 180, 0, 98, 17, 1, 0, 21, 4, 4, 96, 104, 21, 5, 96, 46, 96, 54, 6, 3]
abbrev dktX3_scoreBy_3 : List UInt8 := dkwX3_scoreBy_3 ++ dktX3_scoreBy_4
def dkwX3_scoreBy_2 : List UInt8 := [167, 255, 219, 42, 180, 0, 83, 4, 100, 54, 4, 21, 4, 155, 0, 126, 3, 54, 5, 21, 5, 29]
abbrev dktX3_scoreBy_2 : List UInt8 := dkwX3_scoreBy_2 ++ dktX3_scoreBy_3
def dkwX3_scoreBy_1 : List UInt8 := [180, 0, 83, 104, 21, 4, 96, 27, 42, 180, 0, 86, 21, 4, 184, 1, 47, 100, 104, 79, 132, 4, 1]
abbrev dktX3_scoreBy_1 : List UInt8 := dkwX3_scoreBy_1 ++ dktX3_scoreBy_2
def dkwX3_scoreBy_0 : List UInt8 := [4, 42, 180, 0, 86, 120, 62, 3, 54, 4, 21, 4, 29, 162, 0, 37, 42, 180, 0, 98, 17, 1, 0, 42]
abbrev dktX3_scoreBy_0 : List UInt8 := dkwX3_scoreBy_0 ++ dktX3_scoreBy_1
theorem dksX3_scoreBy_0 : cX3_scoreBy.data.toList.drop 0 = dktX3_scoreBy_0 := by decide +kernel
theorem dksX3_scoreBy_1 : cX3_scoreBy.data.toList.drop 24 = dktX3_scoreBy_1 := dk_seg dksX3_scoreBy_0 24 rfl rfl
theorem dksX3_scoreBy_2 : cX3_scoreBy.data.toList.drop 47 = dktX3_scoreBy_2 := dk_seg dksX3_scoreBy_1 23 rfl rfl
theorem dksX3_scoreBy_3 : cX3_scoreBy.data.toList.drop 69 = dktX3_scoreBy_3 := dk_seg dksX3_scoreBy_2 22 rfl rfl
theorem dksX3_scoreBy_4 : cX3_scoreBy.data.toList.drop 93 = dktX3_scoreBy_4 := dk_seg dksX3_scoreBy_3 24 rfl rfl
theorem dksX3_scoreBy_5 : cX3_scoreBy.data.toList.drop 117 = dktX3_scoreBy_5 := dk_seg dksX3_scoreBy_4 24 rfl rfl
theorem dksX3_scoreBy_6 : cX3_scoreBy.data.toList.drop 140 = dktX3_scoreBy_6 := dk_seg dksX3_scoreBy_5 23 rfl rfl
theorem dksX3_scoreBy_7 : cX3_scoreBy.data.toList.drop 162 = dktX3_scoreBy_7 := dk_seg dksX3_scoreBy_6 22 rfl rfl
theorem dksX3_scoreBy_8 : cX3_scoreBy.data.toList.drop 186 = dktX3_scoreBy_8 := dk_seg dksX3_scoreBy_7 24 rfl rfl
theorem dX3_scoreBy_0 : decode cX3_scoreBy 0 = .ok (.iconst 1, 1) := dk_4 (dk_at dksX3_scoreBy_0 0 rfl rfl)
theorem dX3_scoreBy_1 : decode cX3_scoreBy 1 = .ok (.aload_n 0, 1) := dk_42 (dk_at dksX3_scoreBy_0 1 rfl rfl)
theorem dX3_scoreBy_2 : decode cX3_scoreBy 2 = .ok (.getfield 86, 3) := dk_180 0 86 (dk_at dksX3_scoreBy_0 2 rfl rfl)
theorem dX3_scoreBy_5 : decode cX3_scoreBy 5 = .ok (.ishl, 1) := dk_120 (dk_at dksX3_scoreBy_0 5 rfl rfl)
theorem dX3_scoreBy_6 : decode cX3_scoreBy 6 = .ok (.istore_n 3, 1) := dk_62 (dk_at dksX3_scoreBy_0 6 rfl rfl)
theorem dX3_scoreBy_7 : decode cX3_scoreBy 7 = .ok (.iconst 0, 1) := dk_3 (dk_at dksX3_scoreBy_0 7 rfl rfl)
theorem dX3_scoreBy_8 : decode cX3_scoreBy 8 = .ok (.istore 4, 2) := dk_54 4 (dk_at dksX3_scoreBy_0 8 rfl rfl)
theorem dX3_scoreBy_10 : decode cX3_scoreBy 10 = .ok (.iload 4, 2) := dk_21 4 (dk_at dksX3_scoreBy_0 10 rfl rfl)
theorem dX3_scoreBy_12 : decode cX3_scoreBy 12 = .ok (.iload_n 3, 1) := dk_29 (dk_at dksX3_scoreBy_0 12 rfl rfl)
theorem dX3_scoreBy_13 : decode cX3_scoreBy 13 = .ok (.if_icmp .ge 37, 3) := dk_162 0 37 (dk_at dksX3_scoreBy_0 13 rfl rfl)
theorem dX3_scoreBy_16 : decode cX3_scoreBy 16 = .ok (.aload_n 0, 1) := dk_42 (dk_at dksX3_scoreBy_0 16 rfl rfl)
theorem dX3_scoreBy_17 : decode cX3_scoreBy 17 = .ok (.getfield 98, 3) := dk_180 0 98 (dk_at dksX3_scoreBy_0 17 rfl rfl)
theorem dX3_scoreBy_20 : decode cX3_scoreBy 20 = .ok (.sipush 256, 3) := dk_17 1 0 (dk_at dksX3_scoreBy_0 20 rfl rfl)
theorem dX3_scoreBy_23 : decode cX3_scoreBy 23 = .ok (.aload_n 0, 1) := dk_42 (dk_at dksX3_scoreBy_0 23 rfl rfl)
theorem dX3_scoreBy_24 : decode cX3_scoreBy 24 = .ok (.getfield 83, 3) := dk_180 0 83 (dk_at dksX3_scoreBy_1 0 rfl rfl)
theorem dX3_scoreBy_27 : decode cX3_scoreBy 27 = .ok (.imul, 1) := dk_104 (dk_at dksX3_scoreBy_1 3 rfl rfl)
theorem dX3_scoreBy_28 : decode cX3_scoreBy 28 = .ok (.iload 4, 2) := dk_21 4 (dk_at dksX3_scoreBy_1 4 rfl rfl)
theorem dX3_scoreBy_30 : decode cX3_scoreBy 30 = .ok (.iadd, 1) := dk_96 (dk_at dksX3_scoreBy_1 6 rfl rfl)
theorem dX3_scoreBy_31 : decode cX3_scoreBy 31 = .ok (.iload_n 1, 1) := dk_27 (dk_at dksX3_scoreBy_1 7 rfl rfl)
theorem dX3_scoreBy_32 : decode cX3_scoreBy 32 = .ok (.aload_n 0, 1) := dk_42 (dk_at dksX3_scoreBy_1 8 rfl rfl)
theorem dX3_scoreBy_33 : decode cX3_scoreBy 33 = .ok (.getfield 86, 3) := dk_180 0 86 (dk_at dksX3_scoreBy_1 9 rfl rfl)
theorem dX3_scoreBy_36 : decode cX3_scoreBy 36 = .ok (.iload 4, 2) := dk_21 4 (dk_at dksX3_scoreBy_1 12 rfl rfl)
theorem dX3_scoreBy_38 : decode cX3_scoreBy 38 = .ok (.invokestatic 303, 3) := dk_184 1 47 (dk_at dksX3_scoreBy_1 14 rfl rfl)
theorem dX3_scoreBy_41 : decode cX3_scoreBy 41 = .ok (.isub, 1) := dk_100 (dk_at dksX3_scoreBy_1 17 rfl rfl)
theorem dX3_scoreBy_42 : decode cX3_scoreBy 42 = .ok (.imul, 1) := dk_104 (dk_at dksX3_scoreBy_1 18 rfl rfl)
theorem dX3_scoreBy_43 : decode cX3_scoreBy 43 = .ok (.iastore, 1) := dk_79 (dk_at dksX3_scoreBy_1 19 rfl rfl)
theorem dX3_scoreBy_44 : decode cX3_scoreBy 44 = .ok (.iinc 4 1, 3) := dk_132 4 1 (dk_at dksX3_scoreBy_1 20 rfl rfl)
theorem dX3_scoreBy_47 : decode cX3_scoreBy 47 = .ok (.goto (-37), 3) := dk_167 255 219 (dk_at dksX3_scoreBy_2 0 rfl rfl)
theorem dX3_scoreBy_50 : decode cX3_scoreBy 50 = .ok (.aload_n 0, 1) := dk_42 (dk_at dksX3_scoreBy_2 3 rfl rfl)
theorem dX3_scoreBy_51 : decode cX3_scoreBy 51 = .ok (.getfield 83, 3) := dk_180 0 83 (dk_at dksX3_scoreBy_2 4 rfl rfl)
theorem dX3_scoreBy_54 : decode cX3_scoreBy 54 = .ok (.iconst 1, 1) := dk_4 (dk_at dksX3_scoreBy_2 7 rfl rfl)
theorem dX3_scoreBy_55 : decode cX3_scoreBy 55 = .ok (.isub, 1) := dk_100 (dk_at dksX3_scoreBy_2 8 rfl rfl)
theorem dX3_scoreBy_56 : decode cX3_scoreBy 56 = .ok (.istore 4, 2) := dk_54 4 (dk_at dksX3_scoreBy_2 9 rfl rfl)
theorem dX3_scoreBy_58 : decode cX3_scoreBy 58 = .ok (.iload 4, 2) := dk_21 4 (dk_at dksX3_scoreBy_2 11 rfl rfl)
theorem dX3_scoreBy_60 : decode cX3_scoreBy 60 = .ok (.ifCond .lt 126, 3) := dk_155 0 126 (dk_at dksX3_scoreBy_2 13 rfl rfl)
theorem dX3_scoreBy_63 : decode cX3_scoreBy 63 = .ok (.iconst 0, 1) := dk_3 (dk_at dksX3_scoreBy_2 16 rfl rfl)
theorem dX3_scoreBy_64 : decode cX3_scoreBy 64 = .ok (.istore 5, 2) := dk_54 5 (dk_at dksX3_scoreBy_2 17 rfl rfl)
theorem dX3_scoreBy_66 : decode cX3_scoreBy 66 = .ok (.iload 5, 2) := dk_21 5 (dk_at dksX3_scoreBy_2 19 rfl rfl)
theorem dX3_scoreBy_68 : decode cX3_scoreBy 68 = .ok (.iload_n 3, 1) := dk_29 (dk_at dksX3_scoreBy_2 21 rfl rfl)
theorem dX3_scoreBy_69 : decode cX3_scoreBy 69 = .ok (.if_icmp .ge 111, 3) := dk_162 0 111 (dk_at dksX3_scoreBy_3 0 rfl rfl)
theorem dX3_scoreBy_72 : decode cX3_scoreBy 72 = .ok (.iload_n 1, 1) := dk_27 (dk_at dksX3_scoreBy_3 3 rfl rfl)
theorem dX3_scoreBy_73 : decode cX3_scoreBy 73 = .ok (.aload_n 0, 1) := dk_42 (dk_at dksX3_scoreBy_3 4 rfl rfl)
theorem dX3_scoreBy_74 : decode cX3_scoreBy 74 = .ok (.getfield 98, 3) := dk_180 0 98 (dk_at dksX3_scoreBy_3 5 rfl rfl)
theorem dX3_scoreBy_77 : decode cX3_scoreBy 77 = .ok (.sipush 256, 3) := dk_17 1 0 (dk_at dksX3_scoreBy_3 8 rfl rfl)
theorem dX3_scoreBy_80 : decode cX3_scoreBy 80 = .ok (.iload 4, 2) := dk_21 4 (dk_at dksX3_scoreBy_3 11 rfl rfl)
theorem dX3_scoreBy_82 : decode cX3_scoreBy 82 = .ok (.iconst 1, 1) := dk_4 (dk_at dksX3_scoreBy_3 13 rfl rfl)
theorem dX3_scoreBy_83 : decode cX3_scoreBy 83 = .ok (.iadd, 1) := dk_96 (dk_at dksX3_scoreBy_3 14 rfl rfl)
theorem dX3_scoreBy_84 : decode cX3_scoreBy 84 = .ok (.imul, 1) := dk_104 (dk_at dksX3_scoreBy_3 15 rfl rfl)
theorem dX3_scoreBy_85 : decode cX3_scoreBy 85 = .ok (.iload 5, 2) := dk_21 5 (dk_at dksX3_scoreBy_3 16 rfl rfl)
theorem dX3_scoreBy_87 : decode cX3_scoreBy 87 = .ok (.iadd, 1) := dk_96 (dk_at dksX3_scoreBy_3 18 rfl rfl)
theorem dX3_scoreBy_88 : decode cX3_scoreBy 88 = .ok (.iaload, 1) := dk_46 (dk_at dksX3_scoreBy_3 19 rfl rfl)
theorem dX3_scoreBy_89 : decode cX3_scoreBy 89 = .ok (.iadd, 1) := dk_96 (dk_at dksX3_scoreBy_3 20 rfl rfl)
theorem dX3_scoreBy_90 : decode cX3_scoreBy 90 = .ok (.istore 6, 2) := dk_54 6 (dk_at dksX3_scoreBy_3 21 rfl rfl)
theorem dX3_scoreBy_92 : decode cX3_scoreBy 92 = .ok (.iconst 0, 1) := dk_3 (dk_at dksX3_scoreBy_3 23 rfl rfl)
theorem dX3_scoreBy_93 : decode cX3_scoreBy 93 = .ok (.istore 7, 2) := dk_54 7 (dk_at dksX3_scoreBy_4 0 rfl rfl)
theorem dX3_scoreBy_95 : decode cX3_scoreBy 95 = .ok (.iload 7, 2) := dk_21 7 (dk_at dksX3_scoreBy_4 2 rfl rfl)
theorem dX3_scoreBy_97 : decode cX3_scoreBy 97 = .ok (.aload_n 0, 1) := dk_42 (dk_at dksX3_scoreBy_4 4 rfl rfl)
theorem dX3_scoreBy_98 : decode cX3_scoreBy 98 = .ok (.getfield 86, 3) := dk_180 0 86 (dk_at dksX3_scoreBy_4 5 rfl rfl)
theorem dX3_scoreBy_101 : decode cX3_scoreBy 101 = .ok (.if_icmp .ge 57, 3) := dk_162 0 57 (dk_at dksX3_scoreBy_4 8 rfl rfl)
theorem dX3_scoreBy_104 : decode cX3_scoreBy 104 = .ok (.iload 5, 2) := dk_21 5 (dk_at dksX3_scoreBy_4 11 rfl rfl)
theorem dX3_scoreBy_106 : decode cX3_scoreBy 106 = .ok (.iload 7, 2) := dk_21 7 (dk_at dksX3_scoreBy_4 13 rfl rfl)
theorem dX3_scoreBy_108 : decode cX3_scoreBy 108 = .ok (.ishr, 1) := dk_122 (dk_at dksX3_scoreBy_4 15 rfl rfl)
theorem dX3_scoreBy_109 : decode cX3_scoreBy 109 = .ok (.iconst 1, 1) := dk_4 (dk_at dksX3_scoreBy_4 16 rfl rfl)
theorem dX3_scoreBy_110 : decode cX3_scoreBy 110 = .ok (.iand, 1) := dk_126 (dk_at dksX3_scoreBy_4 17 rfl rfl)
theorem dX3_scoreBy_111 : decode cX3_scoreBy 111 = .ok (.ifCond .ne 41, 3) := dk_154 0 41 (dk_at dksX3_scoreBy_4 18 rfl rfl)
theorem dX3_scoreBy_114 : decode cX3_scoreBy 114 = .ok (.iload 6, 2) := dk_21 6 (dk_at dksX3_scoreBy_4 21 rfl rfl)
theorem dX3_scoreBy_116 : decode cX3_scoreBy 116 = .ok (.aload_n 0, 1) := dk_42 (dk_at dksX3_scoreBy_4 23 rfl rfl)
theorem dX3_scoreBy_117 : decode cX3_scoreBy 117 = .ok (.iload 4, 2) := dk_21 4 (dk_at dksX3_scoreBy_5 0 rfl rfl)
theorem dX3_scoreBy_119 : decode cX3_scoreBy 119 = .ok (.iload 7, 2) := dk_21 7 (dk_at dksX3_scoreBy_5 2 rfl rfl)
theorem dX3_scoreBy_121 : decode cX3_scoreBy 121 = .ok (.iload_n 2, 1) := dk_28 (dk_at dksX3_scoreBy_5 4 rfl rfl)
theorem dX3_scoreBy_122 : decode cX3_scoreBy 122 = .ok (.invokevirtual 306, 3) := dk_182 1 50 (dk_at dksX3_scoreBy_5 5 rfl rfl)
theorem dX3_scoreBy_125 : decode cX3_scoreBy 125 = .ok (.aload_n 0, 1) := dk_42 (dk_at dksX3_scoreBy_5 8 rfl rfl)
theorem dX3_scoreBy_126 : decode cX3_scoreBy 126 = .ok (.getfield 98, 3) := dk_180 0 98 (dk_at dksX3_scoreBy_5 9 rfl rfl)
theorem dX3_scoreBy_129 : decode cX3_scoreBy 129 = .ok (.sipush 256, 3) := dk_17 1 0 (dk_at dksX3_scoreBy_5 12 rfl rfl)
theorem dX3_scoreBy_132 : decode cX3_scoreBy 132 = .ok (.iload 4, 2) := dk_21 4 (dk_at dksX3_scoreBy_5 15 rfl rfl)
theorem dX3_scoreBy_134 : decode cX3_scoreBy 134 = .ok (.iconst 1, 1) := dk_4 (dk_at dksX3_scoreBy_5 17 rfl rfl)
theorem dX3_scoreBy_135 : decode cX3_scoreBy 135 = .ok (.iadd, 1) := dk_96 (dk_at dksX3_scoreBy_5 18 rfl rfl)
theorem dX3_scoreBy_136 : decode cX3_scoreBy 136 = .ok (.imul, 1) := dk_104 (dk_at dksX3_scoreBy_5 19 rfl rfl)
theorem dX3_scoreBy_137 : decode cX3_scoreBy 137 = .ok (.iload 5, 2) := dk_21 5 (dk_at dksX3_scoreBy_5 20 rfl rfl)
theorem dX3_scoreBy_139 : decode cX3_scoreBy 139 = .ok (.iconst 1, 1) := dk_4 (dk_at dksX3_scoreBy_5 22 rfl rfl)
theorem dX3_scoreBy_140 : decode cX3_scoreBy 140 = .ok (.iload 7, 2) := dk_21 7 (dk_at dksX3_scoreBy_6 0 rfl rfl)
theorem dX3_scoreBy_142 : decode cX3_scoreBy 142 = .ok (.ishl, 1) := dk_120 (dk_at dksX3_scoreBy_6 2 rfl rfl)
theorem dX3_scoreBy_143 : decode cX3_scoreBy 143 = .ok (.ior, 1) := dk_128 (dk_at dksX3_scoreBy_6 3 rfl rfl)
theorem dX3_scoreBy_144 : decode cX3_scoreBy 144 = .ok (.iadd, 1) := dk_96 (dk_at dksX3_scoreBy_6 4 rfl rfl)
theorem dX3_scoreBy_145 : decode cX3_scoreBy 145 = .ok (.iaload, 1) := dk_46 (dk_at dksX3_scoreBy_6 5 rfl rfl)
theorem dX3_scoreBy_146 : decode cX3_scoreBy 146 = .ok (.iadd, 1) := dk_96 (dk_at dksX3_scoreBy_6 6 rfl rfl)
theorem dX3_scoreBy_147 : decode cX3_scoreBy 147 = .ok (.invokestatic 258, 3) := dk_184 1 2 (dk_at dksX3_scoreBy_6 7 rfl rfl)
theorem dX3_scoreBy_150 : decode cX3_scoreBy 150 = .ok (.istore 6, 2) := dk_54 6 (dk_at dksX3_scoreBy_6 10 rfl rfl)
theorem dX3_scoreBy_152 : decode cX3_scoreBy 152 = .ok (.iinc 7 1, 3) := dk_132 7 1 (dk_at dksX3_scoreBy_6 12 rfl rfl)
theorem dX3_scoreBy_155 : decode cX3_scoreBy 155 = .ok (.goto (-60), 3) := dk_167 255 196 (dk_at dksX3_scoreBy_6 15 rfl rfl)
theorem dX3_scoreBy_158 : decode cX3_scoreBy 158 = .ok (.aload_n 0, 1) := dk_42 (dk_at dksX3_scoreBy_6 18 rfl rfl)
theorem dX3_scoreBy_159 : decode cX3_scoreBy 159 = .ok (.getfield 98, 3) := dk_180 0 98 (dk_at dksX3_scoreBy_6 19 rfl rfl)
theorem dX3_scoreBy_162 : decode cX3_scoreBy 162 = .ok (.sipush 256, 3) := dk_17 1 0 (dk_at dksX3_scoreBy_7 0 rfl rfl)
theorem dX3_scoreBy_165 : decode cX3_scoreBy 165 = .ok (.iload 4, 2) := dk_21 4 (dk_at dksX3_scoreBy_7 3 rfl rfl)
theorem dX3_scoreBy_167 : decode cX3_scoreBy 167 = .ok (.imul, 1) := dk_104 (dk_at dksX3_scoreBy_7 5 rfl rfl)
theorem dX3_scoreBy_168 : decode cX3_scoreBy 168 = .ok (.iload 5, 2) := dk_21 5 (dk_at dksX3_scoreBy_7 6 rfl rfl)
theorem dX3_scoreBy_170 : decode cX3_scoreBy 170 = .ok (.iadd, 1) := dk_96 (dk_at dksX3_scoreBy_7 8 rfl rfl)
theorem dX3_scoreBy_171 : decode cX3_scoreBy 171 = .ok (.iload 6, 2) := dk_21 6 (dk_at dksX3_scoreBy_7 9 rfl rfl)
theorem dX3_scoreBy_173 : decode cX3_scoreBy 173 = .ok (.iastore, 1) := dk_79 (dk_at dksX3_scoreBy_7 11 rfl rfl)
theorem dX3_scoreBy_174 : decode cX3_scoreBy 174 = .ok (.iinc 5 1, 3) := dk_132 5 1 (dk_at dksX3_scoreBy_7 12 rfl rfl)
theorem dX3_scoreBy_177 : decode cX3_scoreBy 177 = .ok (.goto (-111), 3) := dk_167 255 145 (dk_at dksX3_scoreBy_7 15 rfl rfl)
theorem dX3_scoreBy_180 : decode cX3_scoreBy 180 = .ok (.iinc 4 (-1), 3) := dk_132 4 255 (dk_at dksX3_scoreBy_7 18 rfl rfl)
theorem dX3_scoreBy_183 : decode cX3_scoreBy 183 = .ok (.goto (-125), 3) := dk_167 255 131 (dk_at dksX3_scoreBy_7 21 rfl rfl)
theorem dX3_scoreBy_186 : decode cX3_scoreBy 186 = .ok (.aload_n 0, 1) := dk_42 (dk_at dksX3_scoreBy_8 0 rfl rfl)
theorem dX3_scoreBy_187 : decode cX3_scoreBy 187 = .ok (.getfield 98, 3) := dk_180 0 98 (dk_at dksX3_scoreBy_8 1 rfl rfl)
theorem dX3_scoreBy_190 : decode cX3_scoreBy 190 = .ok (.iconst 0, 1) := dk_3 (dk_at dksX3_scoreBy_8 4 rfl rfl)
theorem dX3_scoreBy_191 : decode cX3_scoreBy 191 = .ok (.iaload, 1) := dk_46 (dk_at dksX3_scoreBy_8 5 rfl rfl)
theorem dX3_scoreBy_192 : decode cX3_scoreBy 192 = .ok (.ireturn, 1) := dk_172 (dk_at dksX3_scoreBy_8 6 rfl rfl)
abbrev cX3_bits : ByteArray := prog_12_method_73_code
def yX3_bits : MethodName := ⟨RX3, "bits", "(I)I"⟩
def dkwX3_bits_0 : List UInt8 := [3, 60, 26, 61, 28, 153, 0, 15, 132, 1, 1, 28, 28, 4, 100, 126, 61, 167, 255, 243, 27, 172]
abbrev dktX3_bits_0 : List UInt8 := dkwX3_bits_0 ++ []
theorem dksX3_bits_0 : cX3_bits.data.toList.drop 0 = dktX3_bits_0 := by decide +kernel
theorem dX3_bits_0 : decode cX3_bits 0 = .ok (.iconst 0, 1) := dk_3 (dk_at dksX3_bits_0 0 rfl rfl)
theorem dX3_bits_1 : decode cX3_bits 1 = .ok (.istore_n 1, 1) := dk_60 (dk_at dksX3_bits_0 1 rfl rfl)
theorem dX3_bits_2 : decode cX3_bits 2 = .ok (.iload_n 0, 1) := dk_26 (dk_at dksX3_bits_0 2 rfl rfl)
theorem dX3_bits_3 : decode cX3_bits 3 = .ok (.istore_n 2, 1) := dk_61 (dk_at dksX3_bits_0 3 rfl rfl)
theorem dX3_bits_4 : decode cX3_bits 4 = .ok (.iload_n 2, 1) := dk_28 (dk_at dksX3_bits_0 4 rfl rfl)
theorem dX3_bits_5 : decode cX3_bits 5 = .ok (.ifCond .eq 15, 3) := dk_153 0 15 (dk_at dksX3_bits_0 5 rfl rfl)
theorem dX3_bits_8 : decode cX3_bits 8 = .ok (.iinc 1 1, 3) := dk_132 1 1 (dk_at dksX3_bits_0 8 rfl rfl)
theorem dX3_bits_11 : decode cX3_bits 11 = .ok (.iload_n 2, 1) := dk_28 (dk_at dksX3_bits_0 11 rfl rfl)
theorem dX3_bits_12 : decode cX3_bits 12 = .ok (.iload_n 2, 1) := dk_28 (dk_at dksX3_bits_0 12 rfl rfl)
theorem dX3_bits_13 : decode cX3_bits 13 = .ok (.iconst 1, 1) := dk_4 (dk_at dksX3_bits_0 13 rfl rfl)
theorem dX3_bits_14 : decode cX3_bits 14 = .ok (.isub, 1) := dk_100 (dk_at dksX3_bits_0 14 rfl rfl)
theorem dX3_bits_15 : decode cX3_bits 15 = .ok (.iand, 1) := dk_126 (dk_at dksX3_bits_0 15 rfl rfl)
theorem dX3_bits_16 : decode cX3_bits 16 = .ok (.istore_n 2, 1) := dk_61 (dk_at dksX3_bits_0 16 rfl rfl)
theorem dX3_bits_17 : decode cX3_bits 17 = .ok (.goto (-13), 3) := dk_167 255 243 (dk_at dksX3_bits_0 17 rfl rfl)
theorem dX3_bits_20 : decode cX3_bits 20 = .ok (.iload_n 1, 1) := dk_27 (dk_at dksX3_bits_0 20 rfl rfl)
theorem dX3_bits_21 : decode cX3_bits 21 = .ok (.ireturn, 1) := dk_172 (dk_at dksX3_bits_0 21 rfl rfl)
abbrev cX3_costOf : ByteArray := prog_12_method_72_code
def yX3_costOf : MethodName := ⟨RX3, "costOf", "(III)I"⟩
def dkwX3_costOf_2 : List UInt8 := [172]
abbrev dktX3_costOf_2 : List UInt8 := dkwX3_costOf_2 ++ []
def dkwX3_costOf_1 : List UInt8 := [184, 1, 2, 42, 180, 0, 7, 17, 4, 23, 46, 42, 180, 0, 95, 16, 8, 27, 104, 28, 96, 46, 104, 96]
abbrev dktX3_costOf_1 : List UInt8 := dkwX3_costOf_1 ++ dktX3_costOf_2
def dkwX3_costOf_0 : List UInt8 := [42, 180, 0, 89, 16, 8, 27, 104, 28, 96, 46, 42, 180, 0, 92, 16, 8, 27, 104, 28, 96, 46, 29, 96]
abbrev dktX3_costOf_0 : List UInt8 := dkwX3_costOf_0 ++ dktX3_costOf_1
theorem dksX3_costOf_0 : cX3_costOf.data.toList.drop 0 = dktX3_costOf_0 := by decide +kernel
theorem dksX3_costOf_1 : cX3_costOf.data.toList.drop 24 = dktX3_costOf_1 := dk_seg dksX3_costOf_0 24 rfl rfl
theorem dksX3_costOf_2 : cX3_costOf.data.toList.drop 48 = dktX3_costOf_2 := dk_seg dksX3_costOf_1 24 rfl rfl
theorem dX3_costOf_0 : decode cX3_costOf 0 = .ok (.aload_n 0, 1) := dk_42 (dk_at dksX3_costOf_0 0 rfl rfl)
theorem dX3_costOf_1 : decode cX3_costOf 1 = .ok (.getfield 89, 3) := dk_180 0 89 (dk_at dksX3_costOf_0 1 rfl rfl)
theorem dX3_costOf_4 : decode cX3_costOf 4 = .ok (.bipush 8, 2) := dk_16 8 (dk_at dksX3_costOf_0 4 rfl rfl)
theorem dX3_costOf_6 : decode cX3_costOf 6 = .ok (.iload_n 1, 1) := dk_27 (dk_at dksX3_costOf_0 6 rfl rfl)
theorem dX3_costOf_7 : decode cX3_costOf 7 = .ok (.imul, 1) := dk_104 (dk_at dksX3_costOf_0 7 rfl rfl)
theorem dX3_costOf_8 : decode cX3_costOf 8 = .ok (.iload_n 2, 1) := dk_28 (dk_at dksX3_costOf_0 8 rfl rfl)
theorem dX3_costOf_9 : decode cX3_costOf 9 = .ok (.iadd, 1) := dk_96 (dk_at dksX3_costOf_0 9 rfl rfl)
theorem dX3_costOf_10 : decode cX3_costOf 10 = .ok (.iaload, 1) := dk_46 (dk_at dksX3_costOf_0 10 rfl rfl)
theorem dX3_costOf_11 : decode cX3_costOf 11 = .ok (.aload_n 0, 1) := dk_42 (dk_at dksX3_costOf_0 11 rfl rfl)
theorem dX3_costOf_12 : decode cX3_costOf 12 = .ok (.getfield 92, 3) := dk_180 0 92 (dk_at dksX3_costOf_0 12 rfl rfl)
theorem dX3_costOf_15 : decode cX3_costOf 15 = .ok (.bipush 8, 2) := dk_16 8 (dk_at dksX3_costOf_0 15 rfl rfl)
theorem dX3_costOf_17 : decode cX3_costOf 17 = .ok (.iload_n 1, 1) := dk_27 (dk_at dksX3_costOf_0 17 rfl rfl)
theorem dX3_costOf_18 : decode cX3_costOf 18 = .ok (.imul, 1) := dk_104 (dk_at dksX3_costOf_0 18 rfl rfl)
theorem dX3_costOf_19 : decode cX3_costOf 19 = .ok (.iload_n 2, 1) := dk_28 (dk_at dksX3_costOf_0 19 rfl rfl)
theorem dX3_costOf_20 : decode cX3_costOf 20 = .ok (.iadd, 1) := dk_96 (dk_at dksX3_costOf_0 20 rfl rfl)
theorem dX3_costOf_21 : decode cX3_costOf 21 = .ok (.iaload, 1) := dk_46 (dk_at dksX3_costOf_0 21 rfl rfl)
theorem dX3_costOf_22 : decode cX3_costOf 22 = .ok (.iload_n 3, 1) := dk_29 (dk_at dksX3_costOf_0 22 rfl rfl)
theorem dX3_costOf_23 : decode cX3_costOf 23 = .ok (.iadd, 1) := dk_96 (dk_at dksX3_costOf_0 23 rfl rfl)
theorem dX3_costOf_24 : decode cX3_costOf 24 = .ok (.invokestatic 258, 3) := dk_184 1 2 (dk_at dksX3_costOf_1 0 rfl rfl)
theorem dX3_costOf_27 : decode cX3_costOf 27 = .ok (.aload_n 0, 1) := dk_42 (dk_at dksX3_costOf_1 3 rfl rfl)
theorem dX3_costOf_28 : decode cX3_costOf 28 = .ok (.getfield 7, 3) := dk_180 0 7 (dk_at dksX3_costOf_1 4 rfl rfl)
theorem dX3_costOf_31 : decode cX3_costOf 31 = .ok (.sipush 1047, 3) := dk_17 4 23 (dk_at dksX3_costOf_1 7 rfl rfl)
theorem dX3_costOf_34 : decode cX3_costOf 34 = .ok (.iaload, 1) := dk_46 (dk_at dksX3_costOf_1 10 rfl rfl)
theorem dX3_costOf_35 : decode cX3_costOf 35 = .ok (.aload_n 0, 1) := dk_42 (dk_at dksX3_costOf_1 11 rfl rfl)
theorem dX3_costOf_36 : decode cX3_costOf 36 = .ok (.getfield 95, 3) := dk_180 0 95 (dk_at dksX3_costOf_1 12 rfl rfl)
theorem dX3_costOf_39 : decode cX3_costOf 39 = .ok (.bipush 8, 2) := dk_16 8 (dk_at dksX3_costOf_1 15 rfl rfl)
theorem dX3_costOf_41 : decode cX3_costOf 41 = .ok (.iload_n 1, 1) := dk_27 (dk_at dksX3_costOf_1 17 rfl rfl)
theorem dX3_costOf_42 : decode cX3_costOf 42 = .ok (.imul, 1) := dk_104 (dk_at dksX3_costOf_1 18 rfl rfl)
theorem dX3_costOf_43 : decode cX3_costOf 43 = .ok (.iload_n 2, 1) := dk_28 (dk_at dksX3_costOf_1 19 rfl rfl)
theorem dX3_costOf_44 : decode cX3_costOf 44 = .ok (.iadd, 1) := dk_96 (dk_at dksX3_costOf_1 20 rfl rfl)
theorem dX3_costOf_45 : decode cX3_costOf 45 = .ok (.iaload, 1) := dk_46 (dk_at dksX3_costOf_1 21 rfl rfl)
theorem dX3_costOf_46 : decode cX3_costOf 46 = .ok (.imul, 1) := dk_104 (dk_at dksX3_costOf_1 22 rfl rfl)
theorem dX3_costOf_47 : decode cX3_costOf 47 = .ok (.iadd, 1) := dk_96 (dk_at dksX3_costOf_1 23 rfl rfl)
theorem dX3_costOf_48 : decode cX3_costOf 48 = .ok (.ireturn, 1) := dk_172 (dk_at dksX3_costOf_2 0 rfl rfl)
abbrev cX3_partner : ByteArray := prog_12_method_78_code
def yX3_partner : MethodName := ⟨RX3, "partner", "(IIII)I"⟩
def dkwX3_partner_10 : List UInt8 := [42, 180, 0, 89, 16, 8, 29, 104, 21, 6, 96, 46, 162, 0, 7, 4, 167, 0, 4, 3, 172]
abbrev dktX3_partner_10 : List UInt8 := dkwX3_partner_10 ++ []
def dkwX3_partner_9 : List UInt8 := [159, 0, 43, 42, 180, 0, 92, 16, 8, 29, 104, 21, 6, 96, 46, 42, 180, 0, 7, 17, 4, 21, 46, 96]
abbrev dktX3_partner_9 : List UInt8 := dkwX3_partner_9 ++ dktX3_partner_10
def dkwX3_partner_8 : List UInt8 := [21, 6, 120, 128, 54, 5, 132, 7, 1, 167, 255, 120, 21, 4, 154, 0, 6, 21, 6, 172, 21, 6, 2]
abbrev dktX3_partner_8 : List UInt8 := dkwX3_partner_8 ++ dktX3_partner_9
def dkwX3_partner_7 : List UInt8 := [21, 6, 54, 6, 132, 8, 255, 167, 255, 162, 21, 5, 21, 6, 2, 160, 0, 7, 3, 167, 0, 7, 4]
abbrev dktX3_partner_7 : List UInt8 := dkwX3_partner_7 ++ dktX3_partner_8
def dkwX3_partner_6 : List UInt8 := [21, 5, 96, 46, 160, 0, 7, 4, 167, 0, 4, 3, 54, 9, 21, 9, 153, 0, 8, 21, 8, 167, 0, 5]
abbrev dktX3_partner_6 : List UInt8 := dkwX3_partner_6 ++ dktX3_partner_7
def dkwX3_partner_5 : List UInt8 := [4, 96, 104, 21, 5, 4, 21, 8, 120, 128, 96, 46, 96, 42, 180, 0, 98, 17, 1, 0, 21, 7, 104]
abbrev dktX3_partner_5 : List UInt8 := dkwX3_partner_5 ++ dktX3_partner_6
def dkwX3_partner_4 : List UInt8 := [21, 7, 21, 8, 42, 180, 0, 7, 17, 4, 21, 46, 182, 1, 50, 42, 180, 0, 98, 17, 1, 0, 21, 7]
abbrev dktX3_partner_4 : List UInt8 := dkwX3_partner_4 ++ dktX3_partner_5
def dkwX3_partner_3 : List UInt8 := [180, 0, 86, 4, 100, 54, 8, 21, 8, 155, 0, 95, 21, 5, 21, 8, 122, 4, 126, 154, 0, 62, 42]
abbrev dktX3_partner_3 : List UInt8 := dkwX3_partner_3 ++ dktX3_partner_4
def dkwX3_partner_2 : List UInt8 := [182, 1, 63, 87, 3, 54, 5, 2, 54, 6, 3, 54, 7, 21, 7, 29, 163, 0, 136, 2, 54, 6, 42]
abbrev dktX3_partner_2 : List UInt8 := dkwX3_partner_2 ++ dktX3_partner_3
def dkwX3_partner_1 : List UInt8 := [100, 184, 0, 171, 153, 0, 13, 21, 4, 3, 4, 184, 0, 171, 154, 0, 5, 2, 172, 42, 27, 28]
abbrev dktX3_partner_1 : List UInt8 := dkwX3_partner_1 ++ dktX3_partner_2
def dkwX3_partner_0 : List UInt8 := [42, 27, 182, 0, 218, 153, 0, 36, 42, 28, 182, 0, 218, 153, 0, 28, 29, 3, 42, 27, 182, 0, 221, 4]
abbrev dktX3_partner_0 : List UInt8 := dkwX3_partner_0 ++ dktX3_partner_1
theorem dksX3_partner_0 : cX3_partner.data.toList.drop 0 = dktX3_partner_0 := by decide +kernel
theorem dksX3_partner_1 : cX3_partner.data.toList.drop 24 = dktX3_partner_1 := dk_seg dksX3_partner_0 24 rfl rfl
theorem dksX3_partner_2 : cX3_partner.data.toList.drop 46 = dktX3_partner_2 := dk_seg dksX3_partner_1 22 rfl rfl
theorem dksX3_partner_3 : cX3_partner.data.toList.drop 69 = dktX3_partner_3 := dk_seg dksX3_partner_2 23 rfl rfl
theorem dksX3_partner_4 : cX3_partner.data.toList.drop 92 = dktX3_partner_4 := dk_seg dksX3_partner_3 23 rfl rfl
theorem dksX3_partner_5 : cX3_partner.data.toList.drop 116 = dktX3_partner_5 := dk_seg dksX3_partner_4 24 rfl rfl
theorem dksX3_partner_6 : cX3_partner.data.toList.drop 139 = dktX3_partner_6 := dk_seg dksX3_partner_5 23 rfl rfl
theorem dksX3_partner_7 : cX3_partner.data.toList.drop 163 = dktX3_partner_7 := dk_seg dksX3_partner_6 24 rfl rfl
theorem dksX3_partner_8 : cX3_partner.data.toList.drop 186 = dktX3_partner_8 := dk_seg dksX3_partner_7 23 rfl rfl
theorem dksX3_partner_9 : cX3_partner.data.toList.drop 209 = dktX3_partner_9 := dk_seg dksX3_partner_8 23 rfl rfl
theorem dksX3_partner_10 : cX3_partner.data.toList.drop 233 = dktX3_partner_10 := dk_seg dksX3_partner_9 24 rfl rfl
theorem dX3_partner_0 : decode cX3_partner 0 = .ok (.aload_n 0, 1) := dk_42 (dk_at dksX3_partner_0 0 rfl rfl)
theorem dX3_partner_1 : decode cX3_partner 1 = .ok (.iload_n 1, 1) := dk_27 (dk_at dksX3_partner_0 1 rfl rfl)
theorem dX3_partner_2 : decode cX3_partner 2 = .ok (.invokevirtual 218, 3) := dk_182 0 218 (dk_at dksX3_partner_0 2 rfl rfl)
theorem dX3_partner_5 : decode cX3_partner 5 = .ok (.ifCond .eq 36, 3) := dk_153 0 36 (dk_at dksX3_partner_0 5 rfl rfl)
theorem dX3_partner_8 : decode cX3_partner 8 = .ok (.aload_n 0, 1) := dk_42 (dk_at dksX3_partner_0 8 rfl rfl)
theorem dX3_partner_9 : decode cX3_partner 9 = .ok (.iload_n 2, 1) := dk_28 (dk_at dksX3_partner_0 9 rfl rfl)
theorem dX3_partner_10 : decode cX3_partner 10 = .ok (.invokevirtual 218, 3) := dk_182 0 218 (dk_at dksX3_partner_0 10 rfl rfl)
theorem dX3_partner_13 : decode cX3_partner 13 = .ok (.ifCond .eq 28, 3) := dk_153 0 28 (dk_at dksX3_partner_0 13 rfl rfl)
theorem dX3_partner_16 : decode cX3_partner 16 = .ok (.iload_n 3, 1) := dk_29 (dk_at dksX3_partner_0 16 rfl rfl)
theorem dX3_partner_17 : decode cX3_partner 17 = .ok (.iconst 0, 1) := dk_3 (dk_at dksX3_partner_0 17 rfl rfl)
theorem dX3_partner_18 : decode cX3_partner 18 = .ok (.aload_n 0, 1) := dk_42 (dk_at dksX3_partner_0 18 rfl rfl)
theorem dX3_partner_19 : decode cX3_partner 19 = .ok (.iload_n 1, 1) := dk_27 (dk_at dksX3_partner_0 19 rfl rfl)
theorem dX3_partner_20 : decode cX3_partner 20 = .ok (.invokevirtual 221, 3) := dk_182 0 221 (dk_at dksX3_partner_0 20 rfl rfl)
theorem dX3_partner_23 : decode cX3_partner 23 = .ok (.iconst 1, 1) := dk_4 (dk_at dksX3_partner_0 23 rfl rfl)
theorem dX3_partner_24 : decode cX3_partner 24 = .ok (.isub, 1) := dk_100 (dk_at dksX3_partner_1 0 rfl rfl)
theorem dX3_partner_25 : decode cX3_partner 25 = .ok (.invokestatic 171, 3) := dk_184 0 171 (dk_at dksX3_partner_1 1 rfl rfl)
theorem dX3_partner_28 : decode cX3_partner 28 = .ok (.ifCond .eq 13, 3) := dk_153 0 13 (dk_at dksX3_partner_1 4 rfl rfl)
theorem dX3_partner_31 : decode cX3_partner 31 = .ok (.iload 4, 2) := dk_21 4 (dk_at dksX3_partner_1 7 rfl rfl)
theorem dX3_partner_33 : decode cX3_partner 33 = .ok (.iconst 0, 1) := dk_3 (dk_at dksX3_partner_1 9 rfl rfl)
theorem dX3_partner_34 : decode cX3_partner 34 = .ok (.iconst 1, 1) := dk_4 (dk_at dksX3_partner_1 10 rfl rfl)
theorem dX3_partner_35 : decode cX3_partner 35 = .ok (.invokestatic 171, 3) := dk_184 0 171 (dk_at dksX3_partner_1 11 rfl rfl)
theorem dX3_partner_38 : decode cX3_partner 38 = .ok (.ifCond .ne 5, 3) := dk_154 0 5 (dk_at dksX3_partner_1 14 rfl rfl)
theorem dX3_partner_41 : decode cX3_partner 41 = .ok (.iconst (-1), 1) := dk_2 (dk_at dksX3_partner_1 17 rfl rfl)
theorem dX3_partner_42 : decode cX3_partner 42 = .ok (.ireturn, 1) := dk_172 (dk_at dksX3_partner_1 18 rfl rfl)
theorem dX3_partner_43 : decode cX3_partner 43 = .ok (.aload_n 0, 1) := dk_42 (dk_at dksX3_partner_1 19 rfl rfl)
theorem dX3_partner_44 : decode cX3_partner 44 = .ok (.iload_n 1, 1) := dk_27 (dk_at dksX3_partner_1 20 rfl rfl)
theorem dX3_partner_45 : decode cX3_partner 45 = .ok (.iload_n 2, 1) := dk_28 (dk_at dksX3_partner_1 21 rfl rfl)
theorem dX3_partner_46 : decode cX3_partner 46 = .ok (.invokevirtual 319, 3) := dk_182 1 63 (dk_at dksX3_partner_2 0 rfl rfl)
theorem dX3_partner_49 : decode cX3_partner 49 = .ok (.pop, 1) := dk_87 (dk_at dksX3_partner_2 3 rfl rfl)
theorem dX3_partner_50 : decode cX3_partner 50 = .ok (.iconst 0, 1) := dk_3 (dk_at dksX3_partner_2 4 rfl rfl)
theorem dX3_partner_51 : decode cX3_partner 51 = .ok (.istore 5, 2) := dk_54 5 (dk_at dksX3_partner_2 5 rfl rfl)
theorem dX3_partner_53 : decode cX3_partner 53 = .ok (.iconst (-1), 1) := dk_2 (dk_at dksX3_partner_2 7 rfl rfl)
theorem dX3_partner_54 : decode cX3_partner 54 = .ok (.istore 6, 2) := dk_54 6 (dk_at dksX3_partner_2 8 rfl rfl)
theorem dX3_partner_56 : decode cX3_partner 56 = .ok (.iconst 0, 1) := dk_3 (dk_at dksX3_partner_2 10 rfl rfl)
theorem dX3_partner_57 : decode cX3_partner 57 = .ok (.istore 7, 2) := dk_54 7 (dk_at dksX3_partner_2 11 rfl rfl)
theorem dX3_partner_59 : decode cX3_partner 59 = .ok (.iload 7, 2) := dk_21 7 (dk_at dksX3_partner_2 13 rfl rfl)
theorem dX3_partner_61 : decode cX3_partner 61 = .ok (.iload_n 3, 1) := dk_29 (dk_at dksX3_partner_2 15 rfl rfl)
theorem dX3_partner_62 : decode cX3_partner 62 = .ok (.if_icmp .gt 136, 3) := dk_163 0 136 (dk_at dksX3_partner_2 16 rfl rfl)
theorem dX3_partner_65 : decode cX3_partner 65 = .ok (.iconst (-1), 1) := dk_2 (dk_at dksX3_partner_2 19 rfl rfl)
theorem dX3_partner_66 : decode cX3_partner 66 = .ok (.istore 6, 2) := dk_54 6 (dk_at dksX3_partner_2 20 rfl rfl)
theorem dX3_partner_68 : decode cX3_partner 68 = .ok (.aload_n 0, 1) := dk_42 (dk_at dksX3_partner_2 22 rfl rfl)
theorem dX3_partner_69 : decode cX3_partner 69 = .ok (.getfield 86, 3) := dk_180 0 86 (dk_at dksX3_partner_3 0 rfl rfl)
theorem dX3_partner_72 : decode cX3_partner 72 = .ok (.iconst 1, 1) := dk_4 (dk_at dksX3_partner_3 3 rfl rfl)
theorem dX3_partner_73 : decode cX3_partner 73 = .ok (.isub, 1) := dk_100 (dk_at dksX3_partner_3 4 rfl rfl)
theorem dX3_partner_74 : decode cX3_partner 74 = .ok (.istore 8, 2) := dk_54 8 (dk_at dksX3_partner_3 5 rfl rfl)
theorem dX3_partner_76 : decode cX3_partner 76 = .ok (.iload 8, 2) := dk_21 8 (dk_at dksX3_partner_3 7 rfl rfl)
theorem dX3_partner_78 : decode cX3_partner 78 = .ok (.ifCond .lt 95, 3) := dk_155 0 95 (dk_at dksX3_partner_3 9 rfl rfl)
theorem dX3_partner_81 : decode cX3_partner 81 = .ok (.iload 5, 2) := dk_21 5 (dk_at dksX3_partner_3 12 rfl rfl)
theorem dX3_partner_83 : decode cX3_partner 83 = .ok (.iload 8, 2) := dk_21 8 (dk_at dksX3_partner_3 14 rfl rfl)
theorem dX3_partner_85 : decode cX3_partner 85 = .ok (.ishr, 1) := dk_122 (dk_at dksX3_partner_3 16 rfl rfl)
theorem dX3_partner_86 : decode cX3_partner 86 = .ok (.iconst 1, 1) := dk_4 (dk_at dksX3_partner_3 17 rfl rfl)
theorem dX3_partner_87 : decode cX3_partner 87 = .ok (.iand, 1) := dk_126 (dk_at dksX3_partner_3 18 rfl rfl)
theorem dX3_partner_88 : decode cX3_partner 88 = .ok (.ifCond .ne 62, 3) := dk_154 0 62 (dk_at dksX3_partner_3 19 rfl rfl)
theorem dX3_partner_91 : decode cX3_partner 91 = .ok (.aload_n 0, 1) := dk_42 (dk_at dksX3_partner_3 22 rfl rfl)
theorem dX3_partner_92 : decode cX3_partner 92 = .ok (.iload 7, 2) := dk_21 7 (dk_at dksX3_partner_4 0 rfl rfl)
theorem dX3_partner_94 : decode cX3_partner 94 = .ok (.iload 8, 2) := dk_21 8 (dk_at dksX3_partner_4 2 rfl rfl)
theorem dX3_partner_96 : decode cX3_partner 96 = .ok (.aload_n 0, 1) := dk_42 (dk_at dksX3_partner_4 4 rfl rfl)
theorem dX3_partner_97 : decode cX3_partner 97 = .ok (.getfield 7, 3) := dk_180 0 7 (dk_at dksX3_partner_4 5 rfl rfl)
theorem dX3_partner_100 : decode cX3_partner 100 = .ok (.sipush 1045, 3) := dk_17 4 21 (dk_at dksX3_partner_4 8 rfl rfl)
theorem dX3_partner_103 : decode cX3_partner 103 = .ok (.iaload, 1) := dk_46 (dk_at dksX3_partner_4 11 rfl rfl)
theorem dX3_partner_104 : decode cX3_partner 104 = .ok (.invokevirtual 306, 3) := dk_182 1 50 (dk_at dksX3_partner_4 12 rfl rfl)
theorem dX3_partner_107 : decode cX3_partner 107 = .ok (.aload_n 0, 1) := dk_42 (dk_at dksX3_partner_4 15 rfl rfl)
theorem dX3_partner_108 : decode cX3_partner 108 = .ok (.getfield 98, 3) := dk_180 0 98 (dk_at dksX3_partner_4 16 rfl rfl)
theorem dX3_partner_111 : decode cX3_partner 111 = .ok (.sipush 256, 3) := dk_17 1 0 (dk_at dksX3_partner_4 19 rfl rfl)
theorem dX3_partner_114 : decode cX3_partner 114 = .ok (.iload 7, 2) := dk_21 7 (dk_at dksX3_partner_4 22 rfl rfl)
theorem dX3_partner_116 : decode cX3_partner 116 = .ok (.iconst 1, 1) := dk_4 (dk_at dksX3_partner_5 0 rfl rfl)
theorem dX3_partner_117 : decode cX3_partner 117 = .ok (.iadd, 1) := dk_96 (dk_at dksX3_partner_5 1 rfl rfl)
theorem dX3_partner_118 : decode cX3_partner 118 = .ok (.imul, 1) := dk_104 (dk_at dksX3_partner_5 2 rfl rfl)
theorem dX3_partner_119 : decode cX3_partner 119 = .ok (.iload 5, 2) := dk_21 5 (dk_at dksX3_partner_5 3 rfl rfl)
theorem dX3_partner_121 : decode cX3_partner 121 = .ok (.iconst 1, 1) := dk_4 (dk_at dksX3_partner_5 5 rfl rfl)
theorem dX3_partner_122 : decode cX3_partner 122 = .ok (.iload 8, 2) := dk_21 8 (dk_at dksX3_partner_5 6 rfl rfl)
theorem dX3_partner_124 : decode cX3_partner 124 = .ok (.ishl, 1) := dk_120 (dk_at dksX3_partner_5 8 rfl rfl)
theorem dX3_partner_125 : decode cX3_partner 125 = .ok (.ior, 1) := dk_128 (dk_at dksX3_partner_5 9 rfl rfl)
theorem dX3_partner_126 : decode cX3_partner 126 = .ok (.iadd, 1) := dk_96 (dk_at dksX3_partner_5 10 rfl rfl)
theorem dX3_partner_127 : decode cX3_partner 127 = .ok (.iaload, 1) := dk_46 (dk_at dksX3_partner_5 11 rfl rfl)
theorem dX3_partner_128 : decode cX3_partner 128 = .ok (.iadd, 1) := dk_96 (dk_at dksX3_partner_5 12 rfl rfl)
theorem dX3_partner_129 : decode cX3_partner 129 = .ok (.aload_n 0, 1) := dk_42 (dk_at dksX3_partner_5 13 rfl rfl)
theorem dX3_partner_130 : decode cX3_partner 130 = .ok (.getfield 98, 3) := dk_180 0 98 (dk_at dksX3_partner_5 14 rfl rfl)
theorem dX3_partner_133 : decode cX3_partner 133 = .ok (.sipush 256, 3) := dk_17 1 0 (dk_at dksX3_partner_5 17 rfl rfl)
theorem dX3_partner_136 : decode cX3_partner 136 = .ok (.iload 7, 2) := dk_21 7 (dk_at dksX3_partner_5 20 rfl rfl)
theorem dX3_partner_138 : decode cX3_partner 138 = .ok (.imul, 1) := dk_104 (dk_at dksX3_partner_5 22 rfl rfl)
theorem dX3_partner_139 : decode cX3_partner 139 = .ok (.iload 5, 2) := dk_21 5 (dk_at dksX3_partner_6 0 rfl rfl)
theorem dX3_partner_141 : decode cX3_partner 141 = .ok (.iadd, 1) := dk_96 (dk_at dksX3_partner_6 2 rfl rfl)
theorem dX3_partner_142 : decode cX3_partner 142 = .ok (.iaload, 1) := dk_46 (dk_at dksX3_partner_6 3 rfl rfl)
theorem dX3_partner_143 : decode cX3_partner 143 = .ok (.if_icmp .ne 7, 3) := dk_160 0 7 (dk_at dksX3_partner_6 4 rfl rfl)
theorem dX3_partner_146 : decode cX3_partner 146 = .ok (.iconst 1, 1) := dk_4 (dk_at dksX3_partner_6 7 rfl rfl)
theorem dX3_partner_147 : decode cX3_partner 147 = .ok (.goto 4, 3) := dk_167 0 4 (dk_at dksX3_partner_6 8 rfl rfl)
theorem dX3_partner_150 : decode cX3_partner 150 = .ok (.iconst 0, 1) := dk_3 (dk_at dksX3_partner_6 11 rfl rfl)
theorem dX3_partner_151 : decode cX3_partner 151 = .ok (.istore 9, 2) := dk_54 9 (dk_at dksX3_partner_6 12 rfl rfl)
theorem dX3_partner_153 : decode cX3_partner 153 = .ok (.iload 9, 2) := dk_21 9 (dk_at dksX3_partner_6 14 rfl rfl)
theorem dX3_partner_155 : decode cX3_partner 155 = .ok (.ifCond .eq 8, 3) := dk_153 0 8 (dk_at dksX3_partner_6 16 rfl rfl)
theorem dX3_partner_158 : decode cX3_partner 158 = .ok (.iload 8, 2) := dk_21 8 (dk_at dksX3_partner_6 19 rfl rfl)
theorem dX3_partner_160 : decode cX3_partner 160 = .ok (.goto 5, 3) := dk_167 0 5 (dk_at dksX3_partner_6 21 rfl rfl)
theorem dX3_partner_163 : decode cX3_partner 163 = .ok (.iload 6, 2) := dk_21 6 (dk_at dksX3_partner_7 0 rfl rfl)
theorem dX3_partner_165 : decode cX3_partner 165 = .ok (.istore 6, 2) := dk_54 6 (dk_at dksX3_partner_7 2 rfl rfl)
theorem dX3_partner_167 : decode cX3_partner 167 = .ok (.iinc 8 (-1), 3) := dk_132 8 255 (dk_at dksX3_partner_7 4 rfl rfl)
theorem dX3_partner_170 : decode cX3_partner 170 = .ok (.goto (-94), 3) := dk_167 255 162 (dk_at dksX3_partner_7 7 rfl rfl)
theorem dX3_partner_173 : decode cX3_partner 173 = .ok (.iload 5, 2) := dk_21 5 (dk_at dksX3_partner_7 10 rfl rfl)
theorem dX3_partner_175 : decode cX3_partner 175 = .ok (.iload 6, 2) := dk_21 6 (dk_at dksX3_partner_7 12 rfl rfl)
theorem dX3_partner_177 : decode cX3_partner 177 = .ok (.iconst (-1), 1) := dk_2 (dk_at dksX3_partner_7 14 rfl rfl)
theorem dX3_partner_178 : decode cX3_partner 178 = .ok (.if_icmp .ne 7, 3) := dk_160 0 7 (dk_at dksX3_partner_7 15 rfl rfl)
theorem dX3_partner_181 : decode cX3_partner 181 = .ok (.iconst 0, 1) := dk_3 (dk_at dksX3_partner_7 18 rfl rfl)
theorem dX3_partner_182 : decode cX3_partner 182 = .ok (.goto 7, 3) := dk_167 0 7 (dk_at dksX3_partner_7 19 rfl rfl)
theorem dX3_partner_185 : decode cX3_partner 185 = .ok (.iconst 1, 1) := dk_4 (dk_at dksX3_partner_7 22 rfl rfl)
theorem dX3_partner_186 : decode cX3_partner 186 = .ok (.iload 6, 2) := dk_21 6 (dk_at dksX3_partner_8 0 rfl rfl)
theorem dX3_partner_188 : decode cX3_partner 188 = .ok (.ishl, 1) := dk_120 (dk_at dksX3_partner_8 2 rfl rfl)
theorem dX3_partner_189 : decode cX3_partner 189 = .ok (.ior, 1) := dk_128 (dk_at dksX3_partner_8 3 rfl rfl)
theorem dX3_partner_190 : decode cX3_partner 190 = .ok (.istore 5, 2) := dk_54 5 (dk_at dksX3_partner_8 4 rfl rfl)
theorem dX3_partner_192 : decode cX3_partner 192 = .ok (.iinc 7 1, 3) := dk_132 7 1 (dk_at dksX3_partner_8 6 rfl rfl)
theorem dX3_partner_195 : decode cX3_partner 195 = .ok (.goto (-136), 3) := dk_167 255 120 (dk_at dksX3_partner_8 9 rfl rfl)
theorem dX3_partner_198 : decode cX3_partner 198 = .ok (.iload 4, 2) := dk_21 4 (dk_at dksX3_partner_8 12 rfl rfl)
theorem dX3_partner_200 : decode cX3_partner 200 = .ok (.ifCond .ne 6, 3) := dk_154 0 6 (dk_at dksX3_partner_8 14 rfl rfl)
theorem dX3_partner_203 : decode cX3_partner 203 = .ok (.iload 6, 2) := dk_21 6 (dk_at dksX3_partner_8 17 rfl rfl)
theorem dX3_partner_205 : decode cX3_partner 205 = .ok (.ireturn, 1) := dk_172 (dk_at dksX3_partner_8 19 rfl rfl)
theorem dX3_partner_206 : decode cX3_partner 206 = .ok (.iload 6, 2) := dk_21 6 (dk_at dksX3_partner_8 20 rfl rfl)
theorem dX3_partner_208 : decode cX3_partner 208 = .ok (.iconst (-1), 1) := dk_2 (dk_at dksX3_partner_8 22 rfl rfl)
theorem dX3_partner_209 : decode cX3_partner 209 = .ok (.if_icmp .eq 43, 3) := dk_159 0 43 (dk_at dksX3_partner_9 0 rfl rfl)
theorem dX3_partner_212 : decode cX3_partner 212 = .ok (.aload_n 0, 1) := dk_42 (dk_at dksX3_partner_9 3 rfl rfl)
theorem dX3_partner_213 : decode cX3_partner 213 = .ok (.getfield 92, 3) := dk_180 0 92 (dk_at dksX3_partner_9 4 rfl rfl)
theorem dX3_partner_216 : decode cX3_partner 216 = .ok (.bipush 8, 2) := dk_16 8 (dk_at dksX3_partner_9 7 rfl rfl)
theorem dX3_partner_218 : decode cX3_partner 218 = .ok (.iload_n 3, 1) := dk_29 (dk_at dksX3_partner_9 9 rfl rfl)
theorem dX3_partner_219 : decode cX3_partner 219 = .ok (.imul, 1) := dk_104 (dk_at dksX3_partner_9 10 rfl rfl)
theorem dX3_partner_220 : decode cX3_partner 220 = .ok (.iload 6, 2) := dk_21 6 (dk_at dksX3_partner_9 11 rfl rfl)
theorem dX3_partner_222 : decode cX3_partner 222 = .ok (.iadd, 1) := dk_96 (dk_at dksX3_partner_9 13 rfl rfl)
theorem dX3_partner_223 : decode cX3_partner 223 = .ok (.iaload, 1) := dk_46 (dk_at dksX3_partner_9 14 rfl rfl)
theorem dX3_partner_224 : decode cX3_partner 224 = .ok (.aload_n 0, 1) := dk_42 (dk_at dksX3_partner_9 15 rfl rfl)
theorem dX3_partner_225 : decode cX3_partner 225 = .ok (.getfield 7, 3) := dk_180 0 7 (dk_at dksX3_partner_9 16 rfl rfl)
theorem dX3_partner_228 : decode cX3_partner 228 = .ok (.sipush 1045, 3) := dk_17 4 21 (dk_at dksX3_partner_9 19 rfl rfl)
theorem dX3_partner_231 : decode cX3_partner 231 = .ok (.iaload, 1) := dk_46 (dk_at dksX3_partner_9 22 rfl rfl)
theorem dX3_partner_232 : decode cX3_partner 232 = .ok (.iadd, 1) := dk_96 (dk_at dksX3_partner_9 23 rfl rfl)
theorem dX3_partner_233 : decode cX3_partner 233 = .ok (.aload_n 0, 1) := dk_42 (dk_at dksX3_partner_10 0 rfl rfl)
theorem dX3_partner_234 : decode cX3_partner 234 = .ok (.getfield 89, 3) := dk_180 0 89 (dk_at dksX3_partner_10 1 rfl rfl)
theorem dX3_partner_237 : decode cX3_partner 237 = .ok (.bipush 8, 2) := dk_16 8 (dk_at dksX3_partner_10 4 rfl rfl)
theorem dX3_partner_239 : decode cX3_partner 239 = .ok (.iload_n 3, 1) := dk_29 (dk_at dksX3_partner_10 6 rfl rfl)
theorem dX3_partner_240 : decode cX3_partner 240 = .ok (.imul, 1) := dk_104 (dk_at dksX3_partner_10 7 rfl rfl)
theorem dX3_partner_241 : decode cX3_partner 241 = .ok (.iload 6, 2) := dk_21 6 (dk_at dksX3_partner_10 8 rfl rfl)
theorem dX3_partner_243 : decode cX3_partner 243 = .ok (.iadd, 1) := dk_96 (dk_at dksX3_partner_10 10 rfl rfl)
theorem dX3_partner_244 : decode cX3_partner 244 = .ok (.iaload, 1) := dk_46 (dk_at dksX3_partner_10 11 rfl rfl)
theorem dX3_partner_245 : decode cX3_partner 245 = .ok (.if_icmp .ge 7, 3) := dk_162 0 7 (dk_at dksX3_partner_10 12 rfl rfl)
theorem dX3_partner_248 : decode cX3_partner 248 = .ok (.iconst 1, 1) := dk_4 (dk_at dksX3_partner_10 15 rfl rfl)
theorem dX3_partner_249 : decode cX3_partner 249 = .ok (.goto 4, 3) := dk_167 0 4 (dk_at dksX3_partner_10 16 rfl rfl)
theorem dX3_partner_252 : decode cX3_partner 252 = .ok (.iconst 0, 1) := dk_3 (dk_at dksX3_partner_10 19 rfl rfl)
theorem dX3_partner_253 : decode cX3_partner 253 = .ok (.ireturn, 1) := dk_172 (dk_at dksX3_partner_10 20 rfl rfl)
abbrev cX3_worst : ByteArray := prog_12_method_79_code
def yX3_worst : MethodName := ⟨RX3, "worst", "(III)I"⟩
def dkwX3_worst_7 : List UInt8 := [21, 7, 167, 0, 5, 21, 5, 172]
abbrev dktX3_worst_7 : List UInt8 := dkwX3_worst_7 ++ []
def dkwX3_worst_6 : List UInt8 := [21, 10, 54, 7, 132, 8, 1, 167, 255, 163, 29, 154, 0, 8, 21, 6, 167, 0, 15, 29, 4, 160, 0, 8]
abbrev dktX3_worst_6 : List UInt8 := dkwX3_worst_6 ++ dktX3_worst_7
def dkwX3_worst_5 : List UInt8 := [167, 0, 4, 5, 100, 54, 5, 21, 6, 2, 159, 0, 10, 21, 10, 21, 7, 164, 0, 11, 21, 8, 54, 6]
abbrev dktX3_worst_5 : List UInt8 := dkwX3_worst_5 ++ dktX3_worst_6
def dkwX3_worst_4 : List UInt8 := [42, 180, 0, 7, 17, 4, 21, 46, 182, 1, 50, 54, 10, 21, 5, 21, 9, 2, 160, 0, 7, 3]
abbrev dktX3_worst_4 : List UInt8 := dkwX3_worst_4 ++ dktX3_worst_5
def dkwX3_worst_3 : List UInt8 := [54, 9, 21, 9, 2, 160, 0, 14, 42, 180, 0, 7, 17, 4, 20, 46, 167, 0, 19, 42, 21, 8, 21, 9]
abbrev dktX3_worst_3 : List UInt8 := dkwX3_worst_3 ++ dktX3_worst_4
def dkwX3_worst_2 : List UInt8 := [54, 6, 3, 54, 7, 3, 54, 8, 21, 8, 21, 4, 162, 0, 92, 42, 27, 28, 21, 8, 3, 182, 1, 66]
abbrev dktX3_worst_2 : List UInt8 := dkwX3_worst_2 ++ dktX3_worst_3
def dkwX3_worst_1 : List UInt8 := [154, 0, 5, 2, 172, 42, 27, 182, 0, 221, 54, 4, 21, 4, 42, 28, 182, 0, 221, 96, 54, 5, 2]
abbrev dktX3_worst_1 : List UInt8 := dkwX3_worst_1 ++ dktX3_worst_2
def dkwX3_worst_0 : List UInt8 := [42, 27, 182, 0, 218, 153, 0, 20, 42, 28, 182, 0, 218, 153, 0, 12, 29, 3, 5, 184, 0, 171]
abbrev dktX3_worst_0 : List UInt8 := dkwX3_worst_0 ++ dktX3_worst_1
theorem dksX3_worst_0 : cX3_worst.data.toList.drop 0 = dktX3_worst_0 := by decide +kernel
theorem dksX3_worst_1 : cX3_worst.data.toList.drop 22 = dktX3_worst_1 := dk_seg dksX3_worst_0 22 rfl rfl
theorem dksX3_worst_2 : cX3_worst.data.toList.drop 45 = dktX3_worst_2 := dk_seg dksX3_worst_1 23 rfl rfl
theorem dksX3_worst_3 : cX3_worst.data.toList.drop 69 = dktX3_worst_3 := dk_seg dksX3_worst_2 24 rfl rfl
theorem dksX3_worst_4 : cX3_worst.data.toList.drop 93 = dktX3_worst_4 := dk_seg dksX3_worst_3 24 rfl rfl
theorem dksX3_worst_5 : cX3_worst.data.toList.drop 115 = dktX3_worst_5 := dk_seg dksX3_worst_4 22 rfl rfl
theorem dksX3_worst_6 : cX3_worst.data.toList.drop 139 = dktX3_worst_6 := dk_seg dksX3_worst_5 24 rfl rfl
theorem dksX3_worst_7 : cX3_worst.data.toList.drop 163 = dktX3_worst_7 := dk_seg dksX3_worst_6 24 rfl rfl
theorem dX3_worst_0 : decode cX3_worst 0 = .ok (.aload_n 0, 1) := dk_42 (dk_at dksX3_worst_0 0 rfl rfl)
theorem dX3_worst_1 : decode cX3_worst 1 = .ok (.iload_n 1, 1) := dk_27 (dk_at dksX3_worst_0 1 rfl rfl)
theorem dX3_worst_2 : decode cX3_worst 2 = .ok (.invokevirtual 218, 3) := dk_182 0 218 (dk_at dksX3_worst_0 2 rfl rfl)
theorem dX3_worst_5 : decode cX3_worst 5 = .ok (.ifCond .eq 20, 3) := dk_153 0 20 (dk_at dksX3_worst_0 5 rfl rfl)
theorem dX3_worst_8 : decode cX3_worst 8 = .ok (.aload_n 0, 1) := dk_42 (dk_at dksX3_worst_0 8 rfl rfl)
theorem dX3_worst_9 : decode cX3_worst 9 = .ok (.iload_n 2, 1) := dk_28 (dk_at dksX3_worst_0 9 rfl rfl)
theorem dX3_worst_10 : decode cX3_worst 10 = .ok (.invokevirtual 218, 3) := dk_182 0 218 (dk_at dksX3_worst_0 10 rfl rfl)
theorem dX3_worst_13 : decode cX3_worst 13 = .ok (.ifCond .eq 12, 3) := dk_153 0 12 (dk_at dksX3_worst_0 13 rfl rfl)
theorem dX3_worst_16 : decode cX3_worst 16 = .ok (.iload_n 3, 1) := dk_29 (dk_at dksX3_worst_0 16 rfl rfl)
theorem dX3_worst_17 : decode cX3_worst 17 = .ok (.iconst 0, 1) := dk_3 (dk_at dksX3_worst_0 17 rfl rfl)
theorem dX3_worst_18 : decode cX3_worst 18 = .ok (.iconst 2, 1) := dk_5 (dk_at dksX3_worst_0 18 rfl rfl)
theorem dX3_worst_19 : decode cX3_worst 19 = .ok (.invokestatic 171, 3) := dk_184 0 171 (dk_at dksX3_worst_0 19 rfl rfl)
theorem dX3_worst_22 : decode cX3_worst 22 = .ok (.ifCond .ne 5, 3) := dk_154 0 5 (dk_at dksX3_worst_1 0 rfl rfl)
theorem dX3_worst_25 : decode cX3_worst 25 = .ok (.iconst (-1), 1) := dk_2 (dk_at dksX3_worst_1 3 rfl rfl)
theorem dX3_worst_26 : decode cX3_worst 26 = .ok (.ireturn, 1) := dk_172 (dk_at dksX3_worst_1 4 rfl rfl)
theorem dX3_worst_27 : decode cX3_worst 27 = .ok (.aload_n 0, 1) := dk_42 (dk_at dksX3_worst_1 5 rfl rfl)
theorem dX3_worst_28 : decode cX3_worst 28 = .ok (.iload_n 1, 1) := dk_27 (dk_at dksX3_worst_1 6 rfl rfl)
theorem dX3_worst_29 : decode cX3_worst 29 = .ok (.invokevirtual 221, 3) := dk_182 0 221 (dk_at dksX3_worst_1 7 rfl rfl)
theorem dX3_worst_32 : decode cX3_worst 32 = .ok (.istore 4, 2) := dk_54 4 (dk_at dksX3_worst_1 10 rfl rfl)
theorem dX3_worst_34 : decode cX3_worst 34 = .ok (.iload 4, 2) := dk_21 4 (dk_at dksX3_worst_1 12 rfl rfl)
theorem dX3_worst_36 : decode cX3_worst 36 = .ok (.aload_n 0, 1) := dk_42 (dk_at dksX3_worst_1 14 rfl rfl)
theorem dX3_worst_37 : decode cX3_worst 37 = .ok (.iload_n 2, 1) := dk_28 (dk_at dksX3_worst_1 15 rfl rfl)
theorem dX3_worst_38 : decode cX3_worst 38 = .ok (.invokevirtual 221, 3) := dk_182 0 221 (dk_at dksX3_worst_1 16 rfl rfl)
theorem dX3_worst_41 : decode cX3_worst 41 = .ok (.iadd, 1) := dk_96 (dk_at dksX3_worst_1 19 rfl rfl)
theorem dX3_worst_42 : decode cX3_worst 42 = .ok (.istore 5, 2) := dk_54 5 (dk_at dksX3_worst_1 20 rfl rfl)
theorem dX3_worst_44 : decode cX3_worst 44 = .ok (.iconst (-1), 1) := dk_2 (dk_at dksX3_worst_1 22 rfl rfl)
theorem dX3_worst_45 : decode cX3_worst 45 = .ok (.istore 6, 2) := dk_54 6 (dk_at dksX3_worst_2 0 rfl rfl)
theorem dX3_worst_47 : decode cX3_worst 47 = .ok (.iconst 0, 1) := dk_3 (dk_at dksX3_worst_2 2 rfl rfl)
theorem dX3_worst_48 : decode cX3_worst 48 = .ok (.istore 7, 2) := dk_54 7 (dk_at dksX3_worst_2 3 rfl rfl)
theorem dX3_worst_50 : decode cX3_worst 50 = .ok (.iconst 0, 1) := dk_3 (dk_at dksX3_worst_2 5 rfl rfl)
theorem dX3_worst_51 : decode cX3_worst 51 = .ok (.istore 8, 2) := dk_54 8 (dk_at dksX3_worst_2 6 rfl rfl)
theorem dX3_worst_53 : decode cX3_worst 53 = .ok (.iload 8, 2) := dk_21 8 (dk_at dksX3_worst_2 8 rfl rfl)
theorem dX3_worst_55 : decode cX3_worst 55 = .ok (.iload 4, 2) := dk_21 4 (dk_at dksX3_worst_2 10 rfl rfl)
theorem dX3_worst_57 : decode cX3_worst 57 = .ok (.if_icmp .ge 92, 3) := dk_162 0 92 (dk_at dksX3_worst_2 12 rfl rfl)
theorem dX3_worst_60 : decode cX3_worst 60 = .ok (.aload_n 0, 1) := dk_42 (dk_at dksX3_worst_2 15 rfl rfl)
theorem dX3_worst_61 : decode cX3_worst 61 = .ok (.iload_n 1, 1) := dk_27 (dk_at dksX3_worst_2 16 rfl rfl)
theorem dX3_worst_62 : decode cX3_worst 62 = .ok (.iload_n 2, 1) := dk_28 (dk_at dksX3_worst_2 17 rfl rfl)
theorem dX3_worst_63 : decode cX3_worst 63 = .ok (.iload 8, 2) := dk_21 8 (dk_at dksX3_worst_2 18 rfl rfl)
theorem dX3_worst_65 : decode cX3_worst 65 = .ok (.iconst 0, 1) := dk_3 (dk_at dksX3_worst_2 20 rfl rfl)
theorem dX3_worst_66 : decode cX3_worst 66 = .ok (.invokevirtual 322, 3) := dk_182 1 66 (dk_at dksX3_worst_2 21 rfl rfl)
theorem dX3_worst_69 : decode cX3_worst 69 = .ok (.istore 9, 2) := dk_54 9 (dk_at dksX3_worst_3 0 rfl rfl)
theorem dX3_worst_71 : decode cX3_worst 71 = .ok (.iload 9, 2) := dk_21 9 (dk_at dksX3_worst_3 2 rfl rfl)
theorem dX3_worst_73 : decode cX3_worst 73 = .ok (.iconst (-1), 1) := dk_2 (dk_at dksX3_worst_3 4 rfl rfl)
theorem dX3_worst_74 : decode cX3_worst 74 = .ok (.if_icmp .ne 14, 3) := dk_160 0 14 (dk_at dksX3_worst_3 5 rfl rfl)
theorem dX3_worst_77 : decode cX3_worst 77 = .ok (.aload_n 0, 1) := dk_42 (dk_at dksX3_worst_3 8 rfl rfl)
theorem dX3_worst_78 : decode cX3_worst 78 = .ok (.getfield 7, 3) := dk_180 0 7 (dk_at dksX3_worst_3 9 rfl rfl)
theorem dX3_worst_81 : decode cX3_worst 81 = .ok (.sipush 1044, 3) := dk_17 4 20 (dk_at dksX3_worst_3 12 rfl rfl)
theorem dX3_worst_84 : decode cX3_worst 84 = .ok (.iaload, 1) := dk_46 (dk_at dksX3_worst_3 15 rfl rfl)
theorem dX3_worst_85 : decode cX3_worst 85 = .ok (.goto 19, 3) := dk_167 0 19 (dk_at dksX3_worst_3 16 rfl rfl)
theorem dX3_worst_88 : decode cX3_worst 88 = .ok (.aload_n 0, 1) := dk_42 (dk_at dksX3_worst_3 19 rfl rfl)
theorem dX3_worst_89 : decode cX3_worst 89 = .ok (.iload 8, 2) := dk_21 8 (dk_at dksX3_worst_3 20 rfl rfl)
theorem dX3_worst_91 : decode cX3_worst 91 = .ok (.iload 9, 2) := dk_21 9 (dk_at dksX3_worst_3 22 rfl rfl)
theorem dX3_worst_93 : decode cX3_worst 93 = .ok (.aload_n 0, 1) := dk_42 (dk_at dksX3_worst_4 0 rfl rfl)
theorem dX3_worst_94 : decode cX3_worst 94 = .ok (.getfield 7, 3) := dk_180 0 7 (dk_at dksX3_worst_4 1 rfl rfl)
theorem dX3_worst_97 : decode cX3_worst 97 = .ok (.sipush 1045, 3) := dk_17 4 21 (dk_at dksX3_worst_4 4 rfl rfl)
theorem dX3_worst_100 : decode cX3_worst 100 = .ok (.iaload, 1) := dk_46 (dk_at dksX3_worst_4 7 rfl rfl)
theorem dX3_worst_101 : decode cX3_worst 101 = .ok (.invokevirtual 306, 3) := dk_182 1 50 (dk_at dksX3_worst_4 8 rfl rfl)
theorem dX3_worst_104 : decode cX3_worst 104 = .ok (.istore 10, 2) := dk_54 10 (dk_at dksX3_worst_4 11 rfl rfl)
theorem dX3_worst_106 : decode cX3_worst 106 = .ok (.iload 5, 2) := dk_21 5 (dk_at dksX3_worst_4 13 rfl rfl)
theorem dX3_worst_108 : decode cX3_worst 108 = .ok (.iload 9, 2) := dk_21 9 (dk_at dksX3_worst_4 15 rfl rfl)
theorem dX3_worst_110 : decode cX3_worst 110 = .ok (.iconst (-1), 1) := dk_2 (dk_at dksX3_worst_4 17 rfl rfl)
theorem dX3_worst_111 : decode cX3_worst 111 = .ok (.if_icmp .ne 7, 3) := dk_160 0 7 (dk_at dksX3_worst_4 18 rfl rfl)
theorem dX3_worst_114 : decode cX3_worst 114 = .ok (.iconst 0, 1) := dk_3 (dk_at dksX3_worst_4 21 rfl rfl)
theorem dX3_worst_115 : decode cX3_worst 115 = .ok (.goto 4, 3) := dk_167 0 4 (dk_at dksX3_worst_5 0 rfl rfl)
theorem dX3_worst_118 : decode cX3_worst 118 = .ok (.iconst 2, 1) := dk_5 (dk_at dksX3_worst_5 3 rfl rfl)
theorem dX3_worst_119 : decode cX3_worst 119 = .ok (.isub, 1) := dk_100 (dk_at dksX3_worst_5 4 rfl rfl)
theorem dX3_worst_120 : decode cX3_worst 120 = .ok (.istore 5, 2) := dk_54 5 (dk_at dksX3_worst_5 5 rfl rfl)
theorem dX3_worst_122 : decode cX3_worst 122 = .ok (.iload 6, 2) := dk_21 6 (dk_at dksX3_worst_5 7 rfl rfl)
theorem dX3_worst_124 : decode cX3_worst 124 = .ok (.iconst (-1), 1) := dk_2 (dk_at dksX3_worst_5 9 rfl rfl)
theorem dX3_worst_125 : decode cX3_worst 125 = .ok (.if_icmp .eq 10, 3) := dk_159 0 10 (dk_at dksX3_worst_5 10 rfl rfl)
theorem dX3_worst_128 : decode cX3_worst 128 = .ok (.iload 10, 2) := dk_21 10 (dk_at dksX3_worst_5 13 rfl rfl)
theorem dX3_worst_130 : decode cX3_worst 130 = .ok (.iload 7, 2) := dk_21 7 (dk_at dksX3_worst_5 15 rfl rfl)
theorem dX3_worst_132 : decode cX3_worst 132 = .ok (.if_icmp .le 11, 3) := dk_164 0 11 (dk_at dksX3_worst_5 17 rfl rfl)
theorem dX3_worst_135 : decode cX3_worst 135 = .ok (.iload 8, 2) := dk_21 8 (dk_at dksX3_worst_5 20 rfl rfl)
theorem dX3_worst_137 : decode cX3_worst 137 = .ok (.istore 6, 2) := dk_54 6 (dk_at dksX3_worst_5 22 rfl rfl)
theorem dX3_worst_139 : decode cX3_worst 139 = .ok (.iload 10, 2) := dk_21 10 (dk_at dksX3_worst_6 0 rfl rfl)
theorem dX3_worst_141 : decode cX3_worst 141 = .ok (.istore 7, 2) := dk_54 7 (dk_at dksX3_worst_6 2 rfl rfl)
theorem dX3_worst_143 : decode cX3_worst 143 = .ok (.iinc 8 1, 3) := dk_132 8 1 (dk_at dksX3_worst_6 4 rfl rfl)
theorem dX3_worst_146 : decode cX3_worst 146 = .ok (.goto (-93), 3) := dk_167 255 163 (dk_at dksX3_worst_6 7 rfl rfl)
theorem dX3_worst_149 : decode cX3_worst 149 = .ok (.iload_n 3, 1) := dk_29 (dk_at dksX3_worst_6 10 rfl rfl)
theorem dX3_worst_150 : decode cX3_worst 150 = .ok (.ifCond .ne 8, 3) := dk_154 0 8 (dk_at dksX3_worst_6 11 rfl rfl)
theorem dX3_worst_153 : decode cX3_worst 153 = .ok (.iload 6, 2) := dk_21 6 (dk_at dksX3_worst_6 14 rfl rfl)
theorem dX3_worst_155 : decode cX3_worst 155 = .ok (.goto 15, 3) := dk_167 0 15 (dk_at dksX3_worst_6 16 rfl rfl)
theorem dX3_worst_158 : decode cX3_worst 158 = .ok (.iload_n 3, 1) := dk_29 (dk_at dksX3_worst_6 19 rfl rfl)
theorem dX3_worst_159 : decode cX3_worst 159 = .ok (.iconst 1, 1) := dk_4 (dk_at dksX3_worst_6 20 rfl rfl)
theorem dX3_worst_160 : decode cX3_worst 160 = .ok (.if_icmp .ne 8, 3) := dk_160 0 8 (dk_at dksX3_worst_6 21 rfl rfl)
theorem dX3_worst_163 : decode cX3_worst 163 = .ok (.iload 7, 2) := dk_21 7 (dk_at dksX3_worst_7 0 rfl rfl)
theorem dX3_worst_165 : decode cX3_worst 165 = .ok (.goto 5, 3) := dk_167 0 5 (dk_at dksX3_worst_7 2 rfl rfl)
theorem dX3_worst_168 : decode cX3_worst 168 = .ok (.iload 5, 2) := dk_21 5 (dk_at dksX3_worst_7 5 rfl rfl)
theorem dX3_worst_170 : decode cX3_worst 170 = .ok (.ireturn, 1) := dk_172 (dk_at dksX3_worst_7 7 rfl rfl)
abbrev cX3_rank : ByteArray := prog_12_method_84_code
def yX3_rank : MethodName := ⟨RX3, "rank", "(I)I"⟩
def dkwX3_rank_0 : List UInt8 := [42, 3, 42, 180, 0, 7, 17, 3, 241, 46, 182, 1, 76, 42, 27, 182, 1, 73, 172]
abbrev dktX3_rank_0 : List UInt8 := dkwX3_rank_0 ++ []
theorem dksX3_rank_0 : cX3_rank.data.toList.drop 0 = dktX3_rank_0 := by decide +kernel
theorem dX3_rank_0 : decode cX3_rank 0 = .ok (.aload_n 0, 1) := dk_42 (dk_at dksX3_rank_0 0 rfl rfl)
theorem dX3_rank_1 : decode cX3_rank 1 = .ok (.iconst 0, 1) := dk_3 (dk_at dksX3_rank_0 1 rfl rfl)
theorem dX3_rank_2 : decode cX3_rank 2 = .ok (.aload_n 0, 1) := dk_42 (dk_at dksX3_rank_0 2 rfl rfl)
theorem dX3_rank_3 : decode cX3_rank 3 = .ok (.getfield 7, 3) := dk_180 0 7 (dk_at dksX3_rank_0 3 rfl rfl)
theorem dX3_rank_6 : decode cX3_rank 6 = .ok (.sipush 1009, 3) := dk_17 3 241 (dk_at dksX3_rank_0 6 rfl rfl)
theorem dX3_rank_9 : decode cX3_rank 9 = .ok (.iaload, 1) := dk_46 (dk_at dksX3_rank_0 9 rfl rfl)
theorem dX3_rank_10 : decode cX3_rank 10 = .ok (.invokevirtual 332, 3) := dk_182 1 76 (dk_at dksX3_rank_0 10 rfl rfl)
theorem dX3_rank_13 : decode cX3_rank 13 = .ok (.aload_n 0, 1) := dk_42 (dk_at dksX3_rank_0 13 rfl rfl)
theorem dX3_rank_14 : decode cX3_rank 14 = .ok (.iload_n 1, 1) := dk_27 (dk_at dksX3_rank_0 14 rfl rfl)
theorem dX3_rank_15 : decode cX3_rank 15 = .ok (.invokevirtual 329, 3) := dk_182 1 73 (dk_at dksX3_rank_0 15 rfl rfl)
theorem dX3_rank_18 : decode cX3_rank 18 = .ok (.ireturn, 1) := dk_172 (dk_at dksX3_rank_0 18 rfl rfl)
abbrev cX3_laysScores : ByteArray := prog_12_method_80_code
def yX3_laysScores : MethodName := ⟨RX3, "laysScores", "(II)V"⟩
def dkwX3_laysScores_1 : List UInt8 := [182, 0, 224, 42, 29, 182, 0, 221, 182, 1, 60, 79, 132, 3, 1, 167, 255, 219, 177]
abbrev dktX3_laysScores_1 : List UInt8 := dkwX3_laysScores_1 ++ []
def dkwX3_laysScores_0 : List UInt8 := [3, 62, 29, 42, 180, 0, 7, 17, 3, 232, 46, 162, 0, 31, 42, 180, 0, 101, 29, 42, 27, 28, 42, 29]
abbrev dktX3_laysScores_0 : List UInt8 := dkwX3_laysScores_0 ++ dktX3_laysScores_1
theorem dksX3_laysScores_0 : cX3_laysScores.data.toList.drop 0 = dktX3_laysScores_0 := by decide +kernel
theorem dksX3_laysScores_1 : cX3_laysScores.data.toList.drop 24 = dktX3_laysScores_1 := dk_seg dksX3_laysScores_0 24 rfl rfl
theorem dX3_laysScores_0 : decode cX3_laysScores 0 = .ok (.iconst 0, 1) := dk_3 (dk_at dksX3_laysScores_0 0 rfl rfl)
theorem dX3_laysScores_1 : decode cX3_laysScores 1 = .ok (.istore_n 3, 1) := dk_62 (dk_at dksX3_laysScores_0 1 rfl rfl)
theorem dX3_laysScores_2 : decode cX3_laysScores 2 = .ok (.iload_n 3, 1) := dk_29 (dk_at dksX3_laysScores_0 2 rfl rfl)
theorem dX3_laysScores_3 : decode cX3_laysScores 3 = .ok (.aload_n 0, 1) := dk_42 (dk_at dksX3_laysScores_0 3 rfl rfl)
theorem dX3_laysScores_4 : decode cX3_laysScores 4 = .ok (.getfield 7, 3) := dk_180 0 7 (dk_at dksX3_laysScores_0 4 rfl rfl)
theorem dX3_laysScores_7 : decode cX3_laysScores 7 = .ok (.sipush 1000, 3) := dk_17 3 232 (dk_at dksX3_laysScores_0 7 rfl rfl)
theorem dX3_laysScores_10 : decode cX3_laysScores 10 = .ok (.iaload, 1) := dk_46 (dk_at dksX3_laysScores_0 10 rfl rfl)
theorem dX3_laysScores_11 : decode cX3_laysScores 11 = .ok (.if_icmp .ge 31, 3) := dk_162 0 31 (dk_at dksX3_laysScores_0 11 rfl rfl)
theorem dX3_laysScores_14 : decode cX3_laysScores 14 = .ok (.aload_n 0, 1) := dk_42 (dk_at dksX3_laysScores_0 14 rfl rfl)
theorem dX3_laysScores_15 : decode cX3_laysScores 15 = .ok (.getfield 101, 3) := dk_180 0 101 (dk_at dksX3_laysScores_0 15 rfl rfl)
theorem dX3_laysScores_18 : decode cX3_laysScores 18 = .ok (.iload_n 3, 1) := dk_29 (dk_at dksX3_laysScores_0 18 rfl rfl)
theorem dX3_laysScores_19 : decode cX3_laysScores 19 = .ok (.aload_n 0, 1) := dk_42 (dk_at dksX3_laysScores_0 19 rfl rfl)
theorem dX3_laysScores_20 : decode cX3_laysScores 20 = .ok (.iload_n 1, 1) := dk_27 (dk_at dksX3_laysScores_0 20 rfl rfl)
theorem dX3_laysScores_21 : decode cX3_laysScores 21 = .ok (.iload_n 2, 1) := dk_28 (dk_at dksX3_laysScores_0 21 rfl rfl)
theorem dX3_laysScores_22 : decode cX3_laysScores 22 = .ok (.aload_n 0, 1) := dk_42 (dk_at dksX3_laysScores_0 22 rfl rfl)
theorem dX3_laysScores_23 : decode cX3_laysScores 23 = .ok (.iload_n 3, 1) := dk_29 (dk_at dksX3_laysScores_0 23 rfl rfl)
theorem dX3_laysScores_24 : decode cX3_laysScores 24 = .ok (.invokevirtual 224, 3) := dk_182 0 224 (dk_at dksX3_laysScores_1 0 rfl rfl)
theorem dX3_laysScores_27 : decode cX3_laysScores 27 = .ok (.aload_n 0, 1) := dk_42 (dk_at dksX3_laysScores_1 3 rfl rfl)
theorem dX3_laysScores_28 : decode cX3_laysScores 28 = .ok (.iload_n 3, 1) := dk_29 (dk_at dksX3_laysScores_1 4 rfl rfl)
theorem dX3_laysScores_29 : decode cX3_laysScores 29 = .ok (.invokevirtual 221, 3) := dk_182 0 221 (dk_at dksX3_laysScores_1 5 rfl rfl)
theorem dX3_laysScores_32 : decode cX3_laysScores 32 = .ok (.invokevirtual 316, 3) := dk_182 1 60 (dk_at dksX3_laysScores_1 8 rfl rfl)
theorem dX3_laysScores_35 : decode cX3_laysScores 35 = .ok (.iastore, 1) := dk_79 (dk_at dksX3_laysScores_1 11 rfl rfl)
theorem dX3_laysScores_36 : decode cX3_laysScores 36 = .ok (.iinc 3 1, 3) := dk_132 3 1 (dk_at dksX3_laysScores_1 12 rfl rfl)
theorem dX3_laysScores_39 : decode cX3_laysScores 39 = .ok (.goto (-37), 3) := dk_167 255 219 (dk_at dksX3_laysScores_1 15 rfl rfl)
theorem dX3_laysScores_42 : decode cX3_laysScores 42 = .ok (.return_, 1) := dk_177 (dk_at dksX3_laysScores_1 18 rfl rfl)
abbrev cX3_modelAt : ByteArray := prog_12_method_82_code
def yX3_modelAt : MethodName := ⟨RX3, "modelAt", "(I)I"⟩
def dkwX3_modelAt_1 : List UInt8 := [172, 132, 2, 1, 167, 255, 230, 2, 172]
abbrev dktX3_modelAt_1 : List UInt8 := dkwX3_modelAt_1 ++ []
def dkwX3_modelAt_0 : List UInt8 := [3, 61, 28, 42, 180, 0, 7, 17, 3, 232, 46, 162, 0, 20, 42, 28, 182, 1, 69, 27, 160, 0, 5, 28]
abbrev dktX3_modelAt_0 : List UInt8 := dkwX3_modelAt_0 ++ dktX3_modelAt_1
theorem dksX3_modelAt_0 : cX3_modelAt.data.toList.drop 0 = dktX3_modelAt_0 := by decide +kernel
theorem dksX3_modelAt_1 : cX3_modelAt.data.toList.drop 24 = dktX3_modelAt_1 := dk_seg dksX3_modelAt_0 24 rfl rfl
theorem dX3_modelAt_0 : decode cX3_modelAt 0 = .ok (.iconst 0, 1) := dk_3 (dk_at dksX3_modelAt_0 0 rfl rfl)
theorem dX3_modelAt_1 : decode cX3_modelAt 1 = .ok (.istore_n 2, 1) := dk_61 (dk_at dksX3_modelAt_0 1 rfl rfl)
theorem dX3_modelAt_2 : decode cX3_modelAt 2 = .ok (.iload_n 2, 1) := dk_28 (dk_at dksX3_modelAt_0 2 rfl rfl)
theorem dX3_modelAt_3 : decode cX3_modelAt 3 = .ok (.aload_n 0, 1) := dk_42 (dk_at dksX3_modelAt_0 3 rfl rfl)
theorem dX3_modelAt_4 : decode cX3_modelAt 4 = .ok (.getfield 7, 3) := dk_180 0 7 (dk_at dksX3_modelAt_0 4 rfl rfl)
theorem dX3_modelAt_7 : decode cX3_modelAt 7 = .ok (.sipush 1000, 3) := dk_17 3 232 (dk_at dksX3_modelAt_0 7 rfl rfl)
theorem dX3_modelAt_10 : decode cX3_modelAt 10 = .ok (.iaload, 1) := dk_46 (dk_at dksX3_modelAt_0 10 rfl rfl)
theorem dX3_modelAt_11 : decode cX3_modelAt 11 = .ok (.if_icmp .ge 20, 3) := dk_162 0 20 (dk_at dksX3_modelAt_0 11 rfl rfl)
theorem dX3_modelAt_14 : decode cX3_modelAt 14 = .ok (.aload_n 0, 1) := dk_42 (dk_at dksX3_modelAt_0 14 rfl rfl)
theorem dX3_modelAt_15 : decode cX3_modelAt 15 = .ok (.iload_n 2, 1) := dk_28 (dk_at dksX3_modelAt_0 15 rfl rfl)
theorem dX3_modelAt_16 : decode cX3_modelAt 16 = .ok (.invokevirtual 325, 3) := dk_182 1 69 (dk_at dksX3_modelAt_0 16 rfl rfl)
theorem dX3_modelAt_19 : decode cX3_modelAt 19 = .ok (.iload_n 1, 1) := dk_27 (dk_at dksX3_modelAt_0 19 rfl rfl)
theorem dX3_modelAt_20 : decode cX3_modelAt 20 = .ok (.if_icmp .ne 5, 3) := dk_160 0 5 (dk_at dksX3_modelAt_0 20 rfl rfl)
theorem dX3_modelAt_23 : decode cX3_modelAt 23 = .ok (.iload_n 2, 1) := dk_28 (dk_at dksX3_modelAt_0 23 rfl rfl)
theorem dX3_modelAt_24 : decode cX3_modelAt 24 = .ok (.ireturn, 1) := dk_172 (dk_at dksX3_modelAt_1 0 rfl rfl)
theorem dX3_modelAt_25 : decode cX3_modelAt 25 = .ok (.iinc 2 1, 3) := dk_132 2 1 (dk_at dksX3_modelAt_1 1 rfl rfl)
theorem dX3_modelAt_28 : decode cX3_modelAt 28 = .ok (.goto (-26), 3) := dk_167 255 230 (dk_at dksX3_modelAt_1 4 rfl rfl)
theorem dX3_modelAt_31 : decode cX3_modelAt 31 = .ok (.iconst (-1), 1) := dk_2 (dk_at dksX3_modelAt_1 7 rfl rfl)
theorem dX3_modelAt_32 : decode cX3_modelAt 32 = .ok (.ireturn, 1) := dk_172 (dk_at dksX3_modelAt_1 8 rfl rfl)
abbrev cX3_placeOf : ByteArray := prog_12_method_81_code
def yX3_placeOf : MethodName := ⟨RX3, "placeOf", "(I)I"⟩
def dkwX3_placeOf_2 : List UInt8 := [27, 162, 0, 7, 4, 167, 0, 4, 3, 96, 61, 132, 3, 1, 167, 255, 198, 28, 172]
abbrev dktX3_placeOf_2 : List UInt8 := dkwX3_placeOf_2 ++ []
def dkwX3_placeOf_1 : List UInt8 := [180, 0, 101, 27, 46, 161, 0, 23, 42, 180, 0, 101, 29, 46, 42, 180, 0, 101, 27, 46, 160, 0, 12, 29]
abbrev dktX3_placeOf_1 : List UInt8 := dkwX3_placeOf_1 ++ dktX3_placeOf_2
def dkwX3_placeOf_0 : List UInt8 := [3, 61, 3, 62, 29, 42, 180, 0, 7, 17, 3, 232, 46, 162, 0, 52, 28, 42, 180, 0, 101, 29, 46, 42]
abbrev dktX3_placeOf_0 : List UInt8 := dkwX3_placeOf_0 ++ dktX3_placeOf_1
theorem dksX3_placeOf_0 : cX3_placeOf.data.toList.drop 0 = dktX3_placeOf_0 := by decide +kernel
theorem dksX3_placeOf_1 : cX3_placeOf.data.toList.drop 24 = dktX3_placeOf_1 := dk_seg dksX3_placeOf_0 24 rfl rfl
theorem dksX3_placeOf_2 : cX3_placeOf.data.toList.drop 48 = dktX3_placeOf_2 := dk_seg dksX3_placeOf_1 24 rfl rfl
theorem dX3_placeOf_0 : decode cX3_placeOf 0 = .ok (.iconst 0, 1) := dk_3 (dk_at dksX3_placeOf_0 0 rfl rfl)
theorem dX3_placeOf_1 : decode cX3_placeOf 1 = .ok (.istore_n 2, 1) := dk_61 (dk_at dksX3_placeOf_0 1 rfl rfl)
theorem dX3_placeOf_2 : decode cX3_placeOf 2 = .ok (.iconst 0, 1) := dk_3 (dk_at dksX3_placeOf_0 2 rfl rfl)
theorem dX3_placeOf_3 : decode cX3_placeOf 3 = .ok (.istore_n 3, 1) := dk_62 (dk_at dksX3_placeOf_0 3 rfl rfl)
theorem dX3_placeOf_4 : decode cX3_placeOf 4 = .ok (.iload_n 3, 1) := dk_29 (dk_at dksX3_placeOf_0 4 rfl rfl)
theorem dX3_placeOf_5 : decode cX3_placeOf 5 = .ok (.aload_n 0, 1) := dk_42 (dk_at dksX3_placeOf_0 5 rfl rfl)
theorem dX3_placeOf_6 : decode cX3_placeOf 6 = .ok (.getfield 7, 3) := dk_180 0 7 (dk_at dksX3_placeOf_0 6 rfl rfl)
theorem dX3_placeOf_9 : decode cX3_placeOf 9 = .ok (.sipush 1000, 3) := dk_17 3 232 (dk_at dksX3_placeOf_0 9 rfl rfl)
theorem dX3_placeOf_12 : decode cX3_placeOf 12 = .ok (.iaload, 1) := dk_46 (dk_at dksX3_placeOf_0 12 rfl rfl)
theorem dX3_placeOf_13 : decode cX3_placeOf 13 = .ok (.if_icmp .ge 52, 3) := dk_162 0 52 (dk_at dksX3_placeOf_0 13 rfl rfl)
theorem dX3_placeOf_16 : decode cX3_placeOf 16 = .ok (.iload_n 2, 1) := dk_28 (dk_at dksX3_placeOf_0 16 rfl rfl)
theorem dX3_placeOf_17 : decode cX3_placeOf 17 = .ok (.aload_n 0, 1) := dk_42 (dk_at dksX3_placeOf_0 17 rfl rfl)
theorem dX3_placeOf_18 : decode cX3_placeOf 18 = .ok (.getfield 101, 3) := dk_180 0 101 (dk_at dksX3_placeOf_0 18 rfl rfl)
theorem dX3_placeOf_21 : decode cX3_placeOf 21 = .ok (.iload_n 3, 1) := dk_29 (dk_at dksX3_placeOf_0 21 rfl rfl)
theorem dX3_placeOf_22 : decode cX3_placeOf 22 = .ok (.iaload, 1) := dk_46 (dk_at dksX3_placeOf_0 22 rfl rfl)
theorem dX3_placeOf_23 : decode cX3_placeOf 23 = .ok (.aload_n 0, 1) := dk_42 (dk_at dksX3_placeOf_0 23 rfl rfl)
theorem dX3_placeOf_24 : decode cX3_placeOf 24 = .ok (.getfield 101, 3) := dk_180 0 101 (dk_at dksX3_placeOf_1 0 rfl rfl)
theorem dX3_placeOf_27 : decode cX3_placeOf 27 = .ok (.iload_n 1, 1) := dk_27 (dk_at dksX3_placeOf_1 3 rfl rfl)
theorem dX3_placeOf_28 : decode cX3_placeOf 28 = .ok (.iaload, 1) := dk_46 (dk_at dksX3_placeOf_1 4 rfl rfl)
theorem dX3_placeOf_29 : decode cX3_placeOf 29 = .ok (.if_icmp .lt 23, 3) := dk_161 0 23 (dk_at dksX3_placeOf_1 5 rfl rfl)
theorem dX3_placeOf_32 : decode cX3_placeOf 32 = .ok (.aload_n 0, 1) := dk_42 (dk_at dksX3_placeOf_1 8 rfl rfl)
theorem dX3_placeOf_33 : decode cX3_placeOf 33 = .ok (.getfield 101, 3) := dk_180 0 101 (dk_at dksX3_placeOf_1 9 rfl rfl)
theorem dX3_placeOf_36 : decode cX3_placeOf 36 = .ok (.iload_n 3, 1) := dk_29 (dk_at dksX3_placeOf_1 12 rfl rfl)
theorem dX3_placeOf_37 : decode cX3_placeOf 37 = .ok (.iaload, 1) := dk_46 (dk_at dksX3_placeOf_1 13 rfl rfl)
theorem dX3_placeOf_38 : decode cX3_placeOf 38 = .ok (.aload_n 0, 1) := dk_42 (dk_at dksX3_placeOf_1 14 rfl rfl)
theorem dX3_placeOf_39 : decode cX3_placeOf 39 = .ok (.getfield 101, 3) := dk_180 0 101 (dk_at dksX3_placeOf_1 15 rfl rfl)
theorem dX3_placeOf_42 : decode cX3_placeOf 42 = .ok (.iload_n 1, 1) := dk_27 (dk_at dksX3_placeOf_1 18 rfl rfl)
theorem dX3_placeOf_43 : decode cX3_placeOf 43 = .ok (.iaload, 1) := dk_46 (dk_at dksX3_placeOf_1 19 rfl rfl)
theorem dX3_placeOf_44 : decode cX3_placeOf 44 = .ok (.if_icmp .ne 12, 3) := dk_160 0 12 (dk_at dksX3_placeOf_1 20 rfl rfl)
theorem dX3_placeOf_47 : decode cX3_placeOf 47 = .ok (.iload_n 3, 1) := dk_29 (dk_at dksX3_placeOf_1 23 rfl rfl)
theorem dX3_placeOf_48 : decode cX3_placeOf 48 = .ok (.iload_n 1, 1) := dk_27 (dk_at dksX3_placeOf_2 0 rfl rfl)
theorem dX3_placeOf_49 : decode cX3_placeOf 49 = .ok (.if_icmp .ge 7, 3) := dk_162 0 7 (dk_at dksX3_placeOf_2 1 rfl rfl)
theorem dX3_placeOf_52 : decode cX3_placeOf 52 = .ok (.iconst 1, 1) := dk_4 (dk_at dksX3_placeOf_2 4 rfl rfl)
theorem dX3_placeOf_53 : decode cX3_placeOf 53 = .ok (.goto 4, 3) := dk_167 0 4 (dk_at dksX3_placeOf_2 5 rfl rfl)
theorem dX3_placeOf_56 : decode cX3_placeOf 56 = .ok (.iconst 0, 1) := dk_3 (dk_at dksX3_placeOf_2 8 rfl rfl)
theorem dX3_placeOf_57 : decode cX3_placeOf 57 = .ok (.iadd, 1) := dk_96 (dk_at dksX3_placeOf_2 9 rfl rfl)
theorem dX3_placeOf_58 : decode cX3_placeOf 58 = .ok (.istore_n 2, 1) := dk_61 (dk_at dksX3_placeOf_2 10 rfl rfl)
theorem dX3_placeOf_59 : decode cX3_placeOf 59 = .ok (.iinc 3 1, 3) := dk_132 3 1 (dk_at dksX3_placeOf_2 11 rfl rfl)
theorem dX3_placeOf_62 : decode cX3_placeOf 62 = .ok (.goto (-58), 3) := dk_167 255 198 (dk_at dksX3_placeOf_2 14 rfl rfl)
theorem dX3_placeOf_65 : decode cX3_placeOf 65 = .ok (.iload_n 2, 1) := dk_28 (dk_at dksX3_placeOf_2 17 rfl rfl)
theorem dX3_placeOf_66 : decode cX3_placeOf 66 = .ok (.ireturn, 1) := dk_172 (dk_at dksX3_placeOf_2 18 rfl rfl)
abbrev cX3_sure : ByteArray := prog_12_method_85_code
def yX3_sure : MethodName := ⟨RX3, "sure", "()I"⟩
def dkwX3_sure_2 : List UInt8 := [17, 4, 22, 46, 161, 0, 7, 4, 167, 0, 4, 3, 172]
abbrev dktX3_sure_2 : List UInt8 := dkwX3_sure_2 ++ []
def dkwX3_sure_1 : List UInt8 := [182, 1, 76, 42, 180, 0, 7, 17, 3, 232, 46, 4, 159, 0, 18, 42, 182, 1, 79, 42, 180, 0, 7]
abbrev dktX3_sure_1 : List UInt8 := dkwX3_sure_1 ++ dktX3_sure_2
def dkwX3_sure_0 : List UInt8 := [42, 180, 0, 7, 17, 3, 232, 46, 154, 0, 5, 2, 172, 42, 3, 42, 180, 0, 7, 17, 3, 241, 46]
abbrev dktX3_sure_0 : List UInt8 := dkwX3_sure_0 ++ dktX3_sure_1
theorem dksX3_sure_0 : cX3_sure.data.toList.drop 0 = dktX3_sure_0 := by decide +kernel
theorem dksX3_sure_1 : cX3_sure.data.toList.drop 23 = dktX3_sure_1 := dk_seg dksX3_sure_0 23 rfl rfl
theorem dksX3_sure_2 : cX3_sure.data.toList.drop 46 = dktX3_sure_2 := dk_seg dksX3_sure_1 23 rfl rfl
theorem dX3_sure_0 : decode cX3_sure 0 = .ok (.aload_n 0, 1) := dk_42 (dk_at dksX3_sure_0 0 rfl rfl)
theorem dX3_sure_1 : decode cX3_sure 1 = .ok (.getfield 7, 3) := dk_180 0 7 (dk_at dksX3_sure_0 1 rfl rfl)
theorem dX3_sure_4 : decode cX3_sure 4 = .ok (.sipush 1000, 3) := dk_17 3 232 (dk_at dksX3_sure_0 4 rfl rfl)
theorem dX3_sure_7 : decode cX3_sure 7 = .ok (.iaload, 1) := dk_46 (dk_at dksX3_sure_0 7 rfl rfl)
theorem dX3_sure_8 : decode cX3_sure 8 = .ok (.ifCond .ne 5, 3) := dk_154 0 5 (dk_at dksX3_sure_0 8 rfl rfl)
theorem dX3_sure_11 : decode cX3_sure 11 = .ok (.iconst (-1), 1) := dk_2 (dk_at dksX3_sure_0 11 rfl rfl)
theorem dX3_sure_12 : decode cX3_sure 12 = .ok (.ireturn, 1) := dk_172 (dk_at dksX3_sure_0 12 rfl rfl)
theorem dX3_sure_13 : decode cX3_sure 13 = .ok (.aload_n 0, 1) := dk_42 (dk_at dksX3_sure_0 13 rfl rfl)
theorem dX3_sure_14 : decode cX3_sure 14 = .ok (.iconst 0, 1) := dk_3 (dk_at dksX3_sure_0 14 rfl rfl)
theorem dX3_sure_15 : decode cX3_sure 15 = .ok (.aload_n 0, 1) := dk_42 (dk_at dksX3_sure_0 15 rfl rfl)
theorem dX3_sure_16 : decode cX3_sure 16 = .ok (.getfield 7, 3) := dk_180 0 7 (dk_at dksX3_sure_0 16 rfl rfl)
theorem dX3_sure_19 : decode cX3_sure 19 = .ok (.sipush 1009, 3) := dk_17 3 241 (dk_at dksX3_sure_0 19 rfl rfl)
theorem dX3_sure_22 : decode cX3_sure 22 = .ok (.iaload, 1) := dk_46 (dk_at dksX3_sure_0 22 rfl rfl)
theorem dX3_sure_23 : decode cX3_sure 23 = .ok (.invokevirtual 332, 3) := dk_182 1 76 (dk_at dksX3_sure_1 0 rfl rfl)
theorem dX3_sure_26 : decode cX3_sure 26 = .ok (.aload_n 0, 1) := dk_42 (dk_at dksX3_sure_1 3 rfl rfl)
theorem dX3_sure_27 : decode cX3_sure 27 = .ok (.getfield 7, 3) := dk_180 0 7 (dk_at dksX3_sure_1 4 rfl rfl)
theorem dX3_sure_30 : decode cX3_sure 30 = .ok (.sipush 1000, 3) := dk_17 3 232 (dk_at dksX3_sure_1 7 rfl rfl)
theorem dX3_sure_33 : decode cX3_sure 33 = .ok (.iaload, 1) := dk_46 (dk_at dksX3_sure_1 10 rfl rfl)
theorem dX3_sure_34 : decode cX3_sure 34 = .ok (.iconst 1, 1) := dk_4 (dk_at dksX3_sure_1 11 rfl rfl)
theorem dX3_sure_35 : decode cX3_sure 35 = .ok (.if_icmp .eq 18, 3) := dk_159 0 18 (dk_at dksX3_sure_1 12 rfl rfl)
theorem dX3_sure_38 : decode cX3_sure 38 = .ok (.aload_n 0, 1) := dk_42 (dk_at dksX3_sure_1 15 rfl rfl)
theorem dX3_sure_39 : decode cX3_sure 39 = .ok (.invokevirtual 335, 3) := dk_182 1 79 (dk_at dksX3_sure_1 16 rfl rfl)
theorem dX3_sure_42 : decode cX3_sure 42 = .ok (.aload_n 0, 1) := dk_42 (dk_at dksX3_sure_1 19 rfl rfl)
theorem dX3_sure_43 : decode cX3_sure 43 = .ok (.getfield 7, 3) := dk_180 0 7 (dk_at dksX3_sure_1 20 rfl rfl)
theorem dX3_sure_46 : decode cX3_sure 46 = .ok (.sipush 1046, 3) := dk_17 4 22 (dk_at dksX3_sure_2 0 rfl rfl)
theorem dX3_sure_49 : decode cX3_sure 49 = .ok (.iaload, 1) := dk_46 (dk_at dksX3_sure_2 3 rfl rfl)
theorem dX3_sure_50 : decode cX3_sure 50 = .ok (.if_icmp .lt 7, 3) := dk_161 0 7 (dk_at dksX3_sure_2 4 rfl rfl)
theorem dX3_sure_53 : decode cX3_sure 53 = .ok (.iconst 1, 1) := dk_4 (dk_at dksX3_sure_2 7 rfl rfl)
theorem dX3_sure_54 : decode cX3_sure 54 = .ok (.goto 4, 3) := dk_167 0 4 (dk_at dksX3_sure_2 8 rfl rfl)
theorem dX3_sure_57 : decode cX3_sure 57 = .ok (.iconst 0, 1) := dk_3 (dk_at dksX3_sure_2 11 rfl rfl)
theorem dX3_sure_58 : decode cX3_sure 58 = .ok (.ireturn, 1) := dk_172 (dk_at dksX3_sure_2 12 rfl rfl)
abbrev cX3_marginOf : ByteArray := prog_12_method_83_code
def yX3_marginOf : MethodName := ⟨RX3, "marginOf", "()I"⟩
def dkwX3_marginOf_1 : List UInt8 := [182, 1, 73, 46, 42, 180, 0, 101, 42, 3, 182, 1, 73, 46, 100, 172]
abbrev dktX3_marginOf_1 : List UInt8 := dkwX3_marginOf_1 ++ []
def dkwX3_marginOf_0 : List UInt8 := [42, 180, 0, 7, 17, 3, 232, 46, 5, 162, 0, 9, 19, 1, 72, 167, 0, 24, 42, 180, 0, 101, 42, 4]
abbrev dktX3_marginOf_0 : List UInt8 := dkwX3_marginOf_0 ++ dktX3_marginOf_1
theorem dksX3_marginOf_0 : cX3_marginOf.data.toList.drop 0 = dktX3_marginOf_0 := by decide +kernel
theorem dksX3_marginOf_1 : cX3_marginOf.data.toList.drop 24 = dktX3_marginOf_1 := dk_seg dksX3_marginOf_0 24 rfl rfl
theorem dX3_marginOf_0 : decode cX3_marginOf 0 = .ok (.aload_n 0, 1) := dk_42 (dk_at dksX3_marginOf_0 0 rfl rfl)
theorem dX3_marginOf_1 : decode cX3_marginOf 1 = .ok (.getfield 7, 3) := dk_180 0 7 (dk_at dksX3_marginOf_0 1 rfl rfl)
theorem dX3_marginOf_4 : decode cX3_marginOf 4 = .ok (.sipush 1000, 3) := dk_17 3 232 (dk_at dksX3_marginOf_0 4 rfl rfl)
theorem dX3_marginOf_7 : decode cX3_marginOf 7 = .ok (.iaload, 1) := dk_46 (dk_at dksX3_marginOf_0 7 rfl rfl)
theorem dX3_marginOf_8 : decode cX3_marginOf 8 = .ok (.iconst 2, 1) := dk_5 (dk_at dksX3_marginOf_0 8 rfl rfl)
theorem dX3_marginOf_9 : decode cX3_marginOf 9 = .ok (.if_icmp .ge 9, 3) := dk_162 0 9 (dk_at dksX3_marginOf_0 9 rfl rfl)
theorem dX3_marginOf_12 : decode cX3_marginOf 12 = .ok (.ldc_w 328, 3) := dk_19 1 72 (dk_at dksX3_marginOf_0 12 rfl rfl)
theorem dX3_marginOf_15 : decode cX3_marginOf 15 = .ok (.goto 24, 3) := dk_167 0 24 (dk_at dksX3_marginOf_0 15 rfl rfl)
theorem dX3_marginOf_18 : decode cX3_marginOf 18 = .ok (.aload_n 0, 1) := dk_42 (dk_at dksX3_marginOf_0 18 rfl rfl)
theorem dX3_marginOf_19 : decode cX3_marginOf 19 = .ok (.getfield 101, 3) := dk_180 0 101 (dk_at dksX3_marginOf_0 19 rfl rfl)
theorem dX3_marginOf_22 : decode cX3_marginOf 22 = .ok (.aload_n 0, 1) := dk_42 (dk_at dksX3_marginOf_0 22 rfl rfl)
theorem dX3_marginOf_23 : decode cX3_marginOf 23 = .ok (.iconst 1, 1) := dk_4 (dk_at dksX3_marginOf_0 23 rfl rfl)
theorem dX3_marginOf_24 : decode cX3_marginOf 24 = .ok (.invokevirtual 329, 3) := dk_182 1 73 (dk_at dksX3_marginOf_1 0 rfl rfl)
theorem dX3_marginOf_27 : decode cX3_marginOf 27 = .ok (.iaload, 1) := dk_46 (dk_at dksX3_marginOf_1 3 rfl rfl)
theorem dX3_marginOf_28 : decode cX3_marginOf 28 = .ok (.aload_n 0, 1) := dk_42 (dk_at dksX3_marginOf_1 4 rfl rfl)
theorem dX3_marginOf_29 : decode cX3_marginOf 29 = .ok (.getfield 101, 3) := dk_180 0 101 (dk_at dksX3_marginOf_1 5 rfl rfl)
theorem dX3_marginOf_32 : decode cX3_marginOf 32 = .ok (.aload_n 0, 1) := dk_42 (dk_at dksX3_marginOf_1 8 rfl rfl)
theorem dX3_marginOf_33 : decode cX3_marginOf 33 = .ok (.iconst 0, 1) := dk_3 (dk_at dksX3_marginOf_1 9 rfl rfl)
theorem dX3_marginOf_34 : decode cX3_marginOf 34 = .ok (.invokevirtual 329, 3) := dk_182 1 73 (dk_at dksX3_marginOf_1 10 rfl rfl)
theorem dX3_marginOf_37 : decode cX3_marginOf 37 = .ok (.iaload, 1) := dk_46 (dk_at dksX3_marginOf_1 13 rfl rfl)
theorem dX3_marginOf_38 : decode cX3_marginOf 38 = .ok (.isub, 1) := dk_100 (dk_at dksX3_marginOf_1 14 rfl rfl)
theorem dX3_marginOf_39 : decode cX3_marginOf 39 = .ok (.ireturn, 1) := dk_172 (dk_at dksX3_marginOf_1 15 rfl rfl)
abbrev cX3_margin : ByteArray := prog_12_method_86_code
def yX3_margin : MethodName := ⟨RX3, "margin", "()I"⟩
def dkwX3_margin_0 : List UInt8 := [42, 3, 42, 180, 0, 7, 17, 3, 241, 46, 182, 1, 76, 42, 182, 1, 79, 172]
abbrev dktX3_margin_0 : List UInt8 := dkwX3_margin_0 ++ []
theorem dksX3_margin_0 : cX3_margin.data.toList.drop 0 = dktX3_margin_0 := by decide +kernel
theorem dX3_margin_0 : decode cX3_margin 0 = .ok (.aload_n 0, 1) := dk_42 (dk_at dksX3_margin_0 0 rfl rfl)
theorem dX3_margin_1 : decode cX3_margin 1 = .ok (.iconst 0, 1) := dk_3 (dk_at dksX3_margin_0 1 rfl rfl)
theorem dX3_margin_2 : decode cX3_margin 2 = .ok (.aload_n 0, 1) := dk_42 (dk_at dksX3_margin_0 2 rfl rfl)
theorem dX3_margin_3 : decode cX3_margin 3 = .ok (.getfield 7, 3) := dk_180 0 7 (dk_at dksX3_margin_0 3 rfl rfl)
theorem dX3_margin_6 : decode cX3_margin 6 = .ok (.sipush 1009, 3) := dk_17 3 241 (dk_at dksX3_margin_0 6 rfl rfl)
theorem dX3_margin_9 : decode cX3_margin 9 = .ok (.iaload, 1) := dk_46 (dk_at dksX3_margin_0 9 rfl rfl)
theorem dX3_margin_10 : decode cX3_margin 10 = .ok (.invokevirtual 332, 3) := dk_182 1 76 (dk_at dksX3_margin_0 10 rfl rfl)
theorem dX3_margin_13 : decode cX3_margin 13 = .ok (.aload_n 0, 1) := dk_42 (dk_at dksX3_margin_0 13 rfl rfl)
theorem dX3_margin_14 : decode cX3_margin 14 = .ok (.invokevirtual 335, 3) := dk_182 1 79 (dk_at dksX3_margin_0 14 rfl rfl)
theorem dX3_margin_17 : decode cX3_margin 17 = .ok (.ireturn, 1) := dk_172 (dk_at dksX3_margin_0 17 rfl rfl)
abbrev cX3_closest : ByteArray := prog_12_method_87_code
def yX3_closest : MethodName := ⟨RX3, "closest", "(I)I"⟩
def dkwX3_closest_5 : List UInt8 := [160, 0, 7, 29, 167, 0, 5, 21, 4, 172]
abbrev dktX3_closest_5 : List UInt8 := dkwX3_closest_5 ++ []
def dkwX3_closest_4 : List UInt8 := [62, 132, 6, 1, 167, 255, 210, 132, 5, 1, 167, 255, 185, 27, 154, 0, 7, 28, 167, 0, 14, 27, 4]
abbrev dktX3_closest_4 : List UInt8 := dkwX3_closest_4 ++ dktX3_closest_5
def dkwX3_closest_3 : List UInt8 := [182, 1, 63, 54, 7, 21, 7, 21, 4, 161, 0, 6, 167, 0, 13, 21, 7, 54, 4, 21, 5, 61, 21, 6]
abbrev dktX3_closest_3 : List UInt8 := dkwX3_closest_3 ++ dktX3_closest_4
def dkwX3_closest_2 : List UInt8 := [21, 5, 4, 96, 54, 6, 21, 6, 42, 180, 0, 7, 17, 3, 232, 46, 162, 0, 39, 42, 21, 5, 21, 6]
abbrev dktX3_closest_2 : List UInt8 := dkwX3_closest_2 ++ dktX3_closest_3
def dkwX3_closest_1 : List UInt8 := [61, 2, 62, 19, 1, 19, 54, 4, 3, 54, 5, 21, 5, 42, 180, 0, 7, 17, 3, 232, 46, 162, 0, 64]
abbrev dktX3_closest_1 : List UInt8 := dkwX3_closest_1 ++ dktX3_closest_2
def dkwX3_closest_0 : List UInt8 := [42, 180, 0, 7, 17, 3, 232, 46, 5, 161, 0, 12, 27, 3, 5, 184, 0, 171, 154, 0, 5, 2, 172, 2]
abbrev dktX3_closest_0 : List UInt8 := dkwX3_closest_0 ++ dktX3_closest_1
theorem dksX3_closest_0 : cX3_closest.data.toList.drop 0 = dktX3_closest_0 := by decide +kernel
theorem dksX3_closest_1 : cX3_closest.data.toList.drop 24 = dktX3_closest_1 := dk_seg dksX3_closest_0 24 rfl rfl
theorem dksX3_closest_2 : cX3_closest.data.toList.drop 48 = dktX3_closest_2 := dk_seg dksX3_closest_1 24 rfl rfl
theorem dksX3_closest_3 : cX3_closest.data.toList.drop 72 = dktX3_closest_3 := dk_seg dksX3_closest_2 24 rfl rfl
theorem dksX3_closest_4 : cX3_closest.data.toList.drop 96 = dktX3_closest_4 := dk_seg dksX3_closest_3 24 rfl rfl
theorem dksX3_closest_5 : cX3_closest.data.toList.drop 119 = dktX3_closest_5 := dk_seg dksX3_closest_4 23 rfl rfl
theorem dX3_closest_0 : decode cX3_closest 0 = .ok (.aload_n 0, 1) := dk_42 (dk_at dksX3_closest_0 0 rfl rfl)
theorem dX3_closest_1 : decode cX3_closest 1 = .ok (.getfield 7, 3) := dk_180 0 7 (dk_at dksX3_closest_0 1 rfl rfl)
theorem dX3_closest_4 : decode cX3_closest 4 = .ok (.sipush 1000, 3) := dk_17 3 232 (dk_at dksX3_closest_0 4 rfl rfl)
theorem dX3_closest_7 : decode cX3_closest 7 = .ok (.iaload, 1) := dk_46 (dk_at dksX3_closest_0 7 rfl rfl)
theorem dX3_closest_8 : decode cX3_closest 8 = .ok (.iconst 2, 1) := dk_5 (dk_at dksX3_closest_0 8 rfl rfl)
theorem dX3_closest_9 : decode cX3_closest 9 = .ok (.if_icmp .lt 12, 3) := dk_161 0 12 (dk_at dksX3_closest_0 9 rfl rfl)
theorem dX3_closest_12 : decode cX3_closest 12 = .ok (.iload_n 1, 1) := dk_27 (dk_at dksX3_closest_0 12 rfl rfl)
theorem dX3_closest_13 : decode cX3_closest 13 = .ok (.iconst 0, 1) := dk_3 (dk_at dksX3_closest_0 13 rfl rfl)
theorem dX3_closest_14 : decode cX3_closest 14 = .ok (.iconst 2, 1) := dk_5 (dk_at dksX3_closest_0 14 rfl rfl)
theorem dX3_closest_15 : decode cX3_closest 15 = .ok (.invokestatic 171, 3) := dk_184 0 171 (dk_at dksX3_closest_0 15 rfl rfl)
theorem dX3_closest_18 : decode cX3_closest 18 = .ok (.ifCond .ne 5, 3) := dk_154 0 5 (dk_at dksX3_closest_0 18 rfl rfl)
theorem dX3_closest_21 : decode cX3_closest 21 = .ok (.iconst (-1), 1) := dk_2 (dk_at dksX3_closest_0 21 rfl rfl)
theorem dX3_closest_22 : decode cX3_closest 22 = .ok (.ireturn, 1) := dk_172 (dk_at dksX3_closest_0 22 rfl rfl)
theorem dX3_closest_23 : decode cX3_closest 23 = .ok (.iconst (-1), 1) := dk_2 (dk_at dksX3_closest_0 23 rfl rfl)
theorem dX3_closest_24 : decode cX3_closest 24 = .ok (.istore_n 2, 1) := dk_61 (dk_at dksX3_closest_1 0 rfl rfl)
theorem dX3_closest_25 : decode cX3_closest 25 = .ok (.iconst (-1), 1) := dk_2 (dk_at dksX3_closest_1 1 rfl rfl)
theorem dX3_closest_26 : decode cX3_closest 26 = .ok (.istore_n 3, 1) := dk_62 (dk_at dksX3_closest_1 2 rfl rfl)
theorem dX3_closest_27 : decode cX3_closest 27 = .ok (.ldc_w 275, 3) := dk_19 1 19 (dk_at dksX3_closest_1 3 rfl rfl)
theorem dX3_closest_30 : decode cX3_closest 30 = .ok (.istore 4, 2) := dk_54 4 (dk_at dksX3_closest_1 6 rfl rfl)
theorem dX3_closest_32 : decode cX3_closest 32 = .ok (.iconst 0, 1) := dk_3 (dk_at dksX3_closest_1 8 rfl rfl)
theorem dX3_closest_33 : decode cX3_closest 33 = .ok (.istore 5, 2) := dk_54 5 (dk_at dksX3_closest_1 9 rfl rfl)
theorem dX3_closest_35 : decode cX3_closest 35 = .ok (.iload 5, 2) := dk_21 5 (dk_at dksX3_closest_1 11 rfl rfl)
theorem dX3_closest_37 : decode cX3_closest 37 = .ok (.aload_n 0, 1) := dk_42 (dk_at dksX3_closest_1 13 rfl rfl)
theorem dX3_closest_38 : decode cX3_closest 38 = .ok (.getfield 7, 3) := dk_180 0 7 (dk_at dksX3_closest_1 14 rfl rfl)
theorem dX3_closest_41 : decode cX3_closest 41 = .ok (.sipush 1000, 3) := dk_17 3 232 (dk_at dksX3_closest_1 17 rfl rfl)
theorem dX3_closest_44 : decode cX3_closest 44 = .ok (.iaload, 1) := dk_46 (dk_at dksX3_closest_1 20 rfl rfl)
theorem dX3_closest_45 : decode cX3_closest 45 = .ok (.if_icmp .ge 64, 3) := dk_162 0 64 (dk_at dksX3_closest_1 21 rfl rfl)
theorem dX3_closest_48 : decode cX3_closest 48 = .ok (.iload 5, 2) := dk_21 5 (dk_at dksX3_closest_2 0 rfl rfl)
theorem dX3_closest_50 : decode cX3_closest 50 = .ok (.iconst 1, 1) := dk_4 (dk_at dksX3_closest_2 2 rfl rfl)
theorem dX3_closest_51 : decode cX3_closest 51 = .ok (.iadd, 1) := dk_96 (dk_at dksX3_closest_2 3 rfl rfl)
theorem dX3_closest_52 : decode cX3_closest 52 = .ok (.istore 6, 2) := dk_54 6 (dk_at dksX3_closest_2 4 rfl rfl)
theorem dX3_closest_54 : decode cX3_closest 54 = .ok (.iload 6, 2) := dk_21 6 (dk_at dksX3_closest_2 6 rfl rfl)
theorem dX3_closest_56 : decode cX3_closest 56 = .ok (.aload_n 0, 1) := dk_42 (dk_at dksX3_closest_2 8 rfl rfl)
theorem dX3_closest_57 : decode cX3_closest 57 = .ok (.getfield 7, 3) := dk_180 0 7 (dk_at dksX3_closest_2 9 rfl rfl)
theorem dX3_closest_60 : decode cX3_closest 60 = .ok (.sipush 1000, 3) := dk_17 3 232 (dk_at dksX3_closest_2 12 rfl rfl)
theorem dX3_closest_63 : decode cX3_closest 63 = .ok (.iaload, 1) := dk_46 (dk_at dksX3_closest_2 15 rfl rfl)
theorem dX3_closest_64 : decode cX3_closest 64 = .ok (.if_icmp .ge 39, 3) := dk_162 0 39 (dk_at dksX3_closest_2 16 rfl rfl)
theorem dX3_closest_67 : decode cX3_closest 67 = .ok (.aload_n 0, 1) := dk_42 (dk_at dksX3_closest_2 19 rfl rfl)
theorem dX3_closest_68 : decode cX3_closest 68 = .ok (.iload 5, 2) := dk_21 5 (dk_at dksX3_closest_2 20 rfl rfl)
theorem dX3_closest_70 : decode cX3_closest 70 = .ok (.iload 6, 2) := dk_21 6 (dk_at dksX3_closest_2 22 rfl rfl)
theorem dX3_closest_72 : decode cX3_closest 72 = .ok (.invokevirtual 319, 3) := dk_182 1 63 (dk_at dksX3_closest_3 0 rfl rfl)
theorem dX3_closest_75 : decode cX3_closest 75 = .ok (.istore 7, 2) := dk_54 7 (dk_at dksX3_closest_3 3 rfl rfl)
theorem dX3_closest_77 : decode cX3_closest 77 = .ok (.iload 7, 2) := dk_21 7 (dk_at dksX3_closest_3 5 rfl rfl)
theorem dX3_closest_79 : decode cX3_closest 79 = .ok (.iload 4, 2) := dk_21 4 (dk_at dksX3_closest_3 7 rfl rfl)
theorem dX3_closest_81 : decode cX3_closest 81 = .ok (.if_icmp .lt 6, 3) := dk_161 0 6 (dk_at dksX3_closest_3 9 rfl rfl)
theorem dX3_closest_84 : decode cX3_closest 84 = .ok (.goto 13, 3) := dk_167 0 13 (dk_at dksX3_closest_3 12 rfl rfl)
theorem dX3_closest_87 : decode cX3_closest 87 = .ok (.iload 7, 2) := dk_21 7 (dk_at dksX3_closest_3 15 rfl rfl)
theorem dX3_closest_89 : decode cX3_closest 89 = .ok (.istore 4, 2) := dk_54 4 (dk_at dksX3_closest_3 17 rfl rfl)
theorem dX3_closest_91 : decode cX3_closest 91 = .ok (.iload 5, 2) := dk_21 5 (dk_at dksX3_closest_3 19 rfl rfl)
theorem dX3_closest_93 : decode cX3_closest 93 = .ok (.istore_n 2, 1) := dk_61 (dk_at dksX3_closest_3 21 rfl rfl)
theorem dX3_closest_94 : decode cX3_closest 94 = .ok (.iload 6, 2) := dk_21 6 (dk_at dksX3_closest_3 22 rfl rfl)
theorem dX3_closest_96 : decode cX3_closest 96 = .ok (.istore_n 3, 1) := dk_62 (dk_at dksX3_closest_4 0 rfl rfl)
theorem dX3_closest_97 : decode cX3_closest 97 = .ok (.iinc 6 1, 3) := dk_132 6 1 (dk_at dksX3_closest_4 1 rfl rfl)
theorem dX3_closest_100 : decode cX3_closest 100 = .ok (.goto (-46), 3) := dk_167 255 210 (dk_at dksX3_closest_4 4 rfl rfl)
theorem dX3_closest_103 : decode cX3_closest 103 = .ok (.iinc 5 1, 3) := dk_132 5 1 (dk_at dksX3_closest_4 7 rfl rfl)
theorem dX3_closest_106 : decode cX3_closest 106 = .ok (.goto (-71), 3) := dk_167 255 185 (dk_at dksX3_closest_4 10 rfl rfl)
theorem dX3_closest_109 : decode cX3_closest 109 = .ok (.iload_n 1, 1) := dk_27 (dk_at dksX3_closest_4 13 rfl rfl)
theorem dX3_closest_110 : decode cX3_closest 110 = .ok (.ifCond .ne 7, 3) := dk_154 0 7 (dk_at dksX3_closest_4 14 rfl rfl)
theorem dX3_closest_113 : decode cX3_closest 113 = .ok (.iload_n 2, 1) := dk_28 (dk_at dksX3_closest_4 17 rfl rfl)
theorem dX3_closest_114 : decode cX3_closest 114 = .ok (.goto 14, 3) := dk_167 0 14 (dk_at dksX3_closest_4 18 rfl rfl)
theorem dX3_closest_117 : decode cX3_closest 117 = .ok (.iload_n 1, 1) := dk_27 (dk_at dksX3_closest_4 21 rfl rfl)
theorem dX3_closest_118 : decode cX3_closest 118 = .ok (.iconst 1, 1) := dk_4 (dk_at dksX3_closest_4 22 rfl rfl)
theorem dX3_closest_119 : decode cX3_closest 119 = .ok (.if_icmp .ne 7, 3) := dk_160 0 7 (dk_at dksX3_closest_5 0 rfl rfl)
theorem dX3_closest_122 : decode cX3_closest 122 = .ok (.iload_n 3, 1) := dk_29 (dk_at dksX3_closest_5 3 rfl rfl)
theorem dX3_closest_123 : decode cX3_closest 123 = .ok (.goto 5, 3) := dk_167 0 5 (dk_at dksX3_closest_5 4 rfl rfl)
theorem dX3_closest_126 : decode cX3_closest 126 = .ok (.iload 4, 2) := dk_21 4 (dk_at dksX3_closest_5 7 rfl rfl)
theorem dX3_closest_128 : decode cX3_closest 128 = .ok (.ireturn, 1) := dk_172 (dk_at dksX3_closest_5 9 rfl rfl)
abbrev cX3_nearest : ByteArray := prog_12_method_88_code
def yX3_nearest : MethodName := ⟨RX3, "nearest", "(II)I"⟩
def dkwX3_nearest_4 : List UInt8 := [21, 4, 172]
abbrev dktX3_nearest_4 : List UInt8 := dkwX3_nearest_4 ++ []
def dkwX3_nearest_3 : List UInt8 := [167, 0, 10, 21, 5, 62, 21, 6, 54, 4, 132, 5, 1, 167, 255, 200, 28, 154, 0, 7, 29, 167, 0, 5]
abbrev dktX3_nearest_3 : List UInt8 := dkwX3_nearest_3 ++ dktX3_nearest_4
def dkwX3_nearest_2 : List UInt8 := [167, 0, 34, 42, 27, 21, 5, 182, 1, 63, 54, 6, 29, 2, 159, 0, 13, 21, 6, 21, 4, 161, 0, 6]
abbrev dktX3_nearest_2 : List UInt8 := dkwX3_nearest_2 ++ dktX3_nearest_3
def dkwX3_nearest_1 : List UInt8 := [3, 54, 5, 21, 5, 42, 180, 0, 7, 17, 3, 232, 46, 162, 0, 49, 21, 5, 27, 160, 0, 6]
abbrev dktX3_nearest_1 : List UInt8 := dkwX3_nearest_1 ++ dktX3_nearest_2
def dkwX3_nearest_0 : List UInt8 := [42, 27, 182, 0, 215, 153, 0, 12, 28, 3, 4, 184, 0, 171, 154, 0, 5, 2, 172, 2, 62, 2, 54, 4]
abbrev dktX3_nearest_0 : List UInt8 := dkwX3_nearest_0 ++ dktX3_nearest_1
theorem dksX3_nearest_0 : cX3_nearest.data.toList.drop 0 = dktX3_nearest_0 := by decide +kernel
theorem dksX3_nearest_1 : cX3_nearest.data.toList.drop 24 = dktX3_nearest_1 := dk_seg dksX3_nearest_0 24 rfl rfl
theorem dksX3_nearest_2 : cX3_nearest.data.toList.drop 46 = dktX3_nearest_2 := dk_seg dksX3_nearest_1 22 rfl rfl
theorem dksX3_nearest_3 : cX3_nearest.data.toList.drop 70 = dktX3_nearest_3 := dk_seg dksX3_nearest_2 24 rfl rfl
theorem dksX3_nearest_4 : cX3_nearest.data.toList.drop 94 = dktX3_nearest_4 := dk_seg dksX3_nearest_3 24 rfl rfl
theorem dX3_nearest_0 : decode cX3_nearest 0 = .ok (.aload_n 0, 1) := dk_42 (dk_at dksX3_nearest_0 0 rfl rfl)
theorem dX3_nearest_1 : decode cX3_nearest 1 = .ok (.iload_n 1, 1) := dk_27 (dk_at dksX3_nearest_0 1 rfl rfl)
theorem dX3_nearest_2 : decode cX3_nearest 2 = .ok (.invokevirtual 215, 3) := dk_182 0 215 (dk_at dksX3_nearest_0 2 rfl rfl)
theorem dX3_nearest_5 : decode cX3_nearest 5 = .ok (.ifCond .eq 12, 3) := dk_153 0 12 (dk_at dksX3_nearest_0 5 rfl rfl)
theorem dX3_nearest_8 : decode cX3_nearest 8 = .ok (.iload_n 2, 1) := dk_28 (dk_at dksX3_nearest_0 8 rfl rfl)
theorem dX3_nearest_9 : decode cX3_nearest 9 = .ok (.iconst 0, 1) := dk_3 (dk_at dksX3_nearest_0 9 rfl rfl)
theorem dX3_nearest_10 : decode cX3_nearest 10 = .ok (.iconst 1, 1) := dk_4 (dk_at dksX3_nearest_0 10 rfl rfl)
theorem dX3_nearest_11 : decode cX3_nearest 11 = .ok (.invokestatic 171, 3) := dk_184 0 171 (dk_at dksX3_nearest_0 11 rfl rfl)
theorem dX3_nearest_14 : decode cX3_nearest 14 = .ok (.ifCond .ne 5, 3) := dk_154 0 5 (dk_at dksX3_nearest_0 14 rfl rfl)
theorem dX3_nearest_17 : decode cX3_nearest 17 = .ok (.iconst (-1), 1) := dk_2 (dk_at dksX3_nearest_0 17 rfl rfl)
theorem dX3_nearest_18 : decode cX3_nearest 18 = .ok (.ireturn, 1) := dk_172 (dk_at dksX3_nearest_0 18 rfl rfl)
theorem dX3_nearest_19 : decode cX3_nearest 19 = .ok (.iconst (-1), 1) := dk_2 (dk_at dksX3_nearest_0 19 rfl rfl)
theorem dX3_nearest_20 : decode cX3_nearest 20 = .ok (.istore_n 3, 1) := dk_62 (dk_at dksX3_nearest_0 20 rfl rfl)
theorem dX3_nearest_21 : decode cX3_nearest 21 = .ok (.iconst (-1), 1) := dk_2 (dk_at dksX3_nearest_0 21 rfl rfl)
theorem dX3_nearest_22 : decode cX3_nearest 22 = .ok (.istore 4, 2) := dk_54 4 (dk_at dksX3_nearest_0 22 rfl rfl)
theorem dX3_nearest_24 : decode cX3_nearest 24 = .ok (.iconst 0, 1) := dk_3 (dk_at dksX3_nearest_1 0 rfl rfl)
theorem dX3_nearest_25 : decode cX3_nearest 25 = .ok (.istore 5, 2) := dk_54 5 (dk_at dksX3_nearest_1 1 rfl rfl)
theorem dX3_nearest_27 : decode cX3_nearest 27 = .ok (.iload 5, 2) := dk_21 5 (dk_at dksX3_nearest_1 3 rfl rfl)
theorem dX3_nearest_29 : decode cX3_nearest 29 = .ok (.aload_n 0, 1) := dk_42 (dk_at dksX3_nearest_1 5 rfl rfl)
theorem dX3_nearest_30 : decode cX3_nearest 30 = .ok (.getfield 7, 3) := dk_180 0 7 (dk_at dksX3_nearest_1 6 rfl rfl)
theorem dX3_nearest_33 : decode cX3_nearest 33 = .ok (.sipush 1000, 3) := dk_17 3 232 (dk_at dksX3_nearest_1 9 rfl rfl)
theorem dX3_nearest_36 : decode cX3_nearest 36 = .ok (.iaload, 1) := dk_46 (dk_at dksX3_nearest_1 12 rfl rfl)
theorem dX3_nearest_37 : decode cX3_nearest 37 = .ok (.if_icmp .ge 49, 3) := dk_162 0 49 (dk_at dksX3_nearest_1 13 rfl rfl)
theorem dX3_nearest_40 : decode cX3_nearest 40 = .ok (.iload 5, 2) := dk_21 5 (dk_at dksX3_nearest_1 16 rfl rfl)
theorem dX3_nearest_42 : decode cX3_nearest 42 = .ok (.iload_n 1, 1) := dk_27 (dk_at dksX3_nearest_1 18 rfl rfl)
theorem dX3_nearest_43 : decode cX3_nearest 43 = .ok (.if_icmp .ne 6, 3) := dk_160 0 6 (dk_at dksX3_nearest_1 19 rfl rfl)
theorem dX3_nearest_46 : decode cX3_nearest 46 = .ok (.goto 34, 3) := dk_167 0 34 (dk_at dksX3_nearest_2 0 rfl rfl)
theorem dX3_nearest_49 : decode cX3_nearest 49 = .ok (.aload_n 0, 1) := dk_42 (dk_at dksX3_nearest_2 3 rfl rfl)
theorem dX3_nearest_50 : decode cX3_nearest 50 = .ok (.iload_n 1, 1) := dk_27 (dk_at dksX3_nearest_2 4 rfl rfl)
theorem dX3_nearest_51 : decode cX3_nearest 51 = .ok (.iload 5, 2) := dk_21 5 (dk_at dksX3_nearest_2 5 rfl rfl)
theorem dX3_nearest_53 : decode cX3_nearest 53 = .ok (.invokevirtual 319, 3) := dk_182 1 63 (dk_at dksX3_nearest_2 7 rfl rfl)
theorem dX3_nearest_56 : decode cX3_nearest 56 = .ok (.istore 6, 2) := dk_54 6 (dk_at dksX3_nearest_2 10 rfl rfl)
theorem dX3_nearest_58 : decode cX3_nearest 58 = .ok (.iload_n 3, 1) := dk_29 (dk_at dksX3_nearest_2 12 rfl rfl)
theorem dX3_nearest_59 : decode cX3_nearest 59 = .ok (.iconst (-1), 1) := dk_2 (dk_at dksX3_nearest_2 13 rfl rfl)
theorem dX3_nearest_60 : decode cX3_nearest 60 = .ok (.if_icmp .eq 13, 3) := dk_159 0 13 (dk_at dksX3_nearest_2 14 rfl rfl)
theorem dX3_nearest_63 : decode cX3_nearest 63 = .ok (.iload 6, 2) := dk_21 6 (dk_at dksX3_nearest_2 17 rfl rfl)
theorem dX3_nearest_65 : decode cX3_nearest 65 = .ok (.iload 4, 2) := dk_21 4 (dk_at dksX3_nearest_2 19 rfl rfl)
theorem dX3_nearest_67 : decode cX3_nearest 67 = .ok (.if_icmp .lt 6, 3) := dk_161 0 6 (dk_at dksX3_nearest_2 21 rfl rfl)
theorem dX3_nearest_70 : decode cX3_nearest 70 = .ok (.goto 10, 3) := dk_167 0 10 (dk_at dksX3_nearest_3 0 rfl rfl)
theorem dX3_nearest_73 : decode cX3_nearest 73 = .ok (.iload 5, 2) := dk_21 5 (dk_at dksX3_nearest_3 3 rfl rfl)
theorem dX3_nearest_75 : decode cX3_nearest 75 = .ok (.istore_n 3, 1) := dk_62 (dk_at dksX3_nearest_3 5 rfl rfl)
theorem dX3_nearest_76 : decode cX3_nearest 76 = .ok (.iload 6, 2) := dk_21 6 (dk_at dksX3_nearest_3 6 rfl rfl)
theorem dX3_nearest_78 : decode cX3_nearest 78 = .ok (.istore 4, 2) := dk_54 4 (dk_at dksX3_nearest_3 8 rfl rfl)
theorem dX3_nearest_80 : decode cX3_nearest 80 = .ok (.iinc 5 1, 3) := dk_132 5 1 (dk_at dksX3_nearest_3 10 rfl rfl)
theorem dX3_nearest_83 : decode cX3_nearest 83 = .ok (.goto (-56), 3) := dk_167 255 200 (dk_at dksX3_nearest_3 13 rfl rfl)
theorem dX3_nearest_86 : decode cX3_nearest 86 = .ok (.iload_n 2, 1) := dk_28 (dk_at dksX3_nearest_3 16 rfl rfl)
theorem dX3_nearest_87 : decode cX3_nearest 87 = .ok (.ifCond .ne 7, 3) := dk_154 0 7 (dk_at dksX3_nearest_3 17 rfl rfl)
theorem dX3_nearest_90 : decode cX3_nearest 90 = .ok (.iload_n 3, 1) := dk_29 (dk_at dksX3_nearest_3 20 rfl rfl)
theorem dX3_nearest_91 : decode cX3_nearest 91 = .ok (.goto 5, 3) := dk_167 0 5 (dk_at dksX3_nearest_3 21 rfl rfl)
theorem dX3_nearest_94 : decode cX3_nearest 94 = .ok (.iload 4, 2) := dk_21 4 (dk_at dksX3_nearest_4 0 rfl rfl)
theorem dX3_nearest_96 : decode cX3_nearest 96 = .ok (.ireturn, 1) := dk_172 (dk_at dksX3_nearest_4 2 rfl rfl)
abbrev cX3_group : ByteArray := prog_12_method_91_code
def yX3_group : MethodName := ⟨RX3, "group", "(I)I"⟩
def dkwX3_group_0 : List UInt8 := [42, 27, 182, 0, 215, 154, 0, 5, 2, 172, 42, 182, 1, 85, 42, 180, 0, 104, 27, 46, 172]
abbrev dktX3_group_0 : List UInt8 := dkwX3_group_0 ++ []
theorem dksX3_group_0 : cX3_group.data.toList.drop 0 = dktX3_group_0 := by decide +kernel
theorem dX3_group_0 : decode cX3_group 0 = .ok (.aload_n 0, 1) := dk_42 (dk_at dksX3_group_0 0 rfl rfl)
theorem dX3_group_1 : decode cX3_group 1 = .ok (.iload_n 1, 1) := dk_27 (dk_at dksX3_group_0 1 rfl rfl)
theorem dX3_group_2 : decode cX3_group 2 = .ok (.invokevirtual 215, 3) := dk_182 0 215 (dk_at dksX3_group_0 2 rfl rfl)
theorem dX3_group_5 : decode cX3_group 5 = .ok (.ifCond .ne 5, 3) := dk_154 0 5 (dk_at dksX3_group_0 5 rfl rfl)
theorem dX3_group_8 : decode cX3_group 8 = .ok (.iconst (-1), 1) := dk_2 (dk_at dksX3_group_0 8 rfl rfl)
theorem dX3_group_9 : decode cX3_group 9 = .ok (.ireturn, 1) := dk_172 (dk_at dksX3_group_0 9 rfl rfl)
theorem dX3_group_10 : decode cX3_group 10 = .ok (.aload_n 0, 1) := dk_42 (dk_at dksX3_group_0 10 rfl rfl)
theorem dX3_group_11 : decode cX3_group 11 = .ok (.invokevirtual 341, 3) := dk_182 1 85 (dk_at dksX3_group_0 11 rfl rfl)
theorem dX3_group_14 : decode cX3_group 14 = .ok (.aload_n 0, 1) := dk_42 (dk_at dksX3_group_0 14 rfl rfl)
theorem dX3_group_15 : decode cX3_group 15 = .ok (.getfield 104, 3) := dk_180 0 104 (dk_at dksX3_group_0 15 rfl rfl)
theorem dX3_group_18 : decode cX3_group 18 = .ok (.iload_n 1, 1) := dk_27 (dk_at dksX3_group_0 18 rfl rfl)
theorem dX3_group_19 : decode cX3_group 19 = .ok (.iaload, 1) := dk_46 (dk_at dksX3_group_0 19 rfl rfl)
theorem dX3_group_20 : decode cX3_group 20 = .ok (.ireturn, 1) := dk_172 (dk_at dksX3_group_0 20 rfl rfl)
abbrev cX3_laysGroups : ByteArray := prog_12_method_90_code
def yX3_laysGroups : MethodName := ⟨RX3, "laysGroups", "()V"⟩
def dkwX3_laysGroups_3 : List UInt8 := [182, 1, 82, 132, 2, 1, 167, 255, 218, 132, 1, 1, 167, 255, 196, 177]
abbrev dktX3_laysGroups_3 : List UInt8 := dkwX3_laysGroups_3 ++ []
def dkwX3_laysGroups_2 : List UInt8 := [162, 0, 32, 42, 27, 28, 182, 1, 63, 42, 180, 0, 7, 17, 4, 22, 46, 162, 0, 9, 42, 27, 28]
abbrev dktX3_laysGroups_2 : List UInt8 := dkwX3_laysGroups_2 ++ dktX3_laysGroups_3
def dkwX3_laysGroups_1 : List UInt8 := [42, 180, 0, 7, 17, 3, 232, 46, 162, 0, 54, 27, 4, 96, 61, 28, 42, 180, 0, 7, 17, 3, 232, 46]
abbrev dktX3_laysGroups_1 : List UInt8 := dkwX3_laysGroups_1 ++ dktX3_laysGroups_2
def dkwX3_laysGroups_0 : List UInt8 := [3, 60, 27, 16, 8, 162, 0, 16, 42, 180, 0, 104, 27, 27, 79, 132, 1, 1, 167, 255, 240, 3, 60, 27]
abbrev dktX3_laysGroups_0 : List UInt8 := dkwX3_laysGroups_0 ++ dktX3_laysGroups_1
theorem dksX3_laysGroups_0 : cX3_laysGroups.data.toList.drop 0 = dktX3_laysGroups_0 := by decide +kernel
theorem dksX3_laysGroups_1 : cX3_laysGroups.data.toList.drop 24 = dktX3_laysGroups_1 := dk_seg dksX3_laysGroups_0 24 rfl rfl
theorem dksX3_laysGroups_2 : cX3_laysGroups.data.toList.drop 48 = dktX3_laysGroups_2 := dk_seg dksX3_laysGroups_1 24 rfl rfl
theorem dksX3_laysGroups_3 : cX3_laysGroups.data.toList.drop 71 = dktX3_laysGroups_3 := dk_seg dksX3_laysGroups_2 23 rfl rfl
theorem dX3_laysGroups_0 : decode cX3_laysGroups 0 = .ok (.iconst 0, 1) := dk_3 (dk_at dksX3_laysGroups_0 0 rfl rfl)
theorem dX3_laysGroups_1 : decode cX3_laysGroups 1 = .ok (.istore_n 1, 1) := dk_60 (dk_at dksX3_laysGroups_0 1 rfl rfl)
theorem dX3_laysGroups_2 : decode cX3_laysGroups 2 = .ok (.iload_n 1, 1) := dk_27 (dk_at dksX3_laysGroups_0 2 rfl rfl)
theorem dX3_laysGroups_3 : decode cX3_laysGroups 3 = .ok (.bipush 8, 2) := dk_16 8 (dk_at dksX3_laysGroups_0 3 rfl rfl)
theorem dX3_laysGroups_5 : decode cX3_laysGroups 5 = .ok (.if_icmp .ge 16, 3) := dk_162 0 16 (dk_at dksX3_laysGroups_0 5 rfl rfl)
theorem dX3_laysGroups_8 : decode cX3_laysGroups 8 = .ok (.aload_n 0, 1) := dk_42 (dk_at dksX3_laysGroups_0 8 rfl rfl)
theorem dX3_laysGroups_9 : decode cX3_laysGroups 9 = .ok (.getfield 104, 3) := dk_180 0 104 (dk_at dksX3_laysGroups_0 9 rfl rfl)
theorem dX3_laysGroups_12 : decode cX3_laysGroups 12 = .ok (.iload_n 1, 1) := dk_27 (dk_at dksX3_laysGroups_0 12 rfl rfl)
theorem dX3_laysGroups_13 : decode cX3_laysGroups 13 = .ok (.iload_n 1, 1) := dk_27 (dk_at dksX3_laysGroups_0 13 rfl rfl)
theorem dX3_laysGroups_14 : decode cX3_laysGroups 14 = .ok (.iastore, 1) := dk_79 (dk_at dksX3_laysGroups_0 14 rfl rfl)
theorem dX3_laysGroups_15 : decode cX3_laysGroups 15 = .ok (.iinc 1 1, 3) := dk_132 1 1 (dk_at dksX3_laysGroups_0 15 rfl rfl)
theorem dX3_laysGroups_18 : decode cX3_laysGroups 18 = .ok (.goto (-16), 3) := dk_167 255 240 (dk_at dksX3_laysGroups_0 18 rfl rfl)
theorem dX3_laysGroups_21 : decode cX3_laysGroups 21 = .ok (.iconst 0, 1) := dk_3 (dk_at dksX3_laysGroups_0 21 rfl rfl)
theorem dX3_laysGroups_22 : decode cX3_laysGroups 22 = .ok (.istore_n 1, 1) := dk_60 (dk_at dksX3_laysGroups_0 22 rfl rfl)
theorem dX3_laysGroups_23 : decode cX3_laysGroups 23 = .ok (.iload_n 1, 1) := dk_27 (dk_at dksX3_laysGroups_0 23 rfl rfl)
theorem dX3_laysGroups_24 : decode cX3_laysGroups 24 = .ok (.aload_n 0, 1) := dk_42 (dk_at dksX3_laysGroups_1 0 rfl rfl)
theorem dX3_laysGroups_25 : decode cX3_laysGroups 25 = .ok (.getfield 7, 3) := dk_180 0 7 (dk_at dksX3_laysGroups_1 1 rfl rfl)
theorem dX3_laysGroups_28 : decode cX3_laysGroups 28 = .ok (.sipush 1000, 3) := dk_17 3 232 (dk_at dksX3_laysGroups_1 4 rfl rfl)
theorem dX3_laysGroups_31 : decode cX3_laysGroups 31 = .ok (.iaload, 1) := dk_46 (dk_at dksX3_laysGroups_1 7 rfl rfl)
theorem dX3_laysGroups_32 : decode cX3_laysGroups 32 = .ok (.if_icmp .ge 54, 3) := dk_162 0 54 (dk_at dksX3_laysGroups_1 8 rfl rfl)
theorem dX3_laysGroups_35 : decode cX3_laysGroups 35 = .ok (.iload_n 1, 1) := dk_27 (dk_at dksX3_laysGroups_1 11 rfl rfl)
theorem dX3_laysGroups_36 : decode cX3_laysGroups 36 = .ok (.iconst 1, 1) := dk_4 (dk_at dksX3_laysGroups_1 12 rfl rfl)
theorem dX3_laysGroups_37 : decode cX3_laysGroups 37 = .ok (.iadd, 1) := dk_96 (dk_at dksX3_laysGroups_1 13 rfl rfl)
theorem dX3_laysGroups_38 : decode cX3_laysGroups 38 = .ok (.istore_n 2, 1) := dk_61 (dk_at dksX3_laysGroups_1 14 rfl rfl)
theorem dX3_laysGroups_39 : decode cX3_laysGroups 39 = .ok (.iload_n 2, 1) := dk_28 (dk_at dksX3_laysGroups_1 15 rfl rfl)
theorem dX3_laysGroups_40 : decode cX3_laysGroups 40 = .ok (.aload_n 0, 1) := dk_42 (dk_at dksX3_laysGroups_1 16 rfl rfl)
theorem dX3_laysGroups_41 : decode cX3_laysGroups 41 = .ok (.getfield 7, 3) := dk_180 0 7 (dk_at dksX3_laysGroups_1 17 rfl rfl)
theorem dX3_laysGroups_44 : decode cX3_laysGroups 44 = .ok (.sipush 1000, 3) := dk_17 3 232 (dk_at dksX3_laysGroups_1 20 rfl rfl)
theorem dX3_laysGroups_47 : decode cX3_laysGroups 47 = .ok (.iaload, 1) := dk_46 (dk_at dksX3_laysGroups_1 23 rfl rfl)
theorem dX3_laysGroups_48 : decode cX3_laysGroups 48 = .ok (.if_icmp .ge 32, 3) := dk_162 0 32 (dk_at dksX3_laysGroups_2 0 rfl rfl)
theorem dX3_laysGroups_51 : decode cX3_laysGroups 51 = .ok (.aload_n 0, 1) := dk_42 (dk_at dksX3_laysGroups_2 3 rfl rfl)
theorem dX3_laysGroups_52 : decode cX3_laysGroups 52 = .ok (.iload_n 1, 1) := dk_27 (dk_at dksX3_laysGroups_2 4 rfl rfl)
theorem dX3_laysGroups_53 : decode cX3_laysGroups 53 = .ok (.iload_n 2, 1) := dk_28 (dk_at dksX3_laysGroups_2 5 rfl rfl)
theorem dX3_laysGroups_54 : decode cX3_laysGroups 54 = .ok (.invokevirtual 319, 3) := dk_182 1 63 (dk_at dksX3_laysGroups_2 6 rfl rfl)
theorem dX3_laysGroups_57 : decode cX3_laysGroups 57 = .ok (.aload_n 0, 1) := dk_42 (dk_at dksX3_laysGroups_2 9 rfl rfl)
theorem dX3_laysGroups_58 : decode cX3_laysGroups 58 = .ok (.getfield 7, 3) := dk_180 0 7 (dk_at dksX3_laysGroups_2 10 rfl rfl)
theorem dX3_laysGroups_61 : decode cX3_laysGroups 61 = .ok (.sipush 1046, 3) := dk_17 4 22 (dk_at dksX3_laysGroups_2 13 rfl rfl)
theorem dX3_laysGroups_64 : decode cX3_laysGroups 64 = .ok (.iaload, 1) := dk_46 (dk_at dksX3_laysGroups_2 16 rfl rfl)
theorem dX3_laysGroups_65 : decode cX3_laysGroups 65 = .ok (.if_icmp .ge 9, 3) := dk_162 0 9 (dk_at dksX3_laysGroups_2 17 rfl rfl)
theorem dX3_laysGroups_68 : decode cX3_laysGroups 68 = .ok (.aload_n 0, 1) := dk_42 (dk_at dksX3_laysGroups_2 20 rfl rfl)
theorem dX3_laysGroups_69 : decode cX3_laysGroups 69 = .ok (.iload_n 1, 1) := dk_27 (dk_at dksX3_laysGroups_2 21 rfl rfl)
theorem dX3_laysGroups_70 : decode cX3_laysGroups 70 = .ok (.iload_n 2, 1) := dk_28 (dk_at dksX3_laysGroups_2 22 rfl rfl)
theorem dX3_laysGroups_71 : decode cX3_laysGroups 71 = .ok (.invokevirtual 338, 3) := dk_182 1 82 (dk_at dksX3_laysGroups_3 0 rfl rfl)
theorem dX3_laysGroups_74 : decode cX3_laysGroups 74 = .ok (.iinc 2 1, 3) := dk_132 2 1 (dk_at dksX3_laysGroups_3 3 rfl rfl)
theorem dX3_laysGroups_77 : decode cX3_laysGroups 77 = .ok (.goto (-38), 3) := dk_167 255 218 (dk_at dksX3_laysGroups_3 6 rfl rfl)
theorem dX3_laysGroups_80 : decode cX3_laysGroups 80 = .ok (.iinc 1 1, 3) := dk_132 1 1 (dk_at dksX3_laysGroups_3 9 rfl rfl)
theorem dX3_laysGroups_83 : decode cX3_laysGroups 83 = .ok (.goto (-60), 3) := dk_167 255 196 (dk_at dksX3_laysGroups_3 12 rfl rfl)
theorem dX3_laysGroups_86 : decode cX3_laysGroups 86 = .ok (.return_, 1) := dk_177 (dk_at dksX3_laysGroups_3 15 rfl rfl)
abbrev cX3_joins : ByteArray := prog_12_method_89_code
def yX3_joins : MethodName := ⟨RX3, "joins", "(II)V"⟩
def dkwX3_joins_3 : List UInt8 := [167, 0, 10, 42, 180, 0, 104, 21, 5, 46, 79, 132, 5, 1, 167, 255, 210, 177]
abbrev dktX3_joins_3 : List UInt8 := dkwX3_joins_3 ++ []
def dkwX3_joins_2 : List UInt8 := [162, 0, 39, 42, 180, 0, 104, 21, 5, 42, 180, 0, 104, 21, 5, 46, 21, 4, 160, 0, 7, 29]
abbrev dktX3_joins_2 : List UInt8 := dkwX3_joins_2 ++ dktX3_joins_3
def dkwX3_joins_1 : List UInt8 := [180, 0, 104, 28, 46, 184, 1, 8, 54, 4, 3, 54, 5, 21, 5, 42, 180, 0, 7, 17, 3, 232, 46]
abbrev dktX3_joins_1 : List UInt8 := dkwX3_joins_1 ++ dktX3_joins_2
def dkwX3_joins_0 : List UInt8 := [42, 180, 0, 104, 27, 46, 42, 180, 0, 104, 28, 46, 184, 1, 2, 62, 42, 180, 0, 104, 27, 46, 42]
abbrev dktX3_joins_0 : List UInt8 := dkwX3_joins_0 ++ dktX3_joins_1
theorem dksX3_joins_0 : cX3_joins.data.toList.drop 0 = dktX3_joins_0 := by decide +kernel
theorem dksX3_joins_1 : cX3_joins.data.toList.drop 23 = dktX3_joins_1 := dk_seg dksX3_joins_0 23 rfl rfl
theorem dksX3_joins_2 : cX3_joins.data.toList.drop 46 = dktX3_joins_2 := dk_seg dksX3_joins_1 23 rfl rfl
theorem dksX3_joins_3 : cX3_joins.data.toList.drop 68 = dktX3_joins_3 := dk_seg dksX3_joins_2 22 rfl rfl
theorem dX3_joins_0 : decode cX3_joins 0 = .ok (.aload_n 0, 1) := dk_42 (dk_at dksX3_joins_0 0 rfl rfl)
theorem dX3_joins_1 : decode cX3_joins 1 = .ok (.getfield 104, 3) := dk_180 0 104 (dk_at dksX3_joins_0 1 rfl rfl)
theorem dX3_joins_4 : decode cX3_joins 4 = .ok (.iload_n 1, 1) := dk_27 (dk_at dksX3_joins_0 4 rfl rfl)
theorem dX3_joins_5 : decode cX3_joins 5 = .ok (.iaload, 1) := dk_46 (dk_at dksX3_joins_0 5 rfl rfl)
theorem dX3_joins_6 : decode cX3_joins 6 = .ok (.aload_n 0, 1) := dk_42 (dk_at dksX3_joins_0 6 rfl rfl)
theorem dX3_joins_7 : decode cX3_joins 7 = .ok (.getfield 104, 3) := dk_180 0 104 (dk_at dksX3_joins_0 7 rfl rfl)
theorem dX3_joins_10 : decode cX3_joins 10 = .ok (.iload_n 2, 1) := dk_28 (dk_at dksX3_joins_0 10 rfl rfl)
theorem dX3_joins_11 : decode cX3_joins 11 = .ok (.iaload, 1) := dk_46 (dk_at dksX3_joins_0 11 rfl rfl)
theorem dX3_joins_12 : decode cX3_joins 12 = .ok (.invokestatic 258, 3) := dk_184 1 2 (dk_at dksX3_joins_0 12 rfl rfl)
theorem dX3_joins_15 : decode cX3_joins 15 = .ok (.istore_n 3, 1) := dk_62 (dk_at dksX3_joins_0 15 rfl rfl)
theorem dX3_joins_16 : decode cX3_joins 16 = .ok (.aload_n 0, 1) := dk_42 (dk_at dksX3_joins_0 16 rfl rfl)
theorem dX3_joins_17 : decode cX3_joins 17 = .ok (.getfield 104, 3) := dk_180 0 104 (dk_at dksX3_joins_0 17 rfl rfl)
theorem dX3_joins_20 : decode cX3_joins 20 = .ok (.iload_n 1, 1) := dk_27 (dk_at dksX3_joins_0 20 rfl rfl)
theorem dX3_joins_21 : decode cX3_joins 21 = .ok (.iaload, 1) := dk_46 (dk_at dksX3_joins_0 21 rfl rfl)
theorem dX3_joins_22 : decode cX3_joins 22 = .ok (.aload_n 0, 1) := dk_42 (dk_at dksX3_joins_0 22 rfl rfl)
theorem dX3_joins_23 : decode cX3_joins 23 = .ok (.getfield 104, 3) := dk_180 0 104 (dk_at dksX3_joins_1 0 rfl rfl)
theorem dX3_joins_26 : decode cX3_joins 26 = .ok (.iload_n 2, 1) := dk_28 (dk_at dksX3_joins_1 3 rfl rfl)
theorem dX3_joins_27 : decode cX3_joins 27 = .ok (.iaload, 1) := dk_46 (dk_at dksX3_joins_1 4 rfl rfl)
theorem dX3_joins_28 : decode cX3_joins 28 = .ok (.invokestatic 264, 3) := dk_184 1 8 (dk_at dksX3_joins_1 5 rfl rfl)
theorem dX3_joins_31 : decode cX3_joins 31 = .ok (.istore 4, 2) := dk_54 4 (dk_at dksX3_joins_1 8 rfl rfl)
theorem dX3_joins_33 : decode cX3_joins 33 = .ok (.iconst 0, 1) := dk_3 (dk_at dksX3_joins_1 10 rfl rfl)
theorem dX3_joins_34 : decode cX3_joins 34 = .ok (.istore 5, 2) := dk_54 5 (dk_at dksX3_joins_1 11 rfl rfl)
theorem dX3_joins_36 : decode cX3_joins 36 = .ok (.iload 5, 2) := dk_21 5 (dk_at dksX3_joins_1 13 rfl rfl)
theorem dX3_joins_38 : decode cX3_joins 38 = .ok (.aload_n 0, 1) := dk_42 (dk_at dksX3_joins_1 15 rfl rfl)
theorem dX3_joins_39 : decode cX3_joins 39 = .ok (.getfield 7, 3) := dk_180 0 7 (dk_at dksX3_joins_1 16 rfl rfl)
theorem dX3_joins_42 : decode cX3_joins 42 = .ok (.sipush 1000, 3) := dk_17 3 232 (dk_at dksX3_joins_1 19 rfl rfl)
theorem dX3_joins_45 : decode cX3_joins 45 = .ok (.iaload, 1) := dk_46 (dk_at dksX3_joins_1 22 rfl rfl)
theorem dX3_joins_46 : decode cX3_joins 46 = .ok (.if_icmp .ge 39, 3) := dk_162 0 39 (dk_at dksX3_joins_2 0 rfl rfl)
theorem dX3_joins_49 : decode cX3_joins 49 = .ok (.aload_n 0, 1) := dk_42 (dk_at dksX3_joins_2 3 rfl rfl)
theorem dX3_joins_50 : decode cX3_joins 50 = .ok (.getfield 104, 3) := dk_180 0 104 (dk_at dksX3_joins_2 4 rfl rfl)
theorem dX3_joins_53 : decode cX3_joins 53 = .ok (.iload 5, 2) := dk_21 5 (dk_at dksX3_joins_2 7 rfl rfl)
theorem dX3_joins_55 : decode cX3_joins 55 = .ok (.aload_n 0, 1) := dk_42 (dk_at dksX3_joins_2 9 rfl rfl)
theorem dX3_joins_56 : decode cX3_joins 56 = .ok (.getfield 104, 3) := dk_180 0 104 (dk_at dksX3_joins_2 10 rfl rfl)
theorem dX3_joins_59 : decode cX3_joins 59 = .ok (.iload 5, 2) := dk_21 5 (dk_at dksX3_joins_2 13 rfl rfl)
theorem dX3_joins_61 : decode cX3_joins 61 = .ok (.iaload, 1) := dk_46 (dk_at dksX3_joins_2 15 rfl rfl)
theorem dX3_joins_62 : decode cX3_joins 62 = .ok (.iload 4, 2) := dk_21 4 (dk_at dksX3_joins_2 16 rfl rfl)
theorem dX3_joins_64 : decode cX3_joins 64 = .ok (.if_icmp .ne 7, 3) := dk_160 0 7 (dk_at dksX3_joins_2 18 rfl rfl)
theorem dX3_joins_67 : decode cX3_joins 67 = .ok (.iload_n 3, 1) := dk_29 (dk_at dksX3_joins_2 21 rfl rfl)
theorem dX3_joins_68 : decode cX3_joins 68 = .ok (.goto 10, 3) := dk_167 0 10 (dk_at dksX3_joins_3 0 rfl rfl)
theorem dX3_joins_71 : decode cX3_joins 71 = .ok (.aload_n 0, 1) := dk_42 (dk_at dksX3_joins_3 3 rfl rfl)
theorem dX3_joins_72 : decode cX3_joins 72 = .ok (.getfield 104, 3) := dk_180 0 104 (dk_at dksX3_joins_3 4 rfl rfl)
theorem dX3_joins_75 : decode cX3_joins 75 = .ok (.iload 5, 2) := dk_21 5 (dk_at dksX3_joins_3 7 rfl rfl)
theorem dX3_joins_77 : decode cX3_joins 77 = .ok (.iaload, 1) := dk_46 (dk_at dksX3_joins_3 9 rfl rfl)
theorem dX3_joins_78 : decode cX3_joins 78 = .ok (.iastore, 1) := dk_79 (dk_at dksX3_joins_3 10 rfl rfl)
theorem dX3_joins_79 : decode cX3_joins 79 = .ok (.iinc 5 1, 3) := dk_132 5 1 (dk_at dksX3_joins_3 11 rfl rfl)
theorem dX3_joins_82 : decode cX3_joins 82 = .ok (.goto (-46), 3) := dk_167 255 210 (dk_at dksX3_joins_3 14 rfl rfl)
theorem dX3_joins_85 : decode cX3_joins 85 = .ok (.return_, 1) := dk_177 (dk_at dksX3_joins_3 17 rfl rfl)
abbrev cX3_groups : ByteArray := prog_12_method_92_code
def yX3_groups : MethodName := ⟨RX3, "groups", "()I"⟩
def dkwX3_groups_1 : List UInt8 := [180, 0, 104, 28, 46, 28, 160, 0, 7, 4, 167, 0, 4, 3, 96, 60, 132, 2, 1, 167, 255, 223, 27, 172]
abbrev dktX3_groups_1 : List UInt8 := dkwX3_groups_1 ++ []
def dkwX3_groups_0 : List UInt8 := [42, 182, 1, 85, 3, 60, 3, 61, 28, 42, 180, 0, 7, 17, 3, 232, 46, 162, 0, 27, 27, 42]
abbrev dktX3_groups_0 : List UInt8 := dkwX3_groups_0 ++ dktX3_groups_1
theorem dksX3_groups_0 : cX3_groups.data.toList.drop 0 = dktX3_groups_0 := by decide +kernel
theorem dksX3_groups_1 : cX3_groups.data.toList.drop 22 = dktX3_groups_1 := dk_seg dksX3_groups_0 22 rfl rfl
theorem dX3_groups_0 : decode cX3_groups 0 = .ok (.aload_n 0, 1) := dk_42 (dk_at dksX3_groups_0 0 rfl rfl)
theorem dX3_groups_1 : decode cX3_groups 1 = .ok (.invokevirtual 341, 3) := dk_182 1 85 (dk_at dksX3_groups_0 1 rfl rfl)
theorem dX3_groups_4 : decode cX3_groups 4 = .ok (.iconst 0, 1) := dk_3 (dk_at dksX3_groups_0 4 rfl rfl)
theorem dX3_groups_5 : decode cX3_groups 5 = .ok (.istore_n 1, 1) := dk_60 (dk_at dksX3_groups_0 5 rfl rfl)
theorem dX3_groups_6 : decode cX3_groups 6 = .ok (.iconst 0, 1) := dk_3 (dk_at dksX3_groups_0 6 rfl rfl)
theorem dX3_groups_7 : decode cX3_groups 7 = .ok (.istore_n 2, 1) := dk_61 (dk_at dksX3_groups_0 7 rfl rfl)
theorem dX3_groups_8 : decode cX3_groups 8 = .ok (.iload_n 2, 1) := dk_28 (dk_at dksX3_groups_0 8 rfl rfl)
theorem dX3_groups_9 : decode cX3_groups 9 = .ok (.aload_n 0, 1) := dk_42 (dk_at dksX3_groups_0 9 rfl rfl)
theorem dX3_groups_10 : decode cX3_groups 10 = .ok (.getfield 7, 3) := dk_180 0 7 (dk_at dksX3_groups_0 10 rfl rfl)
theorem dX3_groups_13 : decode cX3_groups 13 = .ok (.sipush 1000, 3) := dk_17 3 232 (dk_at dksX3_groups_0 13 rfl rfl)
theorem dX3_groups_16 : decode cX3_groups 16 = .ok (.iaload, 1) := dk_46 (dk_at dksX3_groups_0 16 rfl rfl)
theorem dX3_groups_17 : decode cX3_groups 17 = .ok (.if_icmp .ge 27, 3) := dk_162 0 27 (dk_at dksX3_groups_0 17 rfl rfl)
theorem dX3_groups_20 : decode cX3_groups 20 = .ok (.iload_n 1, 1) := dk_27 (dk_at dksX3_groups_0 20 rfl rfl)
theorem dX3_groups_21 : decode cX3_groups 21 = .ok (.aload_n 0, 1) := dk_42 (dk_at dksX3_groups_0 21 rfl rfl)
theorem dX3_groups_22 : decode cX3_groups 22 = .ok (.getfield 104, 3) := dk_180 0 104 (dk_at dksX3_groups_1 0 rfl rfl)
theorem dX3_groups_25 : decode cX3_groups 25 = .ok (.iload_n 2, 1) := dk_28 (dk_at dksX3_groups_1 3 rfl rfl)
theorem dX3_groups_26 : decode cX3_groups 26 = .ok (.iaload, 1) := dk_46 (dk_at dksX3_groups_1 4 rfl rfl)
theorem dX3_groups_27 : decode cX3_groups 27 = .ok (.iload_n 2, 1) := dk_28 (dk_at dksX3_groups_1 5 rfl rfl)
theorem dX3_groups_28 : decode cX3_groups 28 = .ok (.if_icmp .ne 7, 3) := dk_160 0 7 (dk_at dksX3_groups_1 6 rfl rfl)
theorem dX3_groups_31 : decode cX3_groups 31 = .ok (.iconst 1, 1) := dk_4 (dk_at dksX3_groups_1 9 rfl rfl)
theorem dX3_groups_32 : decode cX3_groups 32 = .ok (.goto 4, 3) := dk_167 0 4 (dk_at dksX3_groups_1 10 rfl rfl)
theorem dX3_groups_35 : decode cX3_groups 35 = .ok (.iconst 0, 1) := dk_3 (dk_at dksX3_groups_1 13 rfl rfl)
theorem dX3_groups_36 : decode cX3_groups 36 = .ok (.iadd, 1) := dk_96 (dk_at dksX3_groups_1 14 rfl rfl)
theorem dX3_groups_37 : decode cX3_groups 37 = .ok (.istore_n 1, 1) := dk_60 (dk_at dksX3_groups_1 15 rfl rfl)
theorem dX3_groups_38 : decode cX3_groups 38 = .ok (.iinc 2 1, 3) := dk_132 2 1 (dk_at dksX3_groups_1 16 rfl rfl)
theorem dX3_groups_41 : decode cX3_groups 41 = .ok (.goto (-33), 3) := dk_167 255 223 (dk_at dksX3_groups_1 19 rfl rfl)
theorem dX3_groups_44 : decode cX3_groups 44 = .ok (.iload_n 1, 1) := dk_27 (dk_at dksX3_groups_1 22 rfl rfl)
theorem dX3_groups_45 : decode cX3_groups 45 = .ok (.ireturn, 1) := dk_172 (dk_at dksX3_groups_1 23 rfl rfl)
abbrev cX3_central : ByteArray := prog_12_method_94_code
def yX3_central : MethodName := ⟨RX3, "central", "(I)I"⟩
def dkwX3_central_3 : List UInt8 := [167, 255, 217, 27, 154, 0, 7, 28, 167, 0, 4, 29, 172]
abbrev dktX3_central_3 : List UInt8 := dkwX3_central_3 ++ []
def dkwX3_central_2 : List UInt8 := [182, 1, 88, 54, 5, 21, 5, 29, 161, 0, 6, 167, 0, 9, 21, 5, 62, 21, 4, 61, 132, 4, 1]
abbrev dktX3_central_2 : List UInt8 := dkwX3_central_2 ++ dktX3_central_3
def dkwX3_central_1 : List UInt8 := [19, 1, 19, 62, 3, 54, 4, 21, 4, 42, 180, 0, 7, 17, 3, 232, 46, 162, 0, 32, 42, 21, 4]
abbrev dktX3_central_1 : List UInt8 := dkwX3_central_1 ++ dktX3_central_2
def dkwX3_central_0 : List UInt8 := [42, 180, 0, 7, 17, 3, 232, 46, 153, 0, 12, 27, 3, 4, 184, 0, 171, 154, 0, 5, 2, 172, 2, 61]
abbrev dktX3_central_0 : List UInt8 := dkwX3_central_0 ++ dktX3_central_1
theorem dksX3_central_0 : cX3_central.data.toList.drop 0 = dktX3_central_0 := by decide +kernel
theorem dksX3_central_1 : cX3_central.data.toList.drop 24 = dktX3_central_1 := dk_seg dksX3_central_0 24 rfl rfl
theorem dksX3_central_2 : cX3_central.data.toList.drop 47 = dktX3_central_2 := dk_seg dksX3_central_1 23 rfl rfl
theorem dksX3_central_3 : cX3_central.data.toList.drop 70 = dktX3_central_3 := dk_seg dksX3_central_2 23 rfl rfl
theorem dX3_central_0 : decode cX3_central 0 = .ok (.aload_n 0, 1) := dk_42 (dk_at dksX3_central_0 0 rfl rfl)
theorem dX3_central_1 : decode cX3_central 1 = .ok (.getfield 7, 3) := dk_180 0 7 (dk_at dksX3_central_0 1 rfl rfl)
theorem dX3_central_4 : decode cX3_central 4 = .ok (.sipush 1000, 3) := dk_17 3 232 (dk_at dksX3_central_0 4 rfl rfl)
theorem dX3_central_7 : decode cX3_central 7 = .ok (.iaload, 1) := dk_46 (dk_at dksX3_central_0 7 rfl rfl)
theorem dX3_central_8 : decode cX3_central 8 = .ok (.ifCond .eq 12, 3) := dk_153 0 12 (dk_at dksX3_central_0 8 rfl rfl)
theorem dX3_central_11 : decode cX3_central 11 = .ok (.iload_n 1, 1) := dk_27 (dk_at dksX3_central_0 11 rfl rfl)
theorem dX3_central_12 : decode cX3_central 12 = .ok (.iconst 0, 1) := dk_3 (dk_at dksX3_central_0 12 rfl rfl)
theorem dX3_central_13 : decode cX3_central 13 = .ok (.iconst 1, 1) := dk_4 (dk_at dksX3_central_0 13 rfl rfl)
theorem dX3_central_14 : decode cX3_central 14 = .ok (.invokestatic 171, 3) := dk_184 0 171 (dk_at dksX3_central_0 14 rfl rfl)
theorem dX3_central_17 : decode cX3_central 17 = .ok (.ifCond .ne 5, 3) := dk_154 0 5 (dk_at dksX3_central_0 17 rfl rfl)
theorem dX3_central_20 : decode cX3_central 20 = .ok (.iconst (-1), 1) := dk_2 (dk_at dksX3_central_0 20 rfl rfl)
theorem dX3_central_21 : decode cX3_central 21 = .ok (.ireturn, 1) := dk_172 (dk_at dksX3_central_0 21 rfl rfl)
theorem dX3_central_22 : decode cX3_central 22 = .ok (.iconst (-1), 1) := dk_2 (dk_at dksX3_central_0 22 rfl rfl)
theorem dX3_central_23 : decode cX3_central 23 = .ok (.istore_n 2, 1) := dk_61 (dk_at dksX3_central_0 23 rfl rfl)
theorem dX3_central_24 : decode cX3_central 24 = .ok (.ldc_w 275, 3) := dk_19 1 19 (dk_at dksX3_central_1 0 rfl rfl)
theorem dX3_central_27 : decode cX3_central 27 = .ok (.istore_n 3, 1) := dk_62 (dk_at dksX3_central_1 3 rfl rfl)
theorem dX3_central_28 : decode cX3_central 28 = .ok (.iconst 0, 1) := dk_3 (dk_at dksX3_central_1 4 rfl rfl)
theorem dX3_central_29 : decode cX3_central 29 = .ok (.istore 4, 2) := dk_54 4 (dk_at dksX3_central_1 5 rfl rfl)
theorem dX3_central_31 : decode cX3_central 31 = .ok (.iload 4, 2) := dk_21 4 (dk_at dksX3_central_1 7 rfl rfl)
theorem dX3_central_33 : decode cX3_central 33 = .ok (.aload_n 0, 1) := dk_42 (dk_at dksX3_central_1 9 rfl rfl)
theorem dX3_central_34 : decode cX3_central 34 = .ok (.getfield 7, 3) := dk_180 0 7 (dk_at dksX3_central_1 10 rfl rfl)
theorem dX3_central_37 : decode cX3_central 37 = .ok (.sipush 1000, 3) := dk_17 3 232 (dk_at dksX3_central_1 13 rfl rfl)
theorem dX3_central_40 : decode cX3_central 40 = .ok (.iaload, 1) := dk_46 (dk_at dksX3_central_1 16 rfl rfl)
theorem dX3_central_41 : decode cX3_central 41 = .ok (.if_icmp .ge 32, 3) := dk_162 0 32 (dk_at dksX3_central_1 17 rfl rfl)
theorem dX3_central_44 : decode cX3_central 44 = .ok (.aload_n 0, 1) := dk_42 (dk_at dksX3_central_1 20 rfl rfl)
theorem dX3_central_45 : decode cX3_central 45 = .ok (.iload 4, 2) := dk_21 4 (dk_at dksX3_central_1 21 rfl rfl)
theorem dX3_central_47 : decode cX3_central 47 = .ok (.invokevirtual 344, 3) := dk_182 1 88 (dk_at dksX3_central_2 0 rfl rfl)
theorem dX3_central_50 : decode cX3_central 50 = .ok (.istore 5, 2) := dk_54 5 (dk_at dksX3_central_2 3 rfl rfl)
theorem dX3_central_52 : decode cX3_central 52 = .ok (.iload 5, 2) := dk_21 5 (dk_at dksX3_central_2 5 rfl rfl)
theorem dX3_central_54 : decode cX3_central 54 = .ok (.iload_n 3, 1) := dk_29 (dk_at dksX3_central_2 7 rfl rfl)
theorem dX3_central_55 : decode cX3_central 55 = .ok (.if_icmp .lt 6, 3) := dk_161 0 6 (dk_at dksX3_central_2 8 rfl rfl)
theorem dX3_central_58 : decode cX3_central 58 = .ok (.goto 9, 3) := dk_167 0 9 (dk_at dksX3_central_2 11 rfl rfl)
theorem dX3_central_61 : decode cX3_central 61 = .ok (.iload 5, 2) := dk_21 5 (dk_at dksX3_central_2 14 rfl rfl)
theorem dX3_central_63 : decode cX3_central 63 = .ok (.istore_n 3, 1) := dk_62 (dk_at dksX3_central_2 16 rfl rfl)
theorem dX3_central_64 : decode cX3_central 64 = .ok (.iload 4, 2) := dk_21 4 (dk_at dksX3_central_2 17 rfl rfl)
theorem dX3_central_66 : decode cX3_central 66 = .ok (.istore_n 2, 1) := dk_61 (dk_at dksX3_central_2 19 rfl rfl)
theorem dX3_central_67 : decode cX3_central 67 = .ok (.iinc 4 1, 3) := dk_132 4 1 (dk_at dksX3_central_2 20 rfl rfl)
theorem dX3_central_70 : decode cX3_central 70 = .ok (.goto (-39), 3) := dk_167 255 217 (dk_at dksX3_central_3 0 rfl rfl)
theorem dX3_central_73 : decode cX3_central 73 = .ok (.iload_n 1, 1) := dk_27 (dk_at dksX3_central_3 3 rfl rfl)
theorem dX3_central_74 : decode cX3_central 74 = .ok (.ifCond .ne 7, 3) := dk_154 0 7 (dk_at dksX3_central_3 4 rfl rfl)
theorem dX3_central_77 : decode cX3_central 77 = .ok (.iload_n 2, 1) := dk_28 (dk_at dksX3_central_3 7 rfl rfl)
theorem dX3_central_78 : decode cX3_central 78 = .ok (.goto 4, 3) := dk_167 0 4 (dk_at dksX3_central_3 8 rfl rfl)
theorem dX3_central_81 : decode cX3_central 81 = .ok (.iload_n 3, 1) := dk_29 (dk_at dksX3_central_3 11 rfl rfl)
theorem dX3_central_82 : decode cX3_central 82 = .ok (.ireturn, 1) := dk_172 (dk_at dksX3_central_3 12 rfl rfl)
abbrev cX3_sumOf : ByteArray := prog_12_method_93_code
def yX3_sumOf : MethodName := ⟨RX3, "sumOf", "(I)I"⟩
def dkwX3_sumOf_1 : List UInt8 := [167, 0, 9, 42, 27, 29, 182, 1, 63, 96, 61, 132, 3, 1, 167, 255, 223, 28, 172]
abbrev dktX3_sumOf_1 : List UInt8 := dkwX3_sumOf_1 ++ []
def dkwX3_sumOf_0 : List UInt8 := [3, 61, 3, 62, 29, 42, 180, 0, 7, 17, 3, 232, 46, 162, 0, 27, 28, 29, 27, 160, 0, 7, 3]
abbrev dktX3_sumOf_0 : List UInt8 := dkwX3_sumOf_0 ++ dktX3_sumOf_1
theorem dksX3_sumOf_0 : cX3_sumOf.data.toList.drop 0 = dktX3_sumOf_0 := by decide +kernel
theorem dksX3_sumOf_1 : cX3_sumOf.data.toList.drop 23 = dktX3_sumOf_1 := dk_seg dksX3_sumOf_0 23 rfl rfl
theorem dX3_sumOf_0 : decode cX3_sumOf 0 = .ok (.iconst 0, 1) := dk_3 (dk_at dksX3_sumOf_0 0 rfl rfl)
theorem dX3_sumOf_1 : decode cX3_sumOf 1 = .ok (.istore_n 2, 1) := dk_61 (dk_at dksX3_sumOf_0 1 rfl rfl)
theorem dX3_sumOf_2 : decode cX3_sumOf 2 = .ok (.iconst 0, 1) := dk_3 (dk_at dksX3_sumOf_0 2 rfl rfl)
theorem dX3_sumOf_3 : decode cX3_sumOf 3 = .ok (.istore_n 3, 1) := dk_62 (dk_at dksX3_sumOf_0 3 rfl rfl)
theorem dX3_sumOf_4 : decode cX3_sumOf 4 = .ok (.iload_n 3, 1) := dk_29 (dk_at dksX3_sumOf_0 4 rfl rfl)
theorem dX3_sumOf_5 : decode cX3_sumOf 5 = .ok (.aload_n 0, 1) := dk_42 (dk_at dksX3_sumOf_0 5 rfl rfl)
theorem dX3_sumOf_6 : decode cX3_sumOf 6 = .ok (.getfield 7, 3) := dk_180 0 7 (dk_at dksX3_sumOf_0 6 rfl rfl)
theorem dX3_sumOf_9 : decode cX3_sumOf 9 = .ok (.sipush 1000, 3) := dk_17 3 232 (dk_at dksX3_sumOf_0 9 rfl rfl)
theorem dX3_sumOf_12 : decode cX3_sumOf 12 = .ok (.iaload, 1) := dk_46 (dk_at dksX3_sumOf_0 12 rfl rfl)
theorem dX3_sumOf_13 : decode cX3_sumOf 13 = .ok (.if_icmp .ge 27, 3) := dk_162 0 27 (dk_at dksX3_sumOf_0 13 rfl rfl)
theorem dX3_sumOf_16 : decode cX3_sumOf 16 = .ok (.iload_n 2, 1) := dk_28 (dk_at dksX3_sumOf_0 16 rfl rfl)
theorem dX3_sumOf_17 : decode cX3_sumOf 17 = .ok (.iload_n 3, 1) := dk_29 (dk_at dksX3_sumOf_0 17 rfl rfl)
theorem dX3_sumOf_18 : decode cX3_sumOf 18 = .ok (.iload_n 1, 1) := dk_27 (dk_at dksX3_sumOf_0 18 rfl rfl)
theorem dX3_sumOf_19 : decode cX3_sumOf 19 = .ok (.if_icmp .ne 7, 3) := dk_160 0 7 (dk_at dksX3_sumOf_0 19 rfl rfl)
theorem dX3_sumOf_22 : decode cX3_sumOf 22 = .ok (.iconst 0, 1) := dk_3 (dk_at dksX3_sumOf_0 22 rfl rfl)
theorem dX3_sumOf_23 : decode cX3_sumOf 23 = .ok (.goto 9, 3) := dk_167 0 9 (dk_at dksX3_sumOf_1 0 rfl rfl)
theorem dX3_sumOf_26 : decode cX3_sumOf 26 = .ok (.aload_n 0, 1) := dk_42 (dk_at dksX3_sumOf_1 3 rfl rfl)
theorem dX3_sumOf_27 : decode cX3_sumOf 27 = .ok (.iload_n 1, 1) := dk_27 (dk_at dksX3_sumOf_1 4 rfl rfl)
theorem dX3_sumOf_28 : decode cX3_sumOf 28 = .ok (.iload_n 3, 1) := dk_29 (dk_at dksX3_sumOf_1 5 rfl rfl)
theorem dX3_sumOf_29 : decode cX3_sumOf 29 = .ok (.invokevirtual 319, 3) := dk_182 1 63 (dk_at dksX3_sumOf_1 6 rfl rfl)
theorem dX3_sumOf_32 : decode cX3_sumOf 32 = .ok (.iadd, 1) := dk_96 (dk_at dksX3_sumOf_1 9 rfl rfl)
theorem dX3_sumOf_33 : decode cX3_sumOf 33 = .ok (.istore_n 2, 1) := dk_61 (dk_at dksX3_sumOf_1 10 rfl rfl)
theorem dX3_sumOf_34 : decode cX3_sumOf 34 = .ok (.iinc 3 1, 3) := dk_132 3 1 (dk_at dksX3_sumOf_1 11 rfl rfl)
theorem dX3_sumOf_37 : decode cX3_sumOf 37 = .ok (.goto (-33), 3) := dk_167 255 223 (dk_at dksX3_sumOf_1 14 rfl rfl)
theorem dX3_sumOf_40 : decode cX3_sumOf 40 = .ok (.iload_n 2, 1) := dk_28 (dk_at dksX3_sumOf_1 17 rfl rfl)
theorem dX3_sumOf_41 : decode cX3_sumOf 41 = .ok (.ireturn, 1) := dk_172 (dk_at dksX3_sumOf_1 18 rfl rfl)
abbrev cX3_lifted : ByteArray := prog_12_method_99_code
def yX3_lifted : MethodName := ⟨RX3, "lifted", "(II)I"⟩
def dkwX3_lifted_3 : List UInt8 := [4, 160, 0, 16, 42, 180, 0, 101, 42, 3, 182, 1, 73, 46, 167, 0, 7, 42, 182, 1, 79, 172]
abbrev dktX3_lifted_3 : List UInt8 := dkwX3_lifted_3 ++ []
def dkwX3_lifted_2 : List UInt8 := [17, 3, 241, 46, 182, 1, 76, 42, 182, 1, 100, 28, 154, 0, 11, 42, 3, 182, 1, 73, 167, 0, 25, 28]
abbrev dktX3_lifted_2 : List UInt8 := dkwX3_lifted_2 ++ dktX3_lifted_3
def dkwX3_lifted_1 : List UInt8 := [184, 0, 171, 154, 0, 5, 2, 172, 42, 182, 1, 94, 42, 27, 182, 1, 97, 42, 3, 42, 180, 0, 7]
abbrev dktX3_lifted_1 : List UInt8 := dkwX3_lifted_1 ++ dktX3_lifted_2
def dkwX3_lifted_0 : List UInt8 := [42, 180, 0, 7, 17, 3, 232, 46, 153, 0, 20, 42, 27, 182, 1, 91, 153, 0, 12, 28, 3, 5]
abbrev dktX3_lifted_0 : List UInt8 := dkwX3_lifted_0 ++ dktX3_lifted_1
theorem dksX3_lifted_0 : cX3_lifted.data.toList.drop 0 = dktX3_lifted_0 := by decide +kernel
theorem dksX3_lifted_1 : cX3_lifted.data.toList.drop 22 = dktX3_lifted_1 := dk_seg dksX3_lifted_0 22 rfl rfl
theorem dksX3_lifted_2 : cX3_lifted.data.toList.drop 45 = dktX3_lifted_2 := dk_seg dksX3_lifted_1 23 rfl rfl
theorem dksX3_lifted_3 : cX3_lifted.data.toList.drop 69 = dktX3_lifted_3 := dk_seg dksX3_lifted_2 24 rfl rfl
theorem dX3_lifted_0 : decode cX3_lifted 0 = .ok (.aload_n 0, 1) := dk_42 (dk_at dksX3_lifted_0 0 rfl rfl)
theorem dX3_lifted_1 : decode cX3_lifted 1 = .ok (.getfield 7, 3) := dk_180 0 7 (dk_at dksX3_lifted_0 1 rfl rfl)
theorem dX3_lifted_4 : decode cX3_lifted 4 = .ok (.sipush 1000, 3) := dk_17 3 232 (dk_at dksX3_lifted_0 4 rfl rfl)
theorem dX3_lifted_7 : decode cX3_lifted 7 = .ok (.iaload, 1) := dk_46 (dk_at dksX3_lifted_0 7 rfl rfl)
theorem dX3_lifted_8 : decode cX3_lifted 8 = .ok (.ifCond .eq 20, 3) := dk_153 0 20 (dk_at dksX3_lifted_0 8 rfl rfl)
theorem dX3_lifted_11 : decode cX3_lifted 11 = .ok (.aload_n 0, 1) := dk_42 (dk_at dksX3_lifted_0 11 rfl rfl)
theorem dX3_lifted_12 : decode cX3_lifted 12 = .ok (.iload_n 1, 1) := dk_27 (dk_at dksX3_lifted_0 12 rfl rfl)
theorem dX3_lifted_13 : decode cX3_lifted 13 = .ok (.invokevirtual 347, 3) := dk_182 1 91 (dk_at dksX3_lifted_0 13 rfl rfl)
theorem dX3_lifted_16 : decode cX3_lifted 16 = .ok (.ifCond .eq 12, 3) := dk_153 0 12 (dk_at dksX3_lifted_0 16 rfl rfl)
theorem dX3_lifted_19 : decode cX3_lifted 19 = .ok (.iload_n 2, 1) := dk_28 (dk_at dksX3_lifted_0 19 rfl rfl)
theorem dX3_lifted_20 : decode cX3_lifted 20 = .ok (.iconst 0, 1) := dk_3 (dk_at dksX3_lifted_0 20 rfl rfl)
theorem dX3_lifted_21 : decode cX3_lifted 21 = .ok (.iconst 2, 1) := dk_5 (dk_at dksX3_lifted_0 21 rfl rfl)
theorem dX3_lifted_22 : decode cX3_lifted 22 = .ok (.invokestatic 171, 3) := dk_184 0 171 (dk_at dksX3_lifted_1 0 rfl rfl)
theorem dX3_lifted_25 : decode cX3_lifted 25 = .ok (.ifCond .ne 5, 3) := dk_154 0 5 (dk_at dksX3_lifted_1 3 rfl rfl)
theorem dX3_lifted_28 : decode cX3_lifted 28 = .ok (.iconst (-1), 1) := dk_2 (dk_at dksX3_lifted_1 6 rfl rfl)
theorem dX3_lifted_29 : decode cX3_lifted 29 = .ok (.ireturn, 1) := dk_172 (dk_at dksX3_lifted_1 7 rfl rfl)
theorem dX3_lifted_30 : decode cX3_lifted 30 = .ok (.aload_n 0, 1) := dk_42 (dk_at dksX3_lifted_1 8 rfl rfl)
theorem dX3_lifted_31 : decode cX3_lifted 31 = .ok (.invokevirtual 350, 3) := dk_182 1 94 (dk_at dksX3_lifted_1 9 rfl rfl)
theorem dX3_lifted_34 : decode cX3_lifted 34 = .ok (.aload_n 0, 1) := dk_42 (dk_at dksX3_lifted_1 12 rfl rfl)
theorem dX3_lifted_35 : decode cX3_lifted 35 = .ok (.iload_n 1, 1) := dk_27 (dk_at dksX3_lifted_1 13 rfl rfl)
theorem dX3_lifted_36 : decode cX3_lifted 36 = .ok (.invokevirtual 353, 3) := dk_182 1 97 (dk_at dksX3_lifted_1 14 rfl rfl)
theorem dX3_lifted_39 : decode cX3_lifted 39 = .ok (.aload_n 0, 1) := dk_42 (dk_at dksX3_lifted_1 17 rfl rfl)
theorem dX3_lifted_40 : decode cX3_lifted 40 = .ok (.iconst 0, 1) := dk_3 (dk_at dksX3_lifted_1 18 rfl rfl)
theorem dX3_lifted_41 : decode cX3_lifted 41 = .ok (.aload_n 0, 1) := dk_42 (dk_at dksX3_lifted_1 19 rfl rfl)
theorem dX3_lifted_42 : decode cX3_lifted 42 = .ok (.getfield 7, 3) := dk_180 0 7 (dk_at dksX3_lifted_1 20 rfl rfl)
theorem dX3_lifted_45 : decode cX3_lifted 45 = .ok (.sipush 1009, 3) := dk_17 3 241 (dk_at dksX3_lifted_2 0 rfl rfl)
theorem dX3_lifted_48 : decode cX3_lifted 48 = .ok (.iaload, 1) := dk_46 (dk_at dksX3_lifted_2 3 rfl rfl)
theorem dX3_lifted_49 : decode cX3_lifted 49 = .ok (.invokevirtual 332, 3) := dk_182 1 76 (dk_at dksX3_lifted_2 4 rfl rfl)
theorem dX3_lifted_52 : decode cX3_lifted 52 = .ok (.aload_n 0, 1) := dk_42 (dk_at dksX3_lifted_2 7 rfl rfl)
theorem dX3_lifted_53 : decode cX3_lifted 53 = .ok (.invokevirtual 356, 3) := dk_182 1 100 (dk_at dksX3_lifted_2 8 rfl rfl)
theorem dX3_lifted_56 : decode cX3_lifted 56 = .ok (.iload_n 2, 1) := dk_28 (dk_at dksX3_lifted_2 11 rfl rfl)
theorem dX3_lifted_57 : decode cX3_lifted 57 = .ok (.ifCond .ne 11, 3) := dk_154 0 11 (dk_at dksX3_lifted_2 12 rfl rfl)
theorem dX3_lifted_60 : decode cX3_lifted 60 = .ok (.aload_n 0, 1) := dk_42 (dk_at dksX3_lifted_2 15 rfl rfl)
theorem dX3_lifted_61 : decode cX3_lifted 61 = .ok (.iconst 0, 1) := dk_3 (dk_at dksX3_lifted_2 16 rfl rfl)
theorem dX3_lifted_62 : decode cX3_lifted 62 = .ok (.invokevirtual 329, 3) := dk_182 1 73 (dk_at dksX3_lifted_2 17 rfl rfl)
theorem dX3_lifted_65 : decode cX3_lifted 65 = .ok (.goto 25, 3) := dk_167 0 25 (dk_at dksX3_lifted_2 20 rfl rfl)
theorem dX3_lifted_68 : decode cX3_lifted 68 = .ok (.iload_n 2, 1) := dk_28 (dk_at dksX3_lifted_2 23 rfl rfl)
theorem dX3_lifted_69 : decode cX3_lifted 69 = .ok (.iconst 1, 1) := dk_4 (dk_at dksX3_lifted_3 0 rfl rfl)
theorem dX3_lifted_70 : decode cX3_lifted 70 = .ok (.if_icmp .ne 16, 3) := dk_160 0 16 (dk_at dksX3_lifted_3 1 rfl rfl)
theorem dX3_lifted_73 : decode cX3_lifted 73 = .ok (.aload_n 0, 1) := dk_42 (dk_at dksX3_lifted_3 4 rfl rfl)
theorem dX3_lifted_74 : decode cX3_lifted 74 = .ok (.getfield 101, 3) := dk_180 0 101 (dk_at dksX3_lifted_3 5 rfl rfl)
theorem dX3_lifted_77 : decode cX3_lifted 77 = .ok (.aload_n 0, 1) := dk_42 (dk_at dksX3_lifted_3 8 rfl rfl)
theorem dX3_lifted_78 : decode cX3_lifted 78 = .ok (.iconst 0, 1) := dk_3 (dk_at dksX3_lifted_3 9 rfl rfl)
theorem dX3_lifted_79 : decode cX3_lifted 79 = .ok (.invokevirtual 329, 3) := dk_182 1 73 (dk_at dksX3_lifted_3 10 rfl rfl)
theorem dX3_lifted_82 : decode cX3_lifted 82 = .ok (.iaload, 1) := dk_46 (dk_at dksX3_lifted_3 13 rfl rfl)
theorem dX3_lifted_83 : decode cX3_lifted 83 = .ok (.goto 7, 3) := dk_167 0 7 (dk_at dksX3_lifted_3 14 rfl rfl)
theorem dX3_lifted_86 : decode cX3_lifted 86 = .ok (.aload_n 0, 1) := dk_42 (dk_at dksX3_lifted_3 17 rfl rfl)
theorem dX3_lifted_87 : decode cX3_lifted 87 = .ok (.invokevirtual 335, 3) := dk_182 1 79 (dk_at dksX3_lifted_3 18 rfl rfl)
theorem dX3_lifted_90 : decode cX3_lifted 90 = .ok (.ireturn, 1) := dk_172 (dk_at dksX3_lifted_3 21 rfl rfl)
abbrev cX3_isInked : ByteArray := prog_12_method_98_code
def yX3_isInked : MethodName := ⟨RX3, "isInked", "(I)Z"⟩
def dkwX3_isInked_0 : List UInt8 := [27, 3, 42, 180, 0, 7, 17, 3, 241, 46, 4, 100, 184, 0, 171, 172]
abbrev dktX3_isInked_0 : List UInt8 := dkwX3_isInked_0 ++ []
theorem dksX3_isInked_0 : cX3_isInked.data.toList.drop 0 = dktX3_isInked_0 := by decide +kernel
theorem dX3_isInked_0 : decode cX3_isInked 0 = .ok (.iload_n 1, 1) := dk_27 (dk_at dksX3_isInked_0 0 rfl rfl)
theorem dX3_isInked_1 : decode cX3_isInked 1 = .ok (.iconst 0, 1) := dk_3 (dk_at dksX3_isInked_0 1 rfl rfl)
theorem dX3_isInked_2 : decode cX3_isInked 2 = .ok (.aload_n 0, 1) := dk_42 (dk_at dksX3_isInked_0 2 rfl rfl)
theorem dX3_isInked_3 : decode cX3_isInked 3 = .ok (.getfield 7, 3) := dk_180 0 7 (dk_at dksX3_isInked_0 3 rfl rfl)
theorem dX3_isInked_6 : decode cX3_isInked 6 = .ok (.sipush 1009, 3) := dk_17 3 241 (dk_at dksX3_isInked_0 6 rfl rfl)
theorem dX3_isInked_9 : decode cX3_isInked 9 = .ok (.iaload, 1) := dk_46 (dk_at dksX3_isInked_0 9 rfl rfl)
theorem dX3_isInked_10 : decode cX3_isInked 10 = .ok (.iconst 1, 1) := dk_4 (dk_at dksX3_isInked_0 10 rfl rfl)
theorem dX3_isInked_11 : decode cX3_isInked 11 = .ok (.isub, 1) := dk_100 (dk_at dksX3_isInked_0 11 rfl rfl)
theorem dX3_isInked_12 : decode cX3_isInked 12 = .ok (.invokestatic 171, 3) := dk_184 0 171 (dk_at dksX3_isInked_0 12 rfl rfl)
theorem dX3_isInked_15 : decode cX3_isInked 15 = .ok (.ireturn, 1) := dk_172 (dk_at dksX3_isInked_0 15 rfl rfl)
abbrev cX3_stashes : ByteArray := prog_12_method_96_code
def yX3_stashes : MethodName := ⟨RX3, "stashes", "()V"⟩
def dkwX3_stashes_1 : List UInt8 := [167, 255, 234, 177]
abbrev dktX3_stashes_1 : List UInt8 := dkwX3_stashes_1 ++ []
def dkwX3_stashes_0 : List UInt8 := [3, 60, 27, 17, 4, 24, 162, 0, 21, 42, 180, 0, 16, 27, 42, 180, 0, 7, 27, 46, 79, 132, 1, 1]
abbrev dktX3_stashes_0 : List UInt8 := dkwX3_stashes_0 ++ dktX3_stashes_1
theorem dksX3_stashes_0 : cX3_stashes.data.toList.drop 0 = dktX3_stashes_0 := by decide +kernel
theorem dksX3_stashes_1 : cX3_stashes.data.toList.drop 24 = dktX3_stashes_1 := dk_seg dksX3_stashes_0 24 rfl rfl
theorem dX3_stashes_0 : decode cX3_stashes 0 = .ok (.iconst 0, 1) := dk_3 (dk_at dksX3_stashes_0 0 rfl rfl)
theorem dX3_stashes_1 : decode cX3_stashes 1 = .ok (.istore_n 1, 1) := dk_60 (dk_at dksX3_stashes_0 1 rfl rfl)
theorem dX3_stashes_2 : decode cX3_stashes 2 = .ok (.iload_n 1, 1) := dk_27 (dk_at dksX3_stashes_0 2 rfl rfl)
theorem dX3_stashes_3 : decode cX3_stashes 3 = .ok (.sipush 1048, 3) := dk_17 4 24 (dk_at dksX3_stashes_0 3 rfl rfl)
theorem dX3_stashes_6 : decode cX3_stashes 6 = .ok (.if_icmp .ge 21, 3) := dk_162 0 21 (dk_at dksX3_stashes_0 6 rfl rfl)
theorem dX3_stashes_9 : decode cX3_stashes 9 = .ok (.aload_n 0, 1) := dk_42 (dk_at dksX3_stashes_0 9 rfl rfl)
theorem dX3_stashes_10 : decode cX3_stashes 10 = .ok (.getfield 16, 3) := dk_180 0 16 (dk_at dksX3_stashes_0 10 rfl rfl)
theorem dX3_stashes_13 : decode cX3_stashes 13 = .ok (.iload_n 1, 1) := dk_27 (dk_at dksX3_stashes_0 13 rfl rfl)
theorem dX3_stashes_14 : decode cX3_stashes 14 = .ok (.aload_n 0, 1) := dk_42 (dk_at dksX3_stashes_0 14 rfl rfl)
theorem dX3_stashes_15 : decode cX3_stashes 15 = .ok (.getfield 7, 3) := dk_180 0 7 (dk_at dksX3_stashes_0 15 rfl rfl)
theorem dX3_stashes_18 : decode cX3_stashes 18 = .ok (.iload_n 1, 1) := dk_27 (dk_at dksX3_stashes_0 18 rfl rfl)
theorem dX3_stashes_19 : decode cX3_stashes 19 = .ok (.iaload, 1) := dk_46 (dk_at dksX3_stashes_0 19 rfl rfl)
theorem dX3_stashes_20 : decode cX3_stashes 20 = .ok (.iastore, 1) := dk_79 (dk_at dksX3_stashes_0 20 rfl rfl)
theorem dX3_stashes_21 : decode cX3_stashes 21 = .ok (.iinc 1 1, 3) := dk_132 1 1 (dk_at dksX3_stashes_0 21 rfl rfl)
theorem dX3_stashes_24 : decode cX3_stashes 24 = .ok (.goto (-22), 3) := dk_167 255 234 (dk_at dksX3_stashes_1 0 rfl rfl)
theorem dX3_stashes_27 : decode cX3_stashes 27 = .ok (.return_, 1) := dk_177 (dk_at dksX3_stashes_1 3 rfl rfl)
abbrev cX3_lifts : ByteArray := prog_12_method_95_code
def yX3_lifts : MethodName := ⟨RX3, "lifts", "(I)V"⟩
def dkwX3_lifts_4 : List UInt8 := [46, 4, 100, 79, 177]
abbrev dktX3_lifts_4 : List UInt8 := dkwX3_lifts_4 ++ []
def dkwX3_lifts_3 : List UInt8 := [29, 96, 46, 79, 132, 3, 1, 167, 255, 218, 132, 2, 1, 167, 255, 174, 42, 180, 0, 7, 17, 3, 241, 92]
abbrev dktX3_lifts_3 : List UInt8 := dkwX3_lifts_3 ++ dktX3_lifts_4
def dkwX3_lifts_2 : List UInt8 := [180, 0, 7, 3, 16, 24, 28, 104, 96, 29, 96, 42, 180, 0, 7, 3, 16, 24, 28, 104, 96, 16, 24, 96]
abbrev dktX3_lifts_2 : List UInt8 := dkwX3_lifts_2 ++ dktX3_lifts_3
def dkwX3_lifts_1 : List UInt8 := [96, 42, 180, 0, 7, 17, 3, 192, 28, 96, 4, 96, 46, 79, 3, 62, 29, 16, 24, 162, 0, 38, 42]
abbrev dktX3_lifts_1 : List UInt8 := dkwX3_lifts_1 ++ dktX3_lifts_2
def dkwX3_lifts_0 : List UInt8 := [27, 61, 28, 4, 96, 42, 180, 0, 7, 17, 3, 241, 46, 162, 0, 74, 42, 180, 0, 7, 17, 3, 192, 28]
abbrev dktX3_lifts_0 : List UInt8 := dkwX3_lifts_0 ++ dktX3_lifts_1
theorem dksX3_lifts_0 : cX3_lifts.data.toList.drop 0 = dktX3_lifts_0 := by decide +kernel
theorem dksX3_lifts_1 : cX3_lifts.data.toList.drop 24 = dktX3_lifts_1 := dk_seg dksX3_lifts_0 24 rfl rfl
theorem dksX3_lifts_2 : cX3_lifts.data.toList.drop 47 = dktX3_lifts_2 := dk_seg dksX3_lifts_1 23 rfl rfl
theorem dksX3_lifts_3 : cX3_lifts.data.toList.drop 71 = dktX3_lifts_3 := dk_seg dksX3_lifts_2 24 rfl rfl
theorem dksX3_lifts_4 : cX3_lifts.data.toList.drop 95 = dktX3_lifts_4 := dk_seg dksX3_lifts_3 24 rfl rfl
theorem dX3_lifts_0 : decode cX3_lifts 0 = .ok (.iload_n 1, 1) := dk_27 (dk_at dksX3_lifts_0 0 rfl rfl)
theorem dX3_lifts_1 : decode cX3_lifts 1 = .ok (.istore_n 2, 1) := dk_61 (dk_at dksX3_lifts_0 1 rfl rfl)
theorem dX3_lifts_2 : decode cX3_lifts 2 = .ok (.iload_n 2, 1) := dk_28 (dk_at dksX3_lifts_0 2 rfl rfl)
theorem dX3_lifts_3 : decode cX3_lifts 3 = .ok (.iconst 1, 1) := dk_4 (dk_at dksX3_lifts_0 3 rfl rfl)
theorem dX3_lifts_4 : decode cX3_lifts 4 = .ok (.iadd, 1) := dk_96 (dk_at dksX3_lifts_0 4 rfl rfl)
theorem dX3_lifts_5 : decode cX3_lifts 5 = .ok (.aload_n 0, 1) := dk_42 (dk_at dksX3_lifts_0 5 rfl rfl)
theorem dX3_lifts_6 : decode cX3_lifts 6 = .ok (.getfield 7, 3) := dk_180 0 7 (dk_at dksX3_lifts_0 6 rfl rfl)
theorem dX3_lifts_9 : decode cX3_lifts 9 = .ok (.sipush 1009, 3) := dk_17 3 241 (dk_at dksX3_lifts_0 9 rfl rfl)
theorem dX3_lifts_12 : decode cX3_lifts 12 = .ok (.iaload, 1) := dk_46 (dk_at dksX3_lifts_0 12 rfl rfl)
theorem dX3_lifts_13 : decode cX3_lifts 13 = .ok (.if_icmp .ge 74, 3) := dk_162 0 74 (dk_at dksX3_lifts_0 13 rfl rfl)
theorem dX3_lifts_16 : decode cX3_lifts 16 = .ok (.aload_n 0, 1) := dk_42 (dk_at dksX3_lifts_0 16 rfl rfl)
theorem dX3_lifts_17 : decode cX3_lifts 17 = .ok (.getfield 7, 3) := dk_180 0 7 (dk_at dksX3_lifts_0 17 rfl rfl)
theorem dX3_lifts_20 : decode cX3_lifts 20 = .ok (.sipush 960, 3) := dk_17 3 192 (dk_at dksX3_lifts_0 20 rfl rfl)
theorem dX3_lifts_23 : decode cX3_lifts 23 = .ok (.iload_n 2, 1) := dk_28 (dk_at dksX3_lifts_0 23 rfl rfl)
theorem dX3_lifts_24 : decode cX3_lifts 24 = .ok (.iadd, 1) := dk_96 (dk_at dksX3_lifts_1 0 rfl rfl)
theorem dX3_lifts_25 : decode cX3_lifts 25 = .ok (.aload_n 0, 1) := dk_42 (dk_at dksX3_lifts_1 1 rfl rfl)
theorem dX3_lifts_26 : decode cX3_lifts 26 = .ok (.getfield 7, 3) := dk_180 0 7 (dk_at dksX3_lifts_1 2 rfl rfl)
theorem dX3_lifts_29 : decode cX3_lifts 29 = .ok (.sipush 960, 3) := dk_17 3 192 (dk_at dksX3_lifts_1 5 rfl rfl)
theorem dX3_lifts_32 : decode cX3_lifts 32 = .ok (.iload_n 2, 1) := dk_28 (dk_at dksX3_lifts_1 8 rfl rfl)
theorem dX3_lifts_33 : decode cX3_lifts 33 = .ok (.iadd, 1) := dk_96 (dk_at dksX3_lifts_1 9 rfl rfl)
theorem dX3_lifts_34 : decode cX3_lifts 34 = .ok (.iconst 1, 1) := dk_4 (dk_at dksX3_lifts_1 10 rfl rfl)
theorem dX3_lifts_35 : decode cX3_lifts 35 = .ok (.iadd, 1) := dk_96 (dk_at dksX3_lifts_1 11 rfl rfl)
theorem dX3_lifts_36 : decode cX3_lifts 36 = .ok (.iaload, 1) := dk_46 (dk_at dksX3_lifts_1 12 rfl rfl)
theorem dX3_lifts_37 : decode cX3_lifts 37 = .ok (.iastore, 1) := dk_79 (dk_at dksX3_lifts_1 13 rfl rfl)
theorem dX3_lifts_38 : decode cX3_lifts 38 = .ok (.iconst 0, 1) := dk_3 (dk_at dksX3_lifts_1 14 rfl rfl)
theorem dX3_lifts_39 : decode cX3_lifts 39 = .ok (.istore_n 3, 1) := dk_62 (dk_at dksX3_lifts_1 15 rfl rfl)
theorem dX3_lifts_40 : decode cX3_lifts 40 = .ok (.iload_n 3, 1) := dk_29 (dk_at dksX3_lifts_1 16 rfl rfl)
theorem dX3_lifts_41 : decode cX3_lifts 41 = .ok (.bipush 24, 2) := dk_16 24 (dk_at dksX3_lifts_1 17 rfl rfl)
theorem dX3_lifts_43 : decode cX3_lifts 43 = .ok (.if_icmp .ge 38, 3) := dk_162 0 38 (dk_at dksX3_lifts_1 19 rfl rfl)
theorem dX3_lifts_46 : decode cX3_lifts 46 = .ok (.aload_n 0, 1) := dk_42 (dk_at dksX3_lifts_1 22 rfl rfl)
theorem dX3_lifts_47 : decode cX3_lifts 47 = .ok (.getfield 7, 3) := dk_180 0 7 (dk_at dksX3_lifts_2 0 rfl rfl)
theorem dX3_lifts_50 : decode cX3_lifts 50 = .ok (.iconst 0, 1) := dk_3 (dk_at dksX3_lifts_2 3 rfl rfl)
theorem dX3_lifts_51 : decode cX3_lifts 51 = .ok (.bipush 24, 2) := dk_16 24 (dk_at dksX3_lifts_2 4 rfl rfl)
theorem dX3_lifts_53 : decode cX3_lifts 53 = .ok (.iload_n 2, 1) := dk_28 (dk_at dksX3_lifts_2 6 rfl rfl)
theorem dX3_lifts_54 : decode cX3_lifts 54 = .ok (.imul, 1) := dk_104 (dk_at dksX3_lifts_2 7 rfl rfl)
theorem dX3_lifts_55 : decode cX3_lifts 55 = .ok (.iadd, 1) := dk_96 (dk_at dksX3_lifts_2 8 rfl rfl)
theorem dX3_lifts_56 : decode cX3_lifts 56 = .ok (.iload_n 3, 1) := dk_29 (dk_at dksX3_lifts_2 9 rfl rfl)
theorem dX3_lifts_57 : decode cX3_lifts 57 = .ok (.iadd, 1) := dk_96 (dk_at dksX3_lifts_2 10 rfl rfl)
theorem dX3_lifts_58 : decode cX3_lifts 58 = .ok (.aload_n 0, 1) := dk_42 (dk_at dksX3_lifts_2 11 rfl rfl)
theorem dX3_lifts_59 : decode cX3_lifts 59 = .ok (.getfield 7, 3) := dk_180 0 7 (dk_at dksX3_lifts_2 12 rfl rfl)
theorem dX3_lifts_62 : decode cX3_lifts 62 = .ok (.iconst 0, 1) := dk_3 (dk_at dksX3_lifts_2 15 rfl rfl)
theorem dX3_lifts_63 : decode cX3_lifts 63 = .ok (.bipush 24, 2) := dk_16 24 (dk_at dksX3_lifts_2 16 rfl rfl)
theorem dX3_lifts_65 : decode cX3_lifts 65 = .ok (.iload_n 2, 1) := dk_28 (dk_at dksX3_lifts_2 18 rfl rfl)
theorem dX3_lifts_66 : decode cX3_lifts 66 = .ok (.imul, 1) := dk_104 (dk_at dksX3_lifts_2 19 rfl rfl)
theorem dX3_lifts_67 : decode cX3_lifts 67 = .ok (.iadd, 1) := dk_96 (dk_at dksX3_lifts_2 20 rfl rfl)
theorem dX3_lifts_68 : decode cX3_lifts 68 = .ok (.bipush 24, 2) := dk_16 24 (dk_at dksX3_lifts_2 21 rfl rfl)
theorem dX3_lifts_70 : decode cX3_lifts 70 = .ok (.iadd, 1) := dk_96 (dk_at dksX3_lifts_2 23 rfl rfl)
theorem dX3_lifts_71 : decode cX3_lifts 71 = .ok (.iload_n 3, 1) := dk_29 (dk_at dksX3_lifts_3 0 rfl rfl)
theorem dX3_lifts_72 : decode cX3_lifts 72 = .ok (.iadd, 1) := dk_96 (dk_at dksX3_lifts_3 1 rfl rfl)
theorem dX3_lifts_73 : decode cX3_lifts 73 = .ok (.iaload, 1) := dk_46 (dk_at dksX3_lifts_3 2 rfl rfl)
theorem dX3_lifts_74 : decode cX3_lifts 74 = .ok (.iastore, 1) := dk_79 (dk_at dksX3_lifts_3 3 rfl rfl)
theorem dX3_lifts_75 : decode cX3_lifts 75 = .ok (.iinc 3 1, 3) := dk_132 3 1 (dk_at dksX3_lifts_3 4 rfl rfl)
theorem dX3_lifts_78 : decode cX3_lifts 78 = .ok (.goto (-38), 3) := dk_167 255 218 (dk_at dksX3_lifts_3 7 rfl rfl)
theorem dX3_lifts_81 : decode cX3_lifts 81 = .ok (.iinc 2 1, 3) := dk_132 2 1 (dk_at dksX3_lifts_3 10 rfl rfl)
theorem dX3_lifts_84 : decode cX3_lifts 84 = .ok (.goto (-82), 3) := dk_167 255 174 (dk_at dksX3_lifts_3 13 rfl rfl)
theorem dX3_lifts_87 : decode cX3_lifts 87 = .ok (.aload_n 0, 1) := dk_42 (dk_at dksX3_lifts_3 16 rfl rfl)
theorem dX3_lifts_88 : decode cX3_lifts 88 = .ok (.getfield 7, 3) := dk_180 0 7 (dk_at dksX3_lifts_3 17 rfl rfl)
theorem dX3_lifts_91 : decode cX3_lifts 91 = .ok (.sipush 1009, 3) := dk_17 3 241 (dk_at dksX3_lifts_3 20 rfl rfl)
theorem dX3_lifts_94 : decode cX3_lifts 94 = .ok (.dup2, 1) := dk_92 (dk_at dksX3_lifts_3 23 rfl rfl)
theorem dX3_lifts_95 : decode cX3_lifts 95 = .ok (.iaload, 1) := dk_46 (dk_at dksX3_lifts_4 0 rfl rfl)
theorem dX3_lifts_96 : decode cX3_lifts 96 = .ok (.iconst 1, 1) := dk_4 (dk_at dksX3_lifts_4 1 rfl rfl)
theorem dX3_lifts_97 : decode cX3_lifts 97 = .ok (.isub, 1) := dk_100 (dk_at dksX3_lifts_4 2 rfl rfl)
theorem dX3_lifts_98 : decode cX3_lifts 98 = .ok (.iastore, 1) := dk_79 (dk_at dksX3_lifts_4 3 rfl rfl)
theorem dX3_lifts_99 : decode cX3_lifts 99 = .ok (.return_, 1) := dk_177 (dk_at dksX3_lifts_4 4 rfl rfl)
abbrev cX3_unstashes : ByteArray := prog_12_method_97_code
def yX3_unstashes : MethodName := ⟨RX3, "unstashes", "()V"⟩
def dkwX3_unstashes_1 : List UInt8 := [167, 255, 234, 177]
abbrev dktX3_unstashes_1 : List UInt8 := dkwX3_unstashes_1 ++ []
def dkwX3_unstashes_0 : List UInt8 := [3, 60, 27, 17, 4, 24, 162, 0, 21, 42, 180, 0, 7, 27, 42, 180, 0, 16, 27, 46, 79, 132, 1, 1]
abbrev dktX3_unstashes_0 : List UInt8 := dkwX3_unstashes_0 ++ dktX3_unstashes_1
theorem dksX3_unstashes_0 : cX3_unstashes.data.toList.drop 0 = dktX3_unstashes_0 := by decide +kernel
theorem dksX3_unstashes_1 : cX3_unstashes.data.toList.drop 24 = dktX3_unstashes_1 := dk_seg dksX3_unstashes_0 24 rfl rfl
theorem dX3_unstashes_0 : decode cX3_unstashes 0 = .ok (.iconst 0, 1) := dk_3 (dk_at dksX3_unstashes_0 0 rfl rfl)
theorem dX3_unstashes_1 : decode cX3_unstashes 1 = .ok (.istore_n 1, 1) := dk_60 (dk_at dksX3_unstashes_0 1 rfl rfl)
theorem dX3_unstashes_2 : decode cX3_unstashes 2 = .ok (.iload_n 1, 1) := dk_27 (dk_at dksX3_unstashes_0 2 rfl rfl)
theorem dX3_unstashes_3 : decode cX3_unstashes 3 = .ok (.sipush 1048, 3) := dk_17 4 24 (dk_at dksX3_unstashes_0 3 rfl rfl)
theorem dX3_unstashes_6 : decode cX3_unstashes 6 = .ok (.if_icmp .ge 21, 3) := dk_162 0 21 (dk_at dksX3_unstashes_0 6 rfl rfl)
theorem dX3_unstashes_9 : decode cX3_unstashes 9 = .ok (.aload_n 0, 1) := dk_42 (dk_at dksX3_unstashes_0 9 rfl rfl)
theorem dX3_unstashes_10 : decode cX3_unstashes 10 = .ok (.getfield 7, 3) := dk_180 0 7 (dk_at dksX3_unstashes_0 10 rfl rfl)
theorem dX3_unstashes_13 : decode cX3_unstashes 13 = .ok (.iload_n 1, 1) := dk_27 (dk_at dksX3_unstashes_0 13 rfl rfl)
theorem dX3_unstashes_14 : decode cX3_unstashes 14 = .ok (.aload_n 0, 1) := dk_42 (dk_at dksX3_unstashes_0 14 rfl rfl)
theorem dX3_unstashes_15 : decode cX3_unstashes 15 = .ok (.getfield 16, 3) := dk_180 0 16 (dk_at dksX3_unstashes_0 15 rfl rfl)
theorem dX3_unstashes_18 : decode cX3_unstashes 18 = .ok (.iload_n 1, 1) := dk_27 (dk_at dksX3_unstashes_0 18 rfl rfl)
theorem dX3_unstashes_19 : decode cX3_unstashes 19 = .ok (.iaload, 1) := dk_46 (dk_at dksX3_unstashes_0 19 rfl rfl)
theorem dX3_unstashes_20 : decode cX3_unstashes 20 = .ok (.iastore, 1) := dk_79 (dk_at dksX3_unstashes_0 20 rfl rfl)
theorem dX3_unstashes_21 : decode cX3_unstashes 21 = .ok (.iinc 1 1, 3) := dk_132 1 1 (dk_at dksX3_unstashes_0 21 rfl rfl)
theorem dX3_unstashes_24 : decode cX3_unstashes 24 = .ok (.goto (-22), 3) := dk_167 255 234 (dk_at dksX3_unstashes_1 0 rfl rfl)
theorem dX3_unstashes_27 : decode cX3_unstashes 27 = .ok (.return_, 1) := dk_177 (dk_at dksX3_unstashes_1 3 rfl rfl)
abbrev cX3_weakest : ByteArray := prog_12_method_100_code
def yX3_weakest : MethodName := ⟨RX3, "weakest", "()I"⟩
def dkwX3_weakest_2 : List UInt8 := [21, 4, 61, 29, 60, 132, 3, 1, 167, 255, 208, 27, 172]
abbrev dktX3_weakest_2 : List UInt8 := dkwX3_weakest_2 ++ []
def dkwX3_weakest_1 : List UInt8 := [17, 3, 232, 46, 158, 0, 31, 42, 29, 4, 182, 1, 103, 54, 4, 21, 4, 28, 161, 0, 6, 167, 0, 8]
abbrev dktX3_weakest_1 : List UInt8 := dkwX3_weakest_1 ++ dktX3_weakest_2
def dkwX3_weakest_0 : List UInt8 := [2, 60, 19, 1, 19, 61, 3, 62, 29, 42, 180, 0, 7, 17, 3, 241, 46, 162, 0, 42, 42, 180, 0, 7]
abbrev dktX3_weakest_0 : List UInt8 := dkwX3_weakest_0 ++ dktX3_weakest_1
theorem dksX3_weakest_0 : cX3_weakest.data.toList.drop 0 = dktX3_weakest_0 := by decide +kernel
theorem dksX3_weakest_1 : cX3_weakest.data.toList.drop 24 = dktX3_weakest_1 := dk_seg dksX3_weakest_0 24 rfl rfl
theorem dksX3_weakest_2 : cX3_weakest.data.toList.drop 48 = dktX3_weakest_2 := dk_seg dksX3_weakest_1 24 rfl rfl
theorem dX3_weakest_0 : decode cX3_weakest 0 = .ok (.iconst (-1), 1) := dk_2 (dk_at dksX3_weakest_0 0 rfl rfl)
theorem dX3_weakest_1 : decode cX3_weakest 1 = .ok (.istore_n 1, 1) := dk_60 (dk_at dksX3_weakest_0 1 rfl rfl)
theorem dX3_weakest_2 : decode cX3_weakest 2 = .ok (.ldc_w 275, 3) := dk_19 1 19 (dk_at dksX3_weakest_0 2 rfl rfl)
theorem dX3_weakest_5 : decode cX3_weakest 5 = .ok (.istore_n 2, 1) := dk_61 (dk_at dksX3_weakest_0 5 rfl rfl)
theorem dX3_weakest_6 : decode cX3_weakest 6 = .ok (.iconst 0, 1) := dk_3 (dk_at dksX3_weakest_0 6 rfl rfl)
theorem dX3_weakest_7 : decode cX3_weakest 7 = .ok (.istore_n 3, 1) := dk_62 (dk_at dksX3_weakest_0 7 rfl rfl)
theorem dX3_weakest_8 : decode cX3_weakest 8 = .ok (.iload_n 3, 1) := dk_29 (dk_at dksX3_weakest_0 8 rfl rfl)
theorem dX3_weakest_9 : decode cX3_weakest 9 = .ok (.aload_n 0, 1) := dk_42 (dk_at dksX3_weakest_0 9 rfl rfl)
theorem dX3_weakest_10 : decode cX3_weakest 10 = .ok (.getfield 7, 3) := dk_180 0 7 (dk_at dksX3_weakest_0 10 rfl rfl)
theorem dX3_weakest_13 : decode cX3_weakest 13 = .ok (.sipush 1009, 3) := dk_17 3 241 (dk_at dksX3_weakest_0 13 rfl rfl)
theorem dX3_weakest_16 : decode cX3_weakest 16 = .ok (.iaload, 1) := dk_46 (dk_at dksX3_weakest_0 16 rfl rfl)
theorem dX3_weakest_17 : decode cX3_weakest 17 = .ok (.if_icmp .ge 42, 3) := dk_162 0 42 (dk_at dksX3_weakest_0 17 rfl rfl)
theorem dX3_weakest_20 : decode cX3_weakest 20 = .ok (.aload_n 0, 1) := dk_42 (dk_at dksX3_weakest_0 20 rfl rfl)
theorem dX3_weakest_21 : decode cX3_weakest 21 = .ok (.getfield 7, 3) := dk_180 0 7 (dk_at dksX3_weakest_0 21 rfl rfl)
theorem dX3_weakest_24 : decode cX3_weakest 24 = .ok (.sipush 1000, 3) := dk_17 3 232 (dk_at dksX3_weakest_1 0 rfl rfl)
theorem dX3_weakest_27 : decode cX3_weakest 27 = .ok (.iaload, 1) := dk_46 (dk_at dksX3_weakest_1 3 rfl rfl)
theorem dX3_weakest_28 : decode cX3_weakest 28 = .ok (.ifCond .le 31, 3) := dk_158 0 31 (dk_at dksX3_weakest_1 4 rfl rfl)
theorem dX3_weakest_31 : decode cX3_weakest 31 = .ok (.aload_n 0, 1) := dk_42 (dk_at dksX3_weakest_1 7 rfl rfl)
theorem dX3_weakest_32 : decode cX3_weakest 32 = .ok (.iload_n 3, 1) := dk_29 (dk_at dksX3_weakest_1 8 rfl rfl)
theorem dX3_weakest_33 : decode cX3_weakest 33 = .ok (.iconst 1, 1) := dk_4 (dk_at dksX3_weakest_1 9 rfl rfl)
theorem dX3_weakest_34 : decode cX3_weakest 34 = .ok (.invokevirtual 359, 3) := dk_182 1 103 (dk_at dksX3_weakest_1 10 rfl rfl)
theorem dX3_weakest_37 : decode cX3_weakest 37 = .ok (.istore 4, 2) := dk_54 4 (dk_at dksX3_weakest_1 13 rfl rfl)
theorem dX3_weakest_39 : decode cX3_weakest 39 = .ok (.iload 4, 2) := dk_21 4 (dk_at dksX3_weakest_1 15 rfl rfl)
theorem dX3_weakest_41 : decode cX3_weakest 41 = .ok (.iload_n 2, 1) := dk_28 (dk_at dksX3_weakest_1 17 rfl rfl)
theorem dX3_weakest_42 : decode cX3_weakest 42 = .ok (.if_icmp .lt 6, 3) := dk_161 0 6 (dk_at dksX3_weakest_1 18 rfl rfl)
theorem dX3_weakest_45 : decode cX3_weakest 45 = .ok (.goto 8, 3) := dk_167 0 8 (dk_at dksX3_weakest_1 21 rfl rfl)
theorem dX3_weakest_48 : decode cX3_weakest 48 = .ok (.iload 4, 2) := dk_21 4 (dk_at dksX3_weakest_2 0 rfl rfl)
theorem dX3_weakest_50 : decode cX3_weakest 50 = .ok (.istore_n 2, 1) := dk_61 (dk_at dksX3_weakest_2 2 rfl rfl)
theorem dX3_weakest_51 : decode cX3_weakest 51 = .ok (.iload_n 3, 1) := dk_29 (dk_at dksX3_weakest_2 3 rfl rfl)
theorem dX3_weakest_52 : decode cX3_weakest 52 = .ok (.istore_n 1, 1) := dk_60 (dk_at dksX3_weakest_2 4 rfl rfl)
theorem dX3_weakest_53 : decode cX3_weakest 53 = .ok (.iinc 3 1, 3) := dk_132 3 1 (dk_at dksX3_weakest_2 5 rfl rfl)
theorem dX3_weakest_56 : decode cX3_weakest 56 = .ok (.goto (-48), 3) := dk_167 255 208 (dk_at dksX3_weakest_2 8 rfl rfl)
theorem dX3_weakest_59 : decode cX3_weakest 59 = .ok (.iload_n 1, 1) := dk_27 (dk_at dksX3_weakest_2 11 rfl rfl)
theorem dX3_weakest_60 : decode cX3_weakest 60 = .ok (.ireturn, 1) := dk_172 (dk_at dksX3_weakest_2 12 rfl rfl)
abbrev cX3_reads : ByteArray := prog_12_method_103_code
def yX3_reads : MethodName := ⟨RX3, "reads", "()I"⟩
def dkwX3_reads_0 : List UInt8 := [42, 182, 1, 106, 154, 0, 5, 2, 172, 42, 182, 1, 109, 42, 180, 0, 107, 3, 46, 172]
abbrev dktX3_reads_0 : List UInt8 := dkwX3_reads_0 ++ []
theorem dksX3_reads_0 : cX3_reads.data.toList.drop 0 = dktX3_reads_0 := by decide +kernel
theorem dX3_reads_0 : decode cX3_reads 0 = .ok (.aload_n 0, 1) := dk_42 (dk_at dksX3_reads_0 0 rfl rfl)
theorem dX3_reads_1 : decode cX3_reads 1 = .ok (.invokevirtual 362, 3) := dk_182 1 106 (dk_at dksX3_reads_0 1 rfl rfl)
theorem dX3_reads_4 : decode cX3_reads 4 = .ok (.ifCond .ne 5, 3) := dk_154 0 5 (dk_at dksX3_reads_0 4 rfl rfl)
theorem dX3_reads_7 : decode cX3_reads 7 = .ok (.iconst (-1), 1) := dk_2 (dk_at dksX3_reads_0 7 rfl rfl)
theorem dX3_reads_8 : decode cX3_reads 8 = .ok (.ireturn, 1) := dk_172 (dk_at dksX3_reads_0 8 rfl rfl)
theorem dX3_reads_9 : decode cX3_reads 9 = .ok (.aload_n 0, 1) := dk_42 (dk_at dksX3_reads_0 9 rfl rfl)
theorem dX3_reads_10 : decode cX3_reads 10 = .ok (.invokevirtual 365, 3) := dk_182 1 109 (dk_at dksX3_reads_0 10 rfl rfl)
theorem dX3_reads_13 : decode cX3_reads 13 = .ok (.aload_n 0, 1) := dk_42 (dk_at dksX3_reads_0 13 rfl rfl)
theorem dX3_reads_14 : decode cX3_reads 14 = .ok (.getfield 107, 3) := dk_180 0 107 (dk_at dksX3_reads_0 14 rfl rfl)
theorem dX3_reads_17 : decode cX3_reads 17 = .ok (.iconst 0, 1) := dk_3 (dk_at dksX3_reads_0 17 rfl rfl)
theorem dX3_reads_18 : decode cX3_reads 18 = .ok (.iaload, 1) := dk_46 (dk_at dksX3_reads_0 18 rfl rfl)
theorem dX3_reads_19 : decode cX3_reads 19 = .ok (.ireturn, 1) := dk_172 (dk_at dksX3_reads_0 19 rfl rfl)
abbrev cX3_isReadable : ByteArray := prog_12_method_101_code
def yX3_isReadable : MethodName := ⟨RX3, "isReadable", "()Z"⟩
def dkwX3_isReadable_1 : List UInt8 := [167, 0, 4, 3, 172]
abbrev dktX3_isReadable_1 : List UInt8 := dkwX3_isReadable_1 ++ []
def dkwX3_isReadable_0 : List UInt8 := [42, 180, 0, 7, 17, 3, 232, 46, 158, 0, 18, 42, 180, 0, 7, 17, 3, 241, 46, 158, 0, 7, 4]
abbrev dktX3_isReadable_0 : List UInt8 := dkwX3_isReadable_0 ++ dktX3_isReadable_1
theorem dksX3_isReadable_0 : cX3_isReadable.data.toList.drop 0 = dktX3_isReadable_0 := by decide +kernel
theorem dksX3_isReadable_1 : cX3_isReadable.data.toList.drop 23 = dktX3_isReadable_1 := dk_seg dksX3_isReadable_0 23 rfl rfl
theorem dX3_isReadable_0 : decode cX3_isReadable 0 = .ok (.aload_n 0, 1) := dk_42 (dk_at dksX3_isReadable_0 0 rfl rfl)
theorem dX3_isReadable_1 : decode cX3_isReadable 1 = .ok (.getfield 7, 3) := dk_180 0 7 (dk_at dksX3_isReadable_0 1 rfl rfl)
theorem dX3_isReadable_4 : decode cX3_isReadable 4 = .ok (.sipush 1000, 3) := dk_17 3 232 (dk_at dksX3_isReadable_0 4 rfl rfl)
theorem dX3_isReadable_7 : decode cX3_isReadable 7 = .ok (.iaload, 1) := dk_46 (dk_at dksX3_isReadable_0 7 rfl rfl)
theorem dX3_isReadable_8 : decode cX3_isReadable 8 = .ok (.ifCond .le 18, 3) := dk_158 0 18 (dk_at dksX3_isReadable_0 8 rfl rfl)
theorem dX3_isReadable_11 : decode cX3_isReadable 11 = .ok (.aload_n 0, 1) := dk_42 (dk_at dksX3_isReadable_0 11 rfl rfl)
theorem dX3_isReadable_12 : decode cX3_isReadable 12 = .ok (.getfield 7, 3) := dk_180 0 7 (dk_at dksX3_isReadable_0 12 rfl rfl)
theorem dX3_isReadable_15 : decode cX3_isReadable 15 = .ok (.sipush 1009, 3) := dk_17 3 241 (dk_at dksX3_isReadable_0 15 rfl rfl)
theorem dX3_isReadable_18 : decode cX3_isReadable 18 = .ok (.iaload, 1) := dk_46 (dk_at dksX3_isReadable_0 18 rfl rfl)
theorem dX3_isReadable_19 : decode cX3_isReadable 19 = .ok (.ifCond .le 7, 3) := dk_158 0 7 (dk_at dksX3_isReadable_0 19 rfl rfl)
theorem dX3_isReadable_22 : decode cX3_isReadable 22 = .ok (.iconst 1, 1) := dk_4 (dk_at dksX3_isReadable_0 22 rfl rfl)
theorem dX3_isReadable_23 : decode cX3_isReadable 23 = .ok (.goto 4, 3) := dk_167 0 4 (dk_at dksX3_isReadable_1 0 rfl rfl)
theorem dX3_isReadable_26 : decode cX3_isReadable 26 = .ok (.iconst 0, 1) := dk_3 (dk_at dksX3_isReadable_1 3 rfl rfl)
theorem dX3_isReadable_27 : decode cX3_isReadable 27 = .ok (.ireturn, 1) := dk_172 (dk_at dksX3_isReadable_1 4 rfl rfl)
abbrev cX3_laysReading : ByteArray := prog_12_method_102_code
def yX3_laysReading : MethodName := ⟨RX3, "laysReading", "()V"⟩
def dkwX3_laysReading_6 : List UInt8 := [46, 79, 132, 2, 1, 167, 255, 148, 132, 1, 255, 167, 255, 127, 177]
abbrev dktX3_laysReading_6 : List UInt8 := dkwX3_laysReading_6 ++ []
def dkwX3_laysReading_5 : List UInt8 := [42, 180, 0, 110, 27, 28, 79, 42, 180, 0, 113, 27, 29, 79, 42, 180, 0, 116, 27, 42, 180, 0, 101, 29]
abbrev dktX3_laysReading_5 : List UInt8 := dkwX3_laysReading_5 ++ dktX3_laysReading_6
def dkwX3_laysReading_4 : List UInt8 := [167, 0, 50, 42, 180, 0, 107, 27, 42, 180, 0, 101, 29, 46, 42, 180, 0, 107, 27, 28, 96, 46, 96, 79]
abbrev dktX3_laysReading_4 : List UInt8 := dkwX3_laysReading_4 ++ dktX3_laysReading_5
def dkwX3_laysReading_3 : List UInt8 := [180, 0, 101, 29, 46, 42, 180, 0, 107, 27, 28, 96, 46, 96, 42, 180, 0, 107, 27, 46, 161, 0, 6]
abbrev dktX3_laysReading_3 : List UInt8 := dkwX3_laysReading_3 ++ dktX3_laysReading_4
def dkwX3_laysReading_2 : List UInt8 := [42, 180, 0, 7, 17, 3, 241, 46, 163, 0, 95, 42, 27, 28, 182, 1, 76, 42, 3, 182, 1, 73, 62, 42]
abbrev dktX3_laysReading_2 : List UInt8 := dkwX3_laysReading_2 ++ dktX3_laysReading_3
def dkwX3_laysReading_1 : List UInt8 := [60, 27, 155, 0, 131, 42, 180, 0, 107, 27, 19, 1, 19, 79, 4, 61, 28, 7, 163, 0, 109, 27, 28, 96]
abbrev dktX3_laysReading_1 : List UInt8 := dkwX3_laysReading_1 ++ dktX3_laysReading_2
def dkwX3_laysReading_0 : List UInt8 := [42, 180, 0, 107, 42, 180, 0, 7, 17, 3, 241, 46, 3, 79, 42, 180, 0, 7, 17, 3, 241, 46, 4, 100]
abbrev dktX3_laysReading_0 : List UInt8 := dkwX3_laysReading_0 ++ dktX3_laysReading_1
theorem dksX3_laysReading_0 : cX3_laysReading.data.toList.drop 0 = dktX3_laysReading_0 := by decide +kernel
theorem dksX3_laysReading_1 : cX3_laysReading.data.toList.drop 24 = dktX3_laysReading_1 := dk_seg dksX3_laysReading_0 24 rfl rfl
theorem dksX3_laysReading_2 : cX3_laysReading.data.toList.drop 48 = dktX3_laysReading_2 := dk_seg dksX3_laysReading_1 24 rfl rfl
theorem dksX3_laysReading_3 : cX3_laysReading.data.toList.drop 72 = dktX3_laysReading_3 := dk_seg dksX3_laysReading_2 24 rfl rfl
theorem dksX3_laysReading_4 : cX3_laysReading.data.toList.drop 95 = dktX3_laysReading_4 := dk_seg dksX3_laysReading_3 23 rfl rfl
theorem dksX3_laysReading_5 : cX3_laysReading.data.toList.drop 119 = dktX3_laysReading_5 := dk_seg dksX3_laysReading_4 24 rfl rfl
theorem dksX3_laysReading_6 : cX3_laysReading.data.toList.drop 143 = dktX3_laysReading_6 := dk_seg dksX3_laysReading_5 24 rfl rfl
theorem dX3_laysReading_0 : decode cX3_laysReading 0 = .ok (.aload_n 0, 1) := dk_42 (dk_at dksX3_laysReading_0 0 rfl rfl)
theorem dX3_laysReading_1 : decode cX3_laysReading 1 = .ok (.getfield 107, 3) := dk_180 0 107 (dk_at dksX3_laysReading_0 1 rfl rfl)
theorem dX3_laysReading_4 : decode cX3_laysReading 4 = .ok (.aload_n 0, 1) := dk_42 (dk_at dksX3_laysReading_0 4 rfl rfl)
theorem dX3_laysReading_5 : decode cX3_laysReading 5 = .ok (.getfield 7, 3) := dk_180 0 7 (dk_at dksX3_laysReading_0 5 rfl rfl)
theorem dX3_laysReading_8 : decode cX3_laysReading 8 = .ok (.sipush 1009, 3) := dk_17 3 241 (dk_at dksX3_laysReading_0 8 rfl rfl)
theorem dX3_laysReading_11 : decode cX3_laysReading 11 = .ok (.iaload, 1) := dk_46 (dk_at dksX3_laysReading_0 11 rfl rfl)
theorem dX3_laysReading_12 : decode cX3_laysReading 12 = .ok (.iconst 0, 1) := dk_3 (dk_at dksX3_laysReading_0 12 rfl rfl)
theorem dX3_laysReading_13 : decode cX3_laysReading 13 = .ok (.iastore, 1) := dk_79 (dk_at dksX3_laysReading_0 13 rfl rfl)
theorem dX3_laysReading_14 : decode cX3_laysReading 14 = .ok (.aload_n 0, 1) := dk_42 (dk_at dksX3_laysReading_0 14 rfl rfl)
theorem dX3_laysReading_15 : decode cX3_laysReading 15 = .ok (.getfield 7, 3) := dk_180 0 7 (dk_at dksX3_laysReading_0 15 rfl rfl)
theorem dX3_laysReading_18 : decode cX3_laysReading 18 = .ok (.sipush 1009, 3) := dk_17 3 241 (dk_at dksX3_laysReading_0 18 rfl rfl)
theorem dX3_laysReading_21 : decode cX3_laysReading 21 = .ok (.iaload, 1) := dk_46 (dk_at dksX3_laysReading_0 21 rfl rfl)
theorem dX3_laysReading_22 : decode cX3_laysReading 22 = .ok (.iconst 1, 1) := dk_4 (dk_at dksX3_laysReading_0 22 rfl rfl)
theorem dX3_laysReading_23 : decode cX3_laysReading 23 = .ok (.isub, 1) := dk_100 (dk_at dksX3_laysReading_0 23 rfl rfl)
theorem dX3_laysReading_24 : decode cX3_laysReading 24 = .ok (.istore_n 1, 1) := dk_60 (dk_at dksX3_laysReading_1 0 rfl rfl)
theorem dX3_laysReading_25 : decode cX3_laysReading 25 = .ok (.iload_n 1, 1) := dk_27 (dk_at dksX3_laysReading_1 1 rfl rfl)
theorem dX3_laysReading_26 : decode cX3_laysReading 26 = .ok (.ifCond .lt 131, 3) := dk_155 0 131 (dk_at dksX3_laysReading_1 2 rfl rfl)
theorem dX3_laysReading_29 : decode cX3_laysReading 29 = .ok (.aload_n 0, 1) := dk_42 (dk_at dksX3_laysReading_1 5 rfl rfl)
theorem dX3_laysReading_30 : decode cX3_laysReading 30 = .ok (.getfield 107, 3) := dk_180 0 107 (dk_at dksX3_laysReading_1 6 rfl rfl)
theorem dX3_laysReading_33 : decode cX3_laysReading 33 = .ok (.iload_n 1, 1) := dk_27 (dk_at dksX3_laysReading_1 9 rfl rfl)
theorem dX3_laysReading_34 : decode cX3_laysReading 34 = .ok (.ldc_w 275, 3) := dk_19 1 19 (dk_at dksX3_laysReading_1 10 rfl rfl)
theorem dX3_laysReading_37 : decode cX3_laysReading 37 = .ok (.iastore, 1) := dk_79 (dk_at dksX3_laysReading_1 13 rfl rfl)
theorem dX3_laysReading_38 : decode cX3_laysReading 38 = .ok (.iconst 1, 1) := dk_4 (dk_at dksX3_laysReading_1 14 rfl rfl)
theorem dX3_laysReading_39 : decode cX3_laysReading 39 = .ok (.istore_n 2, 1) := dk_61 (dk_at dksX3_laysReading_1 15 rfl rfl)
theorem dX3_laysReading_40 : decode cX3_laysReading 40 = .ok (.iload_n 2, 1) := dk_28 (dk_at dksX3_laysReading_1 16 rfl rfl)
theorem dX3_laysReading_41 : decode cX3_laysReading 41 = .ok (.iconst 4, 1) := dk_7 (dk_at dksX3_laysReading_1 17 rfl rfl)
theorem dX3_laysReading_42 : decode cX3_laysReading 42 = .ok (.if_icmp .gt 109, 3) := dk_163 0 109 (dk_at dksX3_laysReading_1 18 rfl rfl)
theorem dX3_laysReading_45 : decode cX3_laysReading 45 = .ok (.iload_n 1, 1) := dk_27 (dk_at dksX3_laysReading_1 21 rfl rfl)
theorem dX3_laysReading_46 : decode cX3_laysReading 46 = .ok (.iload_n 2, 1) := dk_28 (dk_at dksX3_laysReading_1 22 rfl rfl)
theorem dX3_laysReading_47 : decode cX3_laysReading 47 = .ok (.iadd, 1) := dk_96 (dk_at dksX3_laysReading_1 23 rfl rfl)
theorem dX3_laysReading_48 : decode cX3_laysReading 48 = .ok (.aload_n 0, 1) := dk_42 (dk_at dksX3_laysReading_2 0 rfl rfl)
theorem dX3_laysReading_49 : decode cX3_laysReading 49 = .ok (.getfield 7, 3) := dk_180 0 7 (dk_at dksX3_laysReading_2 1 rfl rfl)
theorem dX3_laysReading_52 : decode cX3_laysReading 52 = .ok (.sipush 1009, 3) := dk_17 3 241 (dk_at dksX3_laysReading_2 4 rfl rfl)
theorem dX3_laysReading_55 : decode cX3_laysReading 55 = .ok (.iaload, 1) := dk_46 (dk_at dksX3_laysReading_2 7 rfl rfl)
theorem dX3_laysReading_56 : decode cX3_laysReading 56 = .ok (.if_icmp .gt 95, 3) := dk_163 0 95 (dk_at dksX3_laysReading_2 8 rfl rfl)
theorem dX3_laysReading_59 : decode cX3_laysReading 59 = .ok (.aload_n 0, 1) := dk_42 (dk_at dksX3_laysReading_2 11 rfl rfl)
theorem dX3_laysReading_60 : decode cX3_laysReading 60 = .ok (.iload_n 1, 1) := dk_27 (dk_at dksX3_laysReading_2 12 rfl rfl)
theorem dX3_laysReading_61 : decode cX3_laysReading 61 = .ok (.iload_n 2, 1) := dk_28 (dk_at dksX3_laysReading_2 13 rfl rfl)
theorem dX3_laysReading_62 : decode cX3_laysReading 62 = .ok (.invokevirtual 332, 3) := dk_182 1 76 (dk_at dksX3_laysReading_2 14 rfl rfl)
theorem dX3_laysReading_65 : decode cX3_laysReading 65 = .ok (.aload_n 0, 1) := dk_42 (dk_at dksX3_laysReading_2 17 rfl rfl)
theorem dX3_laysReading_66 : decode cX3_laysReading 66 = .ok (.iconst 0, 1) := dk_3 (dk_at dksX3_laysReading_2 18 rfl rfl)
theorem dX3_laysReading_67 : decode cX3_laysReading 67 = .ok (.invokevirtual 329, 3) := dk_182 1 73 (dk_at dksX3_laysReading_2 19 rfl rfl)
theorem dX3_laysReading_70 : decode cX3_laysReading 70 = .ok (.istore_n 3, 1) := dk_62 (dk_at dksX3_laysReading_2 22 rfl rfl)
theorem dX3_laysReading_71 : decode cX3_laysReading 71 = .ok (.aload_n 0, 1) := dk_42 (dk_at dksX3_laysReading_2 23 rfl rfl)
theorem dX3_laysReading_72 : decode cX3_laysReading 72 = .ok (.getfield 101, 3) := dk_180 0 101 (dk_at dksX3_laysReading_3 0 rfl rfl)
theorem dX3_laysReading_75 : decode cX3_laysReading 75 = .ok (.iload_n 3, 1) := dk_29 (dk_at dksX3_laysReading_3 3 rfl rfl)
theorem dX3_laysReading_76 : decode cX3_laysReading 76 = .ok (.iaload, 1) := dk_46 (dk_at dksX3_laysReading_3 4 rfl rfl)
theorem dX3_laysReading_77 : decode cX3_laysReading 77 = .ok (.aload_n 0, 1) := dk_42 (dk_at dksX3_laysReading_3 5 rfl rfl)
theorem dX3_laysReading_78 : decode cX3_laysReading 78 = .ok (.getfield 107, 3) := dk_180 0 107 (dk_at dksX3_laysReading_3 6 rfl rfl)
theorem dX3_laysReading_81 : decode cX3_laysReading 81 = .ok (.iload_n 1, 1) := dk_27 (dk_at dksX3_laysReading_3 9 rfl rfl)
theorem dX3_laysReading_82 : decode cX3_laysReading 82 = .ok (.iload_n 2, 1) := dk_28 (dk_at dksX3_laysReading_3 10 rfl rfl)
theorem dX3_laysReading_83 : decode cX3_laysReading 83 = .ok (.iadd, 1) := dk_96 (dk_at dksX3_laysReading_3 11 rfl rfl)
theorem dX3_laysReading_84 : decode cX3_laysReading 84 = .ok (.iaload, 1) := dk_46 (dk_at dksX3_laysReading_3 12 rfl rfl)
theorem dX3_laysReading_85 : decode cX3_laysReading 85 = .ok (.iadd, 1) := dk_96 (dk_at dksX3_laysReading_3 13 rfl rfl)
theorem dX3_laysReading_86 : decode cX3_laysReading 86 = .ok (.aload_n 0, 1) := dk_42 (dk_at dksX3_laysReading_3 14 rfl rfl)
theorem dX3_laysReading_87 : decode cX3_laysReading 87 = .ok (.getfield 107, 3) := dk_180 0 107 (dk_at dksX3_laysReading_3 15 rfl rfl)
theorem dX3_laysReading_90 : decode cX3_laysReading 90 = .ok (.iload_n 1, 1) := dk_27 (dk_at dksX3_laysReading_3 18 rfl rfl)
theorem dX3_laysReading_91 : decode cX3_laysReading 91 = .ok (.iaload, 1) := dk_46 (dk_at dksX3_laysReading_3 19 rfl rfl)
theorem dX3_laysReading_92 : decode cX3_laysReading 92 = .ok (.if_icmp .lt 6, 3) := dk_161 0 6 (dk_at dksX3_laysReading_3 20 rfl rfl)
theorem dX3_laysReading_95 : decode cX3_laysReading 95 = .ok (.goto 50, 3) := dk_167 0 50 (dk_at dksX3_laysReading_4 0 rfl rfl)
theorem dX3_laysReading_98 : decode cX3_laysReading 98 = .ok (.aload_n 0, 1) := dk_42 (dk_at dksX3_laysReading_4 3 rfl rfl)
theorem dX3_laysReading_99 : decode cX3_laysReading 99 = .ok (.getfield 107, 3) := dk_180 0 107 (dk_at dksX3_laysReading_4 4 rfl rfl)
theorem dX3_laysReading_102 : decode cX3_laysReading 102 = .ok (.iload_n 1, 1) := dk_27 (dk_at dksX3_laysReading_4 7 rfl rfl)
theorem dX3_laysReading_103 : decode cX3_laysReading 103 = .ok (.aload_n 0, 1) := dk_42 (dk_at dksX3_laysReading_4 8 rfl rfl)
theorem dX3_laysReading_104 : decode cX3_laysReading 104 = .ok (.getfield 101, 3) := dk_180 0 101 (dk_at dksX3_laysReading_4 9 rfl rfl)
theorem dX3_laysReading_107 : decode cX3_laysReading 107 = .ok (.iload_n 3, 1) := dk_29 (dk_at dksX3_laysReading_4 12 rfl rfl)
theorem dX3_laysReading_108 : decode cX3_laysReading 108 = .ok (.iaload, 1) := dk_46 (dk_at dksX3_laysReading_4 13 rfl rfl)
theorem dX3_laysReading_109 : decode cX3_laysReading 109 = .ok (.aload_n 0, 1) := dk_42 (dk_at dksX3_laysReading_4 14 rfl rfl)
theorem dX3_laysReading_110 : decode cX3_laysReading 110 = .ok (.getfield 107, 3) := dk_180 0 107 (dk_at dksX3_laysReading_4 15 rfl rfl)
theorem dX3_laysReading_113 : decode cX3_laysReading 113 = .ok (.iload_n 1, 1) := dk_27 (dk_at dksX3_laysReading_4 18 rfl rfl)
theorem dX3_laysReading_114 : decode cX3_laysReading 114 = .ok (.iload_n 2, 1) := dk_28 (dk_at dksX3_laysReading_4 19 rfl rfl)
theorem dX3_laysReading_115 : decode cX3_laysReading 115 = .ok (.iadd, 1) := dk_96 (dk_at dksX3_laysReading_4 20 rfl rfl)
theorem dX3_laysReading_116 : decode cX3_laysReading 116 = .ok (.iaload, 1) := dk_46 (dk_at dksX3_laysReading_4 21 rfl rfl)
theorem dX3_laysReading_117 : decode cX3_laysReading 117 = .ok (.iadd, 1) := dk_96 (dk_at dksX3_laysReading_4 22 rfl rfl)
theorem dX3_laysReading_118 : decode cX3_laysReading 118 = .ok (.iastore, 1) := dk_79 (dk_at dksX3_laysReading_4 23 rfl rfl)
theorem dX3_laysReading_119 : decode cX3_laysReading 119 = .ok (.aload_n 0, 1) := dk_42 (dk_at dksX3_laysReading_5 0 rfl rfl)
theorem dX3_laysReading_120 : decode cX3_laysReading 120 = .ok (.getfield 110, 3) := dk_180 0 110 (dk_at dksX3_laysReading_5 1 rfl rfl)
theorem dX3_laysReading_123 : decode cX3_laysReading 123 = .ok (.iload_n 1, 1) := dk_27 (dk_at dksX3_laysReading_5 4 rfl rfl)
theorem dX3_laysReading_124 : decode cX3_laysReading 124 = .ok (.iload_n 2, 1) := dk_28 (dk_at dksX3_laysReading_5 5 rfl rfl)
theorem dX3_laysReading_125 : decode cX3_laysReading 125 = .ok (.iastore, 1) := dk_79 (dk_at dksX3_laysReading_5 6 rfl rfl)
theorem dX3_laysReading_126 : decode cX3_laysReading 126 = .ok (.aload_n 0, 1) := dk_42 (dk_at dksX3_laysReading_5 7 rfl rfl)
theorem dX3_laysReading_127 : decode cX3_laysReading 127 = .ok (.getfield 113, 3) := dk_180 0 113 (dk_at dksX3_laysReading_5 8 rfl rfl)
theorem dX3_laysReading_130 : decode cX3_laysReading 130 = .ok (.iload_n 1, 1) := dk_27 (dk_at dksX3_laysReading_5 11 rfl rfl)
theorem dX3_laysReading_131 : decode cX3_laysReading 131 = .ok (.iload_n 3, 1) := dk_29 (dk_at dksX3_laysReading_5 12 rfl rfl)
theorem dX3_laysReading_132 : decode cX3_laysReading 132 = .ok (.iastore, 1) := dk_79 (dk_at dksX3_laysReading_5 13 rfl rfl)
theorem dX3_laysReading_133 : decode cX3_laysReading 133 = .ok (.aload_n 0, 1) := dk_42 (dk_at dksX3_laysReading_5 14 rfl rfl)
theorem dX3_laysReading_134 : decode cX3_laysReading 134 = .ok (.getfield 116, 3) := dk_180 0 116 (dk_at dksX3_laysReading_5 15 rfl rfl)
theorem dX3_laysReading_137 : decode cX3_laysReading 137 = .ok (.iload_n 1, 1) := dk_27 (dk_at dksX3_laysReading_5 18 rfl rfl)
theorem dX3_laysReading_138 : decode cX3_laysReading 138 = .ok (.aload_n 0, 1) := dk_42 (dk_at dksX3_laysReading_5 19 rfl rfl)
theorem dX3_laysReading_139 : decode cX3_laysReading 139 = .ok (.getfield 101, 3) := dk_180 0 101 (dk_at dksX3_laysReading_5 20 rfl rfl)
theorem dX3_laysReading_142 : decode cX3_laysReading 142 = .ok (.iload_n 3, 1) := dk_29 (dk_at dksX3_laysReading_5 23 rfl rfl)
theorem dX3_laysReading_143 : decode cX3_laysReading 143 = .ok (.iaload, 1) := dk_46 (dk_at dksX3_laysReading_6 0 rfl rfl)
theorem dX3_laysReading_144 : decode cX3_laysReading 144 = .ok (.iastore, 1) := dk_79 (dk_at dksX3_laysReading_6 1 rfl rfl)
theorem dX3_laysReading_145 : decode cX3_laysReading 145 = .ok (.iinc 2 1, 3) := dk_132 2 1 (dk_at dksX3_laysReading_6 2 rfl rfl)
theorem dX3_laysReading_148 : decode cX3_laysReading 148 = .ok (.goto (-108), 3) := dk_167 255 148 (dk_at dksX3_laysReading_6 5 rfl rfl)
theorem dX3_laysReading_151 : decode cX3_laysReading 151 = .ok (.iinc 1 (-1), 3) := dk_132 1 255 (dk_at dksX3_laysReading_6 8 rfl rfl)
theorem dX3_laysReading_154 : decode cX3_laysReading 154 = .ok (.goto (-129), 3) := dk_167 255 127 (dk_at dksX3_laysReading_6 11 rfl rfl)
theorem dX3_laysReading_157 : decode cX3_laysReading 157 = .ok (.return_, 1) := dk_177 (dk_at dksX3_laysReading_6 14 rfl rfl)
abbrev cX3_read : ByteArray := prog_12_method_104_code
def yX3_read : MethodName := ⟨RX3, "read", "(II)I"⟩
def dkwX3_read_5 : List UInt8 := [42, 180, 0, 116, 21, 4, 46, 172]
abbrev dktX3_read_5 : List UInt8 := dkwX3_read_5 ++ []
def dkwX3_read_4 : List UInt8 := [180, 0, 110, 21, 4, 46, 167, 0, 25, 28, 4, 160, 0, 13, 42, 180, 0, 113, 21, 4, 46, 167, 0, 10]
abbrev dktX3_read_4 : List UInt8 := dkwX3_read_4 ++ dktX3_read_5
def dkwX3_read_3 : List UInt8 := [17, 3, 241, 46, 159, 0, 12, 28, 3, 5, 184, 0, 171, 154, 0, 5, 2, 172, 28, 154, 0, 13, 42]
abbrev dktX3_read_3 : List UInt8 := dkwX3_read_3 ++ dktX3_read_4
def dkwX3_read_2 : List UInt8 := [132, 3, 1, 167, 255, 223, 27, 2, 160, 0, 5, 29, 172, 27, 155, 0, 25, 21, 4, 42, 180, 0, 7]
abbrev dktX3_read_2 : List UInt8 := dkwX3_read_2 ++ dktX3_read_3
def dkwX3_read_1 : List UInt8 := [17, 3, 241, 46, 162, 0, 26, 29, 27, 159, 0, 21, 21, 4, 42, 180, 0, 110, 21, 4, 46, 96, 54, 4]
abbrev dktX3_read_1 : List UInt8 := dkwX3_read_1 ++ dktX3_read_2
def dkwX3_read_0 : List UInt8 := [42, 182, 1, 106, 154, 0, 5, 2, 172, 42, 182, 1, 109, 3, 62, 3, 54, 4, 21, 4, 42, 180, 0, 7]
abbrev dktX3_read_0 : List UInt8 := dkwX3_read_0 ++ dktX3_read_1
theorem dksX3_read_0 : cX3_read.data.toList.drop 0 = dktX3_read_0 := by decide +kernel
theorem dksX3_read_1 : cX3_read.data.toList.drop 24 = dktX3_read_1 := dk_seg dksX3_read_0 24 rfl rfl
theorem dksX3_read_2 : cX3_read.data.toList.drop 48 = dktX3_read_2 := dk_seg dksX3_read_1 24 rfl rfl
theorem dksX3_read_3 : cX3_read.data.toList.drop 71 = dktX3_read_3 := dk_seg dksX3_read_2 23 rfl rfl
theorem dksX3_read_4 : cX3_read.data.toList.drop 94 = dktX3_read_4 := dk_seg dksX3_read_3 23 rfl rfl
theorem dksX3_read_5 : cX3_read.data.toList.drop 118 = dktX3_read_5 := dk_seg dksX3_read_4 24 rfl rfl
theorem dX3_read_0 : decode cX3_read 0 = .ok (.aload_n 0, 1) := dk_42 (dk_at dksX3_read_0 0 rfl rfl)
theorem dX3_read_1 : decode cX3_read 1 = .ok (.invokevirtual 362, 3) := dk_182 1 106 (dk_at dksX3_read_0 1 rfl rfl)
theorem dX3_read_4 : decode cX3_read 4 = .ok (.ifCond .ne 5, 3) := dk_154 0 5 (dk_at dksX3_read_0 4 rfl rfl)
theorem dX3_read_7 : decode cX3_read 7 = .ok (.iconst (-1), 1) := dk_2 (dk_at dksX3_read_0 7 rfl rfl)
theorem dX3_read_8 : decode cX3_read 8 = .ok (.ireturn, 1) := dk_172 (dk_at dksX3_read_0 8 rfl rfl)
theorem dX3_read_9 : decode cX3_read 9 = .ok (.aload_n 0, 1) := dk_42 (dk_at dksX3_read_0 9 rfl rfl)
theorem dX3_read_10 : decode cX3_read 10 = .ok (.invokevirtual 365, 3) := dk_182 1 109 (dk_at dksX3_read_0 10 rfl rfl)
theorem dX3_read_13 : decode cX3_read 13 = .ok (.iconst 0, 1) := dk_3 (dk_at dksX3_read_0 13 rfl rfl)
theorem dX3_read_14 : decode cX3_read 14 = .ok (.istore_n 3, 1) := dk_62 (dk_at dksX3_read_0 14 rfl rfl)
theorem dX3_read_15 : decode cX3_read 15 = .ok (.iconst 0, 1) := dk_3 (dk_at dksX3_read_0 15 rfl rfl)
theorem dX3_read_16 : decode cX3_read 16 = .ok (.istore 4, 2) := dk_54 4 (dk_at dksX3_read_0 16 rfl rfl)
theorem dX3_read_18 : decode cX3_read 18 = .ok (.iload 4, 2) := dk_21 4 (dk_at dksX3_read_0 18 rfl rfl)
theorem dX3_read_20 : decode cX3_read 20 = .ok (.aload_n 0, 1) := dk_42 (dk_at dksX3_read_0 20 rfl rfl)
theorem dX3_read_21 : decode cX3_read 21 = .ok (.getfield 7, 3) := dk_180 0 7 (dk_at dksX3_read_0 21 rfl rfl)
theorem dX3_read_24 : decode cX3_read 24 = .ok (.sipush 1009, 3) := dk_17 3 241 (dk_at dksX3_read_1 0 rfl rfl)
theorem dX3_read_27 : decode cX3_read 27 = .ok (.iaload, 1) := dk_46 (dk_at dksX3_read_1 3 rfl rfl)
theorem dX3_read_28 : decode cX3_read 28 = .ok (.if_icmp .ge 26, 3) := dk_162 0 26 (dk_at dksX3_read_1 4 rfl rfl)
theorem dX3_read_31 : decode cX3_read 31 = .ok (.iload_n 3, 1) := dk_29 (dk_at dksX3_read_1 7 rfl rfl)
theorem dX3_read_32 : decode cX3_read 32 = .ok (.iload_n 1, 1) := dk_27 (dk_at dksX3_read_1 8 rfl rfl)
theorem dX3_read_33 : decode cX3_read 33 = .ok (.if_icmp .eq 21, 3) := dk_159 0 21 (dk_at dksX3_read_1 9 rfl rfl)
theorem dX3_read_36 : decode cX3_read 36 = .ok (.iload 4, 2) := dk_21 4 (dk_at dksX3_read_1 12 rfl rfl)
theorem dX3_read_38 : decode cX3_read 38 = .ok (.aload_n 0, 1) := dk_42 (dk_at dksX3_read_1 14 rfl rfl)
theorem dX3_read_39 : decode cX3_read 39 = .ok (.getfield 110, 3) := dk_180 0 110 (dk_at dksX3_read_1 15 rfl rfl)
theorem dX3_read_42 : decode cX3_read 42 = .ok (.iload 4, 2) := dk_21 4 (dk_at dksX3_read_1 18 rfl rfl)
theorem dX3_read_44 : decode cX3_read 44 = .ok (.iaload, 1) := dk_46 (dk_at dksX3_read_1 20 rfl rfl)
theorem dX3_read_45 : decode cX3_read 45 = .ok (.iadd, 1) := dk_96 (dk_at dksX3_read_1 21 rfl rfl)
theorem dX3_read_46 : decode cX3_read 46 = .ok (.istore 4, 2) := dk_54 4 (dk_at dksX3_read_1 22 rfl rfl)
theorem dX3_read_48 : decode cX3_read 48 = .ok (.iinc 3 1, 3) := dk_132 3 1 (dk_at dksX3_read_2 0 rfl rfl)
theorem dX3_read_51 : decode cX3_read 51 = .ok (.goto (-33), 3) := dk_167 255 223 (dk_at dksX3_read_2 3 rfl rfl)
theorem dX3_read_54 : decode cX3_read 54 = .ok (.iload_n 1, 1) := dk_27 (dk_at dksX3_read_2 6 rfl rfl)
theorem dX3_read_55 : decode cX3_read 55 = .ok (.iconst (-1), 1) := dk_2 (dk_at dksX3_read_2 7 rfl rfl)
theorem dX3_read_56 : decode cX3_read 56 = .ok (.if_icmp .ne 5, 3) := dk_160 0 5 (dk_at dksX3_read_2 8 rfl rfl)
theorem dX3_read_59 : decode cX3_read 59 = .ok (.iload_n 3, 1) := dk_29 (dk_at dksX3_read_2 11 rfl rfl)
theorem dX3_read_60 : decode cX3_read 60 = .ok (.ireturn, 1) := dk_172 (dk_at dksX3_read_2 12 rfl rfl)
theorem dX3_read_61 : decode cX3_read 61 = .ok (.iload_n 1, 1) := dk_27 (dk_at dksX3_read_2 13 rfl rfl)
theorem dX3_read_62 : decode cX3_read 62 = .ok (.ifCond .lt 25, 3) := dk_155 0 25 (dk_at dksX3_read_2 14 rfl rfl)
theorem dX3_read_65 : decode cX3_read 65 = .ok (.iload 4, 2) := dk_21 4 (dk_at dksX3_read_2 17 rfl rfl)
theorem dX3_read_67 : decode cX3_read 67 = .ok (.aload_n 0, 1) := dk_42 (dk_at dksX3_read_2 19 rfl rfl)
theorem dX3_read_68 : decode cX3_read 68 = .ok (.getfield 7, 3) := dk_180 0 7 (dk_at dksX3_read_2 20 rfl rfl)
theorem dX3_read_71 : decode cX3_read 71 = .ok (.sipush 1009, 3) := dk_17 3 241 (dk_at dksX3_read_3 0 rfl rfl)
theorem dX3_read_74 : decode cX3_read 74 = .ok (.iaload, 1) := dk_46 (dk_at dksX3_read_3 3 rfl rfl)
theorem dX3_read_75 : decode cX3_read 75 = .ok (.if_icmp .eq 12, 3) := dk_159 0 12 (dk_at dksX3_read_3 4 rfl rfl)
theorem dX3_read_78 : decode cX3_read 78 = .ok (.iload_n 2, 1) := dk_28 (dk_at dksX3_read_3 7 rfl rfl)
theorem dX3_read_79 : decode cX3_read 79 = .ok (.iconst 0, 1) := dk_3 (dk_at dksX3_read_3 8 rfl rfl)
theorem dX3_read_80 : decode cX3_read 80 = .ok (.iconst 2, 1) := dk_5 (dk_at dksX3_read_3 9 rfl rfl)
theorem dX3_read_81 : decode cX3_read 81 = .ok (.invokestatic 171, 3) := dk_184 0 171 (dk_at dksX3_read_3 10 rfl rfl)
theorem dX3_read_84 : decode cX3_read 84 = .ok (.ifCond .ne 5, 3) := dk_154 0 5 (dk_at dksX3_read_3 13 rfl rfl)
theorem dX3_read_87 : decode cX3_read 87 = .ok (.iconst (-1), 1) := dk_2 (dk_at dksX3_read_3 16 rfl rfl)
theorem dX3_read_88 : decode cX3_read 88 = .ok (.ireturn, 1) := dk_172 (dk_at dksX3_read_3 17 rfl rfl)
theorem dX3_read_89 : decode cX3_read 89 = .ok (.iload_n 2, 1) := dk_28 (dk_at dksX3_read_3 18 rfl rfl)
theorem dX3_read_90 : decode cX3_read 90 = .ok (.ifCond .ne 13, 3) := dk_154 0 13 (dk_at dksX3_read_3 19 rfl rfl)
theorem dX3_read_93 : decode cX3_read 93 = .ok (.aload_n 0, 1) := dk_42 (dk_at dksX3_read_3 22 rfl rfl)
theorem dX3_read_94 : decode cX3_read 94 = .ok (.getfield 110, 3) := dk_180 0 110 (dk_at dksX3_read_4 0 rfl rfl)
theorem dX3_read_97 : decode cX3_read 97 = .ok (.iload 4, 2) := dk_21 4 (dk_at dksX3_read_4 3 rfl rfl)
theorem dX3_read_99 : decode cX3_read 99 = .ok (.iaload, 1) := dk_46 (dk_at dksX3_read_4 5 rfl rfl)
theorem dX3_read_100 : decode cX3_read 100 = .ok (.goto 25, 3) := dk_167 0 25 (dk_at dksX3_read_4 6 rfl rfl)
theorem dX3_read_103 : decode cX3_read 103 = .ok (.iload_n 2, 1) := dk_28 (dk_at dksX3_read_4 9 rfl rfl)
theorem dX3_read_104 : decode cX3_read 104 = .ok (.iconst 1, 1) := dk_4 (dk_at dksX3_read_4 10 rfl rfl)
theorem dX3_read_105 : decode cX3_read 105 = .ok (.if_icmp .ne 13, 3) := dk_160 0 13 (dk_at dksX3_read_4 11 rfl rfl)
theorem dX3_read_108 : decode cX3_read 108 = .ok (.aload_n 0, 1) := dk_42 (dk_at dksX3_read_4 14 rfl rfl)
theorem dX3_read_109 : decode cX3_read 109 = .ok (.getfield 113, 3) := dk_180 0 113 (dk_at dksX3_read_4 15 rfl rfl)
theorem dX3_read_112 : decode cX3_read 112 = .ok (.iload 4, 2) := dk_21 4 (dk_at dksX3_read_4 18 rfl rfl)
theorem dX3_read_114 : decode cX3_read 114 = .ok (.iaload, 1) := dk_46 (dk_at dksX3_read_4 20 rfl rfl)
theorem dX3_read_115 : decode cX3_read 115 = .ok (.goto 10, 3) := dk_167 0 10 (dk_at dksX3_read_4 21 rfl rfl)
theorem dX3_read_118 : decode cX3_read 118 = .ok (.aload_n 0, 1) := dk_42 (dk_at dksX3_read_5 0 rfl rfl)
theorem dX3_read_119 : decode cX3_read 119 = .ok (.getfield 116, 3) := dk_180 0 116 (dk_at dksX3_read_5 1 rfl rfl)
theorem dX3_read_122 : decode cX3_read 122 = .ok (.iload 4, 2) := dk_21 4 (dk_at dksX3_read_5 4 rfl rfl)
theorem dX3_read_124 : decode cX3_read 124 = .ok (.iaload, 1) := dk_46 (dk_at dksX3_read_5 6 rfl rfl)
theorem dX3_read_125 : decode cX3_read 125 = .ok (.ireturn, 1) := dk_172 (dk_at dksX3_read_5 7 rfl rfl)
abbrev cX3_tell : ByteArray := prog_12_method_105_code
def yX3_tell : MethodName := ⟨RX3, "tell", "(I)I"⟩
def dkwX3_tell_6 : List UInt8 := [180, 0, 41, 42, 180, 0, 29, 27, 79, 42, 89, 180, 0, 29, 4, 96, 181, 0, 29, 42, 180, 0, 29, 172]
abbrev dktX3_tell_6 : List UInt8 := dkwX3_tell_6 ++ []
def dkwX3_tell_5 : List UInt8 := [132, 2, 1, 167, 255, 171, 42, 180, 0, 38, 42, 180, 0, 29, 42, 180, 0, 7, 17, 3, 241, 46, 79, 42]
abbrev dktX3_tell_5 : List UInt8 := dkwX3_tell_5 ++ dktX3_tell_6
def dkwX3_tell_4 : List UInt8 := [29, 96, 42, 180, 0, 7, 3, 16, 24, 28, 104, 96, 29, 96, 46, 79, 132, 3, 1, 167, 255, 215]
abbrev dktX3_tell_4 : List UInt8 := dkwX3_tell_4 ++ dktX3_tell_5
def dkwX3_tell_3 : List UInt8 := [3, 62, 29, 16, 24, 162, 0, 41, 42, 180, 0, 32, 16, 24, 16, 8, 42, 180, 0, 29, 104, 28, 96, 104]
abbrev dktX3_tell_3 : List UInt8 := dkwX3_tell_3 ++ dktX3_tell_4
def dkwX3_tell_2 : List UInt8 := [42, 180, 0, 35, 16, 8, 42, 180, 0, 29, 104, 28, 96, 42, 180, 0, 7, 17, 3, 192, 28, 96, 46, 79]
abbrev dktX3_tell_2 : List UInt8 := dkwX3_tell_2 ++ dktX3_tell_3
def dkwX3_tell_1 : List UInt8 := [46, 154, 0, 9, 42, 8, 182, 0, 138, 172, 3, 61, 28, 42, 180, 0, 7, 17, 3, 241, 46, 162, 0, 79]
abbrev dktX3_tell_1 : List UInt8 := dkwX3_tell_1 ++ dktX3_tell_2
def dkwX3_tell_0 : List UInt8 := [42, 180, 0, 29, 16, 8, 159, 0, 22, 42, 27, 182, 0, 215, 153, 0, 14, 42, 180, 0, 7, 17, 3, 241]
abbrev dktX3_tell_0 : List UInt8 := dkwX3_tell_0 ++ dktX3_tell_1
theorem dksX3_tell_0 : cX3_tell.data.toList.drop 0 = dktX3_tell_0 := by decide +kernel
theorem dksX3_tell_1 : cX3_tell.data.toList.drop 24 = dktX3_tell_1 := dk_seg dksX3_tell_0 24 rfl rfl
theorem dksX3_tell_2 : cX3_tell.data.toList.drop 48 = dktX3_tell_2 := dk_seg dksX3_tell_1 24 rfl rfl
theorem dksX3_tell_3 : cX3_tell.data.toList.drop 72 = dktX3_tell_3 := dk_seg dksX3_tell_2 24 rfl rfl
theorem dksX3_tell_4 : cX3_tell.data.toList.drop 96 = dktX3_tell_4 := dk_seg dksX3_tell_3 24 rfl rfl
theorem dksX3_tell_5 : cX3_tell.data.toList.drop 118 = dktX3_tell_5 := dk_seg dksX3_tell_4 22 rfl rfl
theorem dksX3_tell_6 : cX3_tell.data.toList.drop 142 = dktX3_tell_6 := dk_seg dksX3_tell_5 24 rfl rfl
theorem dX3_tell_0 : decode cX3_tell 0 = .ok (.aload_n 0, 1) := dk_42 (dk_at dksX3_tell_0 0 rfl rfl)
theorem dX3_tell_1 : decode cX3_tell 1 = .ok (.getfield 29, 3) := dk_180 0 29 (dk_at dksX3_tell_0 1 rfl rfl)
theorem dX3_tell_4 : decode cX3_tell 4 = .ok (.bipush 8, 2) := dk_16 8 (dk_at dksX3_tell_0 4 rfl rfl)
theorem dX3_tell_6 : decode cX3_tell 6 = .ok (.if_icmp .eq 22, 3) := dk_159 0 22 (dk_at dksX3_tell_0 6 rfl rfl)
theorem dX3_tell_9 : decode cX3_tell 9 = .ok (.aload_n 0, 1) := dk_42 (dk_at dksX3_tell_0 9 rfl rfl)
theorem dX3_tell_10 : decode cX3_tell 10 = .ok (.iload_n 1, 1) := dk_27 (dk_at dksX3_tell_0 10 rfl rfl)
theorem dX3_tell_11 : decode cX3_tell 11 = .ok (.invokevirtual 215, 3) := dk_182 0 215 (dk_at dksX3_tell_0 11 rfl rfl)
theorem dX3_tell_14 : decode cX3_tell 14 = .ok (.ifCond .eq 14, 3) := dk_153 0 14 (dk_at dksX3_tell_0 14 rfl rfl)
theorem dX3_tell_17 : decode cX3_tell 17 = .ok (.aload_n 0, 1) := dk_42 (dk_at dksX3_tell_0 17 rfl rfl)
theorem dX3_tell_18 : decode cX3_tell 18 = .ok (.getfield 7, 3) := dk_180 0 7 (dk_at dksX3_tell_0 18 rfl rfl)
theorem dX3_tell_21 : decode cX3_tell 21 = .ok (.sipush 1009, 3) := dk_17 3 241 (dk_at dksX3_tell_0 21 rfl rfl)
theorem dX3_tell_24 : decode cX3_tell 24 = .ok (.iaload, 1) := dk_46 (dk_at dksX3_tell_1 0 rfl rfl)
theorem dX3_tell_25 : decode cX3_tell 25 = .ok (.ifCond .ne 9, 3) := dk_154 0 9 (dk_at dksX3_tell_1 1 rfl rfl)
theorem dX3_tell_28 : decode cX3_tell 28 = .ok (.aload_n 0, 1) := dk_42 (dk_at dksX3_tell_1 4 rfl rfl)
theorem dX3_tell_29 : decode cX3_tell 29 = .ok (.iconst 5, 1) := dk_8 (dk_at dksX3_tell_1 5 rfl rfl)
theorem dX3_tell_30 : decode cX3_tell 30 = .ok (.invokevirtual 138, 3) := dk_182 0 138 (dk_at dksX3_tell_1 6 rfl rfl)
theorem dX3_tell_33 : decode cX3_tell 33 = .ok (.ireturn, 1) := dk_172 (dk_at dksX3_tell_1 9 rfl rfl)
theorem dX3_tell_34 : decode cX3_tell 34 = .ok (.iconst 0, 1) := dk_3 (dk_at dksX3_tell_1 10 rfl rfl)
theorem dX3_tell_35 : decode cX3_tell 35 = .ok (.istore_n 2, 1) := dk_61 (dk_at dksX3_tell_1 11 rfl rfl)
theorem dX3_tell_36 : decode cX3_tell 36 = .ok (.iload_n 2, 1) := dk_28 (dk_at dksX3_tell_1 12 rfl rfl)
theorem dX3_tell_37 : decode cX3_tell 37 = .ok (.aload_n 0, 1) := dk_42 (dk_at dksX3_tell_1 13 rfl rfl)
theorem dX3_tell_38 : decode cX3_tell 38 = .ok (.getfield 7, 3) := dk_180 0 7 (dk_at dksX3_tell_1 14 rfl rfl)
theorem dX3_tell_41 : decode cX3_tell 41 = .ok (.sipush 1009, 3) := dk_17 3 241 (dk_at dksX3_tell_1 17 rfl rfl)
theorem dX3_tell_44 : decode cX3_tell 44 = .ok (.iaload, 1) := dk_46 (dk_at dksX3_tell_1 20 rfl rfl)
theorem dX3_tell_45 : decode cX3_tell 45 = .ok (.if_icmp .ge 79, 3) := dk_162 0 79 (dk_at dksX3_tell_1 21 rfl rfl)
theorem dX3_tell_48 : decode cX3_tell 48 = .ok (.aload_n 0, 1) := dk_42 (dk_at dksX3_tell_2 0 rfl rfl)
theorem dX3_tell_49 : decode cX3_tell 49 = .ok (.getfield 35, 3) := dk_180 0 35 (dk_at dksX3_tell_2 1 rfl rfl)
theorem dX3_tell_52 : decode cX3_tell 52 = .ok (.bipush 8, 2) := dk_16 8 (dk_at dksX3_tell_2 4 rfl rfl)
theorem dX3_tell_54 : decode cX3_tell 54 = .ok (.aload_n 0, 1) := dk_42 (dk_at dksX3_tell_2 6 rfl rfl)
theorem dX3_tell_55 : decode cX3_tell 55 = .ok (.getfield 29, 3) := dk_180 0 29 (dk_at dksX3_tell_2 7 rfl rfl)
theorem dX3_tell_58 : decode cX3_tell 58 = .ok (.imul, 1) := dk_104 (dk_at dksX3_tell_2 10 rfl rfl)
theorem dX3_tell_59 : decode cX3_tell 59 = .ok (.iload_n 2, 1) := dk_28 (dk_at dksX3_tell_2 11 rfl rfl)
theorem dX3_tell_60 : decode cX3_tell 60 = .ok (.iadd, 1) := dk_96 (dk_at dksX3_tell_2 12 rfl rfl)
theorem dX3_tell_61 : decode cX3_tell 61 = .ok (.aload_n 0, 1) := dk_42 (dk_at dksX3_tell_2 13 rfl rfl)
theorem dX3_tell_62 : decode cX3_tell 62 = .ok (.getfield 7, 3) := dk_180 0 7 (dk_at dksX3_tell_2 14 rfl rfl)
theorem dX3_tell_65 : decode cX3_tell 65 = .ok (.sipush 960, 3) := dk_17 3 192 (dk_at dksX3_tell_2 17 rfl rfl)
theorem dX3_tell_68 : decode cX3_tell 68 = .ok (.iload_n 2, 1) := dk_28 (dk_at dksX3_tell_2 20 rfl rfl)
theorem dX3_tell_69 : decode cX3_tell 69 = .ok (.iadd, 1) := dk_96 (dk_at dksX3_tell_2 21 rfl rfl)
theorem dX3_tell_70 : decode cX3_tell 70 = .ok (.iaload, 1) := dk_46 (dk_at dksX3_tell_2 22 rfl rfl)
theorem dX3_tell_71 : decode cX3_tell 71 = .ok (.iastore, 1) := dk_79 (dk_at dksX3_tell_2 23 rfl rfl)
theorem dX3_tell_72 : decode cX3_tell 72 = .ok (.iconst 0, 1) := dk_3 (dk_at dksX3_tell_3 0 rfl rfl)
theorem dX3_tell_73 : decode cX3_tell 73 = .ok (.istore_n 3, 1) := dk_62 (dk_at dksX3_tell_3 1 rfl rfl)
theorem dX3_tell_74 : decode cX3_tell 74 = .ok (.iload_n 3, 1) := dk_29 (dk_at dksX3_tell_3 2 rfl rfl)
theorem dX3_tell_75 : decode cX3_tell 75 = .ok (.bipush 24, 2) := dk_16 24 (dk_at dksX3_tell_3 3 rfl rfl)
theorem dX3_tell_77 : decode cX3_tell 77 = .ok (.if_icmp .ge 41, 3) := dk_162 0 41 (dk_at dksX3_tell_3 5 rfl rfl)
theorem dX3_tell_80 : decode cX3_tell 80 = .ok (.aload_n 0, 1) := dk_42 (dk_at dksX3_tell_3 8 rfl rfl)
theorem dX3_tell_81 : decode cX3_tell 81 = .ok (.getfield 32, 3) := dk_180 0 32 (dk_at dksX3_tell_3 9 rfl rfl)
theorem dX3_tell_84 : decode cX3_tell 84 = .ok (.bipush 24, 2) := dk_16 24 (dk_at dksX3_tell_3 12 rfl rfl)
theorem dX3_tell_86 : decode cX3_tell 86 = .ok (.bipush 8, 2) := dk_16 8 (dk_at dksX3_tell_3 14 rfl rfl)
theorem dX3_tell_88 : decode cX3_tell 88 = .ok (.aload_n 0, 1) := dk_42 (dk_at dksX3_tell_3 16 rfl rfl)
theorem dX3_tell_89 : decode cX3_tell 89 = .ok (.getfield 29, 3) := dk_180 0 29 (dk_at dksX3_tell_3 17 rfl rfl)
theorem dX3_tell_92 : decode cX3_tell 92 = .ok (.imul, 1) := dk_104 (dk_at dksX3_tell_3 20 rfl rfl)
theorem dX3_tell_93 : decode cX3_tell 93 = .ok (.iload_n 2, 1) := dk_28 (dk_at dksX3_tell_3 21 rfl rfl)
theorem dX3_tell_94 : decode cX3_tell 94 = .ok (.iadd, 1) := dk_96 (dk_at dksX3_tell_3 22 rfl rfl)
theorem dX3_tell_95 : decode cX3_tell 95 = .ok (.imul, 1) := dk_104 (dk_at dksX3_tell_3 23 rfl rfl)
theorem dX3_tell_96 : decode cX3_tell 96 = .ok (.iload_n 3, 1) := dk_29 (dk_at dksX3_tell_4 0 rfl rfl)
theorem dX3_tell_97 : decode cX3_tell 97 = .ok (.iadd, 1) := dk_96 (dk_at dksX3_tell_4 1 rfl rfl)
theorem dX3_tell_98 : decode cX3_tell 98 = .ok (.aload_n 0, 1) := dk_42 (dk_at dksX3_tell_4 2 rfl rfl)
theorem dX3_tell_99 : decode cX3_tell 99 = .ok (.getfield 7, 3) := dk_180 0 7 (dk_at dksX3_tell_4 3 rfl rfl)
theorem dX3_tell_102 : decode cX3_tell 102 = .ok (.iconst 0, 1) := dk_3 (dk_at dksX3_tell_4 6 rfl rfl)
theorem dX3_tell_103 : decode cX3_tell 103 = .ok (.bipush 24, 2) := dk_16 24 (dk_at dksX3_tell_4 7 rfl rfl)
theorem dX3_tell_105 : decode cX3_tell 105 = .ok (.iload_n 2, 1) := dk_28 (dk_at dksX3_tell_4 9 rfl rfl)
theorem dX3_tell_106 : decode cX3_tell 106 = .ok (.imul, 1) := dk_104 (dk_at dksX3_tell_4 10 rfl rfl)
theorem dX3_tell_107 : decode cX3_tell 107 = .ok (.iadd, 1) := dk_96 (dk_at dksX3_tell_4 11 rfl rfl)
theorem dX3_tell_108 : decode cX3_tell 108 = .ok (.iload_n 3, 1) := dk_29 (dk_at dksX3_tell_4 12 rfl rfl)
theorem dX3_tell_109 : decode cX3_tell 109 = .ok (.iadd, 1) := dk_96 (dk_at dksX3_tell_4 13 rfl rfl)
theorem dX3_tell_110 : decode cX3_tell 110 = .ok (.iaload, 1) := dk_46 (dk_at dksX3_tell_4 14 rfl rfl)
theorem dX3_tell_111 : decode cX3_tell 111 = .ok (.iastore, 1) := dk_79 (dk_at dksX3_tell_4 15 rfl rfl)
theorem dX3_tell_112 : decode cX3_tell 112 = .ok (.iinc 3 1, 3) := dk_132 3 1 (dk_at dksX3_tell_4 16 rfl rfl)
theorem dX3_tell_115 : decode cX3_tell 115 = .ok (.goto (-41), 3) := dk_167 255 215 (dk_at dksX3_tell_4 19 rfl rfl)
theorem dX3_tell_118 : decode cX3_tell 118 = .ok (.iinc 2 1, 3) := dk_132 2 1 (dk_at dksX3_tell_5 0 rfl rfl)
theorem dX3_tell_121 : decode cX3_tell 121 = .ok (.goto (-85), 3) := dk_167 255 171 (dk_at dksX3_tell_5 3 rfl rfl)
theorem dX3_tell_124 : decode cX3_tell 124 = .ok (.aload_n 0, 1) := dk_42 (dk_at dksX3_tell_5 6 rfl rfl)
theorem dX3_tell_125 : decode cX3_tell 125 = .ok (.getfield 38, 3) := dk_180 0 38 (dk_at dksX3_tell_5 7 rfl rfl)
theorem dX3_tell_128 : decode cX3_tell 128 = .ok (.aload_n 0, 1) := dk_42 (dk_at dksX3_tell_5 10 rfl rfl)
theorem dX3_tell_129 : decode cX3_tell 129 = .ok (.getfield 29, 3) := dk_180 0 29 (dk_at dksX3_tell_5 11 rfl rfl)
theorem dX3_tell_132 : decode cX3_tell 132 = .ok (.aload_n 0, 1) := dk_42 (dk_at dksX3_tell_5 14 rfl rfl)
theorem dX3_tell_133 : decode cX3_tell 133 = .ok (.getfield 7, 3) := dk_180 0 7 (dk_at dksX3_tell_5 15 rfl rfl)
theorem dX3_tell_136 : decode cX3_tell 136 = .ok (.sipush 1009, 3) := dk_17 3 241 (dk_at dksX3_tell_5 18 rfl rfl)
theorem dX3_tell_139 : decode cX3_tell 139 = .ok (.iaload, 1) := dk_46 (dk_at dksX3_tell_5 21 rfl rfl)
theorem dX3_tell_140 : decode cX3_tell 140 = .ok (.iastore, 1) := dk_79 (dk_at dksX3_tell_5 22 rfl rfl)
theorem dX3_tell_141 : decode cX3_tell 141 = .ok (.aload_n 0, 1) := dk_42 (dk_at dksX3_tell_5 23 rfl rfl)
theorem dX3_tell_142 : decode cX3_tell 142 = .ok (.getfield 41, 3) := dk_180 0 41 (dk_at dksX3_tell_6 0 rfl rfl)
theorem dX3_tell_145 : decode cX3_tell 145 = .ok (.aload_n 0, 1) := dk_42 (dk_at dksX3_tell_6 3 rfl rfl)
theorem dX3_tell_146 : decode cX3_tell 146 = .ok (.getfield 29, 3) := dk_180 0 29 (dk_at dksX3_tell_6 4 rfl rfl)
theorem dX3_tell_149 : decode cX3_tell 149 = .ok (.iload_n 1, 1) := dk_27 (dk_at dksX3_tell_6 7 rfl rfl)
theorem dX3_tell_150 : decode cX3_tell 150 = .ok (.iastore, 1) := dk_79 (dk_at dksX3_tell_6 8 rfl rfl)
theorem dX3_tell_151 : decode cX3_tell 151 = .ok (.aload_n 0, 1) := dk_42 (dk_at dksX3_tell_6 9 rfl rfl)
theorem dX3_tell_152 : decode cX3_tell 152 = .ok (.dup, 1) := dk_89 (dk_at dksX3_tell_6 10 rfl rfl)
theorem dX3_tell_153 : decode cX3_tell 153 = .ok (.getfield 29, 3) := dk_180 0 29 (dk_at dksX3_tell_6 11 rfl rfl)
theorem dX3_tell_156 : decode cX3_tell 156 = .ok (.iconst 1, 1) := dk_4 (dk_at dksX3_tell_6 14 rfl rfl)
theorem dX3_tell_157 : decode cX3_tell 157 = .ok (.iadd, 1) := dk_96 (dk_at dksX3_tell_6 15 rfl rfl)
theorem dX3_tell_158 : decode cX3_tell 158 = .ok (.putfield 29, 3) := dk_181 0 29 (dk_at dksX3_tell_6 16 rfl rfl)
theorem dX3_tell_161 : decode cX3_tell 161 = .ok (.aload_n 0, 1) := dk_42 (dk_at dksX3_tell_6 19 rfl rfl)
theorem dX3_tell_162 : decode cX3_tell 162 = .ok (.getfield 29, 3) := dk_180 0 29 (dk_at dksX3_tell_6 20 rfl rfl)
theorem dX3_tell_165 : decode cX3_tell 165 = .ok (.ireturn, 1) := dk_172 (dk_at dksX3_tell_6 23 rfl rfl)
abbrev cX3_forgetTold : ByteArray := prog_12_method_106_code
def yX3_forgetTold : MethodName := ⟨RX3, "forgetTold", "()I"⟩
def dkwX3_forgetTold_0 : List UInt8 := [42, 180, 0, 29, 60, 42, 3, 181, 0, 29, 27, 172]
abbrev dktX3_forgetTold_0 : List UInt8 := dkwX3_forgetTold_0 ++ []
theorem dksX3_forgetTold_0 : cX3_forgetTold.data.toList.drop 0 = dktX3_forgetTold_0 := by decide +kernel
theorem dX3_forgetTold_0 : decode cX3_forgetTold 0 = .ok (.aload_n 0, 1) := dk_42 (dk_at dksX3_forgetTold_0 0 rfl rfl)
theorem dX3_forgetTold_1 : decode cX3_forgetTold 1 = .ok (.getfield 29, 3) := dk_180 0 29 (dk_at dksX3_forgetTold_0 1 rfl rfl)
theorem dX3_forgetTold_4 : decode cX3_forgetTold 4 = .ok (.istore_n 1, 1) := dk_60 (dk_at dksX3_forgetTold_0 4 rfl rfl)
theorem dX3_forgetTold_5 : decode cX3_forgetTold 5 = .ok (.aload_n 0, 1) := dk_42 (dk_at dksX3_forgetTold_0 5 rfl rfl)
theorem dX3_forgetTold_6 : decode cX3_forgetTold 6 = .ok (.iconst 0, 1) := dk_3 (dk_at dksX3_forgetTold_0 6 rfl rfl)
theorem dX3_forgetTold_7 : decode cX3_forgetTold 7 = .ok (.putfield 29, 3) := dk_181 0 29 (dk_at dksX3_forgetTold_0 7 rfl rfl)
theorem dX3_forgetTold_10 : decode cX3_forgetTold 10 = .ok (.iload_n 1, 1) := dk_27 (dk_at dksX3_forgetTold_0 10 rfl rfl)
theorem dX3_forgetTold_11 : decode cX3_forgetTold 11 = .ok (.ireturn, 1) := dk_172 (dk_at dksX3_forgetTold_0 11 rfl rfl)
abbrev cX3_toldAs : ByteArray := prog_12_method_107_code
def yX3_toldAs : MethodName := ⟨RX3, "toldAs", "(II)I"⟩
def dkwX3_toldAs_3 : List UInt8 := [96, 42, 180, 0, 38, 27, 46, 182, 1, 76, 42, 42, 180, 0, 41, 27, 46, 182, 1, 69, 172]
abbrev dktX3_toldAs_3 : List UInt8 := dkwX3_toldAs_3 ++ []
def dkwX3_toldAs_2 : List UInt8 := [46, 172, 42, 42, 180, 0, 41, 27, 46, 182, 0, 215, 154, 0, 5, 2, 172, 42, 16, 40, 16, 8, 27, 104]
abbrev dktX3_toldAs_2 : List UInt8 := dkwX3_toldAs_2 ++ dktX3_toldAs_3
def dkwX3_toldAs_1 : List UInt8 := [172, 28, 5, 162, 0, 23, 28, 154, 0, 12, 42, 180, 0, 41, 27, 46, 167, 0, 9, 42, 180, 0, 38, 27]
abbrev dktX3_toldAs_1 : List UInt8 := dkwX3_toldAs_1 ++ dktX3_toldAs_2
def dkwX3_toldAs_0 : List UInt8 := [27, 3, 42, 180, 0, 29, 4, 100, 184, 0, 171, 153, 0, 12, 28, 3, 5, 184, 0, 171, 154, 0, 5, 2]
abbrev dktX3_toldAs_0 : List UInt8 := dkwX3_toldAs_0 ++ dktX3_toldAs_1
theorem dksX3_toldAs_0 : cX3_toldAs.data.toList.drop 0 = dktX3_toldAs_0 := by decide +kernel
theorem dksX3_toldAs_1 : cX3_toldAs.data.toList.drop 24 = dktX3_toldAs_1 := dk_seg dksX3_toldAs_0 24 rfl rfl
theorem dksX3_toldAs_2 : cX3_toldAs.data.toList.drop 48 = dktX3_toldAs_2 := dk_seg dksX3_toldAs_1 24 rfl rfl
theorem dksX3_toldAs_3 : cX3_toldAs.data.toList.drop 72 = dktX3_toldAs_3 := dk_seg dksX3_toldAs_2 24 rfl rfl
theorem dX3_toldAs_0 : decode cX3_toldAs 0 = .ok (.iload_n 1, 1) := dk_27 (dk_at dksX3_toldAs_0 0 rfl rfl)
theorem dX3_toldAs_1 : decode cX3_toldAs 1 = .ok (.iconst 0, 1) := dk_3 (dk_at dksX3_toldAs_0 1 rfl rfl)
theorem dX3_toldAs_2 : decode cX3_toldAs 2 = .ok (.aload_n 0, 1) := dk_42 (dk_at dksX3_toldAs_0 2 rfl rfl)
theorem dX3_toldAs_3 : decode cX3_toldAs 3 = .ok (.getfield 29, 3) := dk_180 0 29 (dk_at dksX3_toldAs_0 3 rfl rfl)
theorem dX3_toldAs_6 : decode cX3_toldAs 6 = .ok (.iconst 1, 1) := dk_4 (dk_at dksX3_toldAs_0 6 rfl rfl)
theorem dX3_toldAs_7 : decode cX3_toldAs 7 = .ok (.isub, 1) := dk_100 (dk_at dksX3_toldAs_0 7 rfl rfl)
theorem dX3_toldAs_8 : decode cX3_toldAs 8 = .ok (.invokestatic 171, 3) := dk_184 0 171 (dk_at dksX3_toldAs_0 8 rfl rfl)
theorem dX3_toldAs_11 : decode cX3_toldAs 11 = .ok (.ifCond .eq 12, 3) := dk_153 0 12 (dk_at dksX3_toldAs_0 11 rfl rfl)
theorem dX3_toldAs_14 : decode cX3_toldAs 14 = .ok (.iload_n 2, 1) := dk_28 (dk_at dksX3_toldAs_0 14 rfl rfl)
theorem dX3_toldAs_15 : decode cX3_toldAs 15 = .ok (.iconst 0, 1) := dk_3 (dk_at dksX3_toldAs_0 15 rfl rfl)
theorem dX3_toldAs_16 : decode cX3_toldAs 16 = .ok (.iconst 2, 1) := dk_5 (dk_at dksX3_toldAs_0 16 rfl rfl)
theorem dX3_toldAs_17 : decode cX3_toldAs 17 = .ok (.invokestatic 171, 3) := dk_184 0 171 (dk_at dksX3_toldAs_0 17 rfl rfl)
theorem dX3_toldAs_20 : decode cX3_toldAs 20 = .ok (.ifCond .ne 5, 3) := dk_154 0 5 (dk_at dksX3_toldAs_0 20 rfl rfl)
theorem dX3_toldAs_23 : decode cX3_toldAs 23 = .ok (.iconst (-1), 1) := dk_2 (dk_at dksX3_toldAs_0 23 rfl rfl)
theorem dX3_toldAs_24 : decode cX3_toldAs 24 = .ok (.ireturn, 1) := dk_172 (dk_at dksX3_toldAs_1 0 rfl rfl)
theorem dX3_toldAs_25 : decode cX3_toldAs 25 = .ok (.iload_n 2, 1) := dk_28 (dk_at dksX3_toldAs_1 1 rfl rfl)
theorem dX3_toldAs_26 : decode cX3_toldAs 26 = .ok (.iconst 2, 1) := dk_5 (dk_at dksX3_toldAs_1 2 rfl rfl)
theorem dX3_toldAs_27 : decode cX3_toldAs 27 = .ok (.if_icmp .ge 23, 3) := dk_162 0 23 (dk_at dksX3_toldAs_1 3 rfl rfl)
theorem dX3_toldAs_30 : decode cX3_toldAs 30 = .ok (.iload_n 2, 1) := dk_28 (dk_at dksX3_toldAs_1 6 rfl rfl)
theorem dX3_toldAs_31 : decode cX3_toldAs 31 = .ok (.ifCond .ne 12, 3) := dk_154 0 12 (dk_at dksX3_toldAs_1 7 rfl rfl)
theorem dX3_toldAs_34 : decode cX3_toldAs 34 = .ok (.aload_n 0, 1) := dk_42 (dk_at dksX3_toldAs_1 10 rfl rfl)
theorem dX3_toldAs_35 : decode cX3_toldAs 35 = .ok (.getfield 41, 3) := dk_180 0 41 (dk_at dksX3_toldAs_1 11 rfl rfl)
theorem dX3_toldAs_38 : decode cX3_toldAs 38 = .ok (.iload_n 1, 1) := dk_27 (dk_at dksX3_toldAs_1 14 rfl rfl)
theorem dX3_toldAs_39 : decode cX3_toldAs 39 = .ok (.iaload, 1) := dk_46 (dk_at dksX3_toldAs_1 15 rfl rfl)
theorem dX3_toldAs_40 : decode cX3_toldAs 40 = .ok (.goto 9, 3) := dk_167 0 9 (dk_at dksX3_toldAs_1 16 rfl rfl)
theorem dX3_toldAs_43 : decode cX3_toldAs 43 = .ok (.aload_n 0, 1) := dk_42 (dk_at dksX3_toldAs_1 19 rfl rfl)
theorem dX3_toldAs_44 : decode cX3_toldAs 44 = .ok (.getfield 38, 3) := dk_180 0 38 (dk_at dksX3_toldAs_1 20 rfl rfl)
theorem dX3_toldAs_47 : decode cX3_toldAs 47 = .ok (.iload_n 1, 1) := dk_27 (dk_at dksX3_toldAs_1 23 rfl rfl)
theorem dX3_toldAs_48 : decode cX3_toldAs 48 = .ok (.iaload, 1) := dk_46 (dk_at dksX3_toldAs_2 0 rfl rfl)
theorem dX3_toldAs_49 : decode cX3_toldAs 49 = .ok (.ireturn, 1) := dk_172 (dk_at dksX3_toldAs_2 1 rfl rfl)
theorem dX3_toldAs_50 : decode cX3_toldAs 50 = .ok (.aload_n 0, 1) := dk_42 (dk_at dksX3_toldAs_2 2 rfl rfl)
theorem dX3_toldAs_51 : decode cX3_toldAs 51 = .ok (.aload_n 0, 1) := dk_42 (dk_at dksX3_toldAs_2 3 rfl rfl)
theorem dX3_toldAs_52 : decode cX3_toldAs 52 = .ok (.getfield 41, 3) := dk_180 0 41 (dk_at dksX3_toldAs_2 4 rfl rfl)
theorem dX3_toldAs_55 : decode cX3_toldAs 55 = .ok (.iload_n 1, 1) := dk_27 (dk_at dksX3_toldAs_2 7 rfl rfl)
theorem dX3_toldAs_56 : decode cX3_toldAs 56 = .ok (.iaload, 1) := dk_46 (dk_at dksX3_toldAs_2 8 rfl rfl)
theorem dX3_toldAs_57 : decode cX3_toldAs 57 = .ok (.invokevirtual 215, 3) := dk_182 0 215 (dk_at dksX3_toldAs_2 9 rfl rfl)
theorem dX3_toldAs_60 : decode cX3_toldAs 60 = .ok (.ifCond .ne 5, 3) := dk_154 0 5 (dk_at dksX3_toldAs_2 12 rfl rfl)
theorem dX3_toldAs_63 : decode cX3_toldAs 63 = .ok (.iconst (-1), 1) := dk_2 (dk_at dksX3_toldAs_2 15 rfl rfl)
theorem dX3_toldAs_64 : decode cX3_toldAs 64 = .ok (.ireturn, 1) := dk_172 (dk_at dksX3_toldAs_2 16 rfl rfl)
theorem dX3_toldAs_65 : decode cX3_toldAs 65 = .ok (.aload_n 0, 1) := dk_42 (dk_at dksX3_toldAs_2 17 rfl rfl)
theorem dX3_toldAs_66 : decode cX3_toldAs 66 = .ok (.bipush 40, 2) := dk_16 40 (dk_at dksX3_toldAs_2 18 rfl rfl)
theorem dX3_toldAs_68 : decode cX3_toldAs 68 = .ok (.bipush 8, 2) := dk_16 8 (dk_at dksX3_toldAs_2 20 rfl rfl)
theorem dX3_toldAs_70 : decode cX3_toldAs 70 = .ok (.iload_n 1, 1) := dk_27 (dk_at dksX3_toldAs_2 22 rfl rfl)
theorem dX3_toldAs_71 : decode cX3_toldAs 71 = .ok (.imul, 1) := dk_104 (dk_at dksX3_toldAs_2 23 rfl rfl)
theorem dX3_toldAs_72 : decode cX3_toldAs 72 = .ok (.iadd, 1) := dk_96 (dk_at dksX3_toldAs_3 0 rfl rfl)
theorem dX3_toldAs_73 : decode cX3_toldAs 73 = .ok (.aload_n 0, 1) := dk_42 (dk_at dksX3_toldAs_3 1 rfl rfl)
theorem dX3_toldAs_74 : decode cX3_toldAs 74 = .ok (.getfield 38, 3) := dk_180 0 38 (dk_at dksX3_toldAs_3 2 rfl rfl)
theorem dX3_toldAs_77 : decode cX3_toldAs 77 = .ok (.iload_n 1, 1) := dk_27 (dk_at dksX3_toldAs_3 5 rfl rfl)
theorem dX3_toldAs_78 : decode cX3_toldAs 78 = .ok (.iaload, 1) := dk_46 (dk_at dksX3_toldAs_3 6 rfl rfl)
theorem dX3_toldAs_79 : decode cX3_toldAs 79 = .ok (.invokevirtual 332, 3) := dk_182 1 76 (dk_at dksX3_toldAs_3 7 rfl rfl)
theorem dX3_toldAs_82 : decode cX3_toldAs 82 = .ok (.aload_n 0, 1) := dk_42 (dk_at dksX3_toldAs_3 10 rfl rfl)
theorem dX3_toldAs_83 : decode cX3_toldAs 83 = .ok (.aload_n 0, 1) := dk_42 (dk_at dksX3_toldAs_3 11 rfl rfl)
theorem dX3_toldAs_84 : decode cX3_toldAs 84 = .ok (.getfield 41, 3) := dk_180 0 41 (dk_at dksX3_toldAs_3 12 rfl rfl)
theorem dX3_toldAs_87 : decode cX3_toldAs 87 = .ok (.iload_n 1, 1) := dk_27 (dk_at dksX3_toldAs_3 15 rfl rfl)
theorem dX3_toldAs_88 : decode cX3_toldAs 88 = .ok (.iaload, 1) := dk_46 (dk_at dksX3_toldAs_3 16 rfl rfl)
theorem dX3_toldAs_89 : decode cX3_toldAs 89 = .ok (.invokevirtual 325, 3) := dk_182 1 69 (dk_at dksX3_toldAs_3 17 rfl rfl)
theorem dX3_toldAs_92 : decode cX3_toldAs 92 = .ok (.ireturn, 1) := dk_172 (dk_at dksX3_toldAs_3 20 rfl rfl)
abbrev cX3_fits : ByteArray := prog_12_method_112_code
def yX3_fits : MethodName := ⟨RX3, "fits", "(II)I"⟩
def dkwX3_fits_3 : List UInt8 := [28, 2, 160, 0, 7, 29, 167, 0, 4, 2, 172]
abbrev dktX3_fits_3 : List UInt8 := dkwX3_fits_3 ++ []
def dkwX3_fits_2 : List UInt8 := [46, 154, 0, 6, 167, 0, 14, 29, 28, 160, 0, 6, 21, 4, 172, 132, 3, 1, 132, 4, 1, 167, 255, 220]
abbrev dktX3_fits_2 : List UInt8 := dkwX3_fits_2 ++ dktX3_fits_3
def dkwX3_fits_1 : List UInt8 := [27, 182, 1, 121, 3, 62, 3, 54, 4, 21, 4, 27, 184, 1, 112, 162, 0, 33, 42, 180, 0, 119, 21, 4]
abbrev dktX3_fits_1 : List UInt8 := dkwX3_fits_1 ++ dktX3_fits_2
def dkwX3_fits_0 : List UInt8 := [27, 3, 5, 184, 0, 171, 153, 0, 15, 42, 180, 0, 29, 153, 0, 8, 28, 2, 162, 0, 5, 2, 172, 42]
abbrev dktX3_fits_0 : List UInt8 := dkwX3_fits_0 ++ dktX3_fits_1
theorem dksX3_fits_0 : cX3_fits.data.toList.drop 0 = dktX3_fits_0 := by decide +kernel
theorem dksX3_fits_1 : cX3_fits.data.toList.drop 24 = dktX3_fits_1 := dk_seg dksX3_fits_0 24 rfl rfl
theorem dksX3_fits_2 : cX3_fits.data.toList.drop 48 = dktX3_fits_2 := dk_seg dksX3_fits_1 24 rfl rfl
theorem dksX3_fits_3 : cX3_fits.data.toList.drop 72 = dktX3_fits_3 := dk_seg dksX3_fits_2 24 rfl rfl
theorem dX3_fits_0 : decode cX3_fits 0 = .ok (.iload_n 1, 1) := dk_27 (dk_at dksX3_fits_0 0 rfl rfl)
theorem dX3_fits_1 : decode cX3_fits 1 = .ok (.iconst 0, 1) := dk_3 (dk_at dksX3_fits_0 1 rfl rfl)
theorem dX3_fits_2 : decode cX3_fits 2 = .ok (.iconst 2, 1) := dk_5 (dk_at dksX3_fits_0 2 rfl rfl)
theorem dX3_fits_3 : decode cX3_fits 3 = .ok (.invokestatic 171, 3) := dk_184 0 171 (dk_at dksX3_fits_0 3 rfl rfl)
theorem dX3_fits_6 : decode cX3_fits 6 = .ok (.ifCond .eq 15, 3) := dk_153 0 15 (dk_at dksX3_fits_0 6 rfl rfl)
theorem dX3_fits_9 : decode cX3_fits 9 = .ok (.aload_n 0, 1) := dk_42 (dk_at dksX3_fits_0 9 rfl rfl)
theorem dX3_fits_10 : decode cX3_fits 10 = .ok (.getfield 29, 3) := dk_180 0 29 (dk_at dksX3_fits_0 10 rfl rfl)
theorem dX3_fits_13 : decode cX3_fits 13 = .ok (.ifCond .eq 8, 3) := dk_153 0 8 (dk_at dksX3_fits_0 13 rfl rfl)
theorem dX3_fits_16 : decode cX3_fits 16 = .ok (.iload_n 2, 1) := dk_28 (dk_at dksX3_fits_0 16 rfl rfl)
theorem dX3_fits_17 : decode cX3_fits 17 = .ok (.iconst (-1), 1) := dk_2 (dk_at dksX3_fits_0 17 rfl rfl)
theorem dX3_fits_18 : decode cX3_fits 18 = .ok (.if_icmp .ge 5, 3) := dk_162 0 5 (dk_at dksX3_fits_0 18 rfl rfl)
theorem dX3_fits_21 : decode cX3_fits 21 = .ok (.iconst (-1), 1) := dk_2 (dk_at dksX3_fits_0 21 rfl rfl)
theorem dX3_fits_22 : decode cX3_fits 22 = .ok (.ireturn, 1) := dk_172 (dk_at dksX3_fits_0 22 rfl rfl)
theorem dX3_fits_23 : decode cX3_fits 23 = .ok (.aload_n 0, 1) := dk_42 (dk_at dksX3_fits_0 23 rfl rfl)
theorem dX3_fits_24 : decode cX3_fits 24 = .ok (.iload_n 1, 1) := dk_27 (dk_at dksX3_fits_1 0 rfl rfl)
theorem dX3_fits_25 : decode cX3_fits 25 = .ok (.invokevirtual 377, 3) := dk_182 1 121 (dk_at dksX3_fits_1 1 rfl rfl)
theorem dX3_fits_28 : decode cX3_fits 28 = .ok (.iconst 0, 1) := dk_3 (dk_at dksX3_fits_1 4 rfl rfl)
theorem dX3_fits_29 : decode cX3_fits 29 = .ok (.istore_n 3, 1) := dk_62 (dk_at dksX3_fits_1 5 rfl rfl)
theorem dX3_fits_30 : decode cX3_fits 30 = .ok (.iconst 0, 1) := dk_3 (dk_at dksX3_fits_1 6 rfl rfl)
theorem dX3_fits_31 : decode cX3_fits 31 = .ok (.istore 4, 2) := dk_54 4 (dk_at dksX3_fits_1 7 rfl rfl)
theorem dX3_fits_33 : decode cX3_fits 33 = .ok (.iload 4, 2) := dk_21 4 (dk_at dksX3_fits_1 9 rfl rfl)
theorem dX3_fits_35 : decode cX3_fits 35 = .ok (.iload_n 1, 1) := dk_27 (dk_at dksX3_fits_1 11 rfl rfl)
theorem dX3_fits_36 : decode cX3_fits 36 = .ok (.invokestatic 368, 3) := dk_184 1 112 (dk_at dksX3_fits_1 12 rfl rfl)
theorem dX3_fits_39 : decode cX3_fits 39 = .ok (.if_icmp .ge 33, 3) := dk_162 0 33 (dk_at dksX3_fits_1 15 rfl rfl)
theorem dX3_fits_42 : decode cX3_fits 42 = .ok (.aload_n 0, 1) := dk_42 (dk_at dksX3_fits_1 18 rfl rfl)
theorem dX3_fits_43 : decode cX3_fits 43 = .ok (.getfield 119, 3) := dk_180 0 119 (dk_at dksX3_fits_1 19 rfl rfl)
theorem dX3_fits_46 : decode cX3_fits 46 = .ok (.iload 4, 2) := dk_21 4 (dk_at dksX3_fits_1 22 rfl rfl)
theorem dX3_fits_48 : decode cX3_fits 48 = .ok (.iaload, 1) := dk_46 (dk_at dksX3_fits_2 0 rfl rfl)
theorem dX3_fits_49 : decode cX3_fits 49 = .ok (.ifCond .ne 6, 3) := dk_154 0 6 (dk_at dksX3_fits_2 1 rfl rfl)
theorem dX3_fits_52 : decode cX3_fits 52 = .ok (.goto 14, 3) := dk_167 0 14 (dk_at dksX3_fits_2 4 rfl rfl)
theorem dX3_fits_55 : decode cX3_fits 55 = .ok (.iload_n 3, 1) := dk_29 (dk_at dksX3_fits_2 7 rfl rfl)
theorem dX3_fits_56 : decode cX3_fits 56 = .ok (.iload_n 2, 1) := dk_28 (dk_at dksX3_fits_2 8 rfl rfl)
theorem dX3_fits_57 : decode cX3_fits 57 = .ok (.if_icmp .ne 6, 3) := dk_160 0 6 (dk_at dksX3_fits_2 9 rfl rfl)
theorem dX3_fits_60 : decode cX3_fits 60 = .ok (.iload 4, 2) := dk_21 4 (dk_at dksX3_fits_2 12 rfl rfl)
theorem dX3_fits_62 : decode cX3_fits 62 = .ok (.ireturn, 1) := dk_172 (dk_at dksX3_fits_2 14 rfl rfl)
theorem dX3_fits_63 : decode cX3_fits 63 = .ok (.iinc 3 1, 3) := dk_132 3 1 (dk_at dksX3_fits_2 15 rfl rfl)
theorem dX3_fits_66 : decode cX3_fits 66 = .ok (.iinc 4 1, 3) := dk_132 4 1 (dk_at dksX3_fits_2 18 rfl rfl)
theorem dX3_fits_69 : decode cX3_fits 69 = .ok (.goto (-36), 3) := dk_167 255 220 (dk_at dksX3_fits_2 21 rfl rfl)
theorem dX3_fits_72 : decode cX3_fits 72 = .ok (.iload_n 2, 1) := dk_28 (dk_at dksX3_fits_3 0 rfl rfl)
theorem dX3_fits_73 : decode cX3_fits 73 = .ok (.iconst (-1), 1) := dk_2 (dk_at dksX3_fits_3 1 rfl rfl)
theorem dX3_fits_74 : decode cX3_fits 74 = .ok (.if_icmp .ne 7, 3) := dk_160 0 7 (dk_at dksX3_fits_3 2 rfl rfl)
theorem dX3_fits_77 : decode cX3_fits 77 = .ok (.iload_n 3, 1) := dk_29 (dk_at dksX3_fits_3 5 rfl rfl)
theorem dX3_fits_78 : decode cX3_fits 78 = .ok (.goto 4, 3) := dk_167 0 4 (dk_at dksX3_fits_3 6 rfl rfl)
theorem dX3_fits_81 : decode cX3_fits 81 = .ok (.iconst (-1), 1) := dk_2 (dk_at dksX3_fits_3 9 rfl rfl)
theorem dX3_fits_82 : decode cX3_fits 82 = .ok (.ireturn, 1) := dk_172 (dk_at dksX3_fits_3 10 rfl rfl)
abbrev cX3_laysAllRight : ByteArray := prog_12_method_111_code
def yX3_laysAllRight : MethodName := ⟨RX3, "laysAllRight", "(I)V"⟩
def dkwX3_laysAllRight_2 : List UInt8 := [132, 2, 1, 167, 255, 239, 177]
abbrev dktX3_laysAllRight_2 : List UInt8 := dkwX3_laysAllRight_2 ++ []
def dkwX3_laysAllRight_1 : List UInt8 := [132, 2, 1, 167, 255, 231, 3, 61, 28, 42, 180, 0, 29, 162, 0, 15, 42, 28, 27, 182, 1, 118]
abbrev dktX3_laysAllRight_1 : List UInt8 := dkwX3_laysAllRight_1 ++ dktX3_laysAllRight_2
def dkwX3_laysAllRight_0 : List UInt8 := [3, 61, 28, 16, 41, 162, 0, 25, 42, 180, 0, 119, 28, 4, 79, 42, 180, 0, 122, 28, 19, 1, 19, 79]
abbrev dktX3_laysAllRight_0 : List UInt8 := dkwX3_laysAllRight_0 ++ dktX3_laysAllRight_1
theorem dksX3_laysAllRight_0 : cX3_laysAllRight.data.toList.drop 0 = dktX3_laysAllRight_0 := by decide +kernel
theorem dksX3_laysAllRight_1 : cX3_laysAllRight.data.toList.drop 24 = dktX3_laysAllRight_1 := dk_seg dksX3_laysAllRight_0 24 rfl rfl
theorem dksX3_laysAllRight_2 : cX3_laysAllRight.data.toList.drop 46 = dktX3_laysAllRight_2 := dk_seg dksX3_laysAllRight_1 22 rfl rfl
theorem dX3_laysAllRight_0 : decode cX3_laysAllRight 0 = .ok (.iconst 0, 1) := dk_3 (dk_at dksX3_laysAllRight_0 0 rfl rfl)
theorem dX3_laysAllRight_1 : decode cX3_laysAllRight 1 = .ok (.istore_n 2, 1) := dk_61 (dk_at dksX3_laysAllRight_0 1 rfl rfl)
theorem dX3_laysAllRight_2 : decode cX3_laysAllRight 2 = .ok (.iload_n 2, 1) := dk_28 (dk_at dksX3_laysAllRight_0 2 rfl rfl)
theorem dX3_laysAllRight_3 : decode cX3_laysAllRight 3 = .ok (.bipush 41, 2) := dk_16 41 (dk_at dksX3_laysAllRight_0 3 rfl rfl)
theorem dX3_laysAllRight_5 : decode cX3_laysAllRight 5 = .ok (.if_icmp .ge 25, 3) := dk_162 0 25 (dk_at dksX3_laysAllRight_0 5 rfl rfl)
theorem dX3_laysAllRight_8 : decode cX3_laysAllRight 8 = .ok (.aload_n 0, 1) := dk_42 (dk_at dksX3_laysAllRight_0 8 rfl rfl)
theorem dX3_laysAllRight_9 : decode cX3_laysAllRight 9 = .ok (.getfield 119, 3) := dk_180 0 119 (dk_at dksX3_laysAllRight_0 9 rfl rfl)
theorem dX3_laysAllRight_12 : decode cX3_laysAllRight 12 = .ok (.iload_n 2, 1) := dk_28 (dk_at dksX3_laysAllRight_0 12 rfl rfl)
theorem dX3_laysAllRight_13 : decode cX3_laysAllRight 13 = .ok (.iconst 1, 1) := dk_4 (dk_at dksX3_laysAllRight_0 13 rfl rfl)
theorem dX3_laysAllRight_14 : decode cX3_laysAllRight 14 = .ok (.iastore, 1) := dk_79 (dk_at dksX3_laysAllRight_0 14 rfl rfl)
theorem dX3_laysAllRight_15 : decode cX3_laysAllRight 15 = .ok (.aload_n 0, 1) := dk_42 (dk_at dksX3_laysAllRight_0 15 rfl rfl)
theorem dX3_laysAllRight_16 : decode cX3_laysAllRight 16 = .ok (.getfield 122, 3) := dk_180 0 122 (dk_at dksX3_laysAllRight_0 16 rfl rfl)
theorem dX3_laysAllRight_19 : decode cX3_laysAllRight 19 = .ok (.iload_n 2, 1) := dk_28 (dk_at dksX3_laysAllRight_0 19 rfl rfl)
theorem dX3_laysAllRight_20 : decode cX3_laysAllRight 20 = .ok (.ldc_w 275, 3) := dk_19 1 19 (dk_at dksX3_laysAllRight_0 20 rfl rfl)
theorem dX3_laysAllRight_23 : decode cX3_laysAllRight 23 = .ok (.iastore, 1) := dk_79 (dk_at dksX3_laysAllRight_0 23 rfl rfl)
theorem dX3_laysAllRight_24 : decode cX3_laysAllRight 24 = .ok (.iinc 2 1, 3) := dk_132 2 1 (dk_at dksX3_laysAllRight_1 0 rfl rfl)
theorem dX3_laysAllRight_27 : decode cX3_laysAllRight 27 = .ok (.goto (-25), 3) := dk_167 255 231 (dk_at dksX3_laysAllRight_1 3 rfl rfl)
theorem dX3_laysAllRight_30 : decode cX3_laysAllRight 30 = .ok (.iconst 0, 1) := dk_3 (dk_at dksX3_laysAllRight_1 6 rfl rfl)
theorem dX3_laysAllRight_31 : decode cX3_laysAllRight 31 = .ok (.istore_n 2, 1) := dk_61 (dk_at dksX3_laysAllRight_1 7 rfl rfl)
theorem dX3_laysAllRight_32 : decode cX3_laysAllRight 32 = .ok (.iload_n 2, 1) := dk_28 (dk_at dksX3_laysAllRight_1 8 rfl rfl)
theorem dX3_laysAllRight_33 : decode cX3_laysAllRight 33 = .ok (.aload_n 0, 1) := dk_42 (dk_at dksX3_laysAllRight_1 9 rfl rfl)
theorem dX3_laysAllRight_34 : decode cX3_laysAllRight 34 = .ok (.getfield 29, 3) := dk_180 0 29 (dk_at dksX3_laysAllRight_1 10 rfl rfl)
theorem dX3_laysAllRight_37 : decode cX3_laysAllRight 37 = .ok (.if_icmp .ge 15, 3) := dk_162 0 15 (dk_at dksX3_laysAllRight_1 13 rfl rfl)
theorem dX3_laysAllRight_40 : decode cX3_laysAllRight 40 = .ok (.aload_n 0, 1) := dk_42 (dk_at dksX3_laysAllRight_1 16 rfl rfl)
theorem dX3_laysAllRight_41 : decode cX3_laysAllRight 41 = .ok (.iload_n 2, 1) := dk_28 (dk_at dksX3_laysAllRight_1 17 rfl rfl)
theorem dX3_laysAllRight_42 : decode cX3_laysAllRight 42 = .ok (.iload_n 1, 1) := dk_27 (dk_at dksX3_laysAllRight_1 18 rfl rfl)
theorem dX3_laysAllRight_43 : decode cX3_laysAllRight 43 = .ok (.invokevirtual 374, 3) := dk_182 1 118 (dk_at dksX3_laysAllRight_1 19 rfl rfl)
theorem dX3_laysAllRight_46 : decode cX3_laysAllRight 46 = .ok (.iinc 2 1, 3) := dk_132 2 1 (dk_at dksX3_laysAllRight_2 0 rfl rfl)
theorem dX3_laysAllRight_49 : decode cX3_laysAllRight 49 = .ok (.goto (-17), 3) := dk_167 255 239 (dk_at dksX3_laysAllRight_2 3 rfl rfl)
theorem dX3_laysAllRight_52 : decode cX3_laysAllRight 52 = .ok (.return_, 1) := dk_177 (dk_at dksX3_laysAllRight_2 6 rfl rfl)
abbrev cX3_laysRight : ByteArray := prog_12_method_110_code
def yX3_laysRight : MethodName := ⟨RX3, "laysRight", "(II)V"⟩
def dkwX3_laysRight_8 : List UInt8 := [132, 4, 1, 167, 255, 82, 177]
abbrev dktX3_laysRight_8 : List UInt8 := dkwX3_laysRight_8 ++ []
def dkwX3_laysRight_7 : List UInt8 := [167, 0, 4, 3, 79, 42, 180, 0, 122, 21, 4, 42, 180, 0, 122, 21, 4, 46, 21, 5, 184, 1, 2, 79]
abbrev dktX3_laysRight_7 : List UInt8 := dkwX3_laysRight_7 ++ dktX3_laysRight_8
def dkwX3_laysRight_6 : List UInt8 := [132, 7, 1, 167, 255, 154, 42, 180, 0, 119, 21, 4, 21, 6, 153, 0, 13, 42, 180, 0, 119, 21, 4, 46]
abbrev dktX3_laysRight_6 : List UInt8 := dkwX3_laysRight_6 ++ dktX3_laysRight_7
def dkwX3_laysRight_5 : List UInt8 := [21, 7, 29, 164, 0, 7, 4, 167, 0, 4, 3, 54, 6, 21, 5, 21, 8, 184, 1, 2, 54, 5]
abbrev dktX3_laysRight_5 : List UInt8 := dkwX3_laysRight_5 ++ dktX3_laysRight_6
def dkwX3_laysRight_4 : List UInt8 := [46, 167, 0, 4, 3, 100, 54, 8, 21, 6, 153, 0, 23, 21, 8, 157, 0, 14, 21, 8, 154, 0, 13]
abbrev dktX3_laysRight_4 : List UInt8 := dkwX3_laysRight_4 ++ dktX3_laysRight_5
def dkwX3_laysRight_3 : List UInt8 := [104, 21, 4, 96, 46, 42, 29, 182, 0, 215, 153, 0, 18, 42, 180, 0, 125, 16, 41, 29, 104, 21, 4, 96]
abbrev dktX3_laysRight_3 : List UInt8 := dkwX3_laysRight_3 ++ dktX3_laysRight_4
def dkwX3_laysRight_2 : List UInt8 := [17, 3, 232, 46, 162, 0, 95, 21, 7, 29, 160, 0, 6, 167, 0, 80, 42, 180, 0, 125, 16, 41, 21, 7]
abbrev dktX3_laysRight_2 : List UInt8 := dkwX3_laysRight_2 ++ dktX3_laysRight_3
def dkwX3_laysRight_1 : List UInt8 := [162, 0, 171, 19, 1, 19, 54, 5, 42, 29, 182, 0, 215, 54, 6, 3, 54, 7, 21, 7, 42, 180, 0, 7]
abbrev dktX3_laysRight_1 : List UInt8 := dkwX3_laysRight_1 ++ dktX3_laysRight_2
def dkwX3_laysRight_0 : List UInt8 := [42, 27, 28, 182, 1, 115, 42, 180, 0, 41, 27, 46, 62, 3, 54, 4, 21, 4, 28, 184, 1, 112]
abbrev dktX3_laysRight_0 : List UInt8 := dkwX3_laysRight_0 ++ dktX3_laysRight_1
theorem dksX3_laysRight_0 : cX3_laysRight.data.toList.drop 0 = dktX3_laysRight_0 := by decide +kernel
theorem dksX3_laysRight_1 : cX3_laysRight.data.toList.drop 22 = dktX3_laysRight_1 := dk_seg dksX3_laysRight_0 22 rfl rfl
theorem dksX3_laysRight_2 : cX3_laysRight.data.toList.drop 46 = dktX3_laysRight_2 := dk_seg dksX3_laysRight_1 24 rfl rfl
theorem dksX3_laysRight_3 : cX3_laysRight.data.toList.drop 70 = dktX3_laysRight_3 := dk_seg dksX3_laysRight_2 24 rfl rfl
theorem dksX3_laysRight_4 : cX3_laysRight.data.toList.drop 94 = dktX3_laysRight_4 := dk_seg dksX3_laysRight_3 24 rfl rfl
theorem dksX3_laysRight_5 : cX3_laysRight.data.toList.drop 117 = dktX3_laysRight_5 := dk_seg dksX3_laysRight_4 23 rfl rfl
theorem dksX3_laysRight_6 : cX3_laysRight.data.toList.drop 139 = dktX3_laysRight_6 := dk_seg dksX3_laysRight_5 22 rfl rfl
theorem dksX3_laysRight_7 : cX3_laysRight.data.toList.drop 163 = dktX3_laysRight_7 := dk_seg dksX3_laysRight_6 24 rfl rfl
theorem dksX3_laysRight_8 : cX3_laysRight.data.toList.drop 187 = dktX3_laysRight_8 := dk_seg dksX3_laysRight_7 24 rfl rfl
theorem dX3_laysRight_0 : decode cX3_laysRight 0 = .ok (.aload_n 0, 1) := dk_42 (dk_at dksX3_laysRight_0 0 rfl rfl)
theorem dX3_laysRight_1 : decode cX3_laysRight 1 = .ok (.iload_n 1, 1) := dk_27 (dk_at dksX3_laysRight_0 1 rfl rfl)
theorem dX3_laysRight_2 : decode cX3_laysRight 2 = .ok (.iload_n 2, 1) := dk_28 (dk_at dksX3_laysRight_0 2 rfl rfl)
theorem dX3_laysRight_3 : decode cX3_laysRight 3 = .ok (.invokevirtual 371, 3) := dk_182 1 115 (dk_at dksX3_laysRight_0 3 rfl rfl)
theorem dX3_laysRight_6 : decode cX3_laysRight 6 = .ok (.aload_n 0, 1) := dk_42 (dk_at dksX3_laysRight_0 6 rfl rfl)
theorem dX3_laysRight_7 : decode cX3_laysRight 7 = .ok (.getfield 41, 3) := dk_180 0 41 (dk_at dksX3_laysRight_0 7 rfl rfl)
theorem dX3_laysRight_10 : decode cX3_laysRight 10 = .ok (.iload_n 1, 1) := dk_27 (dk_at dksX3_laysRight_0 10 rfl rfl)
theorem dX3_laysRight_11 : decode cX3_laysRight 11 = .ok (.iaload, 1) := dk_46 (dk_at dksX3_laysRight_0 11 rfl rfl)
theorem dX3_laysRight_12 : decode cX3_laysRight 12 = .ok (.istore_n 3, 1) := dk_62 (dk_at dksX3_laysRight_0 12 rfl rfl)
theorem dX3_laysRight_13 : decode cX3_laysRight 13 = .ok (.iconst 0, 1) := dk_3 (dk_at dksX3_laysRight_0 13 rfl rfl)
theorem dX3_laysRight_14 : decode cX3_laysRight 14 = .ok (.istore 4, 2) := dk_54 4 (dk_at dksX3_laysRight_0 14 rfl rfl)
theorem dX3_laysRight_16 : decode cX3_laysRight 16 = .ok (.iload 4, 2) := dk_21 4 (dk_at dksX3_laysRight_0 16 rfl rfl)
theorem dX3_laysRight_18 : decode cX3_laysRight 18 = .ok (.iload_n 2, 1) := dk_28 (dk_at dksX3_laysRight_0 18 rfl rfl)
theorem dX3_laysRight_19 : decode cX3_laysRight 19 = .ok (.invokestatic 368, 3) := dk_184 1 112 (dk_at dksX3_laysRight_0 19 rfl rfl)
theorem dX3_laysRight_22 : decode cX3_laysRight 22 = .ok (.if_icmp .ge 171, 3) := dk_162 0 171 (dk_at dksX3_laysRight_1 0 rfl rfl)
theorem dX3_laysRight_25 : decode cX3_laysRight 25 = .ok (.ldc_w 275, 3) := dk_19 1 19 (dk_at dksX3_laysRight_1 3 rfl rfl)
theorem dX3_laysRight_28 : decode cX3_laysRight 28 = .ok (.istore 5, 2) := dk_54 5 (dk_at dksX3_laysRight_1 6 rfl rfl)
theorem dX3_laysRight_30 : decode cX3_laysRight 30 = .ok (.aload_n 0, 1) := dk_42 (dk_at dksX3_laysRight_1 8 rfl rfl)
theorem dX3_laysRight_31 : decode cX3_laysRight 31 = .ok (.iload_n 3, 1) := dk_29 (dk_at dksX3_laysRight_1 9 rfl rfl)
theorem dX3_laysRight_32 : decode cX3_laysRight 32 = .ok (.invokevirtual 215, 3) := dk_182 0 215 (dk_at dksX3_laysRight_1 10 rfl rfl)
theorem dX3_laysRight_35 : decode cX3_laysRight 35 = .ok (.istore 6, 2) := dk_54 6 (dk_at dksX3_laysRight_1 13 rfl rfl)
theorem dX3_laysRight_37 : decode cX3_laysRight 37 = .ok (.iconst 0, 1) := dk_3 (dk_at dksX3_laysRight_1 15 rfl rfl)
theorem dX3_laysRight_38 : decode cX3_laysRight 38 = .ok (.istore 7, 2) := dk_54 7 (dk_at dksX3_laysRight_1 16 rfl rfl)
theorem dX3_laysRight_40 : decode cX3_laysRight 40 = .ok (.iload 7, 2) := dk_21 7 (dk_at dksX3_laysRight_1 18 rfl rfl)
theorem dX3_laysRight_42 : decode cX3_laysRight 42 = .ok (.aload_n 0, 1) := dk_42 (dk_at dksX3_laysRight_1 20 rfl rfl)
theorem dX3_laysRight_43 : decode cX3_laysRight 43 = .ok (.getfield 7, 3) := dk_180 0 7 (dk_at dksX3_laysRight_1 21 rfl rfl)
theorem dX3_laysRight_46 : decode cX3_laysRight 46 = .ok (.sipush 1000, 3) := dk_17 3 232 (dk_at dksX3_laysRight_2 0 rfl rfl)
theorem dX3_laysRight_49 : decode cX3_laysRight 49 = .ok (.iaload, 1) := dk_46 (dk_at dksX3_laysRight_2 3 rfl rfl)
theorem dX3_laysRight_50 : decode cX3_laysRight 50 = .ok (.if_icmp .ge 95, 3) := dk_162 0 95 (dk_at dksX3_laysRight_2 4 rfl rfl)
theorem dX3_laysRight_53 : decode cX3_laysRight 53 = .ok (.iload 7, 2) := dk_21 7 (dk_at dksX3_laysRight_2 7 rfl rfl)
theorem dX3_laysRight_55 : decode cX3_laysRight 55 = .ok (.iload_n 3, 1) := dk_29 (dk_at dksX3_laysRight_2 9 rfl rfl)
theorem dX3_laysRight_56 : decode cX3_laysRight 56 = .ok (.if_icmp .ne 6, 3) := dk_160 0 6 (dk_at dksX3_laysRight_2 10 rfl rfl)
theorem dX3_laysRight_59 : decode cX3_laysRight 59 = .ok (.goto 80, 3) := dk_167 0 80 (dk_at dksX3_laysRight_2 13 rfl rfl)
theorem dX3_laysRight_62 : decode cX3_laysRight 62 = .ok (.aload_n 0, 1) := dk_42 (dk_at dksX3_laysRight_2 16 rfl rfl)
theorem dX3_laysRight_63 : decode cX3_laysRight 63 = .ok (.getfield 125, 3) := dk_180 0 125 (dk_at dksX3_laysRight_2 17 rfl rfl)
theorem dX3_laysRight_66 : decode cX3_laysRight 66 = .ok (.bipush 41, 2) := dk_16 41 (dk_at dksX3_laysRight_2 20 rfl rfl)
theorem dX3_laysRight_68 : decode cX3_laysRight 68 = .ok (.iload 7, 2) := dk_21 7 (dk_at dksX3_laysRight_2 22 rfl rfl)
theorem dX3_laysRight_70 : decode cX3_laysRight 70 = .ok (.imul, 1) := dk_104 (dk_at dksX3_laysRight_3 0 rfl rfl)
theorem dX3_laysRight_71 : decode cX3_laysRight 71 = .ok (.iload 4, 2) := dk_21 4 (dk_at dksX3_laysRight_3 1 rfl rfl)
theorem dX3_laysRight_73 : decode cX3_laysRight 73 = .ok (.iadd, 1) := dk_96 (dk_at dksX3_laysRight_3 3 rfl rfl)
theorem dX3_laysRight_74 : decode cX3_laysRight 74 = .ok (.iaload, 1) := dk_46 (dk_at dksX3_laysRight_3 4 rfl rfl)
theorem dX3_laysRight_75 : decode cX3_laysRight 75 = .ok (.aload_n 0, 1) := dk_42 (dk_at dksX3_laysRight_3 5 rfl rfl)
theorem dX3_laysRight_76 : decode cX3_laysRight 76 = .ok (.iload_n 3, 1) := dk_29 (dk_at dksX3_laysRight_3 6 rfl rfl)
theorem dX3_laysRight_77 : decode cX3_laysRight 77 = .ok (.invokevirtual 215, 3) := dk_182 0 215 (dk_at dksX3_laysRight_3 7 rfl rfl)
theorem dX3_laysRight_80 : decode cX3_laysRight 80 = .ok (.ifCond .eq 18, 3) := dk_153 0 18 (dk_at dksX3_laysRight_3 10 rfl rfl)
theorem dX3_laysRight_83 : decode cX3_laysRight 83 = .ok (.aload_n 0, 1) := dk_42 (dk_at dksX3_laysRight_3 13 rfl rfl)
theorem dX3_laysRight_84 : decode cX3_laysRight 84 = .ok (.getfield 125, 3) := dk_180 0 125 (dk_at dksX3_laysRight_3 14 rfl rfl)
theorem dX3_laysRight_87 : decode cX3_laysRight 87 = .ok (.bipush 41, 2) := dk_16 41 (dk_at dksX3_laysRight_3 17 rfl rfl)
theorem dX3_laysRight_89 : decode cX3_laysRight 89 = .ok (.iload_n 3, 1) := dk_29 (dk_at dksX3_laysRight_3 19 rfl rfl)
theorem dX3_laysRight_90 : decode cX3_laysRight 90 = .ok (.imul, 1) := dk_104 (dk_at dksX3_laysRight_3 20 rfl rfl)
theorem dX3_laysRight_91 : decode cX3_laysRight 91 = .ok (.iload 4, 2) := dk_21 4 (dk_at dksX3_laysRight_3 21 rfl rfl)
theorem dX3_laysRight_93 : decode cX3_laysRight 93 = .ok (.iadd, 1) := dk_96 (dk_at dksX3_laysRight_3 23 rfl rfl)
theorem dX3_laysRight_94 : decode cX3_laysRight 94 = .ok (.iaload, 1) := dk_46 (dk_at dksX3_laysRight_4 0 rfl rfl)
theorem dX3_laysRight_95 : decode cX3_laysRight 95 = .ok (.goto 4, 3) := dk_167 0 4 (dk_at dksX3_laysRight_4 1 rfl rfl)
theorem dX3_laysRight_98 : decode cX3_laysRight 98 = .ok (.iconst 0, 1) := dk_3 (dk_at dksX3_laysRight_4 4 rfl rfl)
theorem dX3_laysRight_99 : decode cX3_laysRight 99 = .ok (.isub, 1) := dk_100 (dk_at dksX3_laysRight_4 5 rfl rfl)
theorem dX3_laysRight_100 : decode cX3_laysRight 100 = .ok (.istore 8, 2) := dk_54 8 (dk_at dksX3_laysRight_4 6 rfl rfl)
theorem dX3_laysRight_102 : decode cX3_laysRight 102 = .ok (.iload 6, 2) := dk_21 6 (dk_at dksX3_laysRight_4 8 rfl rfl)
theorem dX3_laysRight_104 : decode cX3_laysRight 104 = .ok (.ifCond .eq 23, 3) := dk_153 0 23 (dk_at dksX3_laysRight_4 10 rfl rfl)
theorem dX3_laysRight_107 : decode cX3_laysRight 107 = .ok (.iload 8, 2) := dk_21 8 (dk_at dksX3_laysRight_4 13 rfl rfl)
theorem dX3_laysRight_109 : decode cX3_laysRight 109 = .ok (.ifCond .gt 14, 3) := dk_157 0 14 (dk_at dksX3_laysRight_4 15 rfl rfl)
theorem dX3_laysRight_112 : decode cX3_laysRight 112 = .ok (.iload 8, 2) := dk_21 8 (dk_at dksX3_laysRight_4 18 rfl rfl)
theorem dX3_laysRight_114 : decode cX3_laysRight 114 = .ok (.ifCond .ne 13, 3) := dk_154 0 13 (dk_at dksX3_laysRight_4 20 rfl rfl)
theorem dX3_laysRight_117 : decode cX3_laysRight 117 = .ok (.iload 7, 2) := dk_21 7 (dk_at dksX3_laysRight_5 0 rfl rfl)
theorem dX3_laysRight_119 : decode cX3_laysRight 119 = .ok (.iload_n 3, 1) := dk_29 (dk_at dksX3_laysRight_5 2 rfl rfl)
theorem dX3_laysRight_120 : decode cX3_laysRight 120 = .ok (.if_icmp .le 7, 3) := dk_164 0 7 (dk_at dksX3_laysRight_5 3 rfl rfl)
theorem dX3_laysRight_123 : decode cX3_laysRight 123 = .ok (.iconst 1, 1) := dk_4 (dk_at dksX3_laysRight_5 6 rfl rfl)
theorem dX3_laysRight_124 : decode cX3_laysRight 124 = .ok (.goto 4, 3) := dk_167 0 4 (dk_at dksX3_laysRight_5 7 rfl rfl)
theorem dX3_laysRight_127 : decode cX3_laysRight 127 = .ok (.iconst 0, 1) := dk_3 (dk_at dksX3_laysRight_5 10 rfl rfl)
theorem dX3_laysRight_128 : decode cX3_laysRight 128 = .ok (.istore 6, 2) := dk_54 6 (dk_at dksX3_laysRight_5 11 rfl rfl)
theorem dX3_laysRight_130 : decode cX3_laysRight 130 = .ok (.iload 5, 2) := dk_21 5 (dk_at dksX3_laysRight_5 13 rfl rfl)
theorem dX3_laysRight_132 : decode cX3_laysRight 132 = .ok (.iload 8, 2) := dk_21 8 (dk_at dksX3_laysRight_5 15 rfl rfl)
theorem dX3_laysRight_134 : decode cX3_laysRight 134 = .ok (.invokestatic 258, 3) := dk_184 1 2 (dk_at dksX3_laysRight_5 17 rfl rfl)
theorem dX3_laysRight_137 : decode cX3_laysRight 137 = .ok (.istore 5, 2) := dk_54 5 (dk_at dksX3_laysRight_5 20 rfl rfl)
theorem dX3_laysRight_139 : decode cX3_laysRight 139 = .ok (.iinc 7 1, 3) := dk_132 7 1 (dk_at dksX3_laysRight_6 0 rfl rfl)
theorem dX3_laysRight_142 : decode cX3_laysRight 142 = .ok (.goto (-102), 3) := dk_167 255 154 (dk_at dksX3_laysRight_6 3 rfl rfl)
theorem dX3_laysRight_145 : decode cX3_laysRight 145 = .ok (.aload_n 0, 1) := dk_42 (dk_at dksX3_laysRight_6 6 rfl rfl)
theorem dX3_laysRight_146 : decode cX3_laysRight 146 = .ok (.getfield 119, 3) := dk_180 0 119 (dk_at dksX3_laysRight_6 7 rfl rfl)
theorem dX3_laysRight_149 : decode cX3_laysRight 149 = .ok (.iload 4, 2) := dk_21 4 (dk_at dksX3_laysRight_6 10 rfl rfl)
theorem dX3_laysRight_151 : decode cX3_laysRight 151 = .ok (.iload 6, 2) := dk_21 6 (dk_at dksX3_laysRight_6 12 rfl rfl)
theorem dX3_laysRight_153 : decode cX3_laysRight 153 = .ok (.ifCond .eq 13, 3) := dk_153 0 13 (dk_at dksX3_laysRight_6 14 rfl rfl)
theorem dX3_laysRight_156 : decode cX3_laysRight 156 = .ok (.aload_n 0, 1) := dk_42 (dk_at dksX3_laysRight_6 17 rfl rfl)
theorem dX3_laysRight_157 : decode cX3_laysRight 157 = .ok (.getfield 119, 3) := dk_180 0 119 (dk_at dksX3_laysRight_6 18 rfl rfl)
theorem dX3_laysRight_160 : decode cX3_laysRight 160 = .ok (.iload 4, 2) := dk_21 4 (dk_at dksX3_laysRight_6 21 rfl rfl)
theorem dX3_laysRight_162 : decode cX3_laysRight 162 = .ok (.iaload, 1) := dk_46 (dk_at dksX3_laysRight_6 23 rfl rfl)
theorem dX3_laysRight_163 : decode cX3_laysRight 163 = .ok (.goto 4, 3) := dk_167 0 4 (dk_at dksX3_laysRight_7 0 rfl rfl)
theorem dX3_laysRight_166 : decode cX3_laysRight 166 = .ok (.iconst 0, 1) := dk_3 (dk_at dksX3_laysRight_7 3 rfl rfl)
theorem dX3_laysRight_167 : decode cX3_laysRight 167 = .ok (.iastore, 1) := dk_79 (dk_at dksX3_laysRight_7 4 rfl rfl)
theorem dX3_laysRight_168 : decode cX3_laysRight 168 = .ok (.aload_n 0, 1) := dk_42 (dk_at dksX3_laysRight_7 5 rfl rfl)
theorem dX3_laysRight_169 : decode cX3_laysRight 169 = .ok (.getfield 122, 3) := dk_180 0 122 (dk_at dksX3_laysRight_7 6 rfl rfl)
theorem dX3_laysRight_172 : decode cX3_laysRight 172 = .ok (.iload 4, 2) := dk_21 4 (dk_at dksX3_laysRight_7 9 rfl rfl)
theorem dX3_laysRight_174 : decode cX3_laysRight 174 = .ok (.aload_n 0, 1) := dk_42 (dk_at dksX3_laysRight_7 11 rfl rfl)
theorem dX3_laysRight_175 : decode cX3_laysRight 175 = .ok (.getfield 122, 3) := dk_180 0 122 (dk_at dksX3_laysRight_7 12 rfl rfl)
theorem dX3_laysRight_178 : decode cX3_laysRight 178 = .ok (.iload 4, 2) := dk_21 4 (dk_at dksX3_laysRight_7 15 rfl rfl)
theorem dX3_laysRight_180 : decode cX3_laysRight 180 = .ok (.iaload, 1) := dk_46 (dk_at dksX3_laysRight_7 17 rfl rfl)
theorem dX3_laysRight_181 : decode cX3_laysRight 181 = .ok (.iload 5, 2) := dk_21 5 (dk_at dksX3_laysRight_7 18 rfl rfl)
theorem dX3_laysRight_183 : decode cX3_laysRight 183 = .ok (.invokestatic 258, 3) := dk_184 1 2 (dk_at dksX3_laysRight_7 20 rfl rfl)
theorem dX3_laysRight_186 : decode cX3_laysRight 186 = .ok (.iastore, 1) := dk_79 (dk_at dksX3_laysRight_7 23 rfl rfl)
theorem dX3_laysRight_187 : decode cX3_laysRight 187 = .ok (.iinc 4 1, 3) := dk_132 4 1 (dk_at dksX3_laysRight_8 0 rfl rfl)
theorem dX3_laysRight_190 : decode cX3_laysRight 190 = .ok (.goto (-174), 3) := dk_167 255 82 (dk_at dksX3_laysRight_8 3 rfl rfl)
theorem dX3_laysRight_193 : decode cX3_laysRight 193 = .ok (.return_, 1) := dk_177 (dk_at dksX3_laysRight_8 6 rfl rfl)
abbrev cX3_laysByValues : ByteArray := prog_12_method_109_code
def yX3_laysByValues : MethodName := ⟨RX3, "laysByValues", "(II)V"⟩
def dkwX3_laysByValues_6 : List UInt8 := [180, 0, 7, 17, 4, 21, 46, 182, 1, 57, 79, 132, 4, 1, 167, 255, 159, 132, 3, 1, 167, 255, 98, 177]
abbrev dktX3_laysByValues_6 : List UInt8 := dkwX3_laysByValues_6 ++ []
def dkwX3_laysByValues_5 : List UInt8 := [167, 0, 11, 42, 180, 0, 7, 17, 4, 20, 46, 28, 4, 160, 0, 8, 21, 4, 167, 0, 11, 42]
abbrev dktX3_laysByValues_5 : List UInt8 := dkwX3_laysByValues_5 ++ dktX3_laysByValues_6
def dkwX3_laysByValues_4 : List UInt8 := [21, 4, 182, 1, 53, 42, 180, 0, 125, 16, 41, 29, 104, 21, 4, 96, 42, 28, 154, 0, 8, 21, 4]
abbrev dktX3_laysByValues_4 : List UInt8 := dkwX3_laysByValues_4 ++ dktX3_laysByValues_5
def dkwX3_laysByValues_3 : List UInt8 := [42, 16, 40, 16, 8, 27, 104, 96, 42, 180, 0, 38, 27, 46, 42, 29, 182, 0, 224, 42, 29, 182, 0, 221]
abbrev dktX3_laysByValues_3 : List UInt8 := dkwX3_laysByValues_3 ++ dktX3_laysByValues_4
def dkwX3_laysByValues_2 : List UInt8 := [17, 4, 19, 46, 182, 1, 53, 3, 54, 4, 21, 4, 28, 184, 1, 112, 162, 0, 94, 28, 5, 160, 0, 32]
abbrev dktX3_laysByValues_2 : List UInt8 := dkwX3_laysByValues_2 ++ dktX3_laysByValues_3
def dkwX3_laysByValues_1 : List UInt8 := [27, 104, 96, 42, 180, 0, 38, 27, 46, 42, 29, 182, 0, 224, 42, 29, 182, 0, 221, 42, 180, 0, 7]
abbrev dktX3_laysByValues_1 : List UInt8 := dkwX3_laysByValues_1 ++ dktX3_laysByValues_2
def dkwX3_laysByValues_0 : List UInt8 := [3, 62, 29, 42, 180, 0, 7, 17, 3, 232, 46, 162, 0, 152, 28, 5, 162, 0, 38, 42, 16, 40, 16, 8]
abbrev dktX3_laysByValues_0 : List UInt8 := dkwX3_laysByValues_0 ++ dktX3_laysByValues_1
theorem dksX3_laysByValues_0 : cX3_laysByValues.data.toList.drop 0 = dktX3_laysByValues_0 := by decide +kernel
theorem dksX3_laysByValues_1 : cX3_laysByValues.data.toList.drop 24 = dktX3_laysByValues_1 := dk_seg dksX3_laysByValues_0 24 rfl rfl
theorem dksX3_laysByValues_2 : cX3_laysByValues.data.toList.drop 47 = dktX3_laysByValues_2 := dk_seg dksX3_laysByValues_1 23 rfl rfl
theorem dksX3_laysByValues_3 : cX3_laysByValues.data.toList.drop 71 = dktX3_laysByValues_3 := dk_seg dksX3_laysByValues_2 24 rfl rfl
theorem dksX3_laysByValues_4 : cX3_laysByValues.data.toList.drop 95 = dktX3_laysByValues_4 := dk_seg dksX3_laysByValues_3 24 rfl rfl
theorem dksX3_laysByValues_5 : cX3_laysByValues.data.toList.drop 118 = dktX3_laysByValues_5 := dk_seg dksX3_laysByValues_4 23 rfl rfl
theorem dksX3_laysByValues_6 : cX3_laysByValues.data.toList.drop 140 = dktX3_laysByValues_6 := dk_seg dksX3_laysByValues_5 22 rfl rfl
theorem dX3_laysByValues_0 : decode cX3_laysByValues 0 = .ok (.iconst 0, 1) := dk_3 (dk_at dksX3_laysByValues_0 0 rfl rfl)
theorem dX3_laysByValues_1 : decode cX3_laysByValues 1 = .ok (.istore_n 3, 1) := dk_62 (dk_at dksX3_laysByValues_0 1 rfl rfl)
theorem dX3_laysByValues_2 : decode cX3_laysByValues 2 = .ok (.iload_n 3, 1) := dk_29 (dk_at dksX3_laysByValues_0 2 rfl rfl)
theorem dX3_laysByValues_3 : decode cX3_laysByValues 3 = .ok (.aload_n 0, 1) := dk_42 (dk_at dksX3_laysByValues_0 3 rfl rfl)
theorem dX3_laysByValues_4 : decode cX3_laysByValues 4 = .ok (.getfield 7, 3) := dk_180 0 7 (dk_at dksX3_laysByValues_0 4 rfl rfl)
theorem dX3_laysByValues_7 : decode cX3_laysByValues 7 = .ok (.sipush 1000, 3) := dk_17 3 232 (dk_at dksX3_laysByValues_0 7 rfl rfl)
theorem dX3_laysByValues_10 : decode cX3_laysByValues 10 = .ok (.iaload, 1) := dk_46 (dk_at dksX3_laysByValues_0 10 rfl rfl)
theorem dX3_laysByValues_11 : decode cX3_laysByValues 11 = .ok (.if_icmp .ge 152, 3) := dk_162 0 152 (dk_at dksX3_laysByValues_0 11 rfl rfl)
theorem dX3_laysByValues_14 : decode cX3_laysByValues 14 = .ok (.iload_n 2, 1) := dk_28 (dk_at dksX3_laysByValues_0 14 rfl rfl)
theorem dX3_laysByValues_15 : decode cX3_laysByValues 15 = .ok (.iconst 2, 1) := dk_5 (dk_at dksX3_laysByValues_0 15 rfl rfl)
theorem dX3_laysByValues_16 : decode cX3_laysByValues 16 = .ok (.if_icmp .ge 38, 3) := dk_162 0 38 (dk_at dksX3_laysByValues_0 16 rfl rfl)
theorem dX3_laysByValues_19 : decode cX3_laysByValues 19 = .ok (.aload_n 0, 1) := dk_42 (dk_at dksX3_laysByValues_0 19 rfl rfl)
theorem dX3_laysByValues_20 : decode cX3_laysByValues 20 = .ok (.bipush 40, 2) := dk_16 40 (dk_at dksX3_laysByValues_0 20 rfl rfl)
theorem dX3_laysByValues_22 : decode cX3_laysByValues 22 = .ok (.bipush 8, 2) := dk_16 8 (dk_at dksX3_laysByValues_0 22 rfl rfl)
theorem dX3_laysByValues_24 : decode cX3_laysByValues 24 = .ok (.iload_n 1, 1) := dk_27 (dk_at dksX3_laysByValues_1 0 rfl rfl)
theorem dX3_laysByValues_25 : decode cX3_laysByValues 25 = .ok (.imul, 1) := dk_104 (dk_at dksX3_laysByValues_1 1 rfl rfl)
theorem dX3_laysByValues_26 : decode cX3_laysByValues 26 = .ok (.iadd, 1) := dk_96 (dk_at dksX3_laysByValues_1 2 rfl rfl)
theorem dX3_laysByValues_27 : decode cX3_laysByValues 27 = .ok (.aload_n 0, 1) := dk_42 (dk_at dksX3_laysByValues_1 3 rfl rfl)
theorem dX3_laysByValues_28 : decode cX3_laysByValues 28 = .ok (.getfield 38, 3) := dk_180 0 38 (dk_at dksX3_laysByValues_1 4 rfl rfl)
theorem dX3_laysByValues_31 : decode cX3_laysByValues 31 = .ok (.iload_n 1, 1) := dk_27 (dk_at dksX3_laysByValues_1 7 rfl rfl)
theorem dX3_laysByValues_32 : decode cX3_laysByValues 32 = .ok (.iaload, 1) := dk_46 (dk_at dksX3_laysByValues_1 8 rfl rfl)
theorem dX3_laysByValues_33 : decode cX3_laysByValues 33 = .ok (.aload_n 0, 1) := dk_42 (dk_at dksX3_laysByValues_1 9 rfl rfl)
theorem dX3_laysByValues_34 : decode cX3_laysByValues 34 = .ok (.iload_n 3, 1) := dk_29 (dk_at dksX3_laysByValues_1 10 rfl rfl)
theorem dX3_laysByValues_35 : decode cX3_laysByValues 35 = .ok (.invokevirtual 224, 3) := dk_182 0 224 (dk_at dksX3_laysByValues_1 11 rfl rfl)
theorem dX3_laysByValues_38 : decode cX3_laysByValues 38 = .ok (.aload_n 0, 1) := dk_42 (dk_at dksX3_laysByValues_1 14 rfl rfl)
theorem dX3_laysByValues_39 : decode cX3_laysByValues 39 = .ok (.iload_n 3, 1) := dk_29 (dk_at dksX3_laysByValues_1 15 rfl rfl)
theorem dX3_laysByValues_40 : decode cX3_laysByValues 40 = .ok (.invokevirtual 221, 3) := dk_182 0 221 (dk_at dksX3_laysByValues_1 16 rfl rfl)
theorem dX3_laysByValues_43 : decode cX3_laysByValues 43 = .ok (.aload_n 0, 1) := dk_42 (dk_at dksX3_laysByValues_1 19 rfl rfl)
theorem dX3_laysByValues_44 : decode cX3_laysByValues 44 = .ok (.getfield 7, 3) := dk_180 0 7 (dk_at dksX3_laysByValues_1 20 rfl rfl)
theorem dX3_laysByValues_47 : decode cX3_laysByValues 47 = .ok (.sipush 1043, 3) := dk_17 4 19 (dk_at dksX3_laysByValues_2 0 rfl rfl)
theorem dX3_laysByValues_50 : decode cX3_laysByValues 50 = .ok (.iaload, 1) := dk_46 (dk_at dksX3_laysByValues_2 3 rfl rfl)
theorem dX3_laysByValues_51 : decode cX3_laysByValues 51 = .ok (.invokevirtual 309, 3) := dk_182 1 53 (dk_at dksX3_laysByValues_2 4 rfl rfl)
theorem dX3_laysByValues_54 : decode cX3_laysByValues 54 = .ok (.iconst 0, 1) := dk_3 (dk_at dksX3_laysByValues_2 7 rfl rfl)
theorem dX3_laysByValues_55 : decode cX3_laysByValues 55 = .ok (.istore 4, 2) := dk_54 4 (dk_at dksX3_laysByValues_2 8 rfl rfl)
theorem dX3_laysByValues_57 : decode cX3_laysByValues 57 = .ok (.iload 4, 2) := dk_21 4 (dk_at dksX3_laysByValues_2 10 rfl rfl)
theorem dX3_laysByValues_59 : decode cX3_laysByValues 59 = .ok (.iload_n 2, 1) := dk_28 (dk_at dksX3_laysByValues_2 12 rfl rfl)
theorem dX3_laysByValues_60 : decode cX3_laysByValues 60 = .ok (.invokestatic 368, 3) := dk_184 1 112 (dk_at dksX3_laysByValues_2 13 rfl rfl)
theorem dX3_laysByValues_63 : decode cX3_laysByValues 63 = .ok (.if_icmp .ge 94, 3) := dk_162 0 94 (dk_at dksX3_laysByValues_2 16 rfl rfl)
theorem dX3_laysByValues_66 : decode cX3_laysByValues 66 = .ok (.iload_n 2, 1) := dk_28 (dk_at dksX3_laysByValues_2 19 rfl rfl)
theorem dX3_laysByValues_67 : decode cX3_laysByValues 67 = .ok (.iconst 2, 1) := dk_5 (dk_at dksX3_laysByValues_2 20 rfl rfl)
theorem dX3_laysByValues_68 : decode cX3_laysByValues 68 = .ok (.if_icmp .ne 32, 3) := dk_160 0 32 (dk_at dksX3_laysByValues_2 21 rfl rfl)
theorem dX3_laysByValues_71 : decode cX3_laysByValues 71 = .ok (.aload_n 0, 1) := dk_42 (dk_at dksX3_laysByValues_3 0 rfl rfl)
theorem dX3_laysByValues_72 : decode cX3_laysByValues 72 = .ok (.bipush 40, 2) := dk_16 40 (dk_at dksX3_laysByValues_3 1 rfl rfl)
theorem dX3_laysByValues_74 : decode cX3_laysByValues 74 = .ok (.bipush 8, 2) := dk_16 8 (dk_at dksX3_laysByValues_3 3 rfl rfl)
theorem dX3_laysByValues_76 : decode cX3_laysByValues 76 = .ok (.iload_n 1, 1) := dk_27 (dk_at dksX3_laysByValues_3 5 rfl rfl)
theorem dX3_laysByValues_77 : decode cX3_laysByValues 77 = .ok (.imul, 1) := dk_104 (dk_at dksX3_laysByValues_3 6 rfl rfl)
theorem dX3_laysByValues_78 : decode cX3_laysByValues 78 = .ok (.iadd, 1) := dk_96 (dk_at dksX3_laysByValues_3 7 rfl rfl)
theorem dX3_laysByValues_79 : decode cX3_laysByValues 79 = .ok (.aload_n 0, 1) := dk_42 (dk_at dksX3_laysByValues_3 8 rfl rfl)
theorem dX3_laysByValues_80 : decode cX3_laysByValues 80 = .ok (.getfield 38, 3) := dk_180 0 38 (dk_at dksX3_laysByValues_3 9 rfl rfl)
theorem dX3_laysByValues_83 : decode cX3_laysByValues 83 = .ok (.iload_n 1, 1) := dk_27 (dk_at dksX3_laysByValues_3 12 rfl rfl)
theorem dX3_laysByValues_84 : decode cX3_laysByValues 84 = .ok (.iaload, 1) := dk_46 (dk_at dksX3_laysByValues_3 13 rfl rfl)
theorem dX3_laysByValues_85 : decode cX3_laysByValues 85 = .ok (.aload_n 0, 1) := dk_42 (dk_at dksX3_laysByValues_3 14 rfl rfl)
theorem dX3_laysByValues_86 : decode cX3_laysByValues 86 = .ok (.iload_n 3, 1) := dk_29 (dk_at dksX3_laysByValues_3 15 rfl rfl)
theorem dX3_laysByValues_87 : decode cX3_laysByValues 87 = .ok (.invokevirtual 224, 3) := dk_182 0 224 (dk_at dksX3_laysByValues_3 16 rfl rfl)
theorem dX3_laysByValues_90 : decode cX3_laysByValues 90 = .ok (.aload_n 0, 1) := dk_42 (dk_at dksX3_laysByValues_3 19 rfl rfl)
theorem dX3_laysByValues_91 : decode cX3_laysByValues 91 = .ok (.iload_n 3, 1) := dk_29 (dk_at dksX3_laysByValues_3 20 rfl rfl)
theorem dX3_laysByValues_92 : decode cX3_laysByValues 92 = .ok (.invokevirtual 221, 3) := dk_182 0 221 (dk_at dksX3_laysByValues_3 21 rfl rfl)
theorem dX3_laysByValues_95 : decode cX3_laysByValues 95 = .ok (.iload 4, 2) := dk_21 4 (dk_at dksX3_laysByValues_4 0 rfl rfl)
theorem dX3_laysByValues_97 : decode cX3_laysByValues 97 = .ok (.invokevirtual 309, 3) := dk_182 1 53 (dk_at dksX3_laysByValues_4 2 rfl rfl)
theorem dX3_laysByValues_100 : decode cX3_laysByValues 100 = .ok (.aload_n 0, 1) := dk_42 (dk_at dksX3_laysByValues_4 5 rfl rfl)
theorem dX3_laysByValues_101 : decode cX3_laysByValues 101 = .ok (.getfield 125, 3) := dk_180 0 125 (dk_at dksX3_laysByValues_4 6 rfl rfl)
theorem dX3_laysByValues_104 : decode cX3_laysByValues 104 = .ok (.bipush 41, 2) := dk_16 41 (dk_at dksX3_laysByValues_4 9 rfl rfl)
theorem dX3_laysByValues_106 : decode cX3_laysByValues 106 = .ok (.iload_n 3, 1) := dk_29 (dk_at dksX3_laysByValues_4 11 rfl rfl)
theorem dX3_laysByValues_107 : decode cX3_laysByValues 107 = .ok (.imul, 1) := dk_104 (dk_at dksX3_laysByValues_4 12 rfl rfl)
theorem dX3_laysByValues_108 : decode cX3_laysByValues 108 = .ok (.iload 4, 2) := dk_21 4 (dk_at dksX3_laysByValues_4 13 rfl rfl)
theorem dX3_laysByValues_110 : decode cX3_laysByValues 110 = .ok (.iadd, 1) := dk_96 (dk_at dksX3_laysByValues_4 15 rfl rfl)
theorem dX3_laysByValues_111 : decode cX3_laysByValues 111 = .ok (.aload_n 0, 1) := dk_42 (dk_at dksX3_laysByValues_4 16 rfl rfl)
theorem dX3_laysByValues_112 : decode cX3_laysByValues 112 = .ok (.iload_n 2, 1) := dk_28 (dk_at dksX3_laysByValues_4 17 rfl rfl)
theorem dX3_laysByValues_113 : decode cX3_laysByValues 113 = .ok (.ifCond .ne 8, 3) := dk_154 0 8 (dk_at dksX3_laysByValues_4 18 rfl rfl)
theorem dX3_laysByValues_116 : decode cX3_laysByValues 116 = .ok (.iload 4, 2) := dk_21 4 (dk_at dksX3_laysByValues_4 21 rfl rfl)
theorem dX3_laysByValues_118 : decode cX3_laysByValues 118 = .ok (.goto 11, 3) := dk_167 0 11 (dk_at dksX3_laysByValues_5 0 rfl rfl)
theorem dX3_laysByValues_121 : decode cX3_laysByValues 121 = .ok (.aload_n 0, 1) := dk_42 (dk_at dksX3_laysByValues_5 3 rfl rfl)
theorem dX3_laysByValues_122 : decode cX3_laysByValues 122 = .ok (.getfield 7, 3) := dk_180 0 7 (dk_at dksX3_laysByValues_5 4 rfl rfl)
theorem dX3_laysByValues_125 : decode cX3_laysByValues 125 = .ok (.sipush 1044, 3) := dk_17 4 20 (dk_at dksX3_laysByValues_5 7 rfl rfl)
theorem dX3_laysByValues_128 : decode cX3_laysByValues 128 = .ok (.iaload, 1) := dk_46 (dk_at dksX3_laysByValues_5 10 rfl rfl)
theorem dX3_laysByValues_129 : decode cX3_laysByValues 129 = .ok (.iload_n 2, 1) := dk_28 (dk_at dksX3_laysByValues_5 11 rfl rfl)
theorem dX3_laysByValues_130 : decode cX3_laysByValues 130 = .ok (.iconst 1, 1) := dk_4 (dk_at dksX3_laysByValues_5 12 rfl rfl)
theorem dX3_laysByValues_131 : decode cX3_laysByValues 131 = .ok (.if_icmp .ne 8, 3) := dk_160 0 8 (dk_at dksX3_laysByValues_5 13 rfl rfl)
theorem dX3_laysByValues_134 : decode cX3_laysByValues 134 = .ok (.iload 4, 2) := dk_21 4 (dk_at dksX3_laysByValues_5 16 rfl rfl)
theorem dX3_laysByValues_136 : decode cX3_laysByValues 136 = .ok (.goto 11, 3) := dk_167 0 11 (dk_at dksX3_laysByValues_5 18 rfl rfl)
theorem dX3_laysByValues_139 : decode cX3_laysByValues 139 = .ok (.aload_n 0, 1) := dk_42 (dk_at dksX3_laysByValues_5 21 rfl rfl)
theorem dX3_laysByValues_140 : decode cX3_laysByValues 140 = .ok (.getfield 7, 3) := dk_180 0 7 (dk_at dksX3_laysByValues_6 0 rfl rfl)
theorem dX3_laysByValues_143 : decode cX3_laysByValues 143 = .ok (.sipush 1045, 3) := dk_17 4 21 (dk_at dksX3_laysByValues_6 3 rfl rfl)
theorem dX3_laysByValues_146 : decode cX3_laysByValues 146 = .ok (.iaload, 1) := dk_46 (dk_at dksX3_laysByValues_6 6 rfl rfl)
theorem dX3_laysByValues_147 : decode cX3_laysByValues 147 = .ok (.invokevirtual 313, 3) := dk_182 1 57 (dk_at dksX3_laysByValues_6 7 rfl rfl)
theorem dX3_laysByValues_150 : decode cX3_laysByValues 150 = .ok (.iastore, 1) := dk_79 (dk_at dksX3_laysByValues_6 10 rfl rfl)
theorem dX3_laysByValues_151 : decode cX3_laysByValues 151 = .ok (.iinc 4 1, 3) := dk_132 4 1 (dk_at dksX3_laysByValues_6 11 rfl rfl)
theorem dX3_laysByValues_154 : decode cX3_laysByValues 154 = .ok (.goto (-97), 3) := dk_167 255 159 (dk_at dksX3_laysByValues_6 14 rfl rfl)
theorem dX3_laysByValues_157 : decode cX3_laysByValues 157 = .ok (.iinc 3 1, 3) := dk_132 3 1 (dk_at dksX3_laysByValues_6 17 rfl rfl)
theorem dX3_laysByValues_160 : decode cX3_laysByValues 160 = .ok (.goto (-158), 3) := dk_167 255 98 (dk_at dksX3_laysByValues_6 20 rfl rfl)
theorem dX3_laysByValues_163 : decode cX3_laysByValues 163 = .ok (.return_, 1) := dk_177 (dk_at dksX3_laysByValues_6 23 rfl rfl)
abbrev cX3_valuesOf : ByteArray := prog_12_method_108_code
def yX3_valuesOf : MethodName := ⟨RX3, "valuesOf", "(I)I"⟩
def dkwX3_valuesOf_0 : List UInt8 := [26, 5, 160, 0, 8, 16, 17, 167, 0, 5, 16, 41, 172]
abbrev dktX3_valuesOf_0 : List UInt8 := dkwX3_valuesOf_0 ++ []
theorem dksX3_valuesOf_0 : cX3_valuesOf.data.toList.drop 0 = dktX3_valuesOf_0 := by decide +kernel
theorem dX3_valuesOf_0 : decode cX3_valuesOf 0 = .ok (.iload_n 0, 1) := dk_26 (dk_at dksX3_valuesOf_0 0 rfl rfl)
theorem dX3_valuesOf_1 : decode cX3_valuesOf 1 = .ok (.iconst 2, 1) := dk_5 (dk_at dksX3_valuesOf_0 1 rfl rfl)
theorem dX3_valuesOf_2 : decode cX3_valuesOf 2 = .ok (.if_icmp .ne 8, 3) := dk_160 0 8 (dk_at dksX3_valuesOf_0 2 rfl rfl)
theorem dX3_valuesOf_5 : decode cX3_valuesOf 5 = .ok (.bipush 17, 2) := dk_16 17 (dk_at dksX3_valuesOf_0 5 rfl rfl)
theorem dX3_valuesOf_7 : decode cX3_valuesOf 7 = .ok (.goto 5, 3) := dk_167 0 5 (dk_at dksX3_valuesOf_0 7 rfl rfl)
theorem dX3_valuesOf_10 : decode cX3_valuesOf 10 = .ok (.bipush 41, 2) := dk_16 41 (dk_at dksX3_valuesOf_0 10 rfl rfl)
theorem dX3_valuesOf_12 : decode cX3_valuesOf 12 = .ok (.ireturn, 1) := dk_172 (dk_at dksX3_valuesOf_0 12 rfl rfl)
abbrev cX3_best : ByteArray := prog_12_method_114_code
def yX3_best : MethodName := ⟨RX3, "best", "(II)I"⟩
def dkwX3_best_3 : List UInt8 := [29, 62, 132, 4, 1, 167, 255, 221, 28, 154, 0, 7, 29, 167, 0, 9, 42, 180, 0, 122, 29, 46, 172]
abbrev dktX3_best_3 : List UInt8 := dkwX3_best_3 ++ []
def dkwX3_best_2 : List UInt8 := [162, 0, 32, 42, 180, 0, 122, 21, 4, 46, 42, 180, 0, 122, 29, 46, 164, 0, 8, 21, 4, 167, 0, 4]
abbrev dktX3_best_2 : List UInt8 := dkwX3_best_2 ++ dktX3_best_3
def dkwX3_best_1 : List UInt8 := [154, 0, 7, 19, 1, 72, 172, 42, 27, 182, 1, 121, 3, 62, 4, 54, 4, 21, 4, 27, 184, 1, 112]
abbrev dktX3_best_1 : List UInt8 := dkwX3_best_1 ++ dktX3_best_2
def dkwX3_best_0 : List UInt8 := [27, 3, 5, 184, 0, 171, 153, 0, 19, 28, 3, 4, 184, 0, 171, 153, 0, 10, 42, 182, 1, 124]
abbrev dktX3_best_0 : List UInt8 := dkwX3_best_0 ++ dktX3_best_1
theorem dksX3_best_0 : cX3_best.data.toList.drop 0 = dktX3_best_0 := by decide +kernel
theorem dksX3_best_1 : cX3_best.data.toList.drop 22 = dktX3_best_1 := dk_seg dksX3_best_0 22 rfl rfl
theorem dksX3_best_2 : cX3_best.data.toList.drop 45 = dktX3_best_2 := dk_seg dksX3_best_1 23 rfl rfl
theorem dksX3_best_3 : cX3_best.data.toList.drop 69 = dktX3_best_3 := dk_seg dksX3_best_2 24 rfl rfl
theorem dX3_best_0 : decode cX3_best 0 = .ok (.iload_n 1, 1) := dk_27 (dk_at dksX3_best_0 0 rfl rfl)
theorem dX3_best_1 : decode cX3_best 1 = .ok (.iconst 0, 1) := dk_3 (dk_at dksX3_best_0 1 rfl rfl)
theorem dX3_best_2 : decode cX3_best 2 = .ok (.iconst 2, 1) := dk_5 (dk_at dksX3_best_0 2 rfl rfl)
theorem dX3_best_3 : decode cX3_best 3 = .ok (.invokestatic 171, 3) := dk_184 0 171 (dk_at dksX3_best_0 3 rfl rfl)
theorem dX3_best_6 : decode cX3_best 6 = .ok (.ifCond .eq 19, 3) := dk_153 0 19 (dk_at dksX3_best_0 6 rfl rfl)
theorem dX3_best_9 : decode cX3_best 9 = .ok (.iload_n 2, 1) := dk_28 (dk_at dksX3_best_0 9 rfl rfl)
theorem dX3_best_10 : decode cX3_best 10 = .ok (.iconst 0, 1) := dk_3 (dk_at dksX3_best_0 10 rfl rfl)
theorem dX3_best_11 : decode cX3_best 11 = .ok (.iconst 1, 1) := dk_4 (dk_at dksX3_best_0 11 rfl rfl)
theorem dX3_best_12 : decode cX3_best 12 = .ok (.invokestatic 171, 3) := dk_184 0 171 (dk_at dksX3_best_0 12 rfl rfl)
theorem dX3_best_15 : decode cX3_best 15 = .ok (.ifCond .eq 10, 3) := dk_153 0 10 (dk_at dksX3_best_0 15 rfl rfl)
theorem dX3_best_18 : decode cX3_best 18 = .ok (.aload_n 0, 1) := dk_42 (dk_at dksX3_best_0 18 rfl rfl)
theorem dX3_best_19 : decode cX3_best 19 = .ok (.invokevirtual 380, 3) := dk_182 1 124 (dk_at dksX3_best_0 19 rfl rfl)
theorem dX3_best_22 : decode cX3_best 22 = .ok (.ifCond .ne 7, 3) := dk_154 0 7 (dk_at dksX3_best_1 0 rfl rfl)
theorem dX3_best_25 : decode cX3_best 25 = .ok (.ldc_w 328, 3) := dk_19 1 72 (dk_at dksX3_best_1 3 rfl rfl)
theorem dX3_best_28 : decode cX3_best 28 = .ok (.ireturn, 1) := dk_172 (dk_at dksX3_best_1 6 rfl rfl)
theorem dX3_best_29 : decode cX3_best 29 = .ok (.aload_n 0, 1) := dk_42 (dk_at dksX3_best_1 7 rfl rfl)
theorem dX3_best_30 : decode cX3_best 30 = .ok (.iload_n 1, 1) := dk_27 (dk_at dksX3_best_1 8 rfl rfl)
theorem dX3_best_31 : decode cX3_best 31 = .ok (.invokevirtual 377, 3) := dk_182 1 121 (dk_at dksX3_best_1 9 rfl rfl)
theorem dX3_best_34 : decode cX3_best 34 = .ok (.iconst 0, 1) := dk_3 (dk_at dksX3_best_1 12 rfl rfl)
theorem dX3_best_35 : decode cX3_best 35 = .ok (.istore_n 3, 1) := dk_62 (dk_at dksX3_best_1 13 rfl rfl)
theorem dX3_best_36 : decode cX3_best 36 = .ok (.iconst 1, 1) := dk_4 (dk_at dksX3_best_1 14 rfl rfl)
theorem dX3_best_37 : decode cX3_best 37 = .ok (.istore 4, 2) := dk_54 4 (dk_at dksX3_best_1 15 rfl rfl)
theorem dX3_best_39 : decode cX3_best 39 = .ok (.iload 4, 2) := dk_21 4 (dk_at dksX3_best_1 17 rfl rfl)
theorem dX3_best_41 : decode cX3_best 41 = .ok (.iload_n 1, 1) := dk_27 (dk_at dksX3_best_1 19 rfl rfl)
theorem dX3_best_42 : decode cX3_best 42 = .ok (.invokestatic 368, 3) := dk_184 1 112 (dk_at dksX3_best_1 20 rfl rfl)
theorem dX3_best_45 : decode cX3_best 45 = .ok (.if_icmp .ge 32, 3) := dk_162 0 32 (dk_at dksX3_best_2 0 rfl rfl)
theorem dX3_best_48 : decode cX3_best 48 = .ok (.aload_n 0, 1) := dk_42 (dk_at dksX3_best_2 3 rfl rfl)
theorem dX3_best_49 : decode cX3_best 49 = .ok (.getfield 122, 3) := dk_180 0 122 (dk_at dksX3_best_2 4 rfl rfl)
theorem dX3_best_52 : decode cX3_best 52 = .ok (.iload 4, 2) := dk_21 4 (dk_at dksX3_best_2 7 rfl rfl)
theorem dX3_best_54 : decode cX3_best 54 = .ok (.iaload, 1) := dk_46 (dk_at dksX3_best_2 9 rfl rfl)
theorem dX3_best_55 : decode cX3_best 55 = .ok (.aload_n 0, 1) := dk_42 (dk_at dksX3_best_2 10 rfl rfl)
theorem dX3_best_56 : decode cX3_best 56 = .ok (.getfield 122, 3) := dk_180 0 122 (dk_at dksX3_best_2 11 rfl rfl)
theorem dX3_best_59 : decode cX3_best 59 = .ok (.iload_n 3, 1) := dk_29 (dk_at dksX3_best_2 14 rfl rfl)
theorem dX3_best_60 : decode cX3_best 60 = .ok (.iaload, 1) := dk_46 (dk_at dksX3_best_2 15 rfl rfl)
theorem dX3_best_61 : decode cX3_best 61 = .ok (.if_icmp .le 8, 3) := dk_164 0 8 (dk_at dksX3_best_2 16 rfl rfl)
theorem dX3_best_64 : decode cX3_best 64 = .ok (.iload 4, 2) := dk_21 4 (dk_at dksX3_best_2 19 rfl rfl)
theorem dX3_best_66 : decode cX3_best 66 = .ok (.goto 4, 3) := dk_167 0 4 (dk_at dksX3_best_2 21 rfl rfl)
theorem dX3_best_69 : decode cX3_best 69 = .ok (.iload_n 3, 1) := dk_29 (dk_at dksX3_best_3 0 rfl rfl)
theorem dX3_best_70 : decode cX3_best 70 = .ok (.istore_n 3, 1) := dk_62 (dk_at dksX3_best_3 1 rfl rfl)
theorem dX3_best_71 : decode cX3_best 71 = .ok (.iinc 4 1, 3) := dk_132 4 1 (dk_at dksX3_best_3 2 rfl rfl)
theorem dX3_best_74 : decode cX3_best 74 = .ok (.goto (-35), 3) := dk_167 255 221 (dk_at dksX3_best_3 5 rfl rfl)
theorem dX3_best_77 : decode cX3_best 77 = .ok (.iload_n 2, 1) := dk_28 (dk_at dksX3_best_3 8 rfl rfl)
theorem dX3_best_78 : decode cX3_best 78 = .ok (.ifCond .ne 7, 3) := dk_154 0 7 (dk_at dksX3_best_3 9 rfl rfl)
theorem dX3_best_81 : decode cX3_best 81 = .ok (.iload_n 3, 1) := dk_29 (dk_at dksX3_best_3 12 rfl rfl)
theorem dX3_best_82 : decode cX3_best 82 = .ok (.goto 9, 3) := dk_167 0 9 (dk_at dksX3_best_3 13 rfl rfl)
theorem dX3_best_85 : decode cX3_best 85 = .ok (.aload_n 0, 1) := dk_42 (dk_at dksX3_best_3 16 rfl rfl)
theorem dX3_best_86 : decode cX3_best 86 = .ok (.getfield 122, 3) := dk_180 0 122 (dk_at dksX3_best_3 17 rfl rfl)
theorem dX3_best_89 : decode cX3_best 89 = .ok (.iload_n 3, 1) := dk_29 (dk_at dksX3_best_3 20 rfl rfl)
theorem dX3_best_90 : decode cX3_best 90 = .ok (.iaload, 1) := dk_46 (dk_at dksX3_best_3 21 rfl rfl)
theorem dX3_best_91 : decode cX3_best 91 = .ok (.ireturn, 1) := dk_172 (dk_at dksX3_best_3 22 rfl rfl)
abbrev cX3_areModelsThere : ByteArray := prog_12_method_113_code
def yX3_areModelsThere : MethodName := ⟨RX3, "areModelsThere", "()Z"⟩
def dkwX3_areModelsThere_2 : List UInt8 := [164, 0, 7, 4, 167, 0, 4, 3, 172]
abbrev dktX3_areModelsThere_2 : List UInt8 := dkwX3_areModelsThere_2 ++ []
def dkwX3_areModelsThere_1 : List UInt8 := [172, 132, 1, 1, 167, 255, 230, 42, 180, 0, 29, 158, 0, 19, 42, 180, 0, 7, 17, 3, 232, 46, 4]
abbrev dktX3_areModelsThere_1 : List UInt8 := dkwX3_areModelsThere_1 ++ dktX3_areModelsThere_2
def dkwX3_areModelsThere_0 : List UInt8 := [3, 60, 27, 42, 180, 0, 29, 162, 0, 24, 42, 42, 180, 0, 41, 27, 46, 182, 0, 215, 154, 0, 5, 3]
abbrev dktX3_areModelsThere_0 : List UInt8 := dkwX3_areModelsThere_0 ++ dktX3_areModelsThere_1
theorem dksX3_areModelsThere_0 : cX3_areModelsThere.data.toList.drop 0 = dktX3_areModelsThere_0 := by decide +kernel
theorem dksX3_areModelsThere_1 : cX3_areModelsThere.data.toList.drop 24 = dktX3_areModelsThere_1 := dk_seg dksX3_areModelsThere_0 24 rfl rfl
theorem dksX3_areModelsThere_2 : cX3_areModelsThere.data.toList.drop 47 = dktX3_areModelsThere_2 := dk_seg dksX3_areModelsThere_1 23 rfl rfl
theorem dX3_areModelsThere_0 : decode cX3_areModelsThere 0 = .ok (.iconst 0, 1) := dk_3 (dk_at dksX3_areModelsThere_0 0 rfl rfl)
theorem dX3_areModelsThere_1 : decode cX3_areModelsThere 1 = .ok (.istore_n 1, 1) := dk_60 (dk_at dksX3_areModelsThere_0 1 rfl rfl)
theorem dX3_areModelsThere_2 : decode cX3_areModelsThere 2 = .ok (.iload_n 1, 1) := dk_27 (dk_at dksX3_areModelsThere_0 2 rfl rfl)
theorem dX3_areModelsThere_3 : decode cX3_areModelsThere 3 = .ok (.aload_n 0, 1) := dk_42 (dk_at dksX3_areModelsThere_0 3 rfl rfl)
theorem dX3_areModelsThere_4 : decode cX3_areModelsThere 4 = .ok (.getfield 29, 3) := dk_180 0 29 (dk_at dksX3_areModelsThere_0 4 rfl rfl)
theorem dX3_areModelsThere_7 : decode cX3_areModelsThere 7 = .ok (.if_icmp .ge 24, 3) := dk_162 0 24 (dk_at dksX3_areModelsThere_0 7 rfl rfl)
theorem dX3_areModelsThere_10 : decode cX3_areModelsThere 10 = .ok (.aload_n 0, 1) := dk_42 (dk_at dksX3_areModelsThere_0 10 rfl rfl)
theorem dX3_areModelsThere_11 : decode cX3_areModelsThere 11 = .ok (.aload_n 0, 1) := dk_42 (dk_at dksX3_areModelsThere_0 11 rfl rfl)
theorem dX3_areModelsThere_12 : decode cX3_areModelsThere 12 = .ok (.getfield 41, 3) := dk_180 0 41 (dk_at dksX3_areModelsThere_0 12 rfl rfl)
theorem dX3_areModelsThere_15 : decode cX3_areModelsThere 15 = .ok (.iload_n 1, 1) := dk_27 (dk_at dksX3_areModelsThere_0 15 rfl rfl)
theorem dX3_areModelsThere_16 : decode cX3_areModelsThere 16 = .ok (.iaload, 1) := dk_46 (dk_at dksX3_areModelsThere_0 16 rfl rfl)
theorem dX3_areModelsThere_17 : decode cX3_areModelsThere 17 = .ok (.invokevirtual 215, 3) := dk_182 0 215 (dk_at dksX3_areModelsThere_0 17 rfl rfl)
theorem dX3_areModelsThere_20 : decode cX3_areModelsThere 20 = .ok (.ifCond .ne 5, 3) := dk_154 0 5 (dk_at dksX3_areModelsThere_0 20 rfl rfl)
theorem dX3_areModelsThere_23 : decode cX3_areModelsThere 23 = .ok (.iconst 0, 1) := dk_3 (dk_at dksX3_areModelsThere_0 23 rfl rfl)
theorem dX3_areModelsThere_24 : decode cX3_areModelsThere 24 = .ok (.ireturn, 1) := dk_172 (dk_at dksX3_areModelsThere_1 0 rfl rfl)
theorem dX3_areModelsThere_25 : decode cX3_areModelsThere 25 = .ok (.iinc 1 1, 3) := dk_132 1 1 (dk_at dksX3_areModelsThere_1 1 rfl rfl)
theorem dX3_areModelsThere_28 : decode cX3_areModelsThere 28 = .ok (.goto (-26), 3) := dk_167 255 230 (dk_at dksX3_areModelsThere_1 4 rfl rfl)
theorem dX3_areModelsThere_31 : decode cX3_areModelsThere 31 = .ok (.aload_n 0, 1) := dk_42 (dk_at dksX3_areModelsThere_1 7 rfl rfl)
theorem dX3_areModelsThere_32 : decode cX3_areModelsThere 32 = .ok (.getfield 29, 3) := dk_180 0 29 (dk_at dksX3_areModelsThere_1 8 rfl rfl)
theorem dX3_areModelsThere_35 : decode cX3_areModelsThere 35 = .ok (.ifCond .le 19, 3) := dk_158 0 19 (dk_at dksX3_areModelsThere_1 11 rfl rfl)
theorem dX3_areModelsThere_38 : decode cX3_areModelsThere 38 = .ok (.aload_n 0, 1) := dk_42 (dk_at dksX3_areModelsThere_1 14 rfl rfl)
theorem dX3_areModelsThere_39 : decode cX3_areModelsThere 39 = .ok (.getfield 7, 3) := dk_180 0 7 (dk_at dksX3_areModelsThere_1 15 rfl rfl)
theorem dX3_areModelsThere_42 : decode cX3_areModelsThere 42 = .ok (.sipush 1000, 3) := dk_17 3 232 (dk_at dksX3_areModelsThere_1 18 rfl rfl)
theorem dX3_areModelsThere_45 : decode cX3_areModelsThere 45 = .ok (.iaload, 1) := dk_46 (dk_at dksX3_areModelsThere_1 21 rfl rfl)
theorem dX3_areModelsThere_46 : decode cX3_areModelsThere 46 = .ok (.iconst 1, 1) := dk_4 (dk_at dksX3_areModelsThere_1 22 rfl rfl)
theorem dX3_areModelsThere_47 : decode cX3_areModelsThere 47 = .ok (.if_icmp .le 7, 3) := dk_164 0 7 (dk_at dksX3_areModelsThere_2 0 rfl rfl)
theorem dX3_areModelsThere_50 : decode cX3_areModelsThere 50 = .ok (.iconst 1, 1) := dk_4 (dk_at dksX3_areModelsThere_2 3 rfl rfl)
theorem dX3_areModelsThere_51 : decode cX3_areModelsThere 51 = .ok (.goto 4, 3) := dk_167 0 4 (dk_at dksX3_areModelsThere_2 4 rfl rfl)
theorem dX3_areModelsThere_54 : decode cX3_areModelsThere 54 = .ok (.iconst 0, 1) := dk_3 (dk_at dksX3_areModelsThere_2 7 rfl rfl)
theorem dX3_areModelsThere_55 : decode cX3_areModelsThere 55 = .ok (.ireturn, 1) := dk_172 (dk_at dksX3_areModelsThere_2 8 rfl rfl)
abbrev cX3_stroke : ByteArray := prog_12_method_116_code
def yX3_stroke : MethodName := ⟨RX3, "stroke", "()I"⟩
def dkwX3_stroke_7 : List UInt8 := [4, 100, 172]
abbrev dktX3_stroke_7 : List UInt8 := dkwX3_stroke_7 ++ []
def dkwX3_stroke_6 : List UInt8 := [27, 5, 108, 79, 42, 180, 0, 7, 17, 3, 241, 92, 46, 4, 96, 79, 42, 180, 0, 7, 17, 3, 241, 46]
abbrev dktX3_stroke_6 : List UInt8 := dkwX3_stroke_6 ++ dktX3_stroke_7
def dkwX3_stroke_5 : List UInt8 := [46, 79, 132, 3, 1, 167, 255, 222, 42, 180, 0, 7, 17, 3, 192, 42, 180, 0, 7, 17, 3, 241, 46, 96]
abbrev dktX3_stroke_5 : List UInt8 := dkwX3_stroke_5 ++ dktX3_stroke_6
def dkwX3_stroke_4 : List UInt8 := [42, 180, 0, 7, 3, 16, 24, 42, 180, 0, 7, 17, 3, 241, 46, 104, 96, 29, 96, 42, 180, 0, 44, 29]
abbrev dktX3_stroke_4 : List UInt8 := dkwX3_stroke_4 ++ dktX3_stroke_5
def dkwX3_stroke_3 : List UInt8 := [167, 255, 227, 28, 154, 0, 9, 42, 5, 182, 0, 138, 172, 42, 182, 1, 127, 3, 62, 29, 27, 162, 0, 35]
abbrev dktX3_stroke_3 : List UInt8 := dkwX3_stroke_3 ++ dktX3_stroke_4
def dkwX3_stroke_2 : List UInt8 := [153, 0, 26, 42, 180, 0, 44, 29, 46, 16, 99, 163, 0, 7, 4, 167, 0, 4, 3, 61, 132, 3, 1]
abbrev dktX3_stroke_2 : List UInt8 := dkwX3_stroke_2 ++ dktX3_stroke_3
def dkwX3_stroke_1 : List UInt8 := [27, 7, 16, 24, 184, 0, 171, 153, 0, 7, 4, 167, 0, 4, 3, 61, 3, 62, 29, 27, 162, 0, 30, 28]
abbrev dktX3_stroke_1 : List UInt8 := dkwX3_stroke_1 ++ dktX3_stroke_2
def dkwX3_stroke_0 : List UInt8 := [42, 182, 0, 209, 60, 42, 180, 0, 7, 17, 3, 241, 46, 16, 8, 162, 0, 23, 27, 5, 112, 154, 0, 17]
abbrev dktX3_stroke_0 : List UInt8 := dkwX3_stroke_0 ++ dktX3_stroke_1
theorem dksX3_stroke_0 : cX3_stroke.data.toList.drop 0 = dktX3_stroke_0 := by decide +kernel
theorem dksX3_stroke_1 : cX3_stroke.data.toList.drop 24 = dktX3_stroke_1 := dk_seg dksX3_stroke_0 24 rfl rfl
theorem dksX3_stroke_2 : cX3_stroke.data.toList.drop 48 = dktX3_stroke_2 := dk_seg dksX3_stroke_1 24 rfl rfl
theorem dksX3_stroke_3 : cX3_stroke.data.toList.drop 71 = dktX3_stroke_3 := dk_seg dksX3_stroke_2 23 rfl rfl
theorem dksX3_stroke_4 : cX3_stroke.data.toList.drop 95 = dktX3_stroke_4 := dk_seg dksX3_stroke_3 24 rfl rfl
theorem dksX3_stroke_5 : cX3_stroke.data.toList.drop 119 = dktX3_stroke_5 := dk_seg dksX3_stroke_4 24 rfl rfl
theorem dksX3_stroke_6 : cX3_stroke.data.toList.drop 143 = dktX3_stroke_6 := dk_seg dksX3_stroke_5 24 rfl rfl
theorem dksX3_stroke_7 : cX3_stroke.data.toList.drop 167 = dktX3_stroke_7 := dk_seg dksX3_stroke_6 24 rfl rfl
theorem dX3_stroke_0 : decode cX3_stroke 0 = .ok (.aload_n 0, 1) := dk_42 (dk_at dksX3_stroke_0 0 rfl rfl)
theorem dX3_stroke_1 : decode cX3_stroke 1 = .ok (.invokevirtual 209, 3) := dk_182 0 209 (dk_at dksX3_stroke_0 1 rfl rfl)
theorem dX3_stroke_4 : decode cX3_stroke 4 = .ok (.istore_n 1, 1) := dk_60 (dk_at dksX3_stroke_0 4 rfl rfl)
theorem dX3_stroke_5 : decode cX3_stroke 5 = .ok (.aload_n 0, 1) := dk_42 (dk_at dksX3_stroke_0 5 rfl rfl)
theorem dX3_stroke_6 : decode cX3_stroke 6 = .ok (.getfield 7, 3) := dk_180 0 7 (dk_at dksX3_stroke_0 6 rfl rfl)
theorem dX3_stroke_9 : decode cX3_stroke 9 = .ok (.sipush 1009, 3) := dk_17 3 241 (dk_at dksX3_stroke_0 9 rfl rfl)
theorem dX3_stroke_12 : decode cX3_stroke 12 = .ok (.iaload, 1) := dk_46 (dk_at dksX3_stroke_0 12 rfl rfl)
theorem dX3_stroke_13 : decode cX3_stroke 13 = .ok (.bipush 8, 2) := dk_16 8 (dk_at dksX3_stroke_0 13 rfl rfl)
theorem dX3_stroke_15 : decode cX3_stroke 15 = .ok (.if_icmp .ge 23, 3) := dk_162 0 23 (dk_at dksX3_stroke_0 15 rfl rfl)
theorem dX3_stroke_18 : decode cX3_stroke 18 = .ok (.iload_n 1, 1) := dk_27 (dk_at dksX3_stroke_0 18 rfl rfl)
theorem dX3_stroke_19 : decode cX3_stroke 19 = .ok (.iconst 2, 1) := dk_5 (dk_at dksX3_stroke_0 19 rfl rfl)
theorem dX3_stroke_20 : decode cX3_stroke 20 = .ok (.irem, 1) := dk_112 (dk_at dksX3_stroke_0 20 rfl rfl)
theorem dX3_stroke_21 : decode cX3_stroke 21 = .ok (.ifCond .ne 17, 3) := dk_154 0 17 (dk_at dksX3_stroke_0 21 rfl rfl)
theorem dX3_stroke_24 : decode cX3_stroke 24 = .ok (.iload_n 1, 1) := dk_27 (dk_at dksX3_stroke_1 0 rfl rfl)
theorem dX3_stroke_25 : decode cX3_stroke 25 = .ok (.iconst 4, 1) := dk_7 (dk_at dksX3_stroke_1 1 rfl rfl)
theorem dX3_stroke_26 : decode cX3_stroke 26 = .ok (.bipush 24, 2) := dk_16 24 (dk_at dksX3_stroke_1 2 rfl rfl)
theorem dX3_stroke_28 : decode cX3_stroke 28 = .ok (.invokestatic 171, 3) := dk_184 0 171 (dk_at dksX3_stroke_1 4 rfl rfl)
theorem dX3_stroke_31 : decode cX3_stroke 31 = .ok (.ifCond .eq 7, 3) := dk_153 0 7 (dk_at dksX3_stroke_1 7 rfl rfl)
theorem dX3_stroke_34 : decode cX3_stroke 34 = .ok (.iconst 1, 1) := dk_4 (dk_at dksX3_stroke_1 10 rfl rfl)
theorem dX3_stroke_35 : decode cX3_stroke 35 = .ok (.goto 4, 3) := dk_167 0 4 (dk_at dksX3_stroke_1 11 rfl rfl)
theorem dX3_stroke_38 : decode cX3_stroke 38 = .ok (.iconst 0, 1) := dk_3 (dk_at dksX3_stroke_1 14 rfl rfl)
theorem dX3_stroke_39 : decode cX3_stroke 39 = .ok (.istore_n 2, 1) := dk_61 (dk_at dksX3_stroke_1 15 rfl rfl)
theorem dX3_stroke_40 : decode cX3_stroke 40 = .ok (.iconst 0, 1) := dk_3 (dk_at dksX3_stroke_1 16 rfl rfl)
theorem dX3_stroke_41 : decode cX3_stroke 41 = .ok (.istore_n 3, 1) := dk_62 (dk_at dksX3_stroke_1 17 rfl rfl)
theorem dX3_stroke_42 : decode cX3_stroke 42 = .ok (.iload_n 3, 1) := dk_29 (dk_at dksX3_stroke_1 18 rfl rfl)
theorem dX3_stroke_43 : decode cX3_stroke 43 = .ok (.iload_n 1, 1) := dk_27 (dk_at dksX3_stroke_1 19 rfl rfl)
theorem dX3_stroke_44 : decode cX3_stroke 44 = .ok (.if_icmp .ge 30, 3) := dk_162 0 30 (dk_at dksX3_stroke_1 20 rfl rfl)
theorem dX3_stroke_47 : decode cX3_stroke 47 = .ok (.iload_n 2, 1) := dk_28 (dk_at dksX3_stroke_1 23 rfl rfl)
theorem dX3_stroke_48 : decode cX3_stroke 48 = .ok (.ifCond .eq 26, 3) := dk_153 0 26 (dk_at dksX3_stroke_2 0 rfl rfl)
theorem dX3_stroke_51 : decode cX3_stroke 51 = .ok (.aload_n 0, 1) := dk_42 (dk_at dksX3_stroke_2 3 rfl rfl)
theorem dX3_stroke_52 : decode cX3_stroke 52 = .ok (.getfield 44, 3) := dk_180 0 44 (dk_at dksX3_stroke_2 4 rfl rfl)
theorem dX3_stroke_55 : decode cX3_stroke 55 = .ok (.iload_n 3, 1) := dk_29 (dk_at dksX3_stroke_2 7 rfl rfl)
theorem dX3_stroke_56 : decode cX3_stroke 56 = .ok (.iaload, 1) := dk_46 (dk_at dksX3_stroke_2 8 rfl rfl)
theorem dX3_stroke_57 : decode cX3_stroke 57 = .ok (.bipush 99, 2) := dk_16 99 (dk_at dksX3_stroke_2 9 rfl rfl)
theorem dX3_stroke_59 : decode cX3_stroke 59 = .ok (.if_icmp .gt 7, 3) := dk_163 0 7 (dk_at dksX3_stroke_2 11 rfl rfl)
theorem dX3_stroke_62 : decode cX3_stroke 62 = .ok (.iconst 1, 1) := dk_4 (dk_at dksX3_stroke_2 14 rfl rfl)
theorem dX3_stroke_63 : decode cX3_stroke 63 = .ok (.goto 4, 3) := dk_167 0 4 (dk_at dksX3_stroke_2 15 rfl rfl)
theorem dX3_stroke_66 : decode cX3_stroke 66 = .ok (.iconst 0, 1) := dk_3 (dk_at dksX3_stroke_2 18 rfl rfl)
theorem dX3_stroke_67 : decode cX3_stroke 67 = .ok (.istore_n 2, 1) := dk_61 (dk_at dksX3_stroke_2 19 rfl rfl)
theorem dX3_stroke_68 : decode cX3_stroke 68 = .ok (.iinc 3 1, 3) := dk_132 3 1 (dk_at dksX3_stroke_2 20 rfl rfl)
theorem dX3_stroke_71 : decode cX3_stroke 71 = .ok (.goto (-29), 3) := dk_167 255 227 (dk_at dksX3_stroke_3 0 rfl rfl)
theorem dX3_stroke_74 : decode cX3_stroke 74 = .ok (.iload_n 2, 1) := dk_28 (dk_at dksX3_stroke_3 3 rfl rfl)
theorem dX3_stroke_75 : decode cX3_stroke 75 = .ok (.ifCond .ne 9, 3) := dk_154 0 9 (dk_at dksX3_stroke_3 4 rfl rfl)
theorem dX3_stroke_78 : decode cX3_stroke 78 = .ok (.aload_n 0, 1) := dk_42 (dk_at dksX3_stroke_3 7 rfl rfl)
theorem dX3_stroke_79 : decode cX3_stroke 79 = .ok (.iconst 2, 1) := dk_5 (dk_at dksX3_stroke_3 8 rfl rfl)
theorem dX3_stroke_80 : decode cX3_stroke 80 = .ok (.invokevirtual 138, 3) := dk_182 0 138 (dk_at dksX3_stroke_3 9 rfl rfl)
theorem dX3_stroke_83 : decode cX3_stroke 83 = .ok (.ireturn, 1) := dk_172 (dk_at dksX3_stroke_3 12 rfl rfl)
theorem dX3_stroke_84 : decode cX3_stroke 84 = .ok (.aload_n 0, 1) := dk_42 (dk_at dksX3_stroke_3 13 rfl rfl)
theorem dX3_stroke_85 : decode cX3_stroke 85 = .ok (.invokevirtual 383, 3) := dk_182 1 127 (dk_at dksX3_stroke_3 14 rfl rfl)
theorem dX3_stroke_88 : decode cX3_stroke 88 = .ok (.iconst 0, 1) := dk_3 (dk_at dksX3_stroke_3 17 rfl rfl)
theorem dX3_stroke_89 : decode cX3_stroke 89 = .ok (.istore_n 3, 1) := dk_62 (dk_at dksX3_stroke_3 18 rfl rfl)
theorem dX3_stroke_90 : decode cX3_stroke 90 = .ok (.iload_n 3, 1) := dk_29 (dk_at dksX3_stroke_3 19 rfl rfl)
theorem dX3_stroke_91 : decode cX3_stroke 91 = .ok (.iload_n 1, 1) := dk_27 (dk_at dksX3_stroke_3 20 rfl rfl)
theorem dX3_stroke_92 : decode cX3_stroke 92 = .ok (.if_icmp .ge 35, 3) := dk_162 0 35 (dk_at dksX3_stroke_3 21 rfl rfl)
theorem dX3_stroke_95 : decode cX3_stroke 95 = .ok (.aload_n 0, 1) := dk_42 (dk_at dksX3_stroke_4 0 rfl rfl)
theorem dX3_stroke_96 : decode cX3_stroke 96 = .ok (.getfield 7, 3) := dk_180 0 7 (dk_at dksX3_stroke_4 1 rfl rfl)
theorem dX3_stroke_99 : decode cX3_stroke 99 = .ok (.iconst 0, 1) := dk_3 (dk_at dksX3_stroke_4 4 rfl rfl)
theorem dX3_stroke_100 : decode cX3_stroke 100 = .ok (.bipush 24, 2) := dk_16 24 (dk_at dksX3_stroke_4 5 rfl rfl)
theorem dX3_stroke_102 : decode cX3_stroke 102 = .ok (.aload_n 0, 1) := dk_42 (dk_at dksX3_stroke_4 7 rfl rfl)
theorem dX3_stroke_103 : decode cX3_stroke 103 = .ok (.getfield 7, 3) := dk_180 0 7 (dk_at dksX3_stroke_4 8 rfl rfl)
theorem dX3_stroke_106 : decode cX3_stroke 106 = .ok (.sipush 1009, 3) := dk_17 3 241 (dk_at dksX3_stroke_4 11 rfl rfl)
theorem dX3_stroke_109 : decode cX3_stroke 109 = .ok (.iaload, 1) := dk_46 (dk_at dksX3_stroke_4 14 rfl rfl)
theorem dX3_stroke_110 : decode cX3_stroke 110 = .ok (.imul, 1) := dk_104 (dk_at dksX3_stroke_4 15 rfl rfl)
theorem dX3_stroke_111 : decode cX3_stroke 111 = .ok (.iadd, 1) := dk_96 (dk_at dksX3_stroke_4 16 rfl rfl)
theorem dX3_stroke_112 : decode cX3_stroke 112 = .ok (.iload_n 3, 1) := dk_29 (dk_at dksX3_stroke_4 17 rfl rfl)
theorem dX3_stroke_113 : decode cX3_stroke 113 = .ok (.iadd, 1) := dk_96 (dk_at dksX3_stroke_4 18 rfl rfl)
theorem dX3_stroke_114 : decode cX3_stroke 114 = .ok (.aload_n 0, 1) := dk_42 (dk_at dksX3_stroke_4 19 rfl rfl)
theorem dX3_stroke_115 : decode cX3_stroke 115 = .ok (.getfield 44, 3) := dk_180 0 44 (dk_at dksX3_stroke_4 20 rfl rfl)
theorem dX3_stroke_118 : decode cX3_stroke 118 = .ok (.iload_n 3, 1) := dk_29 (dk_at dksX3_stroke_4 23 rfl rfl)
theorem dX3_stroke_119 : decode cX3_stroke 119 = .ok (.iaload, 1) := dk_46 (dk_at dksX3_stroke_5 0 rfl rfl)
theorem dX3_stroke_120 : decode cX3_stroke 120 = .ok (.iastore, 1) := dk_79 (dk_at dksX3_stroke_5 1 rfl rfl)
theorem dX3_stroke_121 : decode cX3_stroke 121 = .ok (.iinc 3 1, 3) := dk_132 3 1 (dk_at dksX3_stroke_5 2 rfl rfl)
theorem dX3_stroke_124 : decode cX3_stroke 124 = .ok (.goto (-34), 3) := dk_167 255 222 (dk_at dksX3_stroke_5 5 rfl rfl)
theorem dX3_stroke_127 : decode cX3_stroke 127 = .ok (.aload_n 0, 1) := dk_42 (dk_at dksX3_stroke_5 8 rfl rfl)
theorem dX3_stroke_128 : decode cX3_stroke 128 = .ok (.getfield 7, 3) := dk_180 0 7 (dk_at dksX3_stroke_5 9 rfl rfl)
theorem dX3_stroke_131 : decode cX3_stroke 131 = .ok (.sipush 960, 3) := dk_17 3 192 (dk_at dksX3_stroke_5 12 rfl rfl)
theorem dX3_stroke_134 : decode cX3_stroke 134 = .ok (.aload_n 0, 1) := dk_42 (dk_at dksX3_stroke_5 15 rfl rfl)
theorem dX3_stroke_135 : decode cX3_stroke 135 = .ok (.getfield 7, 3) := dk_180 0 7 (dk_at dksX3_stroke_5 16 rfl rfl)
theorem dX3_stroke_138 : decode cX3_stroke 138 = .ok (.sipush 1009, 3) := dk_17 3 241 (dk_at dksX3_stroke_5 19 rfl rfl)
theorem dX3_stroke_141 : decode cX3_stroke 141 = .ok (.iaload, 1) := dk_46 (dk_at dksX3_stroke_5 22 rfl rfl)
theorem dX3_stroke_142 : decode cX3_stroke 142 = .ok (.iadd, 1) := dk_96 (dk_at dksX3_stroke_5 23 rfl rfl)
theorem dX3_stroke_143 : decode cX3_stroke 143 = .ok (.iload_n 1, 1) := dk_27 (dk_at dksX3_stroke_6 0 rfl rfl)
theorem dX3_stroke_144 : decode cX3_stroke 144 = .ok (.iconst 2, 1) := dk_5 (dk_at dksX3_stroke_6 1 rfl rfl)
theorem dX3_stroke_145 : decode cX3_stroke 145 = .ok (.idiv, 1) := dk_108 (dk_at dksX3_stroke_6 2 rfl rfl)
theorem dX3_stroke_146 : decode cX3_stroke 146 = .ok (.iastore, 1) := dk_79 (dk_at dksX3_stroke_6 3 rfl rfl)
theorem dX3_stroke_147 : decode cX3_stroke 147 = .ok (.aload_n 0, 1) := dk_42 (dk_at dksX3_stroke_6 4 rfl rfl)
theorem dX3_stroke_148 : decode cX3_stroke 148 = .ok (.getfield 7, 3) := dk_180 0 7 (dk_at dksX3_stroke_6 5 rfl rfl)
theorem dX3_stroke_151 : decode cX3_stroke 151 = .ok (.sipush 1009, 3) := dk_17 3 241 (dk_at dksX3_stroke_6 8 rfl rfl)
theorem dX3_stroke_154 : decode cX3_stroke 154 = .ok (.dup2, 1) := dk_92 (dk_at dksX3_stroke_6 11 rfl rfl)
theorem dX3_stroke_155 : decode cX3_stroke 155 = .ok (.iaload, 1) := dk_46 (dk_at dksX3_stroke_6 12 rfl rfl)
theorem dX3_stroke_156 : decode cX3_stroke 156 = .ok (.iconst 1, 1) := dk_4 (dk_at dksX3_stroke_6 13 rfl rfl)
theorem dX3_stroke_157 : decode cX3_stroke 157 = .ok (.iadd, 1) := dk_96 (dk_at dksX3_stroke_6 14 rfl rfl)
theorem dX3_stroke_158 : decode cX3_stroke 158 = .ok (.iastore, 1) := dk_79 (dk_at dksX3_stroke_6 15 rfl rfl)
theorem dX3_stroke_159 : decode cX3_stroke 159 = .ok (.aload_n 0, 1) := dk_42 (dk_at dksX3_stroke_6 16 rfl rfl)
theorem dX3_stroke_160 : decode cX3_stroke 160 = .ok (.getfield 7, 3) := dk_180 0 7 (dk_at dksX3_stroke_6 17 rfl rfl)
theorem dX3_stroke_163 : decode cX3_stroke 163 = .ok (.sipush 1009, 3) := dk_17 3 241 (dk_at dksX3_stroke_6 20 rfl rfl)
theorem dX3_stroke_166 : decode cX3_stroke 166 = .ok (.iaload, 1) := dk_46 (dk_at dksX3_stroke_6 23 rfl rfl)
theorem dX3_stroke_167 : decode cX3_stroke 167 = .ok (.iconst 1, 1) := dk_4 (dk_at dksX3_stroke_7 0 rfl rfl)
theorem dX3_stroke_168 : decode cX3_stroke 168 = .ok (.isub, 1) := dk_100 (dk_at dksX3_stroke_7 1 rfl rfl)
theorem dX3_stroke_169 : decode cX3_stroke 169 = .ok (.ireturn, 1) := dk_172 (dk_at dksX3_stroke_7 2 rfl rfl)
abbrev cX3_remembers : ByteArray := prog_12_method_115_code
def yX3_remembers : MethodName := ⟨RX3, "remembers", "()V"⟩
def dkwX3_remembers_4 : List UInt8 := [181, 0, 22, 177]
abbrev dktX3_remembers_4 : List UInt8 := dkwX3_remembers_4 ++ []
def dkwX3_remembers_3 : List UInt8 := [27, 96, 42, 180, 0, 7, 27, 46, 79, 132, 1, 1, 167, 255, 225, 42, 89, 180, 0, 22, 4, 96]
abbrev dktX3_remembers_3 : List UInt8 := dkwX3_remembers_3 ++ dktX3_remembers_4
def dkwX3_remembers_2 : List UInt8 := [181, 0, 22, 3, 60, 27, 17, 4, 24, 162, 0, 30, 42, 180, 0, 19, 17, 4, 24, 42, 180, 0, 22, 104]
abbrev dktX3_remembers_2 : List UInt8 := dkwX3_remembers_2 ++ dktX3_remembers_3
def dkwX3_remembers_1 : List UInt8 := [180, 0, 19, 27, 17, 4, 24, 96, 46, 79, 132, 1, 1, 167, 255, 230, 42, 89, 180, 0, 22, 4, 100]
abbrev dktX3_remembers_1 : List UInt8 := dkwX3_remembers_1 ++ dktX3_remembers_2
def dkwX3_remembers_0 : List UInt8 := [42, 180, 0, 22, 16, 20, 160, 0, 44, 3, 60, 27, 17, 77, 200, 162, 0, 25, 42, 180, 0, 19, 27, 42]
abbrev dktX3_remembers_0 : List UInt8 := dkwX3_remembers_0 ++ dktX3_remembers_1
theorem dksX3_remembers_0 : cX3_remembers.data.toList.drop 0 = dktX3_remembers_0 := by decide +kernel
theorem dksX3_remembers_1 : cX3_remembers.data.toList.drop 24 = dktX3_remembers_1 := dk_seg dksX3_remembers_0 24 rfl rfl
theorem dksX3_remembers_2 : cX3_remembers.data.toList.drop 47 = dktX3_remembers_2 := dk_seg dksX3_remembers_1 23 rfl rfl
theorem dksX3_remembers_3 : cX3_remembers.data.toList.drop 71 = dktX3_remembers_3 := dk_seg dksX3_remembers_2 24 rfl rfl
theorem dksX3_remembers_4 : cX3_remembers.data.toList.drop 93 = dktX3_remembers_4 := dk_seg dksX3_remembers_3 22 rfl rfl
theorem dX3_remembers_0 : decode cX3_remembers 0 = .ok (.aload_n 0, 1) := dk_42 (dk_at dksX3_remembers_0 0 rfl rfl)
theorem dX3_remembers_1 : decode cX3_remembers 1 = .ok (.getfield 22, 3) := dk_180 0 22 (dk_at dksX3_remembers_0 1 rfl rfl)
theorem dX3_remembers_4 : decode cX3_remembers 4 = .ok (.bipush 20, 2) := dk_16 20 (dk_at dksX3_remembers_0 4 rfl rfl)
theorem dX3_remembers_6 : decode cX3_remembers 6 = .ok (.if_icmp .ne 44, 3) := dk_160 0 44 (dk_at dksX3_remembers_0 6 rfl rfl)
theorem dX3_remembers_9 : decode cX3_remembers 9 = .ok (.iconst 0, 1) := dk_3 (dk_at dksX3_remembers_0 9 rfl rfl)
theorem dX3_remembers_10 : decode cX3_remembers 10 = .ok (.istore_n 1, 1) := dk_60 (dk_at dksX3_remembers_0 10 rfl rfl)
theorem dX3_remembers_11 : decode cX3_remembers 11 = .ok (.iload_n 1, 1) := dk_27 (dk_at dksX3_remembers_0 11 rfl rfl)
theorem dX3_remembers_12 : decode cX3_remembers 12 = .ok (.sipush 19912, 3) := dk_17 77 200 (dk_at dksX3_remembers_0 12 rfl rfl)
theorem dX3_remembers_15 : decode cX3_remembers 15 = .ok (.if_icmp .ge 25, 3) := dk_162 0 25 (dk_at dksX3_remembers_0 15 rfl rfl)
theorem dX3_remembers_18 : decode cX3_remembers 18 = .ok (.aload_n 0, 1) := dk_42 (dk_at dksX3_remembers_0 18 rfl rfl)
theorem dX3_remembers_19 : decode cX3_remembers 19 = .ok (.getfield 19, 3) := dk_180 0 19 (dk_at dksX3_remembers_0 19 rfl rfl)
theorem dX3_remembers_22 : decode cX3_remembers 22 = .ok (.iload_n 1, 1) := dk_27 (dk_at dksX3_remembers_0 22 rfl rfl)
theorem dX3_remembers_23 : decode cX3_remembers 23 = .ok (.aload_n 0, 1) := dk_42 (dk_at dksX3_remembers_0 23 rfl rfl)
theorem dX3_remembers_24 : decode cX3_remembers 24 = .ok (.getfield 19, 3) := dk_180 0 19 (dk_at dksX3_remembers_1 0 rfl rfl)
theorem dX3_remembers_27 : decode cX3_remembers 27 = .ok (.iload_n 1, 1) := dk_27 (dk_at dksX3_remembers_1 3 rfl rfl)
theorem dX3_remembers_28 : decode cX3_remembers 28 = .ok (.sipush 1048, 3) := dk_17 4 24 (dk_at dksX3_remembers_1 4 rfl rfl)
theorem dX3_remembers_31 : decode cX3_remembers 31 = .ok (.iadd, 1) := dk_96 (dk_at dksX3_remembers_1 7 rfl rfl)
theorem dX3_remembers_32 : decode cX3_remembers 32 = .ok (.iaload, 1) := dk_46 (dk_at dksX3_remembers_1 8 rfl rfl)
theorem dX3_remembers_33 : decode cX3_remembers 33 = .ok (.iastore, 1) := dk_79 (dk_at dksX3_remembers_1 9 rfl rfl)
theorem dX3_remembers_34 : decode cX3_remembers 34 = .ok (.iinc 1 1, 3) := dk_132 1 1 (dk_at dksX3_remembers_1 10 rfl rfl)
theorem dX3_remembers_37 : decode cX3_remembers 37 = .ok (.goto (-26), 3) := dk_167 255 230 (dk_at dksX3_remembers_1 13 rfl rfl)
theorem dX3_remembers_40 : decode cX3_remembers 40 = .ok (.aload_n 0, 1) := dk_42 (dk_at dksX3_remembers_1 16 rfl rfl)
theorem dX3_remembers_41 : decode cX3_remembers 41 = .ok (.dup, 1) := dk_89 (dk_at dksX3_remembers_1 17 rfl rfl)
theorem dX3_remembers_42 : decode cX3_remembers 42 = .ok (.getfield 22, 3) := dk_180 0 22 (dk_at dksX3_remembers_1 18 rfl rfl)
theorem dX3_remembers_45 : decode cX3_remembers 45 = .ok (.iconst 1, 1) := dk_4 (dk_at dksX3_remembers_1 21 rfl rfl)
theorem dX3_remembers_46 : decode cX3_remembers 46 = .ok (.isub, 1) := dk_100 (dk_at dksX3_remembers_1 22 rfl rfl)
theorem dX3_remembers_47 : decode cX3_remembers 47 = .ok (.putfield 22, 3) := dk_181 0 22 (dk_at dksX3_remembers_2 0 rfl rfl)
theorem dX3_remembers_50 : decode cX3_remembers 50 = .ok (.iconst 0, 1) := dk_3 (dk_at dksX3_remembers_2 3 rfl rfl)
theorem dX3_remembers_51 : decode cX3_remembers 51 = .ok (.istore_n 1, 1) := dk_60 (dk_at dksX3_remembers_2 4 rfl rfl)
theorem dX3_remembers_52 : decode cX3_remembers 52 = .ok (.iload_n 1, 1) := dk_27 (dk_at dksX3_remembers_2 5 rfl rfl)
theorem dX3_remembers_53 : decode cX3_remembers 53 = .ok (.sipush 1048, 3) := dk_17 4 24 (dk_at dksX3_remembers_2 6 rfl rfl)
theorem dX3_remembers_56 : decode cX3_remembers 56 = .ok (.if_icmp .ge 30, 3) := dk_162 0 30 (dk_at dksX3_remembers_2 9 rfl rfl)
theorem dX3_remembers_59 : decode cX3_remembers 59 = .ok (.aload_n 0, 1) := dk_42 (dk_at dksX3_remembers_2 12 rfl rfl)
theorem dX3_remembers_60 : decode cX3_remembers 60 = .ok (.getfield 19, 3) := dk_180 0 19 (dk_at dksX3_remembers_2 13 rfl rfl)
theorem dX3_remembers_63 : decode cX3_remembers 63 = .ok (.sipush 1048, 3) := dk_17 4 24 (dk_at dksX3_remembers_2 16 rfl rfl)
theorem dX3_remembers_66 : decode cX3_remembers 66 = .ok (.aload_n 0, 1) := dk_42 (dk_at dksX3_remembers_2 19 rfl rfl)
theorem dX3_remembers_67 : decode cX3_remembers 67 = .ok (.getfield 22, 3) := dk_180 0 22 (dk_at dksX3_remembers_2 20 rfl rfl)
theorem dX3_remembers_70 : decode cX3_remembers 70 = .ok (.imul, 1) := dk_104 (dk_at dksX3_remembers_2 23 rfl rfl)
theorem dX3_remembers_71 : decode cX3_remembers 71 = .ok (.iload_n 1, 1) := dk_27 (dk_at dksX3_remembers_3 0 rfl rfl)
theorem dX3_remembers_72 : decode cX3_remembers 72 = .ok (.iadd, 1) := dk_96 (dk_at dksX3_remembers_3 1 rfl rfl)
theorem dX3_remembers_73 : decode cX3_remembers 73 = .ok (.aload_n 0, 1) := dk_42 (dk_at dksX3_remembers_3 2 rfl rfl)
theorem dX3_remembers_74 : decode cX3_remembers 74 = .ok (.getfield 7, 3) := dk_180 0 7 (dk_at dksX3_remembers_3 3 rfl rfl)
theorem dX3_remembers_77 : decode cX3_remembers 77 = .ok (.iload_n 1, 1) := dk_27 (dk_at dksX3_remembers_3 6 rfl rfl)
theorem dX3_remembers_78 : decode cX3_remembers 78 = .ok (.iaload, 1) := dk_46 (dk_at dksX3_remembers_3 7 rfl rfl)
theorem dX3_remembers_79 : decode cX3_remembers 79 = .ok (.iastore, 1) := dk_79 (dk_at dksX3_remembers_3 8 rfl rfl)
theorem dX3_remembers_80 : decode cX3_remembers 80 = .ok (.iinc 1 1, 3) := dk_132 1 1 (dk_at dksX3_remembers_3 9 rfl rfl)
theorem dX3_remembers_83 : decode cX3_remembers 83 = .ok (.goto (-31), 3) := dk_167 255 225 (dk_at dksX3_remembers_3 12 rfl rfl)
theorem dX3_remembers_86 : decode cX3_remembers 86 = .ok (.aload_n 0, 1) := dk_42 (dk_at dksX3_remembers_3 15 rfl rfl)
theorem dX3_remembers_87 : decode cX3_remembers 87 = .ok (.dup, 1) := dk_89 (dk_at dksX3_remembers_3 16 rfl rfl)
theorem dX3_remembers_88 : decode cX3_remembers 88 = .ok (.getfield 22, 3) := dk_180 0 22 (dk_at dksX3_remembers_3 17 rfl rfl)
theorem dX3_remembers_91 : decode cX3_remembers 91 = .ok (.iconst 1, 1) := dk_4 (dk_at dksX3_remembers_3 20 rfl rfl)
theorem dX3_remembers_92 : decode cX3_remembers 92 = .ok (.iadd, 1) := dk_96 (dk_at dksX3_remembers_3 21 rfl rfl)
theorem dX3_remembers_93 : decode cX3_remembers 93 = .ok (.putfield 22, 3) := dk_181 0 22 (dk_at dksX3_remembers_4 0 rfl rfl)
theorem dX3_remembers_96 : decode cX3_remembers 96 = .ok (.return_, 1) := dk_177 (dk_at dksX3_remembers_4 3 rfl rfl)
abbrev cX3_lift : ByteArray := prog_12_method_117_code
def yX3_lift : MethodName := ⟨RX3, "lift", "(I)Z"⟩
def dkwX3_lift_1 : List UInt8 := [172]
abbrev dktX3_lift_1 : List UInt8 := dkwX3_lift_1 ++ []
def dkwX3_lift_0 : List UInt8 := [42, 27, 182, 1, 91, 154, 0, 9, 42, 5, 182, 0, 146, 172, 42, 182, 1, 127, 42, 27, 182, 1, 97, 4]
abbrev dktX3_lift_0 : List UInt8 := dkwX3_lift_0 ++ dktX3_lift_1
theorem dksX3_lift_0 : cX3_lift.data.toList.drop 0 = dktX3_lift_0 := by decide +kernel
theorem dksX3_lift_1 : cX3_lift.data.toList.drop 24 = dktX3_lift_1 := dk_seg dksX3_lift_0 24 rfl rfl
theorem dX3_lift_0 : decode cX3_lift 0 = .ok (.aload_n 0, 1) := dk_42 (dk_at dksX3_lift_0 0 rfl rfl)
theorem dX3_lift_1 : decode cX3_lift 1 = .ok (.iload_n 1, 1) := dk_27 (dk_at dksX3_lift_0 1 rfl rfl)
theorem dX3_lift_2 : decode cX3_lift 2 = .ok (.invokevirtual 347, 3) := dk_182 1 91 (dk_at dksX3_lift_0 2 rfl rfl)
theorem dX3_lift_5 : decode cX3_lift 5 = .ok (.ifCond .ne 9, 3) := dk_154 0 9 (dk_at dksX3_lift_0 5 rfl rfl)
theorem dX3_lift_8 : decode cX3_lift 8 = .ok (.aload_n 0, 1) := dk_42 (dk_at dksX3_lift_0 8 rfl rfl)
theorem dX3_lift_9 : decode cX3_lift 9 = .ok (.iconst 2, 1) := dk_5 (dk_at dksX3_lift_0 9 rfl rfl)
theorem dX3_lift_10 : decode cX3_lift 10 = .ok (.invokevirtual 146, 3) := dk_182 0 146 (dk_at dksX3_lift_0 10 rfl rfl)
theorem dX3_lift_13 : decode cX3_lift 13 = .ok (.ireturn, 1) := dk_172 (dk_at dksX3_lift_0 13 rfl rfl)
theorem dX3_lift_14 : decode cX3_lift 14 = .ok (.aload_n 0, 1) := dk_42 (dk_at dksX3_lift_0 14 rfl rfl)
theorem dX3_lift_15 : decode cX3_lift 15 = .ok (.invokevirtual 383, 3) := dk_182 1 127 (dk_at dksX3_lift_0 15 rfl rfl)
theorem dX3_lift_18 : decode cX3_lift 18 = .ok (.aload_n 0, 1) := dk_42 (dk_at dksX3_lift_0 18 rfl rfl)
theorem dX3_lift_19 : decode cX3_lift 19 = .ok (.iload_n 1, 1) := dk_27 (dk_at dksX3_lift_0 19 rfl rfl)
theorem dX3_lift_20 : decode cX3_lift 20 = .ok (.invokevirtual 353, 3) := dk_182 1 97 (dk_at dksX3_lift_0 20 rfl rfl)
theorem dX3_lift_23 : decode cX3_lift 23 = .ok (.iconst 1, 1) := dk_4 (dk_at dksX3_lift_0 23 rfl rfl)
theorem dX3_lift_24 : decode cX3_lift 24 = .ok (.ireturn, 1) := dk_172 (dk_at dksX3_lift_1 0 rfl rfl)
abbrev cX3_clear : ByteArray := prog_12_method_118_code
def yX3_clear : MethodName := ⟨RX3, "clear", "()I"⟩
def dkwX3_clear_1 : List UInt8 := [180, 0, 7, 17, 3, 241, 3, 79, 27, 172]
abbrev dktX3_clear_1 : List UInt8 := dkwX3_clear_1 ++ []
def dkwX3_clear_0 : List UInt8 := [42, 180, 0, 7, 17, 3, 241, 46, 60, 27, 154, 0, 9, 42, 5, 182, 0, 138, 172, 42, 182, 1, 127, 42]
abbrev dktX3_clear_0 : List UInt8 := dkwX3_clear_0 ++ dktX3_clear_1
theorem dksX3_clear_0 : cX3_clear.data.toList.drop 0 = dktX3_clear_0 := by decide +kernel
theorem dksX3_clear_1 : cX3_clear.data.toList.drop 24 = dktX3_clear_1 := dk_seg dksX3_clear_0 24 rfl rfl
theorem dX3_clear_0 : decode cX3_clear 0 = .ok (.aload_n 0, 1) := dk_42 (dk_at dksX3_clear_0 0 rfl rfl)
theorem dX3_clear_1 : decode cX3_clear 1 = .ok (.getfield 7, 3) := dk_180 0 7 (dk_at dksX3_clear_0 1 rfl rfl)
theorem dX3_clear_4 : decode cX3_clear 4 = .ok (.sipush 1009, 3) := dk_17 3 241 (dk_at dksX3_clear_0 4 rfl rfl)
theorem dX3_clear_7 : decode cX3_clear 7 = .ok (.iaload, 1) := dk_46 (dk_at dksX3_clear_0 7 rfl rfl)
theorem dX3_clear_8 : decode cX3_clear 8 = .ok (.istore_n 1, 1) := dk_60 (dk_at dksX3_clear_0 8 rfl rfl)
theorem dX3_clear_9 : decode cX3_clear 9 = .ok (.iload_n 1, 1) := dk_27 (dk_at dksX3_clear_0 9 rfl rfl)
theorem dX3_clear_10 : decode cX3_clear 10 = .ok (.ifCond .ne 9, 3) := dk_154 0 9 (dk_at dksX3_clear_0 10 rfl rfl)
theorem dX3_clear_13 : decode cX3_clear 13 = .ok (.aload_n 0, 1) := dk_42 (dk_at dksX3_clear_0 13 rfl rfl)
theorem dX3_clear_14 : decode cX3_clear 14 = .ok (.iconst 2, 1) := dk_5 (dk_at dksX3_clear_0 14 rfl rfl)
theorem dX3_clear_15 : decode cX3_clear 15 = .ok (.invokevirtual 138, 3) := dk_182 0 138 (dk_at dksX3_clear_0 15 rfl rfl)
theorem dX3_clear_18 : decode cX3_clear 18 = .ok (.ireturn, 1) := dk_172 (dk_at dksX3_clear_0 18 rfl rfl)
theorem dX3_clear_19 : decode cX3_clear 19 = .ok (.aload_n 0, 1) := dk_42 (dk_at dksX3_clear_0 19 rfl rfl)
theorem dX3_clear_20 : decode cX3_clear 20 = .ok (.invokevirtual 383, 3) := dk_182 1 127 (dk_at dksX3_clear_0 20 rfl rfl)
theorem dX3_clear_23 : decode cX3_clear 23 = .ok (.aload_n 0, 1) := dk_42 (dk_at dksX3_clear_0 23 rfl rfl)
theorem dX3_clear_24 : decode cX3_clear 24 = .ok (.getfield 7, 3) := dk_180 0 7 (dk_at dksX3_clear_1 0 rfl rfl)
theorem dX3_clear_27 : decode cX3_clear 27 = .ok (.sipush 1009, 3) := dk_17 3 241 (dk_at dksX3_clear_1 3 rfl rfl)
theorem dX3_clear_30 : decode cX3_clear 30 = .ok (.iconst 0, 1) := dk_3 (dk_at dksX3_clear_1 6 rfl rfl)
theorem dX3_clear_31 : decode cX3_clear 31 = .ok (.iastore, 1) := dk_79 (dk_at dksX3_clear_1 7 rfl rfl)
theorem dX3_clear_32 : decode cX3_clear 32 = .ok (.iload_n 1, 1) := dk_27 (dk_at dksX3_clear_1 8 rfl rfl)
theorem dX3_clear_33 : decode cX3_clear 33 = .ok (.ireturn, 1) := dk_172 (dk_at dksX3_clear_1 9 rfl rfl)
abbrev cX3_learn : ByteArray := prog_12_method_119_code
def yX3_learn : MethodName := ⟨RX3, "learn", "()I"⟩
def dkwX3_learn_8 : List UInt8 := [180, 0, 7, 17, 3, 232, 92, 46, 4, 96, 79, 27, 172]
abbrev dktX3_learn_8 : List UInt8 := dkwX3_learn_8 ++ []
def dkwX3_learn_7 : List UInt8 := [167, 255, 233, 42, 180, 0, 7, 17, 3, 233, 27, 96, 42, 180, 0, 7, 17, 3, 241, 46, 79, 42]
abbrev dktX3_learn_7 : List UInt8 := dkwX3_learn_7 ++ dktX3_learn_8
def dkwX3_learn_6 : List UInt8 := [28, 7, 162, 0, 24, 42, 180, 0, 7, 17, 3, 242, 7, 27, 104, 96, 28, 96, 3, 79, 132, 2, 1]
abbrev dktX3_learn_6 : List UInt8 := dkwX3_learn_6 ++ dktX3_learn_7
def dkwX3_learn_5 : List UInt8 := [16, 24, 28, 104, 96, 21, 4, 96, 46, 79, 132, 4, 1, 167, 255, 218, 132, 2, 1, 167, 255, 168, 3, 61]
abbrev dktX3_learn_5 : List UInt8 := dkwX3_learn_5 ++ dktX3_learn_6
def dkwX3_learn_4 : List UInt8 := [16, 24, 162, 0, 37, 42, 180, 0, 7, 3, 16, 24, 29, 104, 96, 21, 4, 96, 42, 180, 0, 7, 3]
abbrev dktX3_learn_4 : List UInt8 := dkwX3_learn_4 ++ dktX3_learn_5
def dkwX3_learn_3 : List UInt8 := [180, 0, 7, 17, 3, 192, 29, 96, 42, 180, 0, 7, 17, 3, 192, 28, 96, 46, 79, 3, 54, 4, 21, 4]
abbrev dktX3_learn_3 : List UInt8 := dkwX3_learn_3 ++ dktX3_learn_4
def dkwX3_learn_2 : List UInt8 := [3, 61, 28, 42, 180, 0, 7, 17, 3, 241, 46, 162, 0, 82, 16, 8, 7, 27, 104, 96, 28, 96, 62, 42]
abbrev dktX3_learn_2 : List UInt8 := dkwX3_learn_2 ++ dktX3_learn_3
def dkwX3_learn_1 : List UInt8 := [16, 8, 160, 0, 9, 42, 6, 182, 0, 138, 172, 42, 182, 1, 127, 42, 180, 0, 7, 17, 3, 232, 46, 60]
abbrev dktX3_learn_1 : List UInt8 := dkwX3_learn_1 ++ dktX3_learn_2
def dkwX3_learn_0 : List UInt8 := [42, 180, 0, 7, 17, 3, 241, 46, 4, 7, 184, 0, 171, 153, 0, 16, 42, 180, 0, 7, 17, 3, 232, 46]
abbrev dktX3_learn_0 : List UInt8 := dkwX3_learn_0 ++ dktX3_learn_1
theorem dksX3_learn_0 : cX3_learn.data.toList.drop 0 = dktX3_learn_0 := by decide +kernel
theorem dksX3_learn_1 : cX3_learn.data.toList.drop 24 = dktX3_learn_1 := dk_seg dksX3_learn_0 24 rfl rfl
theorem dksX3_learn_2 : cX3_learn.data.toList.drop 48 = dktX3_learn_2 := dk_seg dksX3_learn_1 24 rfl rfl
theorem dksX3_learn_3 : cX3_learn.data.toList.drop 72 = dktX3_learn_3 := dk_seg dksX3_learn_2 24 rfl rfl
theorem dksX3_learn_4 : cX3_learn.data.toList.drop 96 = dktX3_learn_4 := dk_seg dksX3_learn_3 24 rfl rfl
theorem dksX3_learn_5 : cX3_learn.data.toList.drop 119 = dktX3_learn_5 := dk_seg dksX3_learn_4 23 rfl rfl
theorem dksX3_learn_6 : cX3_learn.data.toList.drop 143 = dktX3_learn_6 := dk_seg dksX3_learn_5 24 rfl rfl
theorem dksX3_learn_7 : cX3_learn.data.toList.drop 166 = dktX3_learn_7 := dk_seg dksX3_learn_6 23 rfl rfl
theorem dksX3_learn_8 : cX3_learn.data.toList.drop 188 = dktX3_learn_8 := dk_seg dksX3_learn_7 22 rfl rfl
theorem dX3_learn_0 : decode cX3_learn 0 = .ok (.aload_n 0, 1) := dk_42 (dk_at dksX3_learn_0 0 rfl rfl)
theorem dX3_learn_1 : decode cX3_learn 1 = .ok (.getfield 7, 3) := dk_180 0 7 (dk_at dksX3_learn_0 1 rfl rfl)
theorem dX3_learn_4 : decode cX3_learn 4 = .ok (.sipush 1009, 3) := dk_17 3 241 (dk_at dksX3_learn_0 4 rfl rfl)
theorem dX3_learn_7 : decode cX3_learn 7 = .ok (.iaload, 1) := dk_46 (dk_at dksX3_learn_0 7 rfl rfl)
theorem dX3_learn_8 : decode cX3_learn 8 = .ok (.iconst 1, 1) := dk_4 (dk_at dksX3_learn_0 8 rfl rfl)
theorem dX3_learn_9 : decode cX3_learn 9 = .ok (.iconst 4, 1) := dk_7 (dk_at dksX3_learn_0 9 rfl rfl)
theorem dX3_learn_10 : decode cX3_learn 10 = .ok (.invokestatic 171, 3) := dk_184 0 171 (dk_at dksX3_learn_0 10 rfl rfl)
theorem dX3_learn_13 : decode cX3_learn 13 = .ok (.ifCond .eq 16, 3) := dk_153 0 16 (dk_at dksX3_learn_0 13 rfl rfl)
theorem dX3_learn_16 : decode cX3_learn 16 = .ok (.aload_n 0, 1) := dk_42 (dk_at dksX3_learn_0 16 rfl rfl)
theorem dX3_learn_17 : decode cX3_learn 17 = .ok (.getfield 7, 3) := dk_180 0 7 (dk_at dksX3_learn_0 17 rfl rfl)
theorem dX3_learn_20 : decode cX3_learn 20 = .ok (.sipush 1000, 3) := dk_17 3 232 (dk_at dksX3_learn_0 20 rfl rfl)
theorem dX3_learn_23 : decode cX3_learn 23 = .ok (.iaload, 1) := dk_46 (dk_at dksX3_learn_0 23 rfl rfl)
theorem dX3_learn_24 : decode cX3_learn 24 = .ok (.bipush 8, 2) := dk_16 8 (dk_at dksX3_learn_1 0 rfl rfl)
theorem dX3_learn_26 : decode cX3_learn 26 = .ok (.if_icmp .ne 9, 3) := dk_160 0 9 (dk_at dksX3_learn_1 2 rfl rfl)
theorem dX3_learn_29 : decode cX3_learn 29 = .ok (.aload_n 0, 1) := dk_42 (dk_at dksX3_learn_1 5 rfl rfl)
theorem dX3_learn_30 : decode cX3_learn 30 = .ok (.iconst 3, 1) := dk_6 (dk_at dksX3_learn_1 6 rfl rfl)
theorem dX3_learn_31 : decode cX3_learn 31 = .ok (.invokevirtual 138, 3) := dk_182 0 138 (dk_at dksX3_learn_1 7 rfl rfl)
theorem dX3_learn_34 : decode cX3_learn 34 = .ok (.ireturn, 1) := dk_172 (dk_at dksX3_learn_1 10 rfl rfl)
theorem dX3_learn_35 : decode cX3_learn 35 = .ok (.aload_n 0, 1) := dk_42 (dk_at dksX3_learn_1 11 rfl rfl)
theorem dX3_learn_36 : decode cX3_learn 36 = .ok (.invokevirtual 383, 3) := dk_182 1 127 (dk_at dksX3_learn_1 12 rfl rfl)
theorem dX3_learn_39 : decode cX3_learn 39 = .ok (.aload_n 0, 1) := dk_42 (dk_at dksX3_learn_1 15 rfl rfl)
theorem dX3_learn_40 : decode cX3_learn 40 = .ok (.getfield 7, 3) := dk_180 0 7 (dk_at dksX3_learn_1 16 rfl rfl)
theorem dX3_learn_43 : decode cX3_learn 43 = .ok (.sipush 1000, 3) := dk_17 3 232 (dk_at dksX3_learn_1 19 rfl rfl)
theorem dX3_learn_46 : decode cX3_learn 46 = .ok (.iaload, 1) := dk_46 (dk_at dksX3_learn_1 22 rfl rfl)
theorem dX3_learn_47 : decode cX3_learn 47 = .ok (.istore_n 1, 1) := dk_60 (dk_at dksX3_learn_1 23 rfl rfl)
theorem dX3_learn_48 : decode cX3_learn 48 = .ok (.iconst 0, 1) := dk_3 (dk_at dksX3_learn_2 0 rfl rfl)
theorem dX3_learn_49 : decode cX3_learn 49 = .ok (.istore_n 2, 1) := dk_61 (dk_at dksX3_learn_2 1 rfl rfl)
theorem dX3_learn_50 : decode cX3_learn 50 = .ok (.iload_n 2, 1) := dk_28 (dk_at dksX3_learn_2 2 rfl rfl)
theorem dX3_learn_51 : decode cX3_learn 51 = .ok (.aload_n 0, 1) := dk_42 (dk_at dksX3_learn_2 3 rfl rfl)
theorem dX3_learn_52 : decode cX3_learn 52 = .ok (.getfield 7, 3) := dk_180 0 7 (dk_at dksX3_learn_2 4 rfl rfl)
theorem dX3_learn_55 : decode cX3_learn 55 = .ok (.sipush 1009, 3) := dk_17 3 241 (dk_at dksX3_learn_2 7 rfl rfl)
theorem dX3_learn_58 : decode cX3_learn 58 = .ok (.iaload, 1) := dk_46 (dk_at dksX3_learn_2 10 rfl rfl)
theorem dX3_learn_59 : decode cX3_learn 59 = .ok (.if_icmp .ge 82, 3) := dk_162 0 82 (dk_at dksX3_learn_2 11 rfl rfl)
theorem dX3_learn_62 : decode cX3_learn 62 = .ok (.bipush 8, 2) := dk_16 8 (dk_at dksX3_learn_2 14 rfl rfl)
theorem dX3_learn_64 : decode cX3_learn 64 = .ok (.iconst 4, 1) := dk_7 (dk_at dksX3_learn_2 16 rfl rfl)
theorem dX3_learn_65 : decode cX3_learn 65 = .ok (.iload_n 1, 1) := dk_27 (dk_at dksX3_learn_2 17 rfl rfl)
theorem dX3_learn_66 : decode cX3_learn 66 = .ok (.imul, 1) := dk_104 (dk_at dksX3_learn_2 18 rfl rfl)
theorem dX3_learn_67 : decode cX3_learn 67 = .ok (.iadd, 1) := dk_96 (dk_at dksX3_learn_2 19 rfl rfl)
theorem dX3_learn_68 : decode cX3_learn 68 = .ok (.iload_n 2, 1) := dk_28 (dk_at dksX3_learn_2 20 rfl rfl)
theorem dX3_learn_69 : decode cX3_learn 69 = .ok (.iadd, 1) := dk_96 (dk_at dksX3_learn_2 21 rfl rfl)
theorem dX3_learn_70 : decode cX3_learn 70 = .ok (.istore_n 3, 1) := dk_62 (dk_at dksX3_learn_2 22 rfl rfl)
theorem dX3_learn_71 : decode cX3_learn 71 = .ok (.aload_n 0, 1) := dk_42 (dk_at dksX3_learn_2 23 rfl rfl)
theorem dX3_learn_72 : decode cX3_learn 72 = .ok (.getfield 7, 3) := dk_180 0 7 (dk_at dksX3_learn_3 0 rfl rfl)
theorem dX3_learn_75 : decode cX3_learn 75 = .ok (.sipush 960, 3) := dk_17 3 192 (dk_at dksX3_learn_3 3 rfl rfl)
theorem dX3_learn_78 : decode cX3_learn 78 = .ok (.iload_n 3, 1) := dk_29 (dk_at dksX3_learn_3 6 rfl rfl)
theorem dX3_learn_79 : decode cX3_learn 79 = .ok (.iadd, 1) := dk_96 (dk_at dksX3_learn_3 7 rfl rfl)
theorem dX3_learn_80 : decode cX3_learn 80 = .ok (.aload_n 0, 1) := dk_42 (dk_at dksX3_learn_3 8 rfl rfl)
theorem dX3_learn_81 : decode cX3_learn 81 = .ok (.getfield 7, 3) := dk_180 0 7 (dk_at dksX3_learn_3 9 rfl rfl)
theorem dX3_learn_84 : decode cX3_learn 84 = .ok (.sipush 960, 3) := dk_17 3 192 (dk_at dksX3_learn_3 12 rfl rfl)
theorem dX3_learn_87 : decode cX3_learn 87 = .ok (.iload_n 2, 1) := dk_28 (dk_at dksX3_learn_3 15 rfl rfl)
theorem dX3_learn_88 : decode cX3_learn 88 = .ok (.iadd, 1) := dk_96 (dk_at dksX3_learn_3 16 rfl rfl)
theorem dX3_learn_89 : decode cX3_learn 89 = .ok (.iaload, 1) := dk_46 (dk_at dksX3_learn_3 17 rfl rfl)
theorem dX3_learn_90 : decode cX3_learn 90 = .ok (.iastore, 1) := dk_79 (dk_at dksX3_learn_3 18 rfl rfl)
theorem dX3_learn_91 : decode cX3_learn 91 = .ok (.iconst 0, 1) := dk_3 (dk_at dksX3_learn_3 19 rfl rfl)
theorem dX3_learn_92 : decode cX3_learn 92 = .ok (.istore 4, 2) := dk_54 4 (dk_at dksX3_learn_3 20 rfl rfl)
theorem dX3_learn_94 : decode cX3_learn 94 = .ok (.iload 4, 2) := dk_21 4 (dk_at dksX3_learn_3 22 rfl rfl)
theorem dX3_learn_96 : decode cX3_learn 96 = .ok (.bipush 24, 2) := dk_16 24 (dk_at dksX3_learn_4 0 rfl rfl)
theorem dX3_learn_98 : decode cX3_learn 98 = .ok (.if_icmp .ge 37, 3) := dk_162 0 37 (dk_at dksX3_learn_4 2 rfl rfl)
theorem dX3_learn_101 : decode cX3_learn 101 = .ok (.aload_n 0, 1) := dk_42 (dk_at dksX3_learn_4 5 rfl rfl)
theorem dX3_learn_102 : decode cX3_learn 102 = .ok (.getfield 7, 3) := dk_180 0 7 (dk_at dksX3_learn_4 6 rfl rfl)
theorem dX3_learn_105 : decode cX3_learn 105 = .ok (.iconst 0, 1) := dk_3 (dk_at dksX3_learn_4 9 rfl rfl)
theorem dX3_learn_106 : decode cX3_learn 106 = .ok (.bipush 24, 2) := dk_16 24 (dk_at dksX3_learn_4 10 rfl rfl)
theorem dX3_learn_108 : decode cX3_learn 108 = .ok (.iload_n 3, 1) := dk_29 (dk_at dksX3_learn_4 12 rfl rfl)
theorem dX3_learn_109 : decode cX3_learn 109 = .ok (.imul, 1) := dk_104 (dk_at dksX3_learn_4 13 rfl rfl)
theorem dX3_learn_110 : decode cX3_learn 110 = .ok (.iadd, 1) := dk_96 (dk_at dksX3_learn_4 14 rfl rfl)
theorem dX3_learn_111 : decode cX3_learn 111 = .ok (.iload 4, 2) := dk_21 4 (dk_at dksX3_learn_4 15 rfl rfl)
theorem dX3_learn_113 : decode cX3_learn 113 = .ok (.iadd, 1) := dk_96 (dk_at dksX3_learn_4 17 rfl rfl)
theorem dX3_learn_114 : decode cX3_learn 114 = .ok (.aload_n 0, 1) := dk_42 (dk_at dksX3_learn_4 18 rfl rfl)
theorem dX3_learn_115 : decode cX3_learn 115 = .ok (.getfield 7, 3) := dk_180 0 7 (dk_at dksX3_learn_4 19 rfl rfl)
theorem dX3_learn_118 : decode cX3_learn 118 = .ok (.iconst 0, 1) := dk_3 (dk_at dksX3_learn_4 22 rfl rfl)
theorem dX3_learn_119 : decode cX3_learn 119 = .ok (.bipush 24, 2) := dk_16 24 (dk_at dksX3_learn_5 0 rfl rfl)
theorem dX3_learn_121 : decode cX3_learn 121 = .ok (.iload_n 2, 1) := dk_28 (dk_at dksX3_learn_5 2 rfl rfl)
theorem dX3_learn_122 : decode cX3_learn 122 = .ok (.imul, 1) := dk_104 (dk_at dksX3_learn_5 3 rfl rfl)
theorem dX3_learn_123 : decode cX3_learn 123 = .ok (.iadd, 1) := dk_96 (dk_at dksX3_learn_5 4 rfl rfl)
theorem dX3_learn_124 : decode cX3_learn 124 = .ok (.iload 4, 2) := dk_21 4 (dk_at dksX3_learn_5 5 rfl rfl)
theorem dX3_learn_126 : decode cX3_learn 126 = .ok (.iadd, 1) := dk_96 (dk_at dksX3_learn_5 7 rfl rfl)
theorem dX3_learn_127 : decode cX3_learn 127 = .ok (.iaload, 1) := dk_46 (dk_at dksX3_learn_5 8 rfl rfl)
theorem dX3_learn_128 : decode cX3_learn 128 = .ok (.iastore, 1) := dk_79 (dk_at dksX3_learn_5 9 rfl rfl)
theorem dX3_learn_129 : decode cX3_learn 129 = .ok (.iinc 4 1, 3) := dk_132 4 1 (dk_at dksX3_learn_5 10 rfl rfl)
theorem dX3_learn_132 : decode cX3_learn 132 = .ok (.goto (-38), 3) := dk_167 255 218 (dk_at dksX3_learn_5 13 rfl rfl)
theorem dX3_learn_135 : decode cX3_learn 135 = .ok (.iinc 2 1, 3) := dk_132 2 1 (dk_at dksX3_learn_5 16 rfl rfl)
theorem dX3_learn_138 : decode cX3_learn 138 = .ok (.goto (-88), 3) := dk_167 255 168 (dk_at dksX3_learn_5 19 rfl rfl)
theorem dX3_learn_141 : decode cX3_learn 141 = .ok (.iconst 0, 1) := dk_3 (dk_at dksX3_learn_5 22 rfl rfl)
theorem dX3_learn_142 : decode cX3_learn 142 = .ok (.istore_n 2, 1) := dk_61 (dk_at dksX3_learn_5 23 rfl rfl)
theorem dX3_learn_143 : decode cX3_learn 143 = .ok (.iload_n 2, 1) := dk_28 (dk_at dksX3_learn_6 0 rfl rfl)
theorem dX3_learn_144 : decode cX3_learn 144 = .ok (.iconst 4, 1) := dk_7 (dk_at dksX3_learn_6 1 rfl rfl)
theorem dX3_learn_145 : decode cX3_learn 145 = .ok (.if_icmp .ge 24, 3) := dk_162 0 24 (dk_at dksX3_learn_6 2 rfl rfl)
theorem dX3_learn_148 : decode cX3_learn 148 = .ok (.aload_n 0, 1) := dk_42 (dk_at dksX3_learn_6 5 rfl rfl)
theorem dX3_learn_149 : decode cX3_learn 149 = .ok (.getfield 7, 3) := dk_180 0 7 (dk_at dksX3_learn_6 6 rfl rfl)
theorem dX3_learn_152 : decode cX3_learn 152 = .ok (.sipush 1010, 3) := dk_17 3 242 (dk_at dksX3_learn_6 9 rfl rfl)
theorem dX3_learn_155 : decode cX3_learn 155 = .ok (.iconst 4, 1) := dk_7 (dk_at dksX3_learn_6 12 rfl rfl)
theorem dX3_learn_156 : decode cX3_learn 156 = .ok (.iload_n 1, 1) := dk_27 (dk_at dksX3_learn_6 13 rfl rfl)
theorem dX3_learn_157 : decode cX3_learn 157 = .ok (.imul, 1) := dk_104 (dk_at dksX3_learn_6 14 rfl rfl)
theorem dX3_learn_158 : decode cX3_learn 158 = .ok (.iadd, 1) := dk_96 (dk_at dksX3_learn_6 15 rfl rfl)
theorem dX3_learn_159 : decode cX3_learn 159 = .ok (.iload_n 2, 1) := dk_28 (dk_at dksX3_learn_6 16 rfl rfl)
theorem dX3_learn_160 : decode cX3_learn 160 = .ok (.iadd, 1) := dk_96 (dk_at dksX3_learn_6 17 rfl rfl)
theorem dX3_learn_161 : decode cX3_learn 161 = .ok (.iconst 0, 1) := dk_3 (dk_at dksX3_learn_6 18 rfl rfl)
theorem dX3_learn_162 : decode cX3_learn 162 = .ok (.iastore, 1) := dk_79 (dk_at dksX3_learn_6 19 rfl rfl)
theorem dX3_learn_163 : decode cX3_learn 163 = .ok (.iinc 2 1, 3) := dk_132 2 1 (dk_at dksX3_learn_6 20 rfl rfl)
theorem dX3_learn_166 : decode cX3_learn 166 = .ok (.goto (-23), 3) := dk_167 255 233 (dk_at dksX3_learn_7 0 rfl rfl)
theorem dX3_learn_169 : decode cX3_learn 169 = .ok (.aload_n 0, 1) := dk_42 (dk_at dksX3_learn_7 3 rfl rfl)
theorem dX3_learn_170 : decode cX3_learn 170 = .ok (.getfield 7, 3) := dk_180 0 7 (dk_at dksX3_learn_7 4 rfl rfl)
theorem dX3_learn_173 : decode cX3_learn 173 = .ok (.sipush 1001, 3) := dk_17 3 233 (dk_at dksX3_learn_7 7 rfl rfl)
theorem dX3_learn_176 : decode cX3_learn 176 = .ok (.iload_n 1, 1) := dk_27 (dk_at dksX3_learn_7 10 rfl rfl)
theorem dX3_learn_177 : decode cX3_learn 177 = .ok (.iadd, 1) := dk_96 (dk_at dksX3_learn_7 11 rfl rfl)
theorem dX3_learn_178 : decode cX3_learn 178 = .ok (.aload_n 0, 1) := dk_42 (dk_at dksX3_learn_7 12 rfl rfl)
theorem dX3_learn_179 : decode cX3_learn 179 = .ok (.getfield 7, 3) := dk_180 0 7 (dk_at dksX3_learn_7 13 rfl rfl)
theorem dX3_learn_182 : decode cX3_learn 182 = .ok (.sipush 1009, 3) := dk_17 3 241 (dk_at dksX3_learn_7 16 rfl rfl)
theorem dX3_learn_185 : decode cX3_learn 185 = .ok (.iaload, 1) := dk_46 (dk_at dksX3_learn_7 19 rfl rfl)
theorem dX3_learn_186 : decode cX3_learn 186 = .ok (.iastore, 1) := dk_79 (dk_at dksX3_learn_7 20 rfl rfl)
theorem dX3_learn_187 : decode cX3_learn 187 = .ok (.aload_n 0, 1) := dk_42 (dk_at dksX3_learn_7 21 rfl rfl)
theorem dX3_learn_188 : decode cX3_learn 188 = .ok (.getfield 7, 3) := dk_180 0 7 (dk_at dksX3_learn_8 0 rfl rfl)
theorem dX3_learn_191 : decode cX3_learn 191 = .ok (.sipush 1000, 3) := dk_17 3 232 (dk_at dksX3_learn_8 3 rfl rfl)
theorem dX3_learn_194 : decode cX3_learn 194 = .ok (.dup2, 1) := dk_92 (dk_at dksX3_learn_8 6 rfl rfl)
theorem dX3_learn_195 : decode cX3_learn 195 = .ok (.iaload, 1) := dk_46 (dk_at dksX3_learn_8 7 rfl rfl)
theorem dX3_learn_196 : decode cX3_learn 196 = .ok (.iconst 1, 1) := dk_4 (dk_at dksX3_learn_8 8 rfl rfl)
theorem dX3_learn_197 : decode cX3_learn 197 = .ok (.iadd, 1) := dk_96 (dk_at dksX3_learn_8 9 rfl rfl)
theorem dX3_learn_198 : decode cX3_learn 198 = .ok (.iastore, 1) := dk_79 (dk_at dksX3_learn_8 10 rfl rfl)
theorem dX3_learn_199 : decode cX3_learn 199 = .ok (.iload_n 1, 1) := dk_27 (dk_at dksX3_learn_8 11 rfl rfl)
theorem dX3_learn_200 : decode cX3_learn 200 = .ok (.ireturn, 1) := dk_172 (dk_at dksX3_learn_8 12 rfl rfl)
abbrev cX3_forget : ByteArray := prog_12_method_120_code
def yX3_forget : MethodName := ⟨RX3, "forget", "(I)Z"⟩
def dkwX3_forget_8 : List UInt8 := [96, 7, 96, 104, 96, 29, 96, 46, 79, 132, 3, 1, 167, 255, 209, 132, 2, 1, 167, 255, 81, 4, 172]
abbrev dktX3_forget_8 : List UInt8 := dkwX3_forget_8 ++ []
def dkwX3_forget_7 : List UInt8 := [16, 24, 16, 8, 7, 28, 104, 96, 104, 96, 29, 96, 42, 180, 0, 7, 3, 16, 24, 16, 8, 7, 28, 104]
abbrev dktX3_forget_7 : List UInt8 := dkwX3_forget_7 ++ dktX3_forget_8
def dkwX3_forget_6 : List UInt8 := [96, 29, 96, 46, 79, 132, 3, 1, 167, 255, 218, 3, 62, 29, 16, 96, 162, 0, 47, 42, 180, 0, 7, 3]
abbrev dktX3_forget_6 : List UInt8 := dkwX3_forget_6 ++ dktX3_forget_7
def dkwX3_forget_5 : List UInt8 := [180, 0, 7, 17, 3, 200, 7, 28, 104, 96, 29, 96, 42, 180, 0, 7, 17, 3, 200, 7, 28, 104, 96, 7]
abbrev dktX3_forget_5 : List UInt8 := dkwX3_forget_5 ++ dktX3_forget_6
def dkwX3_forget_4 : List UInt8 := [7, 28, 104, 96, 7, 96, 29, 96, 46, 79, 132, 3, 1, 167, 255, 218, 3, 62, 29, 7, 162, 0, 39, 42]
abbrev dktX3_forget_4 : List UInt8 := dkwX3_forget_4 ++ dktX3_forget_5
def dkwX3_forget_3 : List UInt8 := [7, 162, 0, 39, 42, 180, 0, 7, 17, 3, 242, 7, 28, 104, 96, 29, 96, 42, 180, 0, 7, 17, 3, 242]
abbrev dktX3_forget_3 : List UInt8 := dkwX3_forget_3 ++ dktX3_forget_4
def dkwX3_forget_2 : List UInt8 := [180, 0, 7, 17, 3, 233, 28, 96, 42, 180, 0, 7, 17, 3, 233, 28, 96, 4, 96, 46, 79, 3, 62, 29]
abbrev dktX3_forget_2 : List UInt8 := dkwX3_forget_2 ++ dktX3_forget_3
def dkwX3_forget_1 : List UInt8 := [17, 3, 232, 92, 46, 4, 100, 79, 27, 61, 28, 42, 180, 0, 7, 17, 3, 232, 46, 162, 0, 169, 42]
abbrev dktX3_forget_1 : List UInt8 := dkwX3_forget_1 ++ dktX3_forget_2
def dkwX3_forget_0 : List UInt8 := [42, 27, 182, 0, 215, 154, 0, 9, 42, 6, 182, 0, 146, 172, 42, 182, 1, 127, 42, 180, 0, 7]
abbrev dktX3_forget_0 : List UInt8 := dkwX3_forget_0 ++ dktX3_forget_1
theorem dksX3_forget_0 : cX3_forget.data.toList.drop 0 = dktX3_forget_0 := by decide +kernel
theorem dksX3_forget_1 : cX3_forget.data.toList.drop 22 = dktX3_forget_1 := dk_seg dksX3_forget_0 22 rfl rfl
theorem dksX3_forget_2 : cX3_forget.data.toList.drop 45 = dktX3_forget_2 := dk_seg dksX3_forget_1 23 rfl rfl
theorem dksX3_forget_3 : cX3_forget.data.toList.drop 69 = dktX3_forget_3 := dk_seg dksX3_forget_2 24 rfl rfl
theorem dksX3_forget_4 : cX3_forget.data.toList.drop 93 = dktX3_forget_4 := dk_seg dksX3_forget_3 24 rfl rfl
theorem dksX3_forget_5 : cX3_forget.data.toList.drop 117 = dktX3_forget_5 := dk_seg dksX3_forget_4 24 rfl rfl
theorem dksX3_forget_6 : cX3_forget.data.toList.drop 141 = dktX3_forget_6 := dk_seg dksX3_forget_5 24 rfl rfl
theorem dksX3_forget_7 : cX3_forget.data.toList.drop 165 = dktX3_forget_7 := dk_seg dksX3_forget_6 24 rfl rfl
theorem dksX3_forget_8 : cX3_forget.data.toList.drop 189 = dktX3_forget_8 := dk_seg dksX3_forget_7 24 rfl rfl
theorem dX3_forget_0 : decode cX3_forget 0 = .ok (.aload_n 0, 1) := dk_42 (dk_at dksX3_forget_0 0 rfl rfl)
theorem dX3_forget_1 : decode cX3_forget 1 = .ok (.iload_n 1, 1) := dk_27 (dk_at dksX3_forget_0 1 rfl rfl)
theorem dX3_forget_2 : decode cX3_forget 2 = .ok (.invokevirtual 215, 3) := dk_182 0 215 (dk_at dksX3_forget_0 2 rfl rfl)
theorem dX3_forget_5 : decode cX3_forget 5 = .ok (.ifCond .ne 9, 3) := dk_154 0 9 (dk_at dksX3_forget_0 5 rfl rfl)
theorem dX3_forget_8 : decode cX3_forget 8 = .ok (.aload_n 0, 1) := dk_42 (dk_at dksX3_forget_0 8 rfl rfl)
theorem dX3_forget_9 : decode cX3_forget 9 = .ok (.iconst 3, 1) := dk_6 (dk_at dksX3_forget_0 9 rfl rfl)
theorem dX3_forget_10 : decode cX3_forget 10 = .ok (.invokevirtual 146, 3) := dk_182 0 146 (dk_at dksX3_forget_0 10 rfl rfl)
theorem dX3_forget_13 : decode cX3_forget 13 = .ok (.ireturn, 1) := dk_172 (dk_at dksX3_forget_0 13 rfl rfl)
theorem dX3_forget_14 : decode cX3_forget 14 = .ok (.aload_n 0, 1) := dk_42 (dk_at dksX3_forget_0 14 rfl rfl)
theorem dX3_forget_15 : decode cX3_forget 15 = .ok (.invokevirtual 383, 3) := dk_182 1 127 (dk_at dksX3_forget_0 15 rfl rfl)
theorem dX3_forget_18 : decode cX3_forget 18 = .ok (.aload_n 0, 1) := dk_42 (dk_at dksX3_forget_0 18 rfl rfl)
theorem dX3_forget_19 : decode cX3_forget 19 = .ok (.getfield 7, 3) := dk_180 0 7 (dk_at dksX3_forget_0 19 rfl rfl)
theorem dX3_forget_22 : decode cX3_forget 22 = .ok (.sipush 1000, 3) := dk_17 3 232 (dk_at dksX3_forget_1 0 rfl rfl)
theorem dX3_forget_25 : decode cX3_forget 25 = .ok (.dup2, 1) := dk_92 (dk_at dksX3_forget_1 3 rfl rfl)
theorem dX3_forget_26 : decode cX3_forget 26 = .ok (.iaload, 1) := dk_46 (dk_at dksX3_forget_1 4 rfl rfl)
theorem dX3_forget_27 : decode cX3_forget 27 = .ok (.iconst 1, 1) := dk_4 (dk_at dksX3_forget_1 5 rfl rfl)
theorem dX3_forget_28 : decode cX3_forget 28 = .ok (.isub, 1) := dk_100 (dk_at dksX3_forget_1 6 rfl rfl)
theorem dX3_forget_29 : decode cX3_forget 29 = .ok (.iastore, 1) := dk_79 (dk_at dksX3_forget_1 7 rfl rfl)
theorem dX3_forget_30 : decode cX3_forget 30 = .ok (.iload_n 1, 1) := dk_27 (dk_at dksX3_forget_1 8 rfl rfl)
theorem dX3_forget_31 : decode cX3_forget 31 = .ok (.istore_n 2, 1) := dk_61 (dk_at dksX3_forget_1 9 rfl rfl)
theorem dX3_forget_32 : decode cX3_forget 32 = .ok (.iload_n 2, 1) := dk_28 (dk_at dksX3_forget_1 10 rfl rfl)
theorem dX3_forget_33 : decode cX3_forget 33 = .ok (.aload_n 0, 1) := dk_42 (dk_at dksX3_forget_1 11 rfl rfl)
theorem dX3_forget_34 : decode cX3_forget 34 = .ok (.getfield 7, 3) := dk_180 0 7 (dk_at dksX3_forget_1 12 rfl rfl)
theorem dX3_forget_37 : decode cX3_forget 37 = .ok (.sipush 1000, 3) := dk_17 3 232 (dk_at dksX3_forget_1 15 rfl rfl)
theorem dX3_forget_40 : decode cX3_forget 40 = .ok (.iaload, 1) := dk_46 (dk_at dksX3_forget_1 18 rfl rfl)
theorem dX3_forget_41 : decode cX3_forget 41 = .ok (.if_icmp .ge 169, 3) := dk_162 0 169 (dk_at dksX3_forget_1 19 rfl rfl)
theorem dX3_forget_44 : decode cX3_forget 44 = .ok (.aload_n 0, 1) := dk_42 (dk_at dksX3_forget_1 22 rfl rfl)
theorem dX3_forget_45 : decode cX3_forget 45 = .ok (.getfield 7, 3) := dk_180 0 7 (dk_at dksX3_forget_2 0 rfl rfl)
theorem dX3_forget_48 : decode cX3_forget 48 = .ok (.sipush 1001, 3) := dk_17 3 233 (dk_at dksX3_forget_2 3 rfl rfl)
theorem dX3_forget_51 : decode cX3_forget 51 = .ok (.iload_n 2, 1) := dk_28 (dk_at dksX3_forget_2 6 rfl rfl)
theorem dX3_forget_52 : decode cX3_forget 52 = .ok (.iadd, 1) := dk_96 (dk_at dksX3_forget_2 7 rfl rfl)
theorem dX3_forget_53 : decode cX3_forget 53 = .ok (.aload_n 0, 1) := dk_42 (dk_at dksX3_forget_2 8 rfl rfl)
theorem dX3_forget_54 : decode cX3_forget 54 = .ok (.getfield 7, 3) := dk_180 0 7 (dk_at dksX3_forget_2 9 rfl rfl)
theorem dX3_forget_57 : decode cX3_forget 57 = .ok (.sipush 1001, 3) := dk_17 3 233 (dk_at dksX3_forget_2 12 rfl rfl)
theorem dX3_forget_60 : decode cX3_forget 60 = .ok (.iload_n 2, 1) := dk_28 (dk_at dksX3_forget_2 15 rfl rfl)
theorem dX3_forget_61 : decode cX3_forget 61 = .ok (.iadd, 1) := dk_96 (dk_at dksX3_forget_2 16 rfl rfl)
theorem dX3_forget_62 : decode cX3_forget 62 = .ok (.iconst 1, 1) := dk_4 (dk_at dksX3_forget_2 17 rfl rfl)
theorem dX3_forget_63 : decode cX3_forget 63 = .ok (.iadd, 1) := dk_96 (dk_at dksX3_forget_2 18 rfl rfl)
theorem dX3_forget_64 : decode cX3_forget 64 = .ok (.iaload, 1) := dk_46 (dk_at dksX3_forget_2 19 rfl rfl)
theorem dX3_forget_65 : decode cX3_forget 65 = .ok (.iastore, 1) := dk_79 (dk_at dksX3_forget_2 20 rfl rfl)
theorem dX3_forget_66 : decode cX3_forget 66 = .ok (.iconst 0, 1) := dk_3 (dk_at dksX3_forget_2 21 rfl rfl)
theorem dX3_forget_67 : decode cX3_forget 67 = .ok (.istore_n 3, 1) := dk_62 (dk_at dksX3_forget_2 22 rfl rfl)
theorem dX3_forget_68 : decode cX3_forget 68 = .ok (.iload_n 3, 1) := dk_29 (dk_at dksX3_forget_2 23 rfl rfl)
theorem dX3_forget_69 : decode cX3_forget 69 = .ok (.iconst 4, 1) := dk_7 (dk_at dksX3_forget_3 0 rfl rfl)
theorem dX3_forget_70 : decode cX3_forget 70 = .ok (.if_icmp .ge 39, 3) := dk_162 0 39 (dk_at dksX3_forget_3 1 rfl rfl)
theorem dX3_forget_73 : decode cX3_forget 73 = .ok (.aload_n 0, 1) := dk_42 (dk_at dksX3_forget_3 4 rfl rfl)
theorem dX3_forget_74 : decode cX3_forget 74 = .ok (.getfield 7, 3) := dk_180 0 7 (dk_at dksX3_forget_3 5 rfl rfl)
theorem dX3_forget_77 : decode cX3_forget 77 = .ok (.sipush 1010, 3) := dk_17 3 242 (dk_at dksX3_forget_3 8 rfl rfl)
theorem dX3_forget_80 : decode cX3_forget 80 = .ok (.iconst 4, 1) := dk_7 (dk_at dksX3_forget_3 11 rfl rfl)
theorem dX3_forget_81 : decode cX3_forget 81 = .ok (.iload_n 2, 1) := dk_28 (dk_at dksX3_forget_3 12 rfl rfl)
theorem dX3_forget_82 : decode cX3_forget 82 = .ok (.imul, 1) := dk_104 (dk_at dksX3_forget_3 13 rfl rfl)
theorem dX3_forget_83 : decode cX3_forget 83 = .ok (.iadd, 1) := dk_96 (dk_at dksX3_forget_3 14 rfl rfl)
theorem dX3_forget_84 : decode cX3_forget 84 = .ok (.iload_n 3, 1) := dk_29 (dk_at dksX3_forget_3 15 rfl rfl)
theorem dX3_forget_85 : decode cX3_forget 85 = .ok (.iadd, 1) := dk_96 (dk_at dksX3_forget_3 16 rfl rfl)
theorem dX3_forget_86 : decode cX3_forget 86 = .ok (.aload_n 0, 1) := dk_42 (dk_at dksX3_forget_3 17 rfl rfl)
theorem dX3_forget_87 : decode cX3_forget 87 = .ok (.getfield 7, 3) := dk_180 0 7 (dk_at dksX3_forget_3 18 rfl rfl)
theorem dX3_forget_90 : decode cX3_forget 90 = .ok (.sipush 1010, 3) := dk_17 3 242 (dk_at dksX3_forget_3 21 rfl rfl)
theorem dX3_forget_93 : decode cX3_forget 93 = .ok (.iconst 4, 1) := dk_7 (dk_at dksX3_forget_4 0 rfl rfl)
theorem dX3_forget_94 : decode cX3_forget 94 = .ok (.iload_n 2, 1) := dk_28 (dk_at dksX3_forget_4 1 rfl rfl)
theorem dX3_forget_95 : decode cX3_forget 95 = .ok (.imul, 1) := dk_104 (dk_at dksX3_forget_4 2 rfl rfl)
theorem dX3_forget_96 : decode cX3_forget 96 = .ok (.iadd, 1) := dk_96 (dk_at dksX3_forget_4 3 rfl rfl)
theorem dX3_forget_97 : decode cX3_forget 97 = .ok (.iconst 4, 1) := dk_7 (dk_at dksX3_forget_4 4 rfl rfl)
theorem dX3_forget_98 : decode cX3_forget 98 = .ok (.iadd, 1) := dk_96 (dk_at dksX3_forget_4 5 rfl rfl)
theorem dX3_forget_99 : decode cX3_forget 99 = .ok (.iload_n 3, 1) := dk_29 (dk_at dksX3_forget_4 6 rfl rfl)
theorem dX3_forget_100 : decode cX3_forget 100 = .ok (.iadd, 1) := dk_96 (dk_at dksX3_forget_4 7 rfl rfl)
theorem dX3_forget_101 : decode cX3_forget 101 = .ok (.iaload, 1) := dk_46 (dk_at dksX3_forget_4 8 rfl rfl)
theorem dX3_forget_102 : decode cX3_forget 102 = .ok (.iastore, 1) := dk_79 (dk_at dksX3_forget_4 9 rfl rfl)
theorem dX3_forget_103 : decode cX3_forget 103 = .ok (.iinc 3 1, 3) := dk_132 3 1 (dk_at dksX3_forget_4 10 rfl rfl)
theorem dX3_forget_106 : decode cX3_forget 106 = .ok (.goto (-38), 3) := dk_167 255 218 (dk_at dksX3_forget_4 13 rfl rfl)
theorem dX3_forget_109 : decode cX3_forget 109 = .ok (.iconst 0, 1) := dk_3 (dk_at dksX3_forget_4 16 rfl rfl)
theorem dX3_forget_110 : decode cX3_forget 110 = .ok (.istore_n 3, 1) := dk_62 (dk_at dksX3_forget_4 17 rfl rfl)
theorem dX3_forget_111 : decode cX3_forget 111 = .ok (.iload_n 3, 1) := dk_29 (dk_at dksX3_forget_4 18 rfl rfl)
theorem dX3_forget_112 : decode cX3_forget 112 = .ok (.iconst 4, 1) := dk_7 (dk_at dksX3_forget_4 19 rfl rfl)
theorem dX3_forget_113 : decode cX3_forget 113 = .ok (.if_icmp .ge 39, 3) := dk_162 0 39 (dk_at dksX3_forget_4 20 rfl rfl)
theorem dX3_forget_116 : decode cX3_forget 116 = .ok (.aload_n 0, 1) := dk_42 (dk_at dksX3_forget_4 23 rfl rfl)
theorem dX3_forget_117 : decode cX3_forget 117 = .ok (.getfield 7, 3) := dk_180 0 7 (dk_at dksX3_forget_5 0 rfl rfl)
theorem dX3_forget_120 : decode cX3_forget 120 = .ok (.sipush 968, 3) := dk_17 3 200 (dk_at dksX3_forget_5 3 rfl rfl)
theorem dX3_forget_123 : decode cX3_forget 123 = .ok (.iconst 4, 1) := dk_7 (dk_at dksX3_forget_5 6 rfl rfl)
theorem dX3_forget_124 : decode cX3_forget 124 = .ok (.iload_n 2, 1) := dk_28 (dk_at dksX3_forget_5 7 rfl rfl)
theorem dX3_forget_125 : decode cX3_forget 125 = .ok (.imul, 1) := dk_104 (dk_at dksX3_forget_5 8 rfl rfl)
theorem dX3_forget_126 : decode cX3_forget 126 = .ok (.iadd, 1) := dk_96 (dk_at dksX3_forget_5 9 rfl rfl)
theorem dX3_forget_127 : decode cX3_forget 127 = .ok (.iload_n 3, 1) := dk_29 (dk_at dksX3_forget_5 10 rfl rfl)
theorem dX3_forget_128 : decode cX3_forget 128 = .ok (.iadd, 1) := dk_96 (dk_at dksX3_forget_5 11 rfl rfl)
theorem dX3_forget_129 : decode cX3_forget 129 = .ok (.aload_n 0, 1) := dk_42 (dk_at dksX3_forget_5 12 rfl rfl)
theorem dX3_forget_130 : decode cX3_forget 130 = .ok (.getfield 7, 3) := dk_180 0 7 (dk_at dksX3_forget_5 13 rfl rfl)
theorem dX3_forget_133 : decode cX3_forget 133 = .ok (.sipush 968, 3) := dk_17 3 200 (dk_at dksX3_forget_5 16 rfl rfl)
theorem dX3_forget_136 : decode cX3_forget 136 = .ok (.iconst 4, 1) := dk_7 (dk_at dksX3_forget_5 19 rfl rfl)
theorem dX3_forget_137 : decode cX3_forget 137 = .ok (.iload_n 2, 1) := dk_28 (dk_at dksX3_forget_5 20 rfl rfl)
theorem dX3_forget_138 : decode cX3_forget 138 = .ok (.imul, 1) := dk_104 (dk_at dksX3_forget_5 21 rfl rfl)
theorem dX3_forget_139 : decode cX3_forget 139 = .ok (.iadd, 1) := dk_96 (dk_at dksX3_forget_5 22 rfl rfl)
theorem dX3_forget_140 : decode cX3_forget 140 = .ok (.iconst 4, 1) := dk_7 (dk_at dksX3_forget_5 23 rfl rfl)
theorem dX3_forget_141 : decode cX3_forget 141 = .ok (.iadd, 1) := dk_96 (dk_at dksX3_forget_6 0 rfl rfl)
theorem dX3_forget_142 : decode cX3_forget 142 = .ok (.iload_n 3, 1) := dk_29 (dk_at dksX3_forget_6 1 rfl rfl)
theorem dX3_forget_143 : decode cX3_forget 143 = .ok (.iadd, 1) := dk_96 (dk_at dksX3_forget_6 2 rfl rfl)
theorem dX3_forget_144 : decode cX3_forget 144 = .ok (.iaload, 1) := dk_46 (dk_at dksX3_forget_6 3 rfl rfl)
theorem dX3_forget_145 : decode cX3_forget 145 = .ok (.iastore, 1) := dk_79 (dk_at dksX3_forget_6 4 rfl rfl)
theorem dX3_forget_146 : decode cX3_forget 146 = .ok (.iinc 3 1, 3) := dk_132 3 1 (dk_at dksX3_forget_6 5 rfl rfl)
theorem dX3_forget_149 : decode cX3_forget 149 = .ok (.goto (-38), 3) := dk_167 255 218 (dk_at dksX3_forget_6 8 rfl rfl)
theorem dX3_forget_152 : decode cX3_forget 152 = .ok (.iconst 0, 1) := dk_3 (dk_at dksX3_forget_6 11 rfl rfl)
theorem dX3_forget_153 : decode cX3_forget 153 = .ok (.istore_n 3, 1) := dk_62 (dk_at dksX3_forget_6 12 rfl rfl)
theorem dX3_forget_154 : decode cX3_forget 154 = .ok (.iload_n 3, 1) := dk_29 (dk_at dksX3_forget_6 13 rfl rfl)
theorem dX3_forget_155 : decode cX3_forget 155 = .ok (.bipush 96, 2) := dk_16 96 (dk_at dksX3_forget_6 14 rfl rfl)
theorem dX3_forget_157 : decode cX3_forget 157 = .ok (.if_icmp .ge 47, 3) := dk_162 0 47 (dk_at dksX3_forget_6 16 rfl rfl)
theorem dX3_forget_160 : decode cX3_forget 160 = .ok (.aload_n 0, 1) := dk_42 (dk_at dksX3_forget_6 19 rfl rfl)
theorem dX3_forget_161 : decode cX3_forget 161 = .ok (.getfield 7, 3) := dk_180 0 7 (dk_at dksX3_forget_6 20 rfl rfl)
theorem dX3_forget_164 : decode cX3_forget 164 = .ok (.iconst 0, 1) := dk_3 (dk_at dksX3_forget_6 23 rfl rfl)
theorem dX3_forget_165 : decode cX3_forget 165 = .ok (.bipush 24, 2) := dk_16 24 (dk_at dksX3_forget_7 0 rfl rfl)
theorem dX3_forget_167 : decode cX3_forget 167 = .ok (.bipush 8, 2) := dk_16 8 (dk_at dksX3_forget_7 2 rfl rfl)
theorem dX3_forget_169 : decode cX3_forget 169 = .ok (.iconst 4, 1) := dk_7 (dk_at dksX3_forget_7 4 rfl rfl)
theorem dX3_forget_170 : decode cX3_forget 170 = .ok (.iload_n 2, 1) := dk_28 (dk_at dksX3_forget_7 5 rfl rfl)
theorem dX3_forget_171 : decode cX3_forget 171 = .ok (.imul, 1) := dk_104 (dk_at dksX3_forget_7 6 rfl rfl)
theorem dX3_forget_172 : decode cX3_forget 172 = .ok (.iadd, 1) := dk_96 (dk_at dksX3_forget_7 7 rfl rfl)
theorem dX3_forget_173 : decode cX3_forget 173 = .ok (.imul, 1) := dk_104 (dk_at dksX3_forget_7 8 rfl rfl)
theorem dX3_forget_174 : decode cX3_forget 174 = .ok (.iadd, 1) := dk_96 (dk_at dksX3_forget_7 9 rfl rfl)
theorem dX3_forget_175 : decode cX3_forget 175 = .ok (.iload_n 3, 1) := dk_29 (dk_at dksX3_forget_7 10 rfl rfl)
theorem dX3_forget_176 : decode cX3_forget 176 = .ok (.iadd, 1) := dk_96 (dk_at dksX3_forget_7 11 rfl rfl)
theorem dX3_forget_177 : decode cX3_forget 177 = .ok (.aload_n 0, 1) := dk_42 (dk_at dksX3_forget_7 12 rfl rfl)
theorem dX3_forget_178 : decode cX3_forget 178 = .ok (.getfield 7, 3) := dk_180 0 7 (dk_at dksX3_forget_7 13 rfl rfl)
theorem dX3_forget_181 : decode cX3_forget 181 = .ok (.iconst 0, 1) := dk_3 (dk_at dksX3_forget_7 16 rfl rfl)
theorem dX3_forget_182 : decode cX3_forget 182 = .ok (.bipush 24, 2) := dk_16 24 (dk_at dksX3_forget_7 17 rfl rfl)
theorem dX3_forget_184 : decode cX3_forget 184 = .ok (.bipush 8, 2) := dk_16 8 (dk_at dksX3_forget_7 19 rfl rfl)
theorem dX3_forget_186 : decode cX3_forget 186 = .ok (.iconst 4, 1) := dk_7 (dk_at dksX3_forget_7 21 rfl rfl)
theorem dX3_forget_187 : decode cX3_forget 187 = .ok (.iload_n 2, 1) := dk_28 (dk_at dksX3_forget_7 22 rfl rfl)
theorem dX3_forget_188 : decode cX3_forget 188 = .ok (.imul, 1) := dk_104 (dk_at dksX3_forget_7 23 rfl rfl)
theorem dX3_forget_189 : decode cX3_forget 189 = .ok (.iadd, 1) := dk_96 (dk_at dksX3_forget_8 0 rfl rfl)
theorem dX3_forget_190 : decode cX3_forget 190 = .ok (.iconst 4, 1) := dk_7 (dk_at dksX3_forget_8 1 rfl rfl)
theorem dX3_forget_191 : decode cX3_forget 191 = .ok (.iadd, 1) := dk_96 (dk_at dksX3_forget_8 2 rfl rfl)
theorem dX3_forget_192 : decode cX3_forget 192 = .ok (.imul, 1) := dk_104 (dk_at dksX3_forget_8 3 rfl rfl)
theorem dX3_forget_193 : decode cX3_forget 193 = .ok (.iadd, 1) := dk_96 (dk_at dksX3_forget_8 4 rfl rfl)
theorem dX3_forget_194 : decode cX3_forget 194 = .ok (.iload_n 3, 1) := dk_29 (dk_at dksX3_forget_8 5 rfl rfl)
theorem dX3_forget_195 : decode cX3_forget 195 = .ok (.iadd, 1) := dk_96 (dk_at dksX3_forget_8 6 rfl rfl)
theorem dX3_forget_196 : decode cX3_forget 196 = .ok (.iaload, 1) := dk_46 (dk_at dksX3_forget_8 7 rfl rfl)
theorem dX3_forget_197 : decode cX3_forget 197 = .ok (.iastore, 1) := dk_79 (dk_at dksX3_forget_8 8 rfl rfl)
theorem dX3_forget_198 : decode cX3_forget 198 = .ok (.iinc 3 1, 3) := dk_132 3 1 (dk_at dksX3_forget_8 9 rfl rfl)
theorem dX3_forget_201 : decode cX3_forget 201 = .ok (.goto (-47), 3) := dk_167 255 209 (dk_at dksX3_forget_8 12 rfl rfl)
theorem dX3_forget_204 : decode cX3_forget 204 = .ok (.iinc 2 1, 3) := dk_132 2 1 (dk_at dksX3_forget_8 15 rfl rfl)
theorem dX3_forget_207 : decode cX3_forget 207 = .ok (.goto (-175), 3) := dk_167 255 81 (dk_at dksX3_forget_8 18 rfl rfl)
theorem dX3_forget_210 : decode cX3_forget 210 = .ok (.iconst 1, 1) := dk_4 (dk_at dksX3_forget_8 21 rfl rfl)
theorem dX3_forget_211 : decode cX3_forget 211 = .ok (.ireturn, 1) := dk_172 (dk_at dksX3_forget_8 22 rfl rfl)
abbrev cX3_set : ByteArray := prog_12_method_121_code
def yX3_set : MethodName := ⟨RX3, "set", "(II)Z"⟩
def dkwX3_set_2 : List UInt8 := [42, 180, 0, 7, 17, 4, 18, 27, 96, 28, 79, 4, 172]
abbrev dktX3_set_2 : List UInt8 := dkwX3_set_2 ++ []
def dkwX3_set_1 : List UInt8 := [42, 180, 0, 7, 17, 4, 18, 27, 96, 46, 28, 160, 0, 9, 42, 6, 182, 0, 146, 172, 42, 182, 1, 127]
abbrev dktX3_set_1 : List UInt8 := dkwX3_set_1 ++ dktX3_set_2
def dkwX3_set_0 : List UInt8 := [27, 3, 8, 184, 0, 171, 153, 0, 32, 28, 27, 184, 0, 181, 27, 184, 0, 184, 184, 0, 171, 153, 0, 17]
abbrev dktX3_set_0 : List UInt8 := dkwX3_set_0 ++ dktX3_set_1
theorem dksX3_set_0 : cX3_set.data.toList.drop 0 = dktX3_set_0 := by decide +kernel
theorem dksX3_set_1 : cX3_set.data.toList.drop 24 = dktX3_set_1 := dk_seg dksX3_set_0 24 rfl rfl
theorem dksX3_set_2 : cX3_set.data.toList.drop 48 = dktX3_set_2 := dk_seg dksX3_set_1 24 rfl rfl
theorem dX3_set_0 : decode cX3_set 0 = .ok (.iload_n 1, 1) := dk_27 (dk_at dksX3_set_0 0 rfl rfl)
theorem dX3_set_1 : decode cX3_set 1 = .ok (.iconst 0, 1) := dk_3 (dk_at dksX3_set_0 1 rfl rfl)
theorem dX3_set_2 : decode cX3_set 2 = .ok (.iconst 5, 1) := dk_8 (dk_at dksX3_set_0 2 rfl rfl)
theorem dX3_set_3 : decode cX3_set 3 = .ok (.invokestatic 171, 3) := dk_184 0 171 (dk_at dksX3_set_0 3 rfl rfl)
theorem dX3_set_6 : decode cX3_set 6 = .ok (.ifCond .eq 32, 3) := dk_153 0 32 (dk_at dksX3_set_0 6 rfl rfl)
theorem dX3_set_9 : decode cX3_set 9 = .ok (.iload_n 2, 1) := dk_28 (dk_at dksX3_set_0 9 rfl rfl)
theorem dX3_set_10 : decode cX3_set 10 = .ok (.iload_n 1, 1) := dk_27 (dk_at dksX3_set_0 10 rfl rfl)
theorem dX3_set_11 : decode cX3_set 11 = .ok (.invokestatic 181, 3) := dk_184 0 181 (dk_at dksX3_set_0 11 rfl rfl)
theorem dX3_set_14 : decode cX3_set 14 = .ok (.iload_n 1, 1) := dk_27 (dk_at dksX3_set_0 14 rfl rfl)
theorem dX3_set_15 : decode cX3_set 15 = .ok (.invokestatic 184, 3) := dk_184 0 184 (dk_at dksX3_set_0 15 rfl rfl)
theorem dX3_set_18 : decode cX3_set 18 = .ok (.invokestatic 171, 3) := dk_184 0 171 (dk_at dksX3_set_0 18 rfl rfl)
theorem dX3_set_21 : decode cX3_set 21 = .ok (.ifCond .eq 17, 3) := dk_153 0 17 (dk_at dksX3_set_0 21 rfl rfl)
theorem dX3_set_24 : decode cX3_set 24 = .ok (.aload_n 0, 1) := dk_42 (dk_at dksX3_set_1 0 rfl rfl)
theorem dX3_set_25 : decode cX3_set 25 = .ok (.getfield 7, 3) := dk_180 0 7 (dk_at dksX3_set_1 1 rfl rfl)
theorem dX3_set_28 : decode cX3_set 28 = .ok (.sipush 1042, 3) := dk_17 4 18 (dk_at dksX3_set_1 4 rfl rfl)
theorem dX3_set_31 : decode cX3_set 31 = .ok (.iload_n 1, 1) := dk_27 (dk_at dksX3_set_1 7 rfl rfl)
theorem dX3_set_32 : decode cX3_set 32 = .ok (.iadd, 1) := dk_96 (dk_at dksX3_set_1 8 rfl rfl)
theorem dX3_set_33 : decode cX3_set 33 = .ok (.iaload, 1) := dk_46 (dk_at dksX3_set_1 9 rfl rfl)
theorem dX3_set_34 : decode cX3_set 34 = .ok (.iload_n 2, 1) := dk_28 (dk_at dksX3_set_1 10 rfl rfl)
theorem dX3_set_35 : decode cX3_set 35 = .ok (.if_icmp .ne 9, 3) := dk_160 0 9 (dk_at dksX3_set_1 11 rfl rfl)
theorem dX3_set_38 : decode cX3_set 38 = .ok (.aload_n 0, 1) := dk_42 (dk_at dksX3_set_1 14 rfl rfl)
theorem dX3_set_39 : decode cX3_set 39 = .ok (.iconst 3, 1) := dk_6 (dk_at dksX3_set_1 15 rfl rfl)
theorem dX3_set_40 : decode cX3_set 40 = .ok (.invokevirtual 146, 3) := dk_182 0 146 (dk_at dksX3_set_1 16 rfl rfl)
theorem dX3_set_43 : decode cX3_set 43 = .ok (.ireturn, 1) := dk_172 (dk_at dksX3_set_1 19 rfl rfl)
theorem dX3_set_44 : decode cX3_set 44 = .ok (.aload_n 0, 1) := dk_42 (dk_at dksX3_set_1 20 rfl rfl)
theorem dX3_set_45 : decode cX3_set 45 = .ok (.invokevirtual 383, 3) := dk_182 1 127 (dk_at dksX3_set_1 21 rfl rfl)
theorem dX3_set_48 : decode cX3_set 48 = .ok (.aload_n 0, 1) := dk_42 (dk_at dksX3_set_2 0 rfl rfl)
theorem dX3_set_49 : decode cX3_set 49 = .ok (.getfield 7, 3) := dk_180 0 7 (dk_at dksX3_set_2 1 rfl rfl)
theorem dX3_set_52 : decode cX3_set 52 = .ok (.sipush 1042, 3) := dk_17 4 18 (dk_at dksX3_set_2 4 rfl rfl)
theorem dX3_set_55 : decode cX3_set 55 = .ok (.iload_n 1, 1) := dk_27 (dk_at dksX3_set_2 7 rfl rfl)
theorem dX3_set_56 : decode cX3_set 56 = .ok (.iadd, 1) := dk_96 (dk_at dksX3_set_2 8 rfl rfl)
theorem dX3_set_57 : decode cX3_set 57 = .ok (.iload_n 2, 1) := dk_28 (dk_at dksX3_set_2 9 rfl rfl)
theorem dX3_set_58 : decode cX3_set 58 = .ok (.iastore, 1) := dk_79 (dk_at dksX3_set_2 10 rfl rfl)
theorem dX3_set_59 : decode cX3_set 59 = .ok (.iconst 1, 1) := dk_4 (dk_at dksX3_set_2 11 rfl rfl)
theorem dX3_set_60 : decode cX3_set 60 = .ok (.ireturn, 1) := dk_172 (dk_at dksX3_set_2 12 rfl rfl)
abbrev cX3_wobble : ByteArray := prog_12_method_123_code
def yX3_wobble : MethodName := ⟨RX3, "wobble", "(I)I"⟩
def dkwX3_wobble_5 : List UInt8 := [28, 42, 180, 0, 7, 17, 3, 192, 29, 96, 46, 96, 61, 132, 3, 1, 167, 255, 156, 28, 172]
abbrev dktX3_wobble_5 : List UInt8 := dkwX3_wobble_5 ++ []
def dkwX3_wobble_4 : List UInt8 := [100, 42, 5, 27, 104, 4, 96, 182, 1, 136, 96, 184, 1, 2, 184, 1, 8, 79, 132, 4, 1, 167, 255, 190]
abbrev dktX3_wobble_4 : List UInt8 := dkwX3_wobble_4 ++ dktX3_wobble_5
def dkwX3_wobble_3 : List UInt8 := [104, 96, 21, 4, 96, 54, 5, 42, 180, 0, 7, 21, 5, 3, 16, 99, 42, 180, 0, 7, 21, 5, 46, 27]
abbrev dktX3_wobble_3 : List UInt8 := dkwX3_wobble_3 ++ dktX3_wobble_4
def dkwX3_wobble_2 : List UInt8 := [3, 54, 4, 21, 4, 5, 42, 180, 0, 7, 17, 3, 192, 29, 96, 46, 104, 162, 0, 55, 3, 16, 24, 29]
abbrev dktX3_wobble_2 : List UInt8 := dkwX3_wobble_2 ++ dktX3_wobble_3
def dkwX3_wobble_1 : List UInt8 := [182, 0, 138, 172, 42, 182, 1, 127, 3, 61, 3, 62, 29, 42, 180, 0, 7, 17, 3, 241, 46, 162, 0, 94]
abbrev dktX3_wobble_1 : List UInt8 := dkwX3_wobble_1 ++ dktX3_wobble_2
def dkwX3_wobble_0 : List UInt8 := [27, 4, 16, 9, 184, 0, 171, 153, 0, 14, 42, 180, 0, 7, 17, 3, 241, 46, 154, 0, 9, 42, 5]
abbrev dktX3_wobble_0 : List UInt8 := dkwX3_wobble_0 ++ dktX3_wobble_1
theorem dksX3_wobble_0 : cX3_wobble.data.toList.drop 0 = dktX3_wobble_0 := by decide +kernel
theorem dksX3_wobble_1 : cX3_wobble.data.toList.drop 23 = dktX3_wobble_1 := dk_seg dksX3_wobble_0 23 rfl rfl
theorem dksX3_wobble_2 : cX3_wobble.data.toList.drop 47 = dktX3_wobble_2 := dk_seg dksX3_wobble_1 24 rfl rfl
theorem dksX3_wobble_3 : cX3_wobble.data.toList.drop 71 = dktX3_wobble_3 := dk_seg dksX3_wobble_2 24 rfl rfl
theorem dksX3_wobble_4 : cX3_wobble.data.toList.drop 95 = dktX3_wobble_4 := dk_seg dksX3_wobble_3 24 rfl rfl
theorem dksX3_wobble_5 : cX3_wobble.data.toList.drop 119 = dktX3_wobble_5 := dk_seg dksX3_wobble_4 24 rfl rfl
theorem dX3_wobble_0 : decode cX3_wobble 0 = .ok (.iload_n 1, 1) := dk_27 (dk_at dksX3_wobble_0 0 rfl rfl)
theorem dX3_wobble_1 : decode cX3_wobble 1 = .ok (.iconst 1, 1) := dk_4 (dk_at dksX3_wobble_0 1 rfl rfl)
theorem dX3_wobble_2 : decode cX3_wobble 2 = .ok (.bipush 9, 2) := dk_16 9 (dk_at dksX3_wobble_0 2 rfl rfl)
theorem dX3_wobble_4 : decode cX3_wobble 4 = .ok (.invokestatic 171, 3) := dk_184 0 171 (dk_at dksX3_wobble_0 4 rfl rfl)
theorem dX3_wobble_7 : decode cX3_wobble 7 = .ok (.ifCond .eq 14, 3) := dk_153 0 14 (dk_at dksX3_wobble_0 7 rfl rfl)
theorem dX3_wobble_10 : decode cX3_wobble 10 = .ok (.aload_n 0, 1) := dk_42 (dk_at dksX3_wobble_0 10 rfl rfl)
theorem dX3_wobble_11 : decode cX3_wobble 11 = .ok (.getfield 7, 3) := dk_180 0 7 (dk_at dksX3_wobble_0 11 rfl rfl)
theorem dX3_wobble_14 : decode cX3_wobble 14 = .ok (.sipush 1009, 3) := dk_17 3 241 (dk_at dksX3_wobble_0 14 rfl rfl)
theorem dX3_wobble_17 : decode cX3_wobble 17 = .ok (.iaload, 1) := dk_46 (dk_at dksX3_wobble_0 17 rfl rfl)
theorem dX3_wobble_18 : decode cX3_wobble 18 = .ok (.ifCond .ne 9, 3) := dk_154 0 9 (dk_at dksX3_wobble_0 18 rfl rfl)
theorem dX3_wobble_21 : decode cX3_wobble 21 = .ok (.aload_n 0, 1) := dk_42 (dk_at dksX3_wobble_0 21 rfl rfl)
theorem dX3_wobble_22 : decode cX3_wobble 22 = .ok (.iconst 2, 1) := dk_5 (dk_at dksX3_wobble_0 22 rfl rfl)
theorem dX3_wobble_23 : decode cX3_wobble 23 = .ok (.invokevirtual 138, 3) := dk_182 0 138 (dk_at dksX3_wobble_1 0 rfl rfl)
theorem dX3_wobble_26 : decode cX3_wobble 26 = .ok (.ireturn, 1) := dk_172 (dk_at dksX3_wobble_1 3 rfl rfl)
theorem dX3_wobble_27 : decode cX3_wobble 27 = .ok (.aload_n 0, 1) := dk_42 (dk_at dksX3_wobble_1 4 rfl rfl)
theorem dX3_wobble_28 : decode cX3_wobble 28 = .ok (.invokevirtual 383, 3) := dk_182 1 127 (dk_at dksX3_wobble_1 5 rfl rfl)
theorem dX3_wobble_31 : decode cX3_wobble 31 = .ok (.iconst 0, 1) := dk_3 (dk_at dksX3_wobble_1 8 rfl rfl)
theorem dX3_wobble_32 : decode cX3_wobble 32 = .ok (.istore_n 2, 1) := dk_61 (dk_at dksX3_wobble_1 9 rfl rfl)
theorem dX3_wobble_33 : decode cX3_wobble 33 = .ok (.iconst 0, 1) := dk_3 (dk_at dksX3_wobble_1 10 rfl rfl)
theorem dX3_wobble_34 : decode cX3_wobble 34 = .ok (.istore_n 3, 1) := dk_62 (dk_at dksX3_wobble_1 11 rfl rfl)
theorem dX3_wobble_35 : decode cX3_wobble 35 = .ok (.iload_n 3, 1) := dk_29 (dk_at dksX3_wobble_1 12 rfl rfl)
theorem dX3_wobble_36 : decode cX3_wobble 36 = .ok (.aload_n 0, 1) := dk_42 (dk_at dksX3_wobble_1 13 rfl rfl)
theorem dX3_wobble_37 : decode cX3_wobble 37 = .ok (.getfield 7, 3) := dk_180 0 7 (dk_at dksX3_wobble_1 14 rfl rfl)
theorem dX3_wobble_40 : decode cX3_wobble 40 = .ok (.sipush 1009, 3) := dk_17 3 241 (dk_at dksX3_wobble_1 17 rfl rfl)
theorem dX3_wobble_43 : decode cX3_wobble 43 = .ok (.iaload, 1) := dk_46 (dk_at dksX3_wobble_1 20 rfl rfl)
theorem dX3_wobble_44 : decode cX3_wobble 44 = .ok (.if_icmp .ge 94, 3) := dk_162 0 94 (dk_at dksX3_wobble_1 21 rfl rfl)
theorem dX3_wobble_47 : decode cX3_wobble 47 = .ok (.iconst 0, 1) := dk_3 (dk_at dksX3_wobble_2 0 rfl rfl)
theorem dX3_wobble_48 : decode cX3_wobble 48 = .ok (.istore 4, 2) := dk_54 4 (dk_at dksX3_wobble_2 1 rfl rfl)
theorem dX3_wobble_50 : decode cX3_wobble 50 = .ok (.iload 4, 2) := dk_21 4 (dk_at dksX3_wobble_2 3 rfl rfl)
theorem dX3_wobble_52 : decode cX3_wobble 52 = .ok (.iconst 2, 1) := dk_5 (dk_at dksX3_wobble_2 5 rfl rfl)
theorem dX3_wobble_53 : decode cX3_wobble 53 = .ok (.aload_n 0, 1) := dk_42 (dk_at dksX3_wobble_2 6 rfl rfl)
theorem dX3_wobble_54 : decode cX3_wobble 54 = .ok (.getfield 7, 3) := dk_180 0 7 (dk_at dksX3_wobble_2 7 rfl rfl)
theorem dX3_wobble_57 : decode cX3_wobble 57 = .ok (.sipush 960, 3) := dk_17 3 192 (dk_at dksX3_wobble_2 10 rfl rfl)
theorem dX3_wobble_60 : decode cX3_wobble 60 = .ok (.iload_n 3, 1) := dk_29 (dk_at dksX3_wobble_2 13 rfl rfl)
theorem dX3_wobble_61 : decode cX3_wobble 61 = .ok (.iadd, 1) := dk_96 (dk_at dksX3_wobble_2 14 rfl rfl)
theorem dX3_wobble_62 : decode cX3_wobble 62 = .ok (.iaload, 1) := dk_46 (dk_at dksX3_wobble_2 15 rfl rfl)
theorem dX3_wobble_63 : decode cX3_wobble 63 = .ok (.imul, 1) := dk_104 (dk_at dksX3_wobble_2 16 rfl rfl)
theorem dX3_wobble_64 : decode cX3_wobble 64 = .ok (.if_icmp .ge 55, 3) := dk_162 0 55 (dk_at dksX3_wobble_2 17 rfl rfl)
theorem dX3_wobble_67 : decode cX3_wobble 67 = .ok (.iconst 0, 1) := dk_3 (dk_at dksX3_wobble_2 20 rfl rfl)
theorem dX3_wobble_68 : decode cX3_wobble 68 = .ok (.bipush 24, 2) := dk_16 24 (dk_at dksX3_wobble_2 21 rfl rfl)
theorem dX3_wobble_70 : decode cX3_wobble 70 = .ok (.iload_n 3, 1) := dk_29 (dk_at dksX3_wobble_2 23 rfl rfl)
theorem dX3_wobble_71 : decode cX3_wobble 71 = .ok (.imul, 1) := dk_104 (dk_at dksX3_wobble_3 0 rfl rfl)
theorem dX3_wobble_72 : decode cX3_wobble 72 = .ok (.iadd, 1) := dk_96 (dk_at dksX3_wobble_3 1 rfl rfl)
theorem dX3_wobble_73 : decode cX3_wobble 73 = .ok (.iload 4, 2) := dk_21 4 (dk_at dksX3_wobble_3 2 rfl rfl)
theorem dX3_wobble_75 : decode cX3_wobble 75 = .ok (.iadd, 1) := dk_96 (dk_at dksX3_wobble_3 4 rfl rfl)
theorem dX3_wobble_76 : decode cX3_wobble 76 = .ok (.istore 5, 2) := dk_54 5 (dk_at dksX3_wobble_3 5 rfl rfl)
theorem dX3_wobble_78 : decode cX3_wobble 78 = .ok (.aload_n 0, 1) := dk_42 (dk_at dksX3_wobble_3 7 rfl rfl)
theorem dX3_wobble_79 : decode cX3_wobble 79 = .ok (.getfield 7, 3) := dk_180 0 7 (dk_at dksX3_wobble_3 8 rfl rfl)
theorem dX3_wobble_82 : decode cX3_wobble 82 = .ok (.iload 5, 2) := dk_21 5 (dk_at dksX3_wobble_3 11 rfl rfl)
theorem dX3_wobble_84 : decode cX3_wobble 84 = .ok (.iconst 0, 1) := dk_3 (dk_at dksX3_wobble_3 13 rfl rfl)
theorem dX3_wobble_85 : decode cX3_wobble 85 = .ok (.bipush 99, 2) := dk_16 99 (dk_at dksX3_wobble_3 14 rfl rfl)
theorem dX3_wobble_87 : decode cX3_wobble 87 = .ok (.aload_n 0, 1) := dk_42 (dk_at dksX3_wobble_3 16 rfl rfl)
theorem dX3_wobble_88 : decode cX3_wobble 88 = .ok (.getfield 7, 3) := dk_180 0 7 (dk_at dksX3_wobble_3 17 rfl rfl)
theorem dX3_wobble_91 : decode cX3_wobble 91 = .ok (.iload 5, 2) := dk_21 5 (dk_at dksX3_wobble_3 20 rfl rfl)
theorem dX3_wobble_93 : decode cX3_wobble 93 = .ok (.iaload, 1) := dk_46 (dk_at dksX3_wobble_3 22 rfl rfl)
theorem dX3_wobble_94 : decode cX3_wobble 94 = .ok (.iload_n 1, 1) := dk_27 (dk_at dksX3_wobble_3 23 rfl rfl)
theorem dX3_wobble_95 : decode cX3_wobble 95 = .ok (.isub, 1) := dk_100 (dk_at dksX3_wobble_4 0 rfl rfl)
theorem dX3_wobble_96 : decode cX3_wobble 96 = .ok (.aload_n 0, 1) := dk_42 (dk_at dksX3_wobble_4 1 rfl rfl)
theorem dX3_wobble_97 : decode cX3_wobble 97 = .ok (.iconst 2, 1) := dk_5 (dk_at dksX3_wobble_4 2 rfl rfl)
theorem dX3_wobble_98 : decode cX3_wobble 98 = .ok (.iload_n 1, 1) := dk_27 (dk_at dksX3_wobble_4 3 rfl rfl)
theorem dX3_wobble_99 : decode cX3_wobble 99 = .ok (.imul, 1) := dk_104 (dk_at dksX3_wobble_4 4 rfl rfl)
theorem dX3_wobble_100 : decode cX3_wobble 100 = .ok (.iconst 1, 1) := dk_4 (dk_at dksX3_wobble_4 5 rfl rfl)
theorem dX3_wobble_101 : decode cX3_wobble 101 = .ok (.iadd, 1) := dk_96 (dk_at dksX3_wobble_4 6 rfl rfl)
theorem dX3_wobble_102 : decode cX3_wobble 102 = .ok (.invokevirtual 392, 3) := dk_182 1 136 (dk_at dksX3_wobble_4 7 rfl rfl)
theorem dX3_wobble_105 : decode cX3_wobble 105 = .ok (.iadd, 1) := dk_96 (dk_at dksX3_wobble_4 10 rfl rfl)
theorem dX3_wobble_106 : decode cX3_wobble 106 = .ok (.invokestatic 258, 3) := dk_184 1 2 (dk_at dksX3_wobble_4 11 rfl rfl)
theorem dX3_wobble_109 : decode cX3_wobble 109 = .ok (.invokestatic 264, 3) := dk_184 1 8 (dk_at dksX3_wobble_4 14 rfl rfl)
theorem dX3_wobble_112 : decode cX3_wobble 112 = .ok (.iastore, 1) := dk_79 (dk_at dksX3_wobble_4 17 rfl rfl)
theorem dX3_wobble_113 : decode cX3_wobble 113 = .ok (.iinc 4 1, 3) := dk_132 4 1 (dk_at dksX3_wobble_4 18 rfl rfl)
theorem dX3_wobble_116 : decode cX3_wobble 116 = .ok (.goto (-66), 3) := dk_167 255 190 (dk_at dksX3_wobble_4 21 rfl rfl)
theorem dX3_wobble_119 : decode cX3_wobble 119 = .ok (.iload_n 2, 1) := dk_28 (dk_at dksX3_wobble_5 0 rfl rfl)
theorem dX3_wobble_120 : decode cX3_wobble 120 = .ok (.aload_n 0, 1) := dk_42 (dk_at dksX3_wobble_5 1 rfl rfl)
theorem dX3_wobble_121 : decode cX3_wobble 121 = .ok (.getfield 7, 3) := dk_180 0 7 (dk_at dksX3_wobble_5 2 rfl rfl)
theorem dX3_wobble_124 : decode cX3_wobble 124 = .ok (.sipush 960, 3) := dk_17 3 192 (dk_at dksX3_wobble_5 5 rfl rfl)
theorem dX3_wobble_127 : decode cX3_wobble 127 = .ok (.iload_n 3, 1) := dk_29 (dk_at dksX3_wobble_5 8 rfl rfl)
theorem dX3_wobble_128 : decode cX3_wobble 128 = .ok (.iadd, 1) := dk_96 (dk_at dksX3_wobble_5 9 rfl rfl)
theorem dX3_wobble_129 : decode cX3_wobble 129 = .ok (.iaload, 1) := dk_46 (dk_at dksX3_wobble_5 10 rfl rfl)
theorem dX3_wobble_130 : decode cX3_wobble 130 = .ok (.iadd, 1) := dk_96 (dk_at dksX3_wobble_5 11 rfl rfl)
theorem dX3_wobble_131 : decode cX3_wobble 131 = .ok (.istore_n 2, 1) := dk_61 (dk_at dksX3_wobble_5 12 rfl rfl)
theorem dX3_wobble_132 : decode cX3_wobble 132 = .ok (.iinc 3 1, 3) := dk_132 3 1 (dk_at dksX3_wobble_5 13 rfl rfl)
theorem dX3_wobble_135 : decode cX3_wobble 135 = .ok (.goto (-100), 3) := dk_167 255 156 (dk_at dksX3_wobble_5 16 rfl rfl)
theorem dX3_wobble_138 : decode cX3_wobble 138 = .ok (.iload_n 2, 1) := dk_28 (dk_at dksX3_wobble_5 19 rfl rfl)
theorem dX3_wobble_139 : decode cX3_wobble 139 = .ok (.ireturn, 1) := dk_172 (dk_at dksX3_wobble_5 20 rfl rfl)
abbrev cX3_draw : ByteArray := prog_12_method_122_code
def yX3_draw : MethodName := ⟨RX3, "draw", "(I)I"⟩
def dkwX3_draw_1 : List UInt8 := [180, 0, 26, 16, 64, 108, 27, 112, 172]
abbrev dktX3_draw_1 : List UInt8 := dkwX3_draw_1 ++ []
def dkwX3_draw_0 : List UInt8 := [42, 20, 1, 130, 42, 180, 0, 26, 133, 105, 20, 1, 132, 97, 20, 1, 134, 113, 136, 181, 0, 26, 42]
abbrev dktX3_draw_0 : List UInt8 := dkwX3_draw_0 ++ dktX3_draw_1
theorem dksX3_draw_0 : cX3_draw.data.toList.drop 0 = dktX3_draw_0 := by decide +kernel
theorem dksX3_draw_1 : cX3_draw.data.toList.drop 23 = dktX3_draw_1 := dk_seg dksX3_draw_0 23 rfl rfl
theorem dX3_draw_0 : decode cX3_draw 0 = .ok (.aload_n 0, 1) := dk_42 (dk_at dksX3_draw_0 0 rfl rfl)
theorem dX3_draw_1 : decode cX3_draw 1 = .ok (.ldc2_w 386, 3) := dk_20 1 130 (dk_at dksX3_draw_0 1 rfl rfl)
theorem dX3_draw_4 : decode cX3_draw 4 = .ok (.aload_n 0, 1) := dk_42 (dk_at dksX3_draw_0 4 rfl rfl)
theorem dX3_draw_5 : decode cX3_draw 5 = .ok (.getfield 26, 3) := dk_180 0 26 (dk_at dksX3_draw_0 5 rfl rfl)
theorem dX3_draw_8 : decode cX3_draw 8 = .ok (.i2l, 1) := dk_133 (dk_at dksX3_draw_0 8 rfl rfl)
theorem dX3_draw_9 : decode cX3_draw 9 = .ok (.lmul, 1) := dk_105 (dk_at dksX3_draw_0 9 rfl rfl)
theorem dX3_draw_10 : decode cX3_draw 10 = .ok (.ldc2_w 388, 3) := dk_20 1 132 (dk_at dksX3_draw_0 10 rfl rfl)
theorem dX3_draw_13 : decode cX3_draw 13 = .ok (.ladd, 1) := dk_97 (dk_at dksX3_draw_0 13 rfl rfl)
theorem dX3_draw_14 : decode cX3_draw 14 = .ok (.ldc2_w 390, 3) := dk_20 1 134 (dk_at dksX3_draw_0 14 rfl rfl)
theorem dX3_draw_17 : decode cX3_draw 17 = .ok (.lrem, 1) := dk_113 (dk_at dksX3_draw_0 17 rfl rfl)
theorem dX3_draw_18 : decode cX3_draw 18 = .ok (.l2i, 1) := dk_136 (dk_at dksX3_draw_0 18 rfl rfl)
theorem dX3_draw_19 : decode cX3_draw 19 = .ok (.putfield 26, 3) := dk_181 0 26 (dk_at dksX3_draw_0 19 rfl rfl)
theorem dX3_draw_22 : decode cX3_draw 22 = .ok (.aload_n 0, 1) := dk_42 (dk_at dksX3_draw_0 22 rfl rfl)
theorem dX3_draw_23 : decode cX3_draw 23 = .ok (.getfield 26, 3) := dk_180 0 26 (dk_at dksX3_draw_1 0 rfl rfl)
theorem dX3_draw_26 : decode cX3_draw 26 = .ok (.bipush 64, 2) := dk_16 64 (dk_at dksX3_draw_1 3 rfl rfl)
theorem dX3_draw_28 : decode cX3_draw 28 = .ok (.idiv, 1) := dk_108 (dk_at dksX3_draw_1 5 rfl rfl)
theorem dX3_draw_29 : decode cX3_draw 29 = .ok (.iload_n 1, 1) := dk_27 (dk_at dksX3_draw_1 6 rfl rfl)
theorem dX3_draw_30 : decode cX3_draw 30 = .ok (.irem, 1) := dk_112 (dk_at dksX3_draw_1 7 rfl rfl)
theorem dX3_draw_31 : decode cX3_draw 31 = .ok (.ireturn, 1) := dk_172 (dk_at dksX3_draw_1 8 rfl rfl)
abbrev cX3_undo : ByteArray := prog_12_method_124_code
def yX3_undo : MethodName := ⟨RX3, "undo", "()Z"⟩
def dkwX3_undo_2 : List UInt8 := [104, 27, 96, 46, 79, 132, 1, 1, 167, 255, 225, 4, 172]
abbrev dktX3_undo_2 : List UInt8 := dkwX3_undo_2 ++ []
def dkwX3_undo_1 : List UInt8 := [60, 27, 17, 4, 24, 162, 0, 30, 42, 180, 0, 7, 27, 42, 180, 0, 19, 17, 4, 24, 42, 180, 0, 22]
abbrev dktX3_undo_1 : List UInt8 := dkwX3_undo_1 ++ dktX3_undo_2
def dkwX3_undo_0 : List UInt8 := [42, 180, 0, 22, 154, 0, 9, 42, 7, 182, 0, 146, 172, 42, 89, 180, 0, 22, 4, 100, 181, 0, 22, 3]
abbrev dktX3_undo_0 : List UInt8 := dkwX3_undo_0 ++ dktX3_undo_1
theorem dksX3_undo_0 : cX3_undo.data.toList.drop 0 = dktX3_undo_0 := by decide +kernel
theorem dksX3_undo_1 : cX3_undo.data.toList.drop 24 = dktX3_undo_1 := dk_seg dksX3_undo_0 24 rfl rfl
theorem dksX3_undo_2 : cX3_undo.data.toList.drop 48 = dktX3_undo_2 := dk_seg dksX3_undo_1 24 rfl rfl
theorem dX3_undo_0 : decode cX3_undo 0 = .ok (.aload_n 0, 1) := dk_42 (dk_at dksX3_undo_0 0 rfl rfl)
theorem dX3_undo_1 : decode cX3_undo 1 = .ok (.getfield 22, 3) := dk_180 0 22 (dk_at dksX3_undo_0 1 rfl rfl)
theorem dX3_undo_4 : decode cX3_undo 4 = .ok (.ifCond .ne 9, 3) := dk_154 0 9 (dk_at dksX3_undo_0 4 rfl rfl)
theorem dX3_undo_7 : decode cX3_undo 7 = .ok (.aload_n 0, 1) := dk_42 (dk_at dksX3_undo_0 7 rfl rfl)
theorem dX3_undo_8 : decode cX3_undo 8 = .ok (.iconst 4, 1) := dk_7 (dk_at dksX3_undo_0 8 rfl rfl)
theorem dX3_undo_9 : decode cX3_undo 9 = .ok (.invokevirtual 146, 3) := dk_182 0 146 (dk_at dksX3_undo_0 9 rfl rfl)
theorem dX3_undo_12 : decode cX3_undo 12 = .ok (.ireturn, 1) := dk_172 (dk_at dksX3_undo_0 12 rfl rfl)
theorem dX3_undo_13 : decode cX3_undo 13 = .ok (.aload_n 0, 1) := dk_42 (dk_at dksX3_undo_0 13 rfl rfl)
theorem dX3_undo_14 : decode cX3_undo 14 = .ok (.dup, 1) := dk_89 (dk_at dksX3_undo_0 14 rfl rfl)
theorem dX3_undo_15 : decode cX3_undo 15 = .ok (.getfield 22, 3) := dk_180 0 22 (dk_at dksX3_undo_0 15 rfl rfl)
theorem dX3_undo_18 : decode cX3_undo 18 = .ok (.iconst 1, 1) := dk_4 (dk_at dksX3_undo_0 18 rfl rfl)
theorem dX3_undo_19 : decode cX3_undo 19 = .ok (.isub, 1) := dk_100 (dk_at dksX3_undo_0 19 rfl rfl)
theorem dX3_undo_20 : decode cX3_undo 20 = .ok (.putfield 22, 3) := dk_181 0 22 (dk_at dksX3_undo_0 20 rfl rfl)
theorem dX3_undo_23 : decode cX3_undo 23 = .ok (.iconst 0, 1) := dk_3 (dk_at dksX3_undo_0 23 rfl rfl)
theorem dX3_undo_24 : decode cX3_undo 24 = .ok (.istore_n 1, 1) := dk_60 (dk_at dksX3_undo_1 0 rfl rfl)
theorem dX3_undo_25 : decode cX3_undo 25 = .ok (.iload_n 1, 1) := dk_27 (dk_at dksX3_undo_1 1 rfl rfl)
theorem dX3_undo_26 : decode cX3_undo 26 = .ok (.sipush 1048, 3) := dk_17 4 24 (dk_at dksX3_undo_1 2 rfl rfl)
theorem dX3_undo_29 : decode cX3_undo 29 = .ok (.if_icmp .ge 30, 3) := dk_162 0 30 (dk_at dksX3_undo_1 5 rfl rfl)
theorem dX3_undo_32 : decode cX3_undo 32 = .ok (.aload_n 0, 1) := dk_42 (dk_at dksX3_undo_1 8 rfl rfl)
theorem dX3_undo_33 : decode cX3_undo 33 = .ok (.getfield 7, 3) := dk_180 0 7 (dk_at dksX3_undo_1 9 rfl rfl)
theorem dX3_undo_36 : decode cX3_undo 36 = .ok (.iload_n 1, 1) := dk_27 (dk_at dksX3_undo_1 12 rfl rfl)
theorem dX3_undo_37 : decode cX3_undo 37 = .ok (.aload_n 0, 1) := dk_42 (dk_at dksX3_undo_1 13 rfl rfl)
theorem dX3_undo_38 : decode cX3_undo 38 = .ok (.getfield 19, 3) := dk_180 0 19 (dk_at dksX3_undo_1 14 rfl rfl)
theorem dX3_undo_41 : decode cX3_undo 41 = .ok (.sipush 1048, 3) := dk_17 4 24 (dk_at dksX3_undo_1 17 rfl rfl)
theorem dX3_undo_44 : decode cX3_undo 44 = .ok (.aload_n 0, 1) := dk_42 (dk_at dksX3_undo_1 20 rfl rfl)
theorem dX3_undo_45 : decode cX3_undo 45 = .ok (.getfield 22, 3) := dk_180 0 22 (dk_at dksX3_undo_1 21 rfl rfl)
theorem dX3_undo_48 : decode cX3_undo 48 = .ok (.imul, 1) := dk_104 (dk_at dksX3_undo_2 0 rfl rfl)
theorem dX3_undo_49 : decode cX3_undo 49 = .ok (.iload_n 1, 1) := dk_27 (dk_at dksX3_undo_2 1 rfl rfl)
theorem dX3_undo_50 : decode cX3_undo 50 = .ok (.iadd, 1) := dk_96 (dk_at dksX3_undo_2 2 rfl rfl)
theorem dX3_undo_51 : decode cX3_undo 51 = .ok (.iaload, 1) := dk_46 (dk_at dksX3_undo_2 3 rfl rfl)
theorem dX3_undo_52 : decode cX3_undo 52 = .ok (.iastore, 1) := dk_79 (dk_at dksX3_undo_2 4 rfl rfl)
theorem dX3_undo_53 : decode cX3_undo 53 = .ok (.iinc 1 1, 3) := dk_132 1 1 (dk_at dksX3_undo_2 5 rfl rfl)
theorem dX3_undo_56 : decode cX3_undo 56 = .ok (.goto (-31), 3) := dk_167 255 225 (dk_at dksX3_undo_2 8 rfl rfl)
theorem dX3_undo_59 : decode cX3_undo 59 = .ok (.iconst 1, 1) := dk_4 (dk_at dksX3_undo_2 11 rfl rfl)
theorem dX3_undo_60 : decode cX3_undo 60 = .ok (.ireturn, 1) := dk_172 (dk_at dksX3_undo_2 12 rfl rfl)
abbrev cX3_seed : ByteArray := prog_12_method_125_code
def yX3_seed : MethodName := ⟨RX3, "seed", "(I)Z"⟩
def dkwX3_seed_0 : List UInt8 := [27, 156, 0, 9, 42, 8, 182, 0, 146, 172, 42, 27, 181, 0, 26, 4, 172]
abbrev dktX3_seed_0 : List UInt8 := dkwX3_seed_0 ++ []
theorem dksX3_seed_0 : cX3_seed.data.toList.drop 0 = dktX3_seed_0 := by decide +kernel
theorem dX3_seed_0 : decode cX3_seed 0 = .ok (.iload_n 1, 1) := dk_27 (dk_at dksX3_seed_0 0 rfl rfl)
theorem dX3_seed_1 : decode cX3_seed 1 = .ok (.ifCond .ge 9, 3) := dk_156 0 9 (dk_at dksX3_seed_0 1 rfl rfl)
theorem dX3_seed_4 : decode cX3_seed 4 = .ok (.aload_n 0, 1) := dk_42 (dk_at dksX3_seed_0 4 rfl rfl)
theorem dX3_seed_5 : decode cX3_seed 5 = .ok (.iconst 5, 1) := dk_8 (dk_at dksX3_seed_0 5 rfl rfl)
theorem dX3_seed_6 : decode cX3_seed 6 = .ok (.invokevirtual 146, 3) := dk_182 0 146 (dk_at dksX3_seed_0 6 rfl rfl)
theorem dX3_seed_9 : decode cX3_seed 9 = .ok (.ireturn, 1) := dk_172 (dk_at dksX3_seed_0 9 rfl rfl)
theorem dX3_seed_10 : decode cX3_seed 10 = .ok (.aload_n 0, 1) := dk_42 (dk_at dksX3_seed_0 10 rfl rfl)
theorem dX3_seed_11 : decode cX3_seed 11 = .ok (.iload_n 1, 1) := dk_27 (dk_at dksX3_seed_0 11 rfl rfl)
theorem dX3_seed_12 : decode cX3_seed 12 = .ok (.putfield 26, 3) := dk_181 0 26 (dk_at dksX3_seed_0 12 rfl rfl)
theorem dX3_seed_15 : decode cX3_seed 15 = .ok (.iconst 1, 1) := dk_4 (dk_at dksX3_seed_0 15 rfl rfl)
theorem dX3_seed_16 : decode cX3_seed 16 = .ok (.ireturn, 1) := dk_172 (dk_at dksX3_seed_0 16 rfl rfl)
abbrev cX3_image : ByteArray := prog_12_method_127_code
def yX3_image : MethodName := ⟨RX3, "image", "()I"⟩
def dkwX3_image_5 : List UInt8 := [60, 132, 2, 1, 167, 255, 230, 42, 27, 182, 1, 139, 42, 180, 0, 131, 172]
abbrev dktX3_image_5 : List UInt8 := dkwX3_image_5 ++ []
def dkwX3_image_4 : List UInt8 := [3, 61, 28, 42, 180, 0, 131, 162, 0, 24, 6, 27, 104, 42, 180, 0, 128, 28, 46, 96, 17, 0, 251, 112]
abbrev dktX3_image_4 : List UInt8 := dkwX3_image_4 ++ dktX3_image_5
def dkwX3_image_3 : List UInt8 := [104, 96, 28, 96, 46, 182, 1, 139, 132, 2, 1, 167, 255, 220, 132, 1, 1, 167, 255, 186, 17, 0, 157, 60]
abbrev dktX3_image_3 : List UInt8 := dkwX3_image_3 ++ dktX3_image_4
def dkwX3_image_2 : List UInt8 := [5, 42, 180, 0, 7, 17, 3, 192, 27, 96, 46, 104, 162, 0, 26, 42, 42, 180, 0, 7, 3, 16, 24, 27]
abbrev dktX3_image_2 : List UInt8 := dkwX3_image_2 ++ dktX3_image_3
def dkwX3_image_1 : List UInt8 := [17, 3, 241, 46, 162, 0, 64, 42, 42, 180, 0, 7, 17, 3, 192, 27, 96, 46, 182, 1, 139, 3, 61, 28]
abbrev dktX3_image_1 : List UInt8 := dkwX3_image_1 ++ dktX3_image_2
def dkwX3_image_0 : List UInt8 := [42, 3, 181, 0, 131, 42, 42, 180, 0, 7, 17, 3, 241, 46, 182, 1, 139, 3, 60, 27, 42, 180, 0, 7]
abbrev dktX3_image_0 : List UInt8 := dkwX3_image_0 ++ dktX3_image_1
theorem dksX3_image_0 : cX3_image.data.toList.drop 0 = dktX3_image_0 := by decide +kernel
theorem dksX3_image_1 : cX3_image.data.toList.drop 24 = dktX3_image_1 := dk_seg dksX3_image_0 24 rfl rfl
theorem dksX3_image_2 : cX3_image.data.toList.drop 48 = dktX3_image_2 := dk_seg dksX3_image_1 24 rfl rfl
theorem dksX3_image_3 : cX3_image.data.toList.drop 72 = dktX3_image_3 := dk_seg dksX3_image_2 24 rfl rfl
theorem dksX3_image_4 : cX3_image.data.toList.drop 96 = dktX3_image_4 := dk_seg dksX3_image_3 24 rfl rfl
theorem dksX3_image_5 : cX3_image.data.toList.drop 120 = dktX3_image_5 := dk_seg dksX3_image_4 24 rfl rfl
theorem dX3_image_0 : decode cX3_image 0 = .ok (.aload_n 0, 1) := dk_42 (dk_at dksX3_image_0 0 rfl rfl)
theorem dX3_image_1 : decode cX3_image 1 = .ok (.iconst 0, 1) := dk_3 (dk_at dksX3_image_0 1 rfl rfl)
theorem dX3_image_2 : decode cX3_image 2 = .ok (.putfield 131, 3) := dk_181 0 131 (dk_at dksX3_image_0 2 rfl rfl)
theorem dX3_image_5 : decode cX3_image 5 = .ok (.aload_n 0, 1) := dk_42 (dk_at dksX3_image_0 5 rfl rfl)
theorem dX3_image_6 : decode cX3_image 6 = .ok (.aload_n 0, 1) := dk_42 (dk_at dksX3_image_0 6 rfl rfl)
theorem dX3_image_7 : decode cX3_image 7 = .ok (.getfield 7, 3) := dk_180 0 7 (dk_at dksX3_image_0 7 rfl rfl)
theorem dX3_image_10 : decode cX3_image 10 = .ok (.sipush 1009, 3) := dk_17 3 241 (dk_at dksX3_image_0 10 rfl rfl)
theorem dX3_image_13 : decode cX3_image 13 = .ok (.iaload, 1) := dk_46 (dk_at dksX3_image_0 13 rfl rfl)
theorem dX3_image_14 : decode cX3_image 14 = .ok (.invokevirtual 395, 3) := dk_182 1 139 (dk_at dksX3_image_0 14 rfl rfl)
theorem dX3_image_17 : decode cX3_image 17 = .ok (.iconst 0, 1) := dk_3 (dk_at dksX3_image_0 17 rfl rfl)
theorem dX3_image_18 : decode cX3_image 18 = .ok (.istore_n 1, 1) := dk_60 (dk_at dksX3_image_0 18 rfl rfl)
theorem dX3_image_19 : decode cX3_image 19 = .ok (.iload_n 1, 1) := dk_27 (dk_at dksX3_image_0 19 rfl rfl)
theorem dX3_image_20 : decode cX3_image 20 = .ok (.aload_n 0, 1) := dk_42 (dk_at dksX3_image_0 20 rfl rfl)
theorem dX3_image_21 : decode cX3_image 21 = .ok (.getfield 7, 3) := dk_180 0 7 (dk_at dksX3_image_0 21 rfl rfl)
theorem dX3_image_24 : decode cX3_image 24 = .ok (.sipush 1009, 3) := dk_17 3 241 (dk_at dksX3_image_1 0 rfl rfl)
theorem dX3_image_27 : decode cX3_image 27 = .ok (.iaload, 1) := dk_46 (dk_at dksX3_image_1 3 rfl rfl)
theorem dX3_image_28 : decode cX3_image 28 = .ok (.if_icmp .ge 64, 3) := dk_162 0 64 (dk_at dksX3_image_1 4 rfl rfl)
theorem dX3_image_31 : decode cX3_image 31 = .ok (.aload_n 0, 1) := dk_42 (dk_at dksX3_image_1 7 rfl rfl)
theorem dX3_image_32 : decode cX3_image 32 = .ok (.aload_n 0, 1) := dk_42 (dk_at dksX3_image_1 8 rfl rfl)
theorem dX3_image_33 : decode cX3_image 33 = .ok (.getfield 7, 3) := dk_180 0 7 (dk_at dksX3_image_1 9 rfl rfl)
theorem dX3_image_36 : decode cX3_image 36 = .ok (.sipush 960, 3) := dk_17 3 192 (dk_at dksX3_image_1 12 rfl rfl)
theorem dX3_image_39 : decode cX3_image 39 = .ok (.iload_n 1, 1) := dk_27 (dk_at dksX3_image_1 15 rfl rfl)
theorem dX3_image_40 : decode cX3_image 40 = .ok (.iadd, 1) := dk_96 (dk_at dksX3_image_1 16 rfl rfl)
theorem dX3_image_41 : decode cX3_image 41 = .ok (.iaload, 1) := dk_46 (dk_at dksX3_image_1 17 rfl rfl)
theorem dX3_image_42 : decode cX3_image 42 = .ok (.invokevirtual 395, 3) := dk_182 1 139 (dk_at dksX3_image_1 18 rfl rfl)
theorem dX3_image_45 : decode cX3_image 45 = .ok (.iconst 0, 1) := dk_3 (dk_at dksX3_image_1 21 rfl rfl)
theorem dX3_image_46 : decode cX3_image 46 = .ok (.istore_n 2, 1) := dk_61 (dk_at dksX3_image_1 22 rfl rfl)
theorem dX3_image_47 : decode cX3_image 47 = .ok (.iload_n 2, 1) := dk_28 (dk_at dksX3_image_1 23 rfl rfl)
theorem dX3_image_48 : decode cX3_image 48 = .ok (.iconst 2, 1) := dk_5 (dk_at dksX3_image_2 0 rfl rfl)
theorem dX3_image_49 : decode cX3_image 49 = .ok (.aload_n 0, 1) := dk_42 (dk_at dksX3_image_2 1 rfl rfl)
theorem dX3_image_50 : decode cX3_image 50 = .ok (.getfield 7, 3) := dk_180 0 7 (dk_at dksX3_image_2 2 rfl rfl)
theorem dX3_image_53 : decode cX3_image 53 = .ok (.sipush 960, 3) := dk_17 3 192 (dk_at dksX3_image_2 5 rfl rfl)
theorem dX3_image_56 : decode cX3_image 56 = .ok (.iload_n 1, 1) := dk_27 (dk_at dksX3_image_2 8 rfl rfl)
theorem dX3_image_57 : decode cX3_image 57 = .ok (.iadd, 1) := dk_96 (dk_at dksX3_image_2 9 rfl rfl)
theorem dX3_image_58 : decode cX3_image 58 = .ok (.iaload, 1) := dk_46 (dk_at dksX3_image_2 10 rfl rfl)
theorem dX3_image_59 : decode cX3_image 59 = .ok (.imul, 1) := dk_104 (dk_at dksX3_image_2 11 rfl rfl)
theorem dX3_image_60 : decode cX3_image 60 = .ok (.if_icmp .ge 26, 3) := dk_162 0 26 (dk_at dksX3_image_2 12 rfl rfl)
theorem dX3_image_63 : decode cX3_image 63 = .ok (.aload_n 0, 1) := dk_42 (dk_at dksX3_image_2 15 rfl rfl)
theorem dX3_image_64 : decode cX3_image 64 = .ok (.aload_n 0, 1) := dk_42 (dk_at dksX3_image_2 16 rfl rfl)
theorem dX3_image_65 : decode cX3_image 65 = .ok (.getfield 7, 3) := dk_180 0 7 (dk_at dksX3_image_2 17 rfl rfl)
theorem dX3_image_68 : decode cX3_image 68 = .ok (.iconst 0, 1) := dk_3 (dk_at dksX3_image_2 20 rfl rfl)
theorem dX3_image_69 : decode cX3_image 69 = .ok (.bipush 24, 2) := dk_16 24 (dk_at dksX3_image_2 21 rfl rfl)
theorem dX3_image_71 : decode cX3_image 71 = .ok (.iload_n 1, 1) := dk_27 (dk_at dksX3_image_2 23 rfl rfl)
theorem dX3_image_72 : decode cX3_image 72 = .ok (.imul, 1) := dk_104 (dk_at dksX3_image_3 0 rfl rfl)
theorem dX3_image_73 : decode cX3_image 73 = .ok (.iadd, 1) := dk_96 (dk_at dksX3_image_3 1 rfl rfl)
theorem dX3_image_74 : decode cX3_image 74 = .ok (.iload_n 2, 1) := dk_28 (dk_at dksX3_image_3 2 rfl rfl)
theorem dX3_image_75 : decode cX3_image 75 = .ok (.iadd, 1) := dk_96 (dk_at dksX3_image_3 3 rfl rfl)
theorem dX3_image_76 : decode cX3_image 76 = .ok (.iaload, 1) := dk_46 (dk_at dksX3_image_3 4 rfl rfl)
theorem dX3_image_77 : decode cX3_image 77 = .ok (.invokevirtual 395, 3) := dk_182 1 139 (dk_at dksX3_image_3 5 rfl rfl)
theorem dX3_image_80 : decode cX3_image 80 = .ok (.iinc 2 1, 3) := dk_132 2 1 (dk_at dksX3_image_3 8 rfl rfl)
theorem dX3_image_83 : decode cX3_image 83 = .ok (.goto (-36), 3) := dk_167 255 220 (dk_at dksX3_image_3 11 rfl rfl)
theorem dX3_image_86 : decode cX3_image 86 = .ok (.iinc 1 1, 3) := dk_132 1 1 (dk_at dksX3_image_3 14 rfl rfl)
theorem dX3_image_89 : decode cX3_image 89 = .ok (.goto (-70), 3) := dk_167 255 186 (dk_at dksX3_image_3 17 rfl rfl)
theorem dX3_image_92 : decode cX3_image 92 = .ok (.sipush 157, 3) := dk_17 0 157 (dk_at dksX3_image_3 20 rfl rfl)
theorem dX3_image_95 : decode cX3_image 95 = .ok (.istore_n 1, 1) := dk_60 (dk_at dksX3_image_3 23 rfl rfl)
theorem dX3_image_96 : decode cX3_image 96 = .ok (.iconst 0, 1) := dk_3 (dk_at dksX3_image_4 0 rfl rfl)
theorem dX3_image_97 : decode cX3_image 97 = .ok (.istore_n 2, 1) := dk_61 (dk_at dksX3_image_4 1 rfl rfl)
theorem dX3_image_98 : decode cX3_image 98 = .ok (.iload_n 2, 1) := dk_28 (dk_at dksX3_image_4 2 rfl rfl)
theorem dX3_image_99 : decode cX3_image 99 = .ok (.aload_n 0, 1) := dk_42 (dk_at dksX3_image_4 3 rfl rfl)
theorem dX3_image_100 : decode cX3_image 100 = .ok (.getfield 131, 3) := dk_180 0 131 (dk_at dksX3_image_4 4 rfl rfl)
theorem dX3_image_103 : decode cX3_image 103 = .ok (.if_icmp .ge 24, 3) := dk_162 0 24 (dk_at dksX3_image_4 7 rfl rfl)
theorem dX3_image_106 : decode cX3_image 106 = .ok (.iconst 3, 1) := dk_6 (dk_at dksX3_image_4 10 rfl rfl)
theorem dX3_image_107 : decode cX3_image 107 = .ok (.iload_n 1, 1) := dk_27 (dk_at dksX3_image_4 11 rfl rfl)
theorem dX3_image_108 : decode cX3_image 108 = .ok (.imul, 1) := dk_104 (dk_at dksX3_image_4 12 rfl rfl)
theorem dX3_image_109 : decode cX3_image 109 = .ok (.aload_n 0, 1) := dk_42 (dk_at dksX3_image_4 13 rfl rfl)
theorem dX3_image_110 : decode cX3_image 110 = .ok (.getfield 128, 3) := dk_180 0 128 (dk_at dksX3_image_4 14 rfl rfl)
theorem dX3_image_113 : decode cX3_image 113 = .ok (.iload_n 2, 1) := dk_28 (dk_at dksX3_image_4 17 rfl rfl)
theorem dX3_image_114 : decode cX3_image 114 = .ok (.iaload, 1) := dk_46 (dk_at dksX3_image_4 18 rfl rfl)
theorem dX3_image_115 : decode cX3_image 115 = .ok (.iadd, 1) := dk_96 (dk_at dksX3_image_4 19 rfl rfl)
theorem dX3_image_116 : decode cX3_image 116 = .ok (.sipush 251, 3) := dk_17 0 251 (dk_at dksX3_image_4 20 rfl rfl)
theorem dX3_image_119 : decode cX3_image 119 = .ok (.irem, 1) := dk_112 (dk_at dksX3_image_4 23 rfl rfl)
theorem dX3_image_120 : decode cX3_image 120 = .ok (.istore_n 1, 1) := dk_60 (dk_at dksX3_image_5 0 rfl rfl)
theorem dX3_image_121 : decode cX3_image 121 = .ok (.iinc 2 1, 3) := dk_132 2 1 (dk_at dksX3_image_5 1 rfl rfl)
theorem dX3_image_124 : decode cX3_image 124 = .ok (.goto (-26), 3) := dk_167 255 230 (dk_at dksX3_image_5 4 rfl rfl)
theorem dX3_image_127 : decode cX3_image 127 = .ok (.aload_n 0, 1) := dk_42 (dk_at dksX3_image_5 7 rfl rfl)
theorem dX3_image_128 : decode cX3_image 128 = .ok (.iload_n 1, 1) := dk_27 (dk_at dksX3_image_5 8 rfl rfl)
theorem dX3_image_129 : decode cX3_image 129 = .ok (.invokevirtual 395, 3) := dk_182 1 139 (dk_at dksX3_image_5 9 rfl rfl)
theorem dX3_image_132 : decode cX3_image 132 = .ok (.aload_n 0, 1) := dk_42 (dk_at dksX3_image_5 12 rfl rfl)
theorem dX3_image_133 : decode cX3_image 133 = .ok (.getfield 131, 3) := dk_180 0 131 (dk_at dksX3_image_5 13 rfl rfl)
theorem dX3_image_136 : decode cX3_image 136 = .ok (.ireturn, 1) := dk_172 (dk_at dksX3_image_5 16 rfl rfl)
abbrev cX3_puts : ByteArray := prog_12_method_126_code
def yX3_puts : MethodName := ⟨RX3, "puts", "(I)V"⟩
def dkwX3_puts_0 : List UInt8 := [42, 180, 0, 128, 42, 180, 0, 131, 27, 79, 42, 89, 180, 0, 131, 4, 96, 181, 0, 131, 177]
abbrev dktX3_puts_0 : List UInt8 := dkwX3_puts_0 ++ []
theorem dksX3_puts_0 : cX3_puts.data.toList.drop 0 = dktX3_puts_0 := by decide +kernel
theorem dX3_puts_0 : decode cX3_puts 0 = .ok (.aload_n 0, 1) := dk_42 (dk_at dksX3_puts_0 0 rfl rfl)
theorem dX3_puts_1 : decode cX3_puts 1 = .ok (.getfield 128, 3) := dk_180 0 128 (dk_at dksX3_puts_0 1 rfl rfl)
theorem dX3_puts_4 : decode cX3_puts 4 = .ok (.aload_n 0, 1) := dk_42 (dk_at dksX3_puts_0 4 rfl rfl)
theorem dX3_puts_5 : decode cX3_puts 5 = .ok (.getfield 131, 3) := dk_180 0 131 (dk_at dksX3_puts_0 5 rfl rfl)
theorem dX3_puts_8 : decode cX3_puts 8 = .ok (.iload_n 1, 1) := dk_27 (dk_at dksX3_puts_0 8 rfl rfl)
theorem dX3_puts_9 : decode cX3_puts 9 = .ok (.iastore, 1) := dk_79 (dk_at dksX3_puts_0 9 rfl rfl)
theorem dX3_puts_10 : decode cX3_puts 10 = .ok (.aload_n 0, 1) := dk_42 (dk_at dksX3_puts_0 10 rfl rfl)
theorem dX3_puts_11 : decode cX3_puts 11 = .ok (.dup, 1) := dk_89 (dk_at dksX3_puts_0 11 rfl rfl)
theorem dX3_puts_12 : decode cX3_puts 12 = .ok (.getfield 131, 3) := dk_180 0 131 (dk_at dksX3_puts_0 12 rfl rfl)
theorem dX3_puts_15 : decode cX3_puts 15 = .ok (.iconst 1, 1) := dk_4 (dk_at dksX3_puts_0 15 rfl rfl)
theorem dX3_puts_16 : decode cX3_puts 16 = .ok (.iadd, 1) := dk_96 (dk_at dksX3_puts_0 16 rfl rfl)
theorem dX3_puts_17 : decode cX3_puts 17 = .ok (.putfield 131, 3) := dk_181 0 131 (dk_at dksX3_puts_0 17 rfl rfl)
theorem dX3_puts_20 : decode cX3_puts 20 = .ok (.return_, 1) := dk_177 (dk_at dksX3_puts_0 20 rfl rfl)
abbrev cX3_octet : ByteArray := prog_12_method_128_code
def yX3_octet : MethodName := ⟨RX3, "octet", "(I)I"⟩
def dkwX3_octet_1 : List UInt8 := [172]
abbrev dktX3_octet_1 : List UInt8 := dkwX3_octet_1 ++ []
def dkwX3_octet_0 : List UInt8 := [27, 3, 42, 180, 0, 131, 4, 100, 184, 0, 171, 153, 0, 12, 42, 180, 0, 128, 27, 46, 167, 0, 4, 2]
abbrev dktX3_octet_0 : List UInt8 := dkwX3_octet_0 ++ dktX3_octet_1
theorem dksX3_octet_0 : cX3_octet.data.toList.drop 0 = dktX3_octet_0 := by decide +kernel
theorem dksX3_octet_1 : cX3_octet.data.toList.drop 24 = dktX3_octet_1 := dk_seg dksX3_octet_0 24 rfl rfl
theorem dX3_octet_0 : decode cX3_octet 0 = .ok (.iload_n 1, 1) := dk_27 (dk_at dksX3_octet_0 0 rfl rfl)
theorem dX3_octet_1 : decode cX3_octet 1 = .ok (.iconst 0, 1) := dk_3 (dk_at dksX3_octet_0 1 rfl rfl)
theorem dX3_octet_2 : decode cX3_octet 2 = .ok (.aload_n 0, 1) := dk_42 (dk_at dksX3_octet_0 2 rfl rfl)
theorem dX3_octet_3 : decode cX3_octet 3 = .ok (.getfield 131, 3) := dk_180 0 131 (dk_at dksX3_octet_0 3 rfl rfl)
theorem dX3_octet_6 : decode cX3_octet 6 = .ok (.iconst 1, 1) := dk_4 (dk_at dksX3_octet_0 6 rfl rfl)
theorem dX3_octet_7 : decode cX3_octet 7 = .ok (.isub, 1) := dk_100 (dk_at dksX3_octet_0 7 rfl rfl)
theorem dX3_octet_8 : decode cX3_octet 8 = .ok (.invokestatic 171, 3) := dk_184 0 171 (dk_at dksX3_octet_0 8 rfl rfl)
theorem dX3_octet_11 : decode cX3_octet 11 = .ok (.ifCond .eq 12, 3) := dk_153 0 12 (dk_at dksX3_octet_0 11 rfl rfl)
theorem dX3_octet_14 : decode cX3_octet 14 = .ok (.aload_n 0, 1) := dk_42 (dk_at dksX3_octet_0 14 rfl rfl)
theorem dX3_octet_15 : decode cX3_octet 15 = .ok (.getfield 128, 3) := dk_180 0 128 (dk_at dksX3_octet_0 15 rfl rfl)
theorem dX3_octet_18 : decode cX3_octet 18 = .ok (.iload_n 1, 1) := dk_27 (dk_at dksX3_octet_0 18 rfl rfl)
theorem dX3_octet_19 : decode cX3_octet 19 = .ok (.iaload, 1) := dk_46 (dk_at dksX3_octet_0 19 rfl rfl)
theorem dX3_octet_20 : decode cX3_octet 20 = .ok (.goto 4, 3) := dk_167 0 4 (dk_at dksX3_octet_0 20 rfl rfl)
theorem dX3_octet_23 : decode cX3_octet 23 = .ok (.iconst (-1), 1) := dk_2 (dk_at dksX3_octet_0 23 rfl rfl)
theorem dX3_octet_24 : decode cX3_octet 24 = .ok (.ireturn, 1) := dk_172 (dk_at dksX3_octet_1 0 rfl rfl)
abbrev cX3_on : ByteArray := prog_12_method_130_code
def yX3_on : MethodName := ⟨RX3, "on", "()Z"⟩
def dkwX3_on_8 : List UInt8 := [4, 172]
abbrev dktX3_on_8 : List UInt8 := dkwX3_on_8 ++ []
def dkwX3_on_7 : List UInt8 := [104, 96, 21, 4, 96, 46, 79, 132, 4, 1, 167, 255, 218, 132, 3, 1, 167, 255, 179, 42, 3, 181, 0, 22]
abbrev dktX3_on_7 : List UInt8 := dkwX3_on_7 ++ dktX3_on_8
def dkwX3_on_6 : List UInt8 := [162, 0, 37, 42, 180, 0, 7, 3, 16, 24, 29, 104, 96, 21, 4, 96, 42, 180, 0, 13, 3, 16, 24, 29]
abbrev dktX3_on_6 : List UInt8 := dkwX3_on_6 ++ dktX3_on_7
def dkwX3_on_5 : List UInt8 := [17, 3, 192, 29, 96, 42, 180, 0, 13, 17, 3, 192, 29, 96, 46, 79, 3, 54, 4, 21, 4, 16, 24]
abbrev dktX3_on_5 : List UInt8 := dkwX3_on_5 ++ dktX3_on_6
def dkwX3_on_4 : List UInt8 := [180, 0, 44, 3, 46, 79, 3, 62, 29, 42, 180, 0, 44, 3, 46, 162, 0, 73, 42, 180, 0, 7]
abbrev dktX3_on_4 : List UInt8 := dkwX3_on_4 ++ dktX3_on_5
def dkwX3_on_3 : List UInt8 := [4, 100, 182, 1, 142, 154, 0, 9, 42, 8, 182, 0, 146, 172, 42, 180, 0, 7, 17, 3, 241, 42]
abbrev dktX3_on_3 : List UInt8 := dkwX3_on_3 ++ dktX3_on_4
def dkwX3_on_2 : List UInt8 := [180, 0, 44, 3, 46, 16, 8, 163, 0, 25, 42, 180, 0, 44, 27, 4, 100, 46, 28, 160, 0, 13, 42, 27]
abbrev dktX3_on_2 : List UInt8 := dkwX3_on_2 ++ dktX3_on_3
def dkwX3_on_1 : List UInt8 := [180, 0, 44, 29, 46, 96, 17, 0, 251, 112, 61, 132, 3, 1, 167, 255, 231, 27, 5, 161, 0, 36, 42]
abbrev dktX3_on_1 : List UInt8 := dkwX3_on_1 ++ dktX3_on_2
def dkwX3_on_0 : List UInt8 := [42, 182, 0, 209, 60, 17, 0, 157, 61, 3, 62, 29, 27, 4, 100, 162, 0, 24, 6, 28, 104, 42]
abbrev dktX3_on_0 : List UInt8 := dkwX3_on_0 ++ dktX3_on_1
theorem dksX3_on_0 : cX3_on.data.toList.drop 0 = dktX3_on_0 := by decide +kernel
theorem dksX3_on_1 : cX3_on.data.toList.drop 22 = dktX3_on_1 := dk_seg dksX3_on_0 22 rfl rfl
theorem dksX3_on_2 : cX3_on.data.toList.drop 45 = dktX3_on_2 := dk_seg dksX3_on_1 23 rfl rfl
theorem dksX3_on_3 : cX3_on.data.toList.drop 69 = dktX3_on_3 := dk_seg dksX3_on_2 24 rfl rfl
theorem dksX3_on_4 : cX3_on.data.toList.drop 91 = dktX3_on_4 := dk_seg dksX3_on_3 22 rfl rfl
theorem dksX3_on_5 : cX3_on.data.toList.drop 113 = dktX3_on_5 := dk_seg dksX3_on_4 22 rfl rfl
theorem dksX3_on_6 : cX3_on.data.toList.drop 136 = dktX3_on_6 := dk_seg dksX3_on_5 23 rfl rfl
theorem dksX3_on_7 : cX3_on.data.toList.drop 160 = dktX3_on_7 := dk_seg dksX3_on_6 24 rfl rfl
theorem dksX3_on_8 : cX3_on.data.toList.drop 184 = dktX3_on_8 := dk_seg dksX3_on_7 24 rfl rfl
theorem dX3_on_0 : decode cX3_on 0 = .ok (.aload_n 0, 1) := dk_42 (dk_at dksX3_on_0 0 rfl rfl)
theorem dX3_on_1 : decode cX3_on 1 = .ok (.invokevirtual 209, 3) := dk_182 0 209 (dk_at dksX3_on_0 1 rfl rfl)
theorem dX3_on_4 : decode cX3_on 4 = .ok (.istore_n 1, 1) := dk_60 (dk_at dksX3_on_0 4 rfl rfl)
theorem dX3_on_5 : decode cX3_on 5 = .ok (.sipush 157, 3) := dk_17 0 157 (dk_at dksX3_on_0 5 rfl rfl)
theorem dX3_on_8 : decode cX3_on 8 = .ok (.istore_n 2, 1) := dk_61 (dk_at dksX3_on_0 8 rfl rfl)
theorem dX3_on_9 : decode cX3_on 9 = .ok (.iconst 0, 1) := dk_3 (dk_at dksX3_on_0 9 rfl rfl)
theorem dX3_on_10 : decode cX3_on 10 = .ok (.istore_n 3, 1) := dk_62 (dk_at dksX3_on_0 10 rfl rfl)
theorem dX3_on_11 : decode cX3_on 11 = .ok (.iload_n 3, 1) := dk_29 (dk_at dksX3_on_0 11 rfl rfl)
theorem dX3_on_12 : decode cX3_on 12 = .ok (.iload_n 1, 1) := dk_27 (dk_at dksX3_on_0 12 rfl rfl)
theorem dX3_on_13 : decode cX3_on 13 = .ok (.iconst 1, 1) := dk_4 (dk_at dksX3_on_0 13 rfl rfl)
theorem dX3_on_14 : decode cX3_on 14 = .ok (.isub, 1) := dk_100 (dk_at dksX3_on_0 14 rfl rfl)
theorem dX3_on_15 : decode cX3_on 15 = .ok (.if_icmp .ge 24, 3) := dk_162 0 24 (dk_at dksX3_on_0 15 rfl rfl)
theorem dX3_on_18 : decode cX3_on 18 = .ok (.iconst 3, 1) := dk_6 (dk_at dksX3_on_0 18 rfl rfl)
theorem dX3_on_19 : decode cX3_on 19 = .ok (.iload_n 2, 1) := dk_28 (dk_at dksX3_on_0 19 rfl rfl)
theorem dX3_on_20 : decode cX3_on 20 = .ok (.imul, 1) := dk_104 (dk_at dksX3_on_0 20 rfl rfl)
theorem dX3_on_21 : decode cX3_on 21 = .ok (.aload_n 0, 1) := dk_42 (dk_at dksX3_on_0 21 rfl rfl)
theorem dX3_on_22 : decode cX3_on 22 = .ok (.getfield 44, 3) := dk_180 0 44 (dk_at dksX3_on_1 0 rfl rfl)
theorem dX3_on_25 : decode cX3_on 25 = .ok (.iload_n 3, 1) := dk_29 (dk_at dksX3_on_1 3 rfl rfl)
theorem dX3_on_26 : decode cX3_on 26 = .ok (.iaload, 1) := dk_46 (dk_at dksX3_on_1 4 rfl rfl)
theorem dX3_on_27 : decode cX3_on 27 = .ok (.iadd, 1) := dk_96 (dk_at dksX3_on_1 5 rfl rfl)
theorem dX3_on_28 : decode cX3_on 28 = .ok (.sipush 251, 3) := dk_17 0 251 (dk_at dksX3_on_1 6 rfl rfl)
theorem dX3_on_31 : decode cX3_on 31 = .ok (.irem, 1) := dk_112 (dk_at dksX3_on_1 9 rfl rfl)
theorem dX3_on_32 : decode cX3_on 32 = .ok (.istore_n 2, 1) := dk_61 (dk_at dksX3_on_1 10 rfl rfl)
theorem dX3_on_33 : decode cX3_on 33 = .ok (.iinc 3 1, 3) := dk_132 3 1 (dk_at dksX3_on_1 11 rfl rfl)
theorem dX3_on_36 : decode cX3_on 36 = .ok (.goto (-25), 3) := dk_167 255 231 (dk_at dksX3_on_1 14 rfl rfl)
theorem dX3_on_39 : decode cX3_on 39 = .ok (.iload_n 1, 1) := dk_27 (dk_at dksX3_on_1 17 rfl rfl)
theorem dX3_on_40 : decode cX3_on 40 = .ok (.iconst 2, 1) := dk_5 (dk_at dksX3_on_1 18 rfl rfl)
theorem dX3_on_41 : decode cX3_on 41 = .ok (.if_icmp .lt 36, 3) := dk_161 0 36 (dk_at dksX3_on_1 19 rfl rfl)
theorem dX3_on_44 : decode cX3_on 44 = .ok (.aload_n 0, 1) := dk_42 (dk_at dksX3_on_1 22 rfl rfl)
theorem dX3_on_45 : decode cX3_on 45 = .ok (.getfield 44, 3) := dk_180 0 44 (dk_at dksX3_on_2 0 rfl rfl)
theorem dX3_on_48 : decode cX3_on 48 = .ok (.iconst 0, 1) := dk_3 (dk_at dksX3_on_2 3 rfl rfl)
theorem dX3_on_49 : decode cX3_on 49 = .ok (.iaload, 1) := dk_46 (dk_at dksX3_on_2 4 rfl rfl)
theorem dX3_on_50 : decode cX3_on 50 = .ok (.bipush 8, 2) := dk_16 8 (dk_at dksX3_on_2 5 rfl rfl)
theorem dX3_on_52 : decode cX3_on 52 = .ok (.if_icmp .gt 25, 3) := dk_163 0 25 (dk_at dksX3_on_2 7 rfl rfl)
theorem dX3_on_55 : decode cX3_on 55 = .ok (.aload_n 0, 1) := dk_42 (dk_at dksX3_on_2 10 rfl rfl)
theorem dX3_on_56 : decode cX3_on 56 = .ok (.getfield 44, 3) := dk_180 0 44 (dk_at dksX3_on_2 11 rfl rfl)
theorem dX3_on_59 : decode cX3_on 59 = .ok (.iload_n 1, 1) := dk_27 (dk_at dksX3_on_2 14 rfl rfl)
theorem dX3_on_60 : decode cX3_on 60 = .ok (.iconst 1, 1) := dk_4 (dk_at dksX3_on_2 15 rfl rfl)
theorem dX3_on_61 : decode cX3_on 61 = .ok (.isub, 1) := dk_100 (dk_at dksX3_on_2 16 rfl rfl)
theorem dX3_on_62 : decode cX3_on 62 = .ok (.iaload, 1) := dk_46 (dk_at dksX3_on_2 17 rfl rfl)
theorem dX3_on_63 : decode cX3_on 63 = .ok (.iload_n 2, 1) := dk_28 (dk_at dksX3_on_2 18 rfl rfl)
theorem dX3_on_64 : decode cX3_on 64 = .ok (.if_icmp .ne 13, 3) := dk_160 0 13 (dk_at dksX3_on_2 19 rfl rfl)
theorem dX3_on_67 : decode cX3_on 67 = .ok (.aload_n 0, 1) := dk_42 (dk_at dksX3_on_2 22 rfl rfl)
theorem dX3_on_68 : decode cX3_on 68 = .ok (.iload_n 1, 1) := dk_27 (dk_at dksX3_on_2 23 rfl rfl)
theorem dX3_on_69 : decode cX3_on 69 = .ok (.iconst 1, 1) := dk_4 (dk_at dksX3_on_3 0 rfl rfl)
theorem dX3_on_70 : decode cX3_on 70 = .ok (.isub, 1) := dk_100 (dk_at dksX3_on_3 1 rfl rfl)
theorem dX3_on_71 : decode cX3_on 71 = .ok (.invokevirtual 398, 3) := dk_182 1 142 (dk_at dksX3_on_3 2 rfl rfl)
theorem dX3_on_74 : decode cX3_on 74 = .ok (.ifCond .ne 9, 3) := dk_154 0 9 (dk_at dksX3_on_3 5 rfl rfl)
theorem dX3_on_77 : decode cX3_on 77 = .ok (.aload_n 0, 1) := dk_42 (dk_at dksX3_on_3 8 rfl rfl)
theorem dX3_on_78 : decode cX3_on 78 = .ok (.iconst 5, 1) := dk_8 (dk_at dksX3_on_3 9 rfl rfl)
theorem dX3_on_79 : decode cX3_on 79 = .ok (.invokevirtual 146, 3) := dk_182 0 146 (dk_at dksX3_on_3 10 rfl rfl)
theorem dX3_on_82 : decode cX3_on 82 = .ok (.ireturn, 1) := dk_172 (dk_at dksX3_on_3 13 rfl rfl)
theorem dX3_on_83 : decode cX3_on 83 = .ok (.aload_n 0, 1) := dk_42 (dk_at dksX3_on_3 14 rfl rfl)
theorem dX3_on_84 : decode cX3_on 84 = .ok (.getfield 7, 3) := dk_180 0 7 (dk_at dksX3_on_3 15 rfl rfl)
theorem dX3_on_87 : decode cX3_on 87 = .ok (.sipush 1009, 3) := dk_17 3 241 (dk_at dksX3_on_3 18 rfl rfl)
theorem dX3_on_90 : decode cX3_on 90 = .ok (.aload_n 0, 1) := dk_42 (dk_at dksX3_on_3 21 rfl rfl)
theorem dX3_on_91 : decode cX3_on 91 = .ok (.getfield 44, 3) := dk_180 0 44 (dk_at dksX3_on_4 0 rfl rfl)
theorem dX3_on_94 : decode cX3_on 94 = .ok (.iconst 0, 1) := dk_3 (dk_at dksX3_on_4 3 rfl rfl)
theorem dX3_on_95 : decode cX3_on 95 = .ok (.iaload, 1) := dk_46 (dk_at dksX3_on_4 4 rfl rfl)
theorem dX3_on_96 : decode cX3_on 96 = .ok (.iastore, 1) := dk_79 (dk_at dksX3_on_4 5 rfl rfl)
theorem dX3_on_97 : decode cX3_on 97 = .ok (.iconst 0, 1) := dk_3 (dk_at dksX3_on_4 6 rfl rfl)
theorem dX3_on_98 : decode cX3_on 98 = .ok (.istore_n 3, 1) := dk_62 (dk_at dksX3_on_4 7 rfl rfl)
theorem dX3_on_99 : decode cX3_on 99 = .ok (.iload_n 3, 1) := dk_29 (dk_at dksX3_on_4 8 rfl rfl)
theorem dX3_on_100 : decode cX3_on 100 = .ok (.aload_n 0, 1) := dk_42 (dk_at dksX3_on_4 9 rfl rfl)
theorem dX3_on_101 : decode cX3_on 101 = .ok (.getfield 44, 3) := dk_180 0 44 (dk_at dksX3_on_4 10 rfl rfl)
theorem dX3_on_104 : decode cX3_on 104 = .ok (.iconst 0, 1) := dk_3 (dk_at dksX3_on_4 13 rfl rfl)
theorem dX3_on_105 : decode cX3_on 105 = .ok (.iaload, 1) := dk_46 (dk_at dksX3_on_4 14 rfl rfl)
theorem dX3_on_106 : decode cX3_on 106 = .ok (.if_icmp .ge 73, 3) := dk_162 0 73 (dk_at dksX3_on_4 15 rfl rfl)
theorem dX3_on_109 : decode cX3_on 109 = .ok (.aload_n 0, 1) := dk_42 (dk_at dksX3_on_4 18 rfl rfl)
theorem dX3_on_110 : decode cX3_on 110 = .ok (.getfield 7, 3) := dk_180 0 7 (dk_at dksX3_on_4 19 rfl rfl)
theorem dX3_on_113 : decode cX3_on 113 = .ok (.sipush 960, 3) := dk_17 3 192 (dk_at dksX3_on_5 0 rfl rfl)
theorem dX3_on_116 : decode cX3_on 116 = .ok (.iload_n 3, 1) := dk_29 (dk_at dksX3_on_5 3 rfl rfl)
theorem dX3_on_117 : decode cX3_on 117 = .ok (.iadd, 1) := dk_96 (dk_at dksX3_on_5 4 rfl rfl)
theorem dX3_on_118 : decode cX3_on 118 = .ok (.aload_n 0, 1) := dk_42 (dk_at dksX3_on_5 5 rfl rfl)
theorem dX3_on_119 : decode cX3_on 119 = .ok (.getfield 13, 3) := dk_180 0 13 (dk_at dksX3_on_5 6 rfl rfl)
theorem dX3_on_122 : decode cX3_on 122 = .ok (.sipush 960, 3) := dk_17 3 192 (dk_at dksX3_on_5 9 rfl rfl)
theorem dX3_on_125 : decode cX3_on 125 = .ok (.iload_n 3, 1) := dk_29 (dk_at dksX3_on_5 12 rfl rfl)
theorem dX3_on_126 : decode cX3_on 126 = .ok (.iadd, 1) := dk_96 (dk_at dksX3_on_5 13 rfl rfl)
theorem dX3_on_127 : decode cX3_on 127 = .ok (.iaload, 1) := dk_46 (dk_at dksX3_on_5 14 rfl rfl)
theorem dX3_on_128 : decode cX3_on 128 = .ok (.iastore, 1) := dk_79 (dk_at dksX3_on_5 15 rfl rfl)
theorem dX3_on_129 : decode cX3_on 129 = .ok (.iconst 0, 1) := dk_3 (dk_at dksX3_on_5 16 rfl rfl)
theorem dX3_on_130 : decode cX3_on 130 = .ok (.istore 4, 2) := dk_54 4 (dk_at dksX3_on_5 17 rfl rfl)
theorem dX3_on_132 : decode cX3_on 132 = .ok (.iload 4, 2) := dk_21 4 (dk_at dksX3_on_5 19 rfl rfl)
theorem dX3_on_134 : decode cX3_on 134 = .ok (.bipush 24, 2) := dk_16 24 (dk_at dksX3_on_5 21 rfl rfl)
theorem dX3_on_136 : decode cX3_on 136 = .ok (.if_icmp .ge 37, 3) := dk_162 0 37 (dk_at dksX3_on_6 0 rfl rfl)
theorem dX3_on_139 : decode cX3_on 139 = .ok (.aload_n 0, 1) := dk_42 (dk_at dksX3_on_6 3 rfl rfl)
theorem dX3_on_140 : decode cX3_on 140 = .ok (.getfield 7, 3) := dk_180 0 7 (dk_at dksX3_on_6 4 rfl rfl)
theorem dX3_on_143 : decode cX3_on 143 = .ok (.iconst 0, 1) := dk_3 (dk_at dksX3_on_6 7 rfl rfl)
theorem dX3_on_144 : decode cX3_on 144 = .ok (.bipush 24, 2) := dk_16 24 (dk_at dksX3_on_6 8 rfl rfl)
theorem dX3_on_146 : decode cX3_on 146 = .ok (.iload_n 3, 1) := dk_29 (dk_at dksX3_on_6 10 rfl rfl)
theorem dX3_on_147 : decode cX3_on 147 = .ok (.imul, 1) := dk_104 (dk_at dksX3_on_6 11 rfl rfl)
theorem dX3_on_148 : decode cX3_on 148 = .ok (.iadd, 1) := dk_96 (dk_at dksX3_on_6 12 rfl rfl)
theorem dX3_on_149 : decode cX3_on 149 = .ok (.iload 4, 2) := dk_21 4 (dk_at dksX3_on_6 13 rfl rfl)
theorem dX3_on_151 : decode cX3_on 151 = .ok (.iadd, 1) := dk_96 (dk_at dksX3_on_6 15 rfl rfl)
theorem dX3_on_152 : decode cX3_on 152 = .ok (.aload_n 0, 1) := dk_42 (dk_at dksX3_on_6 16 rfl rfl)
theorem dX3_on_153 : decode cX3_on 153 = .ok (.getfield 13, 3) := dk_180 0 13 (dk_at dksX3_on_6 17 rfl rfl)
theorem dX3_on_156 : decode cX3_on 156 = .ok (.iconst 0, 1) := dk_3 (dk_at dksX3_on_6 20 rfl rfl)
theorem dX3_on_157 : decode cX3_on 157 = .ok (.bipush 24, 2) := dk_16 24 (dk_at dksX3_on_6 21 rfl rfl)
theorem dX3_on_159 : decode cX3_on 159 = .ok (.iload_n 3, 1) := dk_29 (dk_at dksX3_on_6 23 rfl rfl)
theorem dX3_on_160 : decode cX3_on 160 = .ok (.imul, 1) := dk_104 (dk_at dksX3_on_7 0 rfl rfl)
theorem dX3_on_161 : decode cX3_on 161 = .ok (.iadd, 1) := dk_96 (dk_at dksX3_on_7 1 rfl rfl)
theorem dX3_on_162 : decode cX3_on 162 = .ok (.iload 4, 2) := dk_21 4 (dk_at dksX3_on_7 2 rfl rfl)
theorem dX3_on_164 : decode cX3_on 164 = .ok (.iadd, 1) := dk_96 (dk_at dksX3_on_7 4 rfl rfl)
theorem dX3_on_165 : decode cX3_on 165 = .ok (.iaload, 1) := dk_46 (dk_at dksX3_on_7 5 rfl rfl)
theorem dX3_on_166 : decode cX3_on 166 = .ok (.iastore, 1) := dk_79 (dk_at dksX3_on_7 6 rfl rfl)
theorem dX3_on_167 : decode cX3_on 167 = .ok (.iinc 4 1, 3) := dk_132 4 1 (dk_at dksX3_on_7 7 rfl rfl)
theorem dX3_on_170 : decode cX3_on 170 = .ok (.goto (-38), 3) := dk_167 255 218 (dk_at dksX3_on_7 10 rfl rfl)
theorem dX3_on_173 : decode cX3_on 173 = .ok (.iinc 3 1, 3) := dk_132 3 1 (dk_at dksX3_on_7 13 rfl rfl)
theorem dX3_on_176 : decode cX3_on 176 = .ok (.goto (-77), 3) := dk_167 255 179 (dk_at dksX3_on_7 16 rfl rfl)
theorem dX3_on_179 : decode cX3_on 179 = .ok (.aload_n 0, 1) := dk_42 (dk_at dksX3_on_7 19 rfl rfl)
theorem dX3_on_180 : decode cX3_on 180 = .ok (.iconst 0, 1) := dk_3 (dk_at dksX3_on_7 20 rfl rfl)
theorem dX3_on_181 : decode cX3_on 181 = .ok (.putfield 22, 3) := dk_181 0 22 (dk_at dksX3_on_7 21 rfl rfl)
theorem dX3_on_184 : decode cX3_on 184 = .ok (.iconst 1, 1) := dk_4 (dk_at dksX3_on_8 0 rfl rfl)
theorem dX3_on_185 : decode cX3_on 185 = .ok (.ireturn, 1) := dk_172 (dk_at dksX3_on_8 1 rfl rfl)
abbrev cX3_takesIn : ByteArray := prog_12_method_129_code
def yX3_takesIn : MethodName := ⟨RX3, "takesIn", "(I)Z"⟩
def dkwX3_takesIn_6 : List UInt8 := [96, 96, 61, 132, 3, 1, 167, 255, 111, 28, 27, 160, 0, 7, 4, 167, 0, 4, 3, 172]
abbrev dktX3_takesIn_6 : List UInt8 := dkwX3_takesIn_6 ++ []
def dkwX3_takesIn_5 : List UInt8 := [28, 4, 96, 21, 4, 96, 46, 79, 132, 4, 1, 167, 255, 197, 28, 4, 5, 42, 180, 0, 44, 28, 46, 104]
abbrev dktX3_takesIn_5 : List UInt8 := dkwX3_takesIn_5 ++ dktX3_takesIn_6
def dkwX3_takesIn_4 : List UInt8 := [16, 99, 164, 0, 5, 3, 172, 42, 180, 0, 13, 3, 16, 24, 29, 104, 96, 21, 4, 96, 42, 180, 0, 44]
abbrev dktX3_takesIn_4 : List UInt8 := dkwX3_takesIn_4 ++ dktX3_takesIn_5
def dkwX3_takesIn_3 : List UInt8 := [21, 4, 5, 42, 180, 0, 44, 28, 46, 104, 162, 0, 52, 42, 180, 0, 44, 28, 4, 96, 21, 4, 96, 46]
abbrev dktX3_takesIn_3 : List UInt8 := dkwX3_takesIn_3 ++ dktX3_takesIn_4
def dkwX3_takesIn_2 : List UInt8 := [164, 0, 5, 3, 172, 42, 180, 0, 13, 17, 3, 192, 29, 96, 42, 180, 0, 44, 28, 46, 79, 3, 54, 4]
abbrev dktX3_takesIn_2 : List UInt8 := dkwX3_takesIn_2 ++ dktX3_takesIn_3
def dkwX3_takesIn_1 : List UInt8 := [46, 5, 16, 12, 184, 0, 171, 153, 0, 19, 28, 4, 96, 5, 42, 180, 0, 44, 28, 46, 104, 96, 27]
abbrev dktX3_takesIn_1 : List UInt8 := dkwX3_takesIn_1 ++ dktX3_takesIn_2
def dkwX3_takesIn_0 : List UInt8 := [4, 61, 3, 62, 29, 42, 180, 0, 44, 3, 46, 162, 0, 141, 28, 27, 162, 0, 34, 42, 180, 0, 44, 28]
abbrev dktX3_takesIn_0 : List UInt8 := dkwX3_takesIn_0 ++ dktX3_takesIn_1
theorem dksX3_takesIn_0 : cX3_takesIn.data.toList.drop 0 = dktX3_takesIn_0 := by decide +kernel
theorem dksX3_takesIn_1 : cX3_takesIn.data.toList.drop 24 = dktX3_takesIn_1 := dk_seg dksX3_takesIn_0 24 rfl rfl
theorem dksX3_takesIn_2 : cX3_takesIn.data.toList.drop 47 = dktX3_takesIn_2 := dk_seg dksX3_takesIn_1 23 rfl rfl
theorem dksX3_takesIn_3 : cX3_takesIn.data.toList.drop 71 = dktX3_takesIn_3 := dk_seg dksX3_takesIn_2 24 rfl rfl
theorem dksX3_takesIn_4 : cX3_takesIn.data.toList.drop 95 = dktX3_takesIn_4 := dk_seg dksX3_takesIn_3 24 rfl rfl
theorem dksX3_takesIn_5 : cX3_takesIn.data.toList.drop 119 = dktX3_takesIn_5 := dk_seg dksX3_takesIn_4 24 rfl rfl
theorem dksX3_takesIn_6 : cX3_takesIn.data.toList.drop 143 = dktX3_takesIn_6 := dk_seg dksX3_takesIn_5 24 rfl rfl
theorem dX3_takesIn_0 : decode cX3_takesIn 0 = .ok (.iconst 1, 1) := dk_4 (dk_at dksX3_takesIn_0 0 rfl rfl)
theorem dX3_takesIn_1 : decode cX3_takesIn 1 = .ok (.istore_n 2, 1) := dk_61 (dk_at dksX3_takesIn_0 1 rfl rfl)
theorem dX3_takesIn_2 : decode cX3_takesIn 2 = .ok (.iconst 0, 1) := dk_3 (dk_at dksX3_takesIn_0 2 rfl rfl)
theorem dX3_takesIn_3 : decode cX3_takesIn 3 = .ok (.istore_n 3, 1) := dk_62 (dk_at dksX3_takesIn_0 3 rfl rfl)
theorem dX3_takesIn_4 : decode cX3_takesIn 4 = .ok (.iload_n 3, 1) := dk_29 (dk_at dksX3_takesIn_0 4 rfl rfl)
theorem dX3_takesIn_5 : decode cX3_takesIn 5 = .ok (.aload_n 0, 1) := dk_42 (dk_at dksX3_takesIn_0 5 rfl rfl)
theorem dX3_takesIn_6 : decode cX3_takesIn 6 = .ok (.getfield 44, 3) := dk_180 0 44 (dk_at dksX3_takesIn_0 6 rfl rfl)
theorem dX3_takesIn_9 : decode cX3_takesIn 9 = .ok (.iconst 0, 1) := dk_3 (dk_at dksX3_takesIn_0 9 rfl rfl)
theorem dX3_takesIn_10 : decode cX3_takesIn 10 = .ok (.iaload, 1) := dk_46 (dk_at dksX3_takesIn_0 10 rfl rfl)
theorem dX3_takesIn_11 : decode cX3_takesIn 11 = .ok (.if_icmp .ge 141, 3) := dk_162 0 141 (dk_at dksX3_takesIn_0 11 rfl rfl)
theorem dX3_takesIn_14 : decode cX3_takesIn 14 = .ok (.iload_n 2, 1) := dk_28 (dk_at dksX3_takesIn_0 14 rfl rfl)
theorem dX3_takesIn_15 : decode cX3_takesIn 15 = .ok (.iload_n 1, 1) := dk_27 (dk_at dksX3_takesIn_0 15 rfl rfl)
theorem dX3_takesIn_16 : decode cX3_takesIn 16 = .ok (.if_icmp .ge 34, 3) := dk_162 0 34 (dk_at dksX3_takesIn_0 16 rfl rfl)
theorem dX3_takesIn_19 : decode cX3_takesIn 19 = .ok (.aload_n 0, 1) := dk_42 (dk_at dksX3_takesIn_0 19 rfl rfl)
theorem dX3_takesIn_20 : decode cX3_takesIn 20 = .ok (.getfield 44, 3) := dk_180 0 44 (dk_at dksX3_takesIn_0 20 rfl rfl)
theorem dX3_takesIn_23 : decode cX3_takesIn 23 = .ok (.iload_n 2, 1) := dk_28 (dk_at dksX3_takesIn_0 23 rfl rfl)
theorem dX3_takesIn_24 : decode cX3_takesIn 24 = .ok (.iaload, 1) := dk_46 (dk_at dksX3_takesIn_1 0 rfl rfl)
theorem dX3_takesIn_25 : decode cX3_takesIn 25 = .ok (.iconst 2, 1) := dk_5 (dk_at dksX3_takesIn_1 1 rfl rfl)
theorem dX3_takesIn_26 : decode cX3_takesIn 26 = .ok (.bipush 12, 2) := dk_16 12 (dk_at dksX3_takesIn_1 2 rfl rfl)
theorem dX3_takesIn_28 : decode cX3_takesIn 28 = .ok (.invokestatic 171, 3) := dk_184 0 171 (dk_at dksX3_takesIn_1 4 rfl rfl)
theorem dX3_takesIn_31 : decode cX3_takesIn 31 = .ok (.ifCond .eq 19, 3) := dk_153 0 19 (dk_at dksX3_takesIn_1 7 rfl rfl)
theorem dX3_takesIn_34 : decode cX3_takesIn 34 = .ok (.iload_n 2, 1) := dk_28 (dk_at dksX3_takesIn_1 10 rfl rfl)
theorem dX3_takesIn_35 : decode cX3_takesIn 35 = .ok (.iconst 1, 1) := dk_4 (dk_at dksX3_takesIn_1 11 rfl rfl)
theorem dX3_takesIn_36 : decode cX3_takesIn 36 = .ok (.iadd, 1) := dk_96 (dk_at dksX3_takesIn_1 12 rfl rfl)
theorem dX3_takesIn_37 : decode cX3_takesIn 37 = .ok (.iconst 2, 1) := dk_5 (dk_at dksX3_takesIn_1 13 rfl rfl)
theorem dX3_takesIn_38 : decode cX3_takesIn 38 = .ok (.aload_n 0, 1) := dk_42 (dk_at dksX3_takesIn_1 14 rfl rfl)
theorem dX3_takesIn_39 : decode cX3_takesIn 39 = .ok (.getfield 44, 3) := dk_180 0 44 (dk_at dksX3_takesIn_1 15 rfl rfl)
theorem dX3_takesIn_42 : decode cX3_takesIn 42 = .ok (.iload_n 2, 1) := dk_28 (dk_at dksX3_takesIn_1 18 rfl rfl)
theorem dX3_takesIn_43 : decode cX3_takesIn 43 = .ok (.iaload, 1) := dk_46 (dk_at dksX3_takesIn_1 19 rfl rfl)
theorem dX3_takesIn_44 : decode cX3_takesIn 44 = .ok (.imul, 1) := dk_104 (dk_at dksX3_takesIn_1 20 rfl rfl)
theorem dX3_takesIn_45 : decode cX3_takesIn 45 = .ok (.iadd, 1) := dk_96 (dk_at dksX3_takesIn_1 21 rfl rfl)
theorem dX3_takesIn_46 : decode cX3_takesIn 46 = .ok (.iload_n 1, 1) := dk_27 (dk_at dksX3_takesIn_1 22 rfl rfl)
theorem dX3_takesIn_47 : decode cX3_takesIn 47 = .ok (.if_icmp .le 5, 3) := dk_164 0 5 (dk_at dksX3_takesIn_2 0 rfl rfl)
theorem dX3_takesIn_50 : decode cX3_takesIn 50 = .ok (.iconst 0, 1) := dk_3 (dk_at dksX3_takesIn_2 3 rfl rfl)
theorem dX3_takesIn_51 : decode cX3_takesIn 51 = .ok (.ireturn, 1) := dk_172 (dk_at dksX3_takesIn_2 4 rfl rfl)
theorem dX3_takesIn_52 : decode cX3_takesIn 52 = .ok (.aload_n 0, 1) := dk_42 (dk_at dksX3_takesIn_2 5 rfl rfl)
theorem dX3_takesIn_53 : decode cX3_takesIn 53 = .ok (.getfield 13, 3) := dk_180 0 13 (dk_at dksX3_takesIn_2 6 rfl rfl)
theorem dX3_takesIn_56 : decode cX3_takesIn 56 = .ok (.sipush 960, 3) := dk_17 3 192 (dk_at dksX3_takesIn_2 9 rfl rfl)
theorem dX3_takesIn_59 : decode cX3_takesIn 59 = .ok (.iload_n 3, 1) := dk_29 (dk_at dksX3_takesIn_2 12 rfl rfl)
theorem dX3_takesIn_60 : decode cX3_takesIn 60 = .ok (.iadd, 1) := dk_96 (dk_at dksX3_takesIn_2 13 rfl rfl)
theorem dX3_takesIn_61 : decode cX3_takesIn 61 = .ok (.aload_n 0, 1) := dk_42 (dk_at dksX3_takesIn_2 14 rfl rfl)
theorem dX3_takesIn_62 : decode cX3_takesIn 62 = .ok (.getfield 44, 3) := dk_180 0 44 (dk_at dksX3_takesIn_2 15 rfl rfl)
theorem dX3_takesIn_65 : decode cX3_takesIn 65 = .ok (.iload_n 2, 1) := dk_28 (dk_at dksX3_takesIn_2 18 rfl rfl)
theorem dX3_takesIn_66 : decode cX3_takesIn 66 = .ok (.iaload, 1) := dk_46 (dk_at dksX3_takesIn_2 19 rfl rfl)
theorem dX3_takesIn_67 : decode cX3_takesIn 67 = .ok (.iastore, 1) := dk_79 (dk_at dksX3_takesIn_2 20 rfl rfl)
theorem dX3_takesIn_68 : decode cX3_takesIn 68 = .ok (.iconst 0, 1) := dk_3 (dk_at dksX3_takesIn_2 21 rfl rfl)
theorem dX3_takesIn_69 : decode cX3_takesIn 69 = .ok (.istore 4, 2) := dk_54 4 (dk_at dksX3_takesIn_2 22 rfl rfl)
theorem dX3_takesIn_71 : decode cX3_takesIn 71 = .ok (.iload 4, 2) := dk_21 4 (dk_at dksX3_takesIn_3 0 rfl rfl)
theorem dX3_takesIn_73 : decode cX3_takesIn 73 = .ok (.iconst 2, 1) := dk_5 (dk_at dksX3_takesIn_3 2 rfl rfl)
theorem dX3_takesIn_74 : decode cX3_takesIn 74 = .ok (.aload_n 0, 1) := dk_42 (dk_at dksX3_takesIn_3 3 rfl rfl)
theorem dX3_takesIn_75 : decode cX3_takesIn 75 = .ok (.getfield 44, 3) := dk_180 0 44 (dk_at dksX3_takesIn_3 4 rfl rfl)
theorem dX3_takesIn_78 : decode cX3_takesIn 78 = .ok (.iload_n 2, 1) := dk_28 (dk_at dksX3_takesIn_3 7 rfl rfl)
theorem dX3_takesIn_79 : decode cX3_takesIn 79 = .ok (.iaload, 1) := dk_46 (dk_at dksX3_takesIn_3 8 rfl rfl)
theorem dX3_takesIn_80 : decode cX3_takesIn 80 = .ok (.imul, 1) := dk_104 (dk_at dksX3_takesIn_3 9 rfl rfl)
theorem dX3_takesIn_81 : decode cX3_takesIn 81 = .ok (.if_icmp .ge 52, 3) := dk_162 0 52 (dk_at dksX3_takesIn_3 10 rfl rfl)
theorem dX3_takesIn_84 : decode cX3_takesIn 84 = .ok (.aload_n 0, 1) := dk_42 (dk_at dksX3_takesIn_3 13 rfl rfl)
theorem dX3_takesIn_85 : decode cX3_takesIn 85 = .ok (.getfield 44, 3) := dk_180 0 44 (dk_at dksX3_takesIn_3 14 rfl rfl)
theorem dX3_takesIn_88 : decode cX3_takesIn 88 = .ok (.iload_n 2, 1) := dk_28 (dk_at dksX3_takesIn_3 17 rfl rfl)
theorem dX3_takesIn_89 : decode cX3_takesIn 89 = .ok (.iconst 1, 1) := dk_4 (dk_at dksX3_takesIn_3 18 rfl rfl)
theorem dX3_takesIn_90 : decode cX3_takesIn 90 = .ok (.iadd, 1) := dk_96 (dk_at dksX3_takesIn_3 19 rfl rfl)
theorem dX3_takesIn_91 : decode cX3_takesIn 91 = .ok (.iload 4, 2) := dk_21 4 (dk_at dksX3_takesIn_3 20 rfl rfl)
theorem dX3_takesIn_93 : decode cX3_takesIn 93 = .ok (.iadd, 1) := dk_96 (dk_at dksX3_takesIn_3 22 rfl rfl)
theorem dX3_takesIn_94 : decode cX3_takesIn 94 = .ok (.iaload, 1) := dk_46 (dk_at dksX3_takesIn_3 23 rfl rfl)
theorem dX3_takesIn_95 : decode cX3_takesIn 95 = .ok (.bipush 99, 2) := dk_16 99 (dk_at dksX3_takesIn_4 0 rfl rfl)
theorem dX3_takesIn_97 : decode cX3_takesIn 97 = .ok (.if_icmp .le 5, 3) := dk_164 0 5 (dk_at dksX3_takesIn_4 2 rfl rfl)
theorem dX3_takesIn_100 : decode cX3_takesIn 100 = .ok (.iconst 0, 1) := dk_3 (dk_at dksX3_takesIn_4 5 rfl rfl)
theorem dX3_takesIn_101 : decode cX3_takesIn 101 = .ok (.ireturn, 1) := dk_172 (dk_at dksX3_takesIn_4 6 rfl rfl)
theorem dX3_takesIn_102 : decode cX3_takesIn 102 = .ok (.aload_n 0, 1) := dk_42 (dk_at dksX3_takesIn_4 7 rfl rfl)
theorem dX3_takesIn_103 : decode cX3_takesIn 103 = .ok (.getfield 13, 3) := dk_180 0 13 (dk_at dksX3_takesIn_4 8 rfl rfl)
theorem dX3_takesIn_106 : decode cX3_takesIn 106 = .ok (.iconst 0, 1) := dk_3 (dk_at dksX3_takesIn_4 11 rfl rfl)
theorem dX3_takesIn_107 : decode cX3_takesIn 107 = .ok (.bipush 24, 2) := dk_16 24 (dk_at dksX3_takesIn_4 12 rfl rfl)
theorem dX3_takesIn_109 : decode cX3_takesIn 109 = .ok (.iload_n 3, 1) := dk_29 (dk_at dksX3_takesIn_4 14 rfl rfl)
theorem dX3_takesIn_110 : decode cX3_takesIn 110 = .ok (.imul, 1) := dk_104 (dk_at dksX3_takesIn_4 15 rfl rfl)
theorem dX3_takesIn_111 : decode cX3_takesIn 111 = .ok (.iadd, 1) := dk_96 (dk_at dksX3_takesIn_4 16 rfl rfl)
theorem dX3_takesIn_112 : decode cX3_takesIn 112 = .ok (.iload 4, 2) := dk_21 4 (dk_at dksX3_takesIn_4 17 rfl rfl)
theorem dX3_takesIn_114 : decode cX3_takesIn 114 = .ok (.iadd, 1) := dk_96 (dk_at dksX3_takesIn_4 19 rfl rfl)
theorem dX3_takesIn_115 : decode cX3_takesIn 115 = .ok (.aload_n 0, 1) := dk_42 (dk_at dksX3_takesIn_4 20 rfl rfl)
theorem dX3_takesIn_116 : decode cX3_takesIn 116 = .ok (.getfield 44, 3) := dk_180 0 44 (dk_at dksX3_takesIn_4 21 rfl rfl)
theorem dX3_takesIn_119 : decode cX3_takesIn 119 = .ok (.iload_n 2, 1) := dk_28 (dk_at dksX3_takesIn_5 0 rfl rfl)
theorem dX3_takesIn_120 : decode cX3_takesIn 120 = .ok (.iconst 1, 1) := dk_4 (dk_at dksX3_takesIn_5 1 rfl rfl)
theorem dX3_takesIn_121 : decode cX3_takesIn 121 = .ok (.iadd, 1) := dk_96 (dk_at dksX3_takesIn_5 2 rfl rfl)
theorem dX3_takesIn_122 : decode cX3_takesIn 122 = .ok (.iload 4, 2) := dk_21 4 (dk_at dksX3_takesIn_5 3 rfl rfl)
theorem dX3_takesIn_124 : decode cX3_takesIn 124 = .ok (.iadd, 1) := dk_96 (dk_at dksX3_takesIn_5 5 rfl rfl)
theorem dX3_takesIn_125 : decode cX3_takesIn 125 = .ok (.iaload, 1) := dk_46 (dk_at dksX3_takesIn_5 6 rfl rfl)
theorem dX3_takesIn_126 : decode cX3_takesIn 126 = .ok (.iastore, 1) := dk_79 (dk_at dksX3_takesIn_5 7 rfl rfl)
theorem dX3_takesIn_127 : decode cX3_takesIn 127 = .ok (.iinc 4 1, 3) := dk_132 4 1 (dk_at dksX3_takesIn_5 8 rfl rfl)
theorem dX3_takesIn_130 : decode cX3_takesIn 130 = .ok (.goto (-59), 3) := dk_167 255 197 (dk_at dksX3_takesIn_5 11 rfl rfl)
theorem dX3_takesIn_133 : decode cX3_takesIn 133 = .ok (.iload_n 2, 1) := dk_28 (dk_at dksX3_takesIn_5 14 rfl rfl)
theorem dX3_takesIn_134 : decode cX3_takesIn 134 = .ok (.iconst 1, 1) := dk_4 (dk_at dksX3_takesIn_5 15 rfl rfl)
theorem dX3_takesIn_135 : decode cX3_takesIn 135 = .ok (.iconst 2, 1) := dk_5 (dk_at dksX3_takesIn_5 16 rfl rfl)
theorem dX3_takesIn_136 : decode cX3_takesIn 136 = .ok (.aload_n 0, 1) := dk_42 (dk_at dksX3_takesIn_5 17 rfl rfl)
theorem dX3_takesIn_137 : decode cX3_takesIn 137 = .ok (.getfield 44, 3) := dk_180 0 44 (dk_at dksX3_takesIn_5 18 rfl rfl)
theorem dX3_takesIn_140 : decode cX3_takesIn 140 = .ok (.iload_n 2, 1) := dk_28 (dk_at dksX3_takesIn_5 21 rfl rfl)
theorem dX3_takesIn_141 : decode cX3_takesIn 141 = .ok (.iaload, 1) := dk_46 (dk_at dksX3_takesIn_5 22 rfl rfl)
theorem dX3_takesIn_142 : decode cX3_takesIn 142 = .ok (.imul, 1) := dk_104 (dk_at dksX3_takesIn_5 23 rfl rfl)
theorem dX3_takesIn_143 : decode cX3_takesIn 143 = .ok (.iadd, 1) := dk_96 (dk_at dksX3_takesIn_6 0 rfl rfl)
theorem dX3_takesIn_144 : decode cX3_takesIn 144 = .ok (.iadd, 1) := dk_96 (dk_at dksX3_takesIn_6 1 rfl rfl)
theorem dX3_takesIn_145 : decode cX3_takesIn 145 = .ok (.istore_n 2, 1) := dk_61 (dk_at dksX3_takesIn_6 2 rfl rfl)
theorem dX3_takesIn_146 : decode cX3_takesIn 146 = .ok (.iinc 3 1, 3) := dk_132 3 1 (dk_at dksX3_takesIn_6 3 rfl rfl)
theorem dX3_takesIn_149 : decode cX3_takesIn 149 = .ok (.goto (-145), 3) := dk_167 255 111 (dk_at dksX3_takesIn_6 6 rfl rfl)
theorem dX3_takesIn_152 : decode cX3_takesIn 152 = .ok (.iload_n 2, 1) := dk_28 (dk_at dksX3_takesIn_6 9 rfl rfl)
theorem dX3_takesIn_153 : decode cX3_takesIn 153 = .ok (.iload_n 1, 1) := dk_27 (dk_at dksX3_takesIn_6 10 rfl rfl)
theorem dX3_takesIn_154 : decode cX3_takesIn 154 = .ok (.if_icmp .ne 7, 3) := dk_160 0 7 (dk_at dksX3_takesIn_6 11 rfl rfl)
theorem dX3_takesIn_157 : decode cX3_takesIn 157 = .ok (.iconst 1, 1) := dk_4 (dk_at dksX3_takesIn_6 14 rfl rfl)
theorem dX3_takesIn_158 : decode cX3_takesIn 158 = .ok (.goto 4, 3) := dk_167 0 4 (dk_at dksX3_takesIn_6 15 rfl rfl)
theorem dX3_takesIn_161 : decode cX3_takesIn 161 = .ok (.iconst 0, 1) := dk_3 (dk_at dksX3_takesIn_6 18 rfl rfl)
theorem dX3_takesIn_162 : decode cX3_takesIn 162 = .ok (.ireturn, 1) := dk_172 (dk_at dksX3_takesIn_6 19 rfl rfl)
abbrev cX3_status : ByteArray := prog_12_method_131_code
def yX3_status : MethodName := ⟨RX3, "status", "(I)I"⟩
def dkwX3_status_0 : List UInt8 := [27, 3, 8, 184, 0, 171, 153, 0, 12, 42, 180, 0, 50, 27, 46, 167, 0, 4, 2, 172]
abbrev dktX3_status_0 : List UInt8 := dkwX3_status_0 ++ []
theorem dksX3_status_0 : cX3_status.data.toList.drop 0 = dktX3_status_0 := by decide +kernel
theorem dX3_status_0 : decode cX3_status 0 = .ok (.iload_n 1, 1) := dk_27 (dk_at dksX3_status_0 0 rfl rfl)
theorem dX3_status_1 : decode cX3_status 1 = .ok (.iconst 0, 1) := dk_3 (dk_at dksX3_status_0 1 rfl rfl)
theorem dX3_status_2 : decode cX3_status 2 = .ok (.iconst 5, 1) := dk_8 (dk_at dksX3_status_0 2 rfl rfl)
theorem dX3_status_3 : decode cX3_status 3 = .ok (.invokestatic 171, 3) := dk_184 0 171 (dk_at dksX3_status_0 3 rfl rfl)
theorem dX3_status_6 : decode cX3_status 6 = .ok (.ifCond .eq 12, 3) := dk_153 0 12 (dk_at dksX3_status_0 6 rfl rfl)
theorem dX3_status_9 : decode cX3_status 9 = .ok (.aload_n 0, 1) := dk_42 (dk_at dksX3_status_0 9 rfl rfl)
theorem dX3_status_10 : decode cX3_status 10 = .ok (.getfield 50, 3) := dk_180 0 50 (dk_at dksX3_status_0 10 rfl rfl)
theorem dX3_status_13 : decode cX3_status 13 = .ok (.iload_n 1, 1) := dk_27 (dk_at dksX3_status_0 13 rfl rfl)
theorem dX3_status_14 : decode cX3_status 14 = .ok (.iaload, 1) := dk_46 (dk_at dksX3_status_0 14 rfl rfl)
theorem dX3_status_15 : decode cX3_status 15 = .ok (.goto 4, 3) := dk_167 0 4 (dk_at dksX3_status_0 15 rfl rfl)
theorem dX3_status_18 : decode cX3_status 18 = .ok (.iconst (-1), 1) := dk_2 (dk_at dksX3_status_0 18 rfl rfl)
theorem dX3_status_19 : decode cX3_status 19 = .ok (.ireturn, 1) := dk_172 (dk_at dksX3_status_0 19 rfl rfl)
theorem q131 : (Jvm.Cond.initialized "LetterPenModel") ∈ lw_all := lw_g (lw_at lw_m1 9 rfl) rfl
theorem q699 : (Jvm.Cond.selects "LetterPenModel" ({ cls := "java/lang/Object", name := "equals", desc := "(Ljava/lang/Object;)Z" } : Jvm.MethodName) ({ cls := "java/lang/Object", name := "equals", desc := "(Ljava/lang/Object;)Z" } : Jvm.MethodName)) ∈ lw_all := lw_g (lw_at lw_m3 97 rfl) rfl
theorem q743 : (Jvm.Cond.selects "LetterPenModel" ({ cls := "java/lang/Object", name := "getClass", desc := "()Ljava/lang/Class;" } : Jvm.MethodName) ({ cls := "java/lang/Object", name := "getClass", desc := "()Ljava/lang/Class;" } : Jvm.MethodName)) ∈ lw_all := lw_g (lw_at lw_m3 141 rfl) rfl
theorem q1349 : (Jvm.Cond.instantiable "LetterPenModel" (41 : Nat)) ∈ lw_all := lw_g (lw_at lw_m6 27 rfl) rfl
theorem q1351 : (Jvm.Cond.instanceMethod ({ cls := "LetterPenModel", name := "<init>", desc := "()V" } : Jvm.MethodName)) ∈ lw_all := lw_g (lw_at lw_m6 29 rfl) rfl
theorem q1352 : (Jvm.Cond.code ({ cls := "LetterPenModel", name := "<init>", desc := "()V" } : Jvm.MethodName) prog_12_method_5_code (1 : Nat) (Option.none : Option Jvm.ClassFile.FieldType)) ∈ lw_all := lw_g (lw_at lw_m6 30 rfl) rfl
theorem q1353 : (Jvm.Cond.methodLink "LetterPenModel" (1 : Nat) ({ cls := "java/lang/Object", name := "<init>", desc := "()V" } : Jvm.MethodName)) ∈ lw_all := lw_g (lw_at lw_m6 31 rfl) rfl
theorem q1354 : (Jvm.Cond.methodLink "LetterPenModel" (134 : Nat) ({ cls := "LetterPenModel", name := "laysPlain", desc := "([I)V" } : Jvm.MethodName)) ∈ lw_all := lw_g (lw_at lw_m6 32 rfl) rfl
theorem q1355 : (Jvm.Cond.static ({ cls := "LetterPenModel", name := "laysPlain", desc := "([I)V" } : Jvm.MethodName)) ∈ lw_all := lw_g (lw_at lw_m6 33 rfl) rfl
theorem q1356 : (Jvm.Cond.code ({ cls := "LetterPenModel", name := "laysPlain", desc := "([I)V" } : Jvm.MethodName) prog_12_method_6_code (2 : Nat) (Option.none : Option Jvm.ClassFile.FieldType)) ∈ lw_all := lw_g (lw_at lw_m6 34 rfl) rfl
theorem q1357 : (Jvm.Cond.fieldLink "LetterPenModel" (7 : Nat) "LetterPenModel" "now" "[I") ∈ lw_all := lw_g (lw_at lw_m6 35 rfl) rfl
theorem q1358 : (Jvm.Cond.fieldLink "LetterPenModel" (13 : Nat) "LetterPenModel" "read" "[I") ∈ lw_all := lw_g (lw_at lw_m6 36 rfl) rfl
theorem q1359 : (Jvm.Cond.fieldLink "LetterPenModel" (16 : Nat) "LetterPenModel" "stash" "[I") ∈ lw_all := lw_g (lw_at lw_m6 37 rfl) rfl
theorem q1360 : (Jvm.Cond.fieldLink "LetterPenModel" (19 : Nat) "LetterPenModel" "kept" "[I") ∈ lw_all := lw_g (lw_at lw_m6 38 rfl) rfl
theorem q1361 : (Jvm.Cond.fieldLink "LetterPenModel" (22 : Nat) "LetterPenModel" "undone" "I") ∈ lw_all := lw_g (lw_at lw_m6 39 rfl) rfl
theorem q1362 : (Jvm.Cond.fieldLink "LetterPenModel" (26 : Nat) "LetterPenModel" "seed" "I") ∈ lw_all := lw_g (lw_at lw_m6 40 rfl) rfl
theorem q1363 : (Jvm.Cond.fieldLink "LetterPenModel" (29 : Nat) "LetterPenModel" "toldMany" "I") ∈ lw_all := lw_g (lw_at lw_m6 41 rfl) rfl
theorem q1364 : (Jvm.Cond.fieldLink "LetterPenModel" (32 : Nat) "LetterPenModel" "toldPoint" "[I") ∈ lw_all := lw_g (lw_at lw_m6 42 rfl) rfl
theorem q1365 : (Jvm.Cond.fieldLink "LetterPenModel" (35 : Nat) "LetterPenModel" "toldCount" "[I") ∈ lw_all := lw_g (lw_at lw_m6 43 rfl) rfl
theorem q1366 : (Jvm.Cond.fieldLink "LetterPenModel" (38 : Nat) "LetterPenModel" "toldStrokes" "[I") ∈ lw_all := lw_g (lw_at lw_m6 44 rfl) rfl
theorem q1367 : (Jvm.Cond.fieldLink "LetterPenModel" (41 : Nat) "LetterPenModel" "toldModel" "[I") ∈ lw_all := lw_g (lw_at lw_m6 45 rfl) rfl
theorem q1368 : (Jvm.Cond.fieldLink "LetterPenModel" (44 : Nat) "LetterPenModel" "tape" "[I") ∈ lw_all := lw_g (lw_at lw_m6 46 rfl) rfl
theorem q1369 : (Jvm.Cond.fieldLink "LetterPenModel" (47 : Nat) "LetterPenModel" "taped" "I") ∈ lw_all := lw_g (lw_at lw_m6 47 rfl) rfl
theorem q1370 : (Jvm.Cond.fieldLink "LetterPenModel" (50 : Nat) "LetterPenModel" "refused" "[I") ∈ lw_all := lw_g (lw_at lw_m6 48 rfl) rfl
theorem q1371 : (Jvm.Cond.fieldLink "LetterPenModel" (53 : Nat) "LetterPenModel" "faultKind" "I") ∈ lw_all := lw_g (lw_at lw_m6 49 rfl) rfl
theorem q1372 : (Jvm.Cond.fieldLink "LetterPenModel" (56 : Nat) "LetterPenModel" "faultPlace" "I") ∈ lw_all := lw_g (lw_at lw_m6 50 rfl) rfl
theorem q1373 : (Jvm.Cond.fieldLink "LetterPenModel" (59 : Nat) "LetterPenModel" "size" "I") ∈ lw_all := lw_g (lw_at lw_m6 51 rfl) rfl
theorem q1374 : (Jvm.Cond.fieldLink "LetterPenModel" (62 : Nat) "LetterPenModel" "at" "I") ∈ lw_all := lw_g (lw_at lw_m6 52 rfl) rfl
theorem q1375 : (Jvm.Cond.fieldLink "LetterPenModel" (65 : Nat) "LetterPenModel" "from" "I") ∈ lw_all := lw_g (lw_at lw_m6 53 rfl) rfl
theorem q1376 : (Jvm.Cond.fieldLink "LetterPenModel" (68 : Nat) "LetterPenModel" "wrong" "I") ∈ lw_all := lw_g (lw_at lw_m6 54 rfl) rfl
theorem q1377 : (Jvm.Cond.fieldLink "LetterPenModel" (71 : Nat) "LetterPenModel" "wrongAt" "I") ∈ lw_all := lw_g (lw_at lw_m6 55 rfl) rfl
theorem q1378 : (Jvm.Cond.fieldLink "LetterPenModel" (74 : Nat) "LetterPenModel" "ownLetters" "[I") ∈ lw_all := lw_g (lw_at lw_m6 56 rfl) rfl
theorem q1379 : (Jvm.Cond.fieldLink "LetterPenModel" (77 : Nat) "LetterPenModel" "codes" "[I") ∈ lw_all := lw_g (lw_at lw_m6 57 rfl) rfl
theorem q1380 : (Jvm.Cond.fieldLink "LetterPenModel" (80 : Nat) "LetterPenModel" "rest" "[I") ∈ lw_all := lw_g (lw_at lw_m6 58 rfl) rfl
theorem q1381 : (Jvm.Cond.fieldLink "LetterPenModel" (83 : Nat) "LetterPenModel" "firstMany" "I") ∈ lw_all := lw_g (lw_at lw_m6 59 rfl) rfl
theorem q1382 : (Jvm.Cond.fieldLink "LetterPenModel" (86 : Nat) "LetterPenModel" "otherMany" "I") ∈ lw_all := lw_g (lw_at lw_m6 60 rfl) rfl
theorem q1383 : (Jvm.Cond.fieldLink "LetterPenModel" (89 : Nat) "LetterPenModel" "forth" "[I") ∈ lw_all := lw_g (lw_at lw_m6 61 rfl) rfl
theorem q1384 : (Jvm.Cond.fieldLink "LetterPenModel" (92 : Nat) "LetterPenModel" "back" "[I") ∈ lw_all := lw_g (lw_at lw_m6 62 rfl) rfl
theorem q1385 : (Jvm.Cond.fieldLink "LetterPenModel" (95 : Nat) "LetterPenModel" "cells" "[I") ∈ lw_all := lw_g (lw_at lw_m6 63 rfl) rfl
theorem q1386 : (Jvm.Cond.fieldLink "LetterPenModel" (98 : Nat) "LetterPenModel" "best" "[I") ∈ lw_all := lw_g (lw_at lw_m6 64 rfl) rfl
theorem q1387 : (Jvm.Cond.fieldLink "LetterPenModel" (101 : Nat) "LetterPenModel" "scores" "[I") ∈ lw_all := lw_g (lw_at lw_m6 65 rfl) rfl
theorem q1388 : (Jvm.Cond.fieldLink "LetterPenModel" (104 : Nat) "LetterPenModel" "groupOf" "[I") ∈ lw_all := lw_g (lw_at lw_m6 66 rfl) rfl
theorem q1389 : (Jvm.Cond.fieldLink "LetterPenModel" (107 : Nat) "LetterPenModel" "readRest" "[I") ∈ lw_all := lw_g (lw_at lw_m6 67 rfl) rfl
theorem q1390 : (Jvm.Cond.fieldLink "LetterPenModel" (110 : Nat) "LetterPenModel" "readMany" "[I") ∈ lw_all := lw_g (lw_at lw_m6 68 rfl) rfl
theorem q1391 : (Jvm.Cond.fieldLink "LetterPenModel" (113 : Nat) "LetterPenModel" "readModel" "[I") ∈ lw_all := lw_g (lw_at lw_m6 69 rfl) rfl
theorem q1392 : (Jvm.Cond.fieldLink "LetterPenModel" (116 : Nat) "LetterPenModel" "readScore" "[I") ∈ lw_all := lw_g (lw_at lw_m6 70 rfl) rfl
theorem q1393 : (Jvm.Cond.fieldLink "LetterPenModel" (119 : Nat) "LetterPenModel" "doesFit" "[I") ∈ lw_all := lw_g (lw_at lw_m6 71 rfl) rfl
theorem q1394 : (Jvm.Cond.fieldLink "LetterPenModel" (122 : Nat) "LetterPenModel" "rightBy" "[I") ∈ lw_all := lw_g (lw_at lw_m6 72 rfl) rfl
theorem q1395 : (Jvm.Cond.fieldLink "LetterPenModel" (125 : Nat) "LetterPenModel" "scoreOfModel" "[I") ∈ lw_all := lw_g (lw_at lw_m6 73 rfl) rfl
theorem q1396 : (Jvm.Cond.fieldLink "LetterPenModel" (128 : Nat) "LetterPenModel" "image" "[I") ∈ lw_all := lw_g (lw_at lw_m6 74 rfl) rfl
theorem q1397 : (Jvm.Cond.fieldLink "LetterPenModel" (131 : Nat) "LetterPenModel" "outs" "I") ∈ lw_all := lw_g (lw_at lw_m6 75 rfl) rfl
theorem q1398 : (Jvm.Cond.laysFinal "LetterPenModel" "LetterPenModel" "now" "[I") ∈ lw_all := lw_g (lw_at lw_m6 76 rfl) rfl
theorem q1399 : (Jvm.Cond.soleField "LetterPenModel" "now") ∈ lw_all := lw_g (lw_at lw_m6 77 rfl) rfl
theorem q1400 : (Jvm.Cond.laysFinal "LetterPenModel" "LetterPenModel" "read" "[I") ∈ lw_all := lw_g (lw_at lw_m6 78 rfl) rfl
theorem q1401 : (Jvm.Cond.soleField "LetterPenModel" "read") ∈ lw_all := lw_g (lw_at lw_m6 79 rfl) rfl
theorem q1402 : (Jvm.Cond.laysFinal "LetterPenModel" "LetterPenModel" "stash" "[I") ∈ lw_all := lw_g (lw_at lw_m6 80 rfl) rfl
theorem q1403 : (Jvm.Cond.soleField "LetterPenModel" "stash") ∈ lw_all := lw_g (lw_at lw_m6 81 rfl) rfl
theorem q1404 : (Jvm.Cond.laysFinal "LetterPenModel" "LetterPenModel" "kept" "[I") ∈ lw_all := lw_g (lw_at lw_m6 82 rfl) rfl
theorem q1405 : (Jvm.Cond.soleField "LetterPenModel" "kept") ∈ lw_all := lw_g (lw_at lw_m6 83 rfl) rfl
theorem q1406 : (Jvm.Cond.lays "LetterPenModel" "LetterPenModel" "undone" "I") ∈ lw_all := lw_g (lw_at lw_m6 84 rfl) rfl
theorem q1407 : (Jvm.Cond.soleField "LetterPenModel" "undone") ∈ lw_all := lw_g (lw_at lw_m6 85 rfl) rfl
theorem q1408 : (Jvm.Cond.lays "LetterPenModel" "LetterPenModel" "seed" "I") ∈ lw_all := lw_g (lw_at lw_m6 86 rfl) rfl
theorem q1409 : (Jvm.Cond.soleField "LetterPenModel" "seed") ∈ lw_all := lw_g (lw_at lw_m6 87 rfl) rfl
theorem q1410 : (Jvm.Cond.lays "LetterPenModel" "LetterPenModel" "toldMany" "I") ∈ lw_all := lw_g (lw_at lw_m6 88 rfl) rfl
theorem q1411 : (Jvm.Cond.soleField "LetterPenModel" "toldMany") ∈ lw_all := lw_g (lw_at lw_m6 89 rfl) rfl
theorem q1412 : (Jvm.Cond.laysFinal "LetterPenModel" "LetterPenModel" "toldPoint" "[I") ∈ lw_all := lw_g (lw_at lw_m6 90 rfl) rfl
theorem q1413 : (Jvm.Cond.soleField "LetterPenModel" "toldPoint") ∈ lw_all := lw_g (lw_at lw_m6 91 rfl) rfl
theorem q1414 : (Jvm.Cond.laysFinal "LetterPenModel" "LetterPenModel" "toldCount" "[I") ∈ lw_all := lw_g (lw_at lw_m6 92 rfl) rfl
theorem q1415 : (Jvm.Cond.soleField "LetterPenModel" "toldCount") ∈ lw_all := lw_g (lw_at lw_m6 93 rfl) rfl
theorem q1416 : (Jvm.Cond.laysFinal "LetterPenModel" "LetterPenModel" "toldStrokes" "[I") ∈ lw_all := lw_g (lw_at lw_m6 94 rfl) rfl
theorem q1417 : (Jvm.Cond.soleField "LetterPenModel" "toldStrokes") ∈ lw_all := lw_g (lw_at lw_m6 95 rfl) rfl
theorem q1418 : (Jvm.Cond.laysFinal "LetterPenModel" "LetterPenModel" "toldModel" "[I") ∈ lw_all := lw_g (lw_at lw_m6 96 rfl) rfl
theorem q1419 : (Jvm.Cond.soleField "LetterPenModel" "toldModel") ∈ lw_all := lw_g (lw_at lw_m6 97 rfl) rfl
theorem q1420 : (Jvm.Cond.laysFinal "LetterPenModel" "LetterPenModel" "tape" "[I") ∈ lw_all := lw_g (lw_at lw_m6 98 rfl) rfl
theorem q1421 : (Jvm.Cond.soleField "LetterPenModel" "tape") ∈ lw_all := lw_g (lw_at lw_m6 99 rfl) rfl
theorem q1422 : (Jvm.Cond.lays "LetterPenModel" "LetterPenModel" "taped" "I") ∈ lw_all := lw_g (lw_at lw_m6 100 rfl) rfl
theorem q1423 : (Jvm.Cond.soleField "LetterPenModel" "taped") ∈ lw_all := lw_g (lw_at lw_m6 101 rfl) rfl
theorem q1424 : (Jvm.Cond.laysFinal "LetterPenModel" "LetterPenModel" "refused" "[I") ∈ lw_all := lw_g (lw_at lw_m6 102 rfl) rfl
theorem q1425 : (Jvm.Cond.soleField "LetterPenModel" "refused") ∈ lw_all := lw_g (lw_at lw_m6 103 rfl) rfl
theorem q1426 : (Jvm.Cond.lays "LetterPenModel" "LetterPenModel" "faultKind" "I") ∈ lw_all := lw_g (lw_at lw_m6 104 rfl) rfl
theorem q1427 : (Jvm.Cond.soleField "LetterPenModel" "faultKind") ∈ lw_all := lw_g (lw_at lw_m6 105 rfl) rfl
theorem q1428 : (Jvm.Cond.lays "LetterPenModel" "LetterPenModel" "faultPlace" "I") ∈ lw_all := lw_g (lw_at lw_m6 106 rfl) rfl
theorem q1429 : (Jvm.Cond.soleField "LetterPenModel" "faultPlace") ∈ lw_all := lw_g (lw_at lw_m6 107 rfl) rfl
theorem q1430 : (Jvm.Cond.lays "LetterPenModel" "LetterPenModel" "size" "I") ∈ lw_all := lw_g (lw_at lw_m6 108 rfl) rfl
theorem q1431 : (Jvm.Cond.soleField "LetterPenModel" "size") ∈ lw_all := lw_g (lw_at lw_m6 109 rfl) rfl
theorem q1432 : (Jvm.Cond.lays "LetterPenModel" "LetterPenModel" "at" "I") ∈ lw_all := lw_g (lw_at lw_m6 110 rfl) rfl
theorem q1433 : (Jvm.Cond.soleField "LetterPenModel" "at") ∈ lw_all := lw_g (lw_at lw_m6 111 rfl) rfl
theorem q1434 : (Jvm.Cond.lays "LetterPenModel" "LetterPenModel" "from" "I") ∈ lw_all := lw_g (lw_at lw_m6 112 rfl) rfl
theorem q1435 : (Jvm.Cond.soleField "LetterPenModel" "from") ∈ lw_all := lw_g (lw_at lw_m6 113 rfl) rfl
theorem q1436 : (Jvm.Cond.lays "LetterPenModel" "LetterPenModel" "wrong" "I") ∈ lw_all := lw_g (lw_at lw_m6 114 rfl) rfl
theorem q1437 : (Jvm.Cond.soleField "LetterPenModel" "wrong") ∈ lw_all := lw_g (lw_at lw_m6 115 rfl) rfl
theorem q1438 : (Jvm.Cond.lays "LetterPenModel" "LetterPenModel" "wrongAt" "I") ∈ lw_all := lw_g (lw_at lw_m6 116 rfl) rfl
theorem q1439 : (Jvm.Cond.soleField "LetterPenModel" "wrongAt") ∈ lw_all := lw_g (lw_at lw_m6 117 rfl) rfl
theorem q1440 : (Jvm.Cond.laysFinal "LetterPenModel" "LetterPenModel" "ownLetters" "[I") ∈ lw_all := lw_g (lw_at lw_m6 118 rfl) rfl
theorem q1441 : (Jvm.Cond.soleField "LetterPenModel" "ownLetters") ∈ lw_all := lw_g (lw_at lw_m6 119 rfl) rfl
theorem q1442 : (Jvm.Cond.laysFinal "LetterPenModel" "LetterPenModel" "codes" "[I") ∈ lw_all := lw_g (lw_at lw_m6 120 rfl) rfl
theorem q1443 : (Jvm.Cond.soleField "LetterPenModel" "codes") ∈ lw_all := lw_g (lw_at lw_m6 121 rfl) rfl
theorem q1444 : (Jvm.Cond.laysFinal "LetterPenModel" "LetterPenModel" "rest" "[I") ∈ lw_all := lw_g (lw_at lw_m6 122 rfl) rfl
theorem q1445 : (Jvm.Cond.soleField "LetterPenModel" "rest") ∈ lw_all := lw_g (lw_at lw_m6 123 rfl) rfl
theorem q1446 : (Jvm.Cond.lays "LetterPenModel" "LetterPenModel" "firstMany" "I") ∈ lw_all := lw_g (lw_at lw_m6 124 rfl) rfl
theorem q1447 : (Jvm.Cond.soleField "LetterPenModel" "firstMany") ∈ lw_all := lw_g (lw_at lw_m6 125 rfl) rfl
theorem q1448 : (Jvm.Cond.lays "LetterPenModel" "LetterPenModel" "otherMany" "I") ∈ lw_all := lw_g (lw_at lw_m6 126 rfl) rfl
theorem q1449 : (Jvm.Cond.soleField "LetterPenModel" "otherMany") ∈ lw_all := lw_g (lw_at lw_m6 127 rfl) rfl
theorem q1450 : (Jvm.Cond.laysFinal "LetterPenModel" "LetterPenModel" "forth" "[I") ∈ lw_all := lw_g (lw_at lw_m6 128 rfl) rfl
theorem q1451 : (Jvm.Cond.soleField "LetterPenModel" "forth") ∈ lw_all := lw_g (lw_at lw_m6 129 rfl) rfl
theorem q1452 : (Jvm.Cond.laysFinal "LetterPenModel" "LetterPenModel" "back" "[I") ∈ lw_all := lw_g (lw_at lw_m6 130 rfl) rfl
theorem q1453 : (Jvm.Cond.soleField "LetterPenModel" "back") ∈ lw_all := lw_g (lw_at lw_m6 131 rfl) rfl
theorem q1454 : (Jvm.Cond.laysFinal "LetterPenModel" "LetterPenModel" "cells" "[I") ∈ lw_all := lw_g (lw_at lw_m6 132 rfl) rfl
theorem q1455 : (Jvm.Cond.soleField "LetterPenModel" "cells") ∈ lw_all := lw_g (lw_at lw_m6 133 rfl) rfl
theorem q1456 : (Jvm.Cond.laysFinal "LetterPenModel" "LetterPenModel" "best" "[I") ∈ lw_all := lw_g (lw_at lw_m6 134 rfl) rfl
theorem q1457 : (Jvm.Cond.soleField "LetterPenModel" "best") ∈ lw_all := lw_g (lw_at lw_m6 135 rfl) rfl
theorem q1458 : (Jvm.Cond.laysFinal "LetterPenModel" "LetterPenModel" "scores" "[I") ∈ lw_all := lw_g (lw_at lw_m6 136 rfl) rfl
theorem q1459 : (Jvm.Cond.soleField "LetterPenModel" "scores") ∈ lw_all := lw_g (lw_at lw_m6 137 rfl) rfl
theorem q1460 : (Jvm.Cond.laysFinal "LetterPenModel" "LetterPenModel" "groupOf" "[I") ∈ lw_all := lw_g (lw_at lw_m6 138 rfl) rfl
theorem q1461 : (Jvm.Cond.soleField "LetterPenModel" "groupOf") ∈ lw_all := lw_g (lw_at lw_m6 139 rfl) rfl
theorem q1462 : (Jvm.Cond.laysFinal "LetterPenModel" "LetterPenModel" "readRest" "[I") ∈ lw_all := lw_g (lw_at lw_m6 140 rfl) rfl
theorem q1463 : (Jvm.Cond.soleField "LetterPenModel" "readRest") ∈ lw_all := lw_g (lw_at lw_m6 141 rfl) rfl
theorem q1464 : (Jvm.Cond.laysFinal "LetterPenModel" "LetterPenModel" "readMany" "[I") ∈ lw_all := lw_g (lw_at lw_m6 142 rfl) rfl
theorem q1465 : (Jvm.Cond.soleField "LetterPenModel" "readMany") ∈ lw_all := lw_g (lw_at lw_m6 143 rfl) rfl
theorem q1466 : (Jvm.Cond.laysFinal "LetterPenModel" "LetterPenModel" "readModel" "[I") ∈ lw_all := lw_g (lw_at lw_m6 144 rfl) rfl
theorem q1467 : (Jvm.Cond.soleField "LetterPenModel" "readModel") ∈ lw_all := lw_g (lw_at lw_m6 145 rfl) rfl
theorem q1468 : (Jvm.Cond.laysFinal "LetterPenModel" "LetterPenModel" "readScore" "[I") ∈ lw_all := lw_g (lw_at lw_m6 146 rfl) rfl
theorem q1469 : (Jvm.Cond.soleField "LetterPenModel" "readScore") ∈ lw_all := lw_g (lw_at lw_m6 147 rfl) rfl
theorem q1470 : (Jvm.Cond.laysFinal "LetterPenModel" "LetterPenModel" "doesFit" "[I") ∈ lw_all := lw_g (lw_at lw_m6 148 rfl) rfl
theorem q1471 : (Jvm.Cond.soleField "LetterPenModel" "doesFit") ∈ lw_all := lw_g (lw_at lw_m6 149 rfl) rfl
theorem q1472 : (Jvm.Cond.laysFinal "LetterPenModel" "LetterPenModel" "rightBy" "[I") ∈ lw_all := lw_g (lw_at lw_m6 150 rfl) rfl
theorem q1473 : (Jvm.Cond.soleField "LetterPenModel" "rightBy") ∈ lw_all := lw_g (lw_at lw_m6 151 rfl) rfl
theorem q1474 : (Jvm.Cond.laysFinal "LetterPenModel" "LetterPenModel" "scoreOfModel" "[I") ∈ lw_all := lw_g (lw_at lw_m6 152 rfl) rfl
theorem q1475 : (Jvm.Cond.soleField "LetterPenModel" "scoreOfModel") ∈ lw_all := lw_g (lw_at lw_m6 153 rfl) rfl
theorem q1476 : (Jvm.Cond.laysFinal "LetterPenModel" "LetterPenModel" "image" "[I") ∈ lw_all := lw_g (lw_at lw_m6 154 rfl) rfl
theorem q1477 : (Jvm.Cond.soleField "LetterPenModel" "image") ∈ lw_all := lw_g (lw_at lw_m6 155 rfl) rfl
theorem q1478 : (Jvm.Cond.lays "LetterPenModel" "LetterPenModel" "outs" "I") ∈ lw_all := lw_g (lw_at lw_m6 156 rfl) rfl
theorem q1479 : (Jvm.Cond.soleField "LetterPenModel" "outs") ∈ lw_all := lw_g (lw_at lw_m6 157 rfl) rfl
theorem q1480 : (Jvm.Cond.superclass "LetterPenModel" "java/lang/Object") ∈ lw_all := lw_g (lw_at lw_m6 158 rfl) rfl
theorem q1482 : (Jvm.Cond.instanceMethod ({ cls := "LetterPenModel", name := "feed", desc := "(IIIII)I" } : Jvm.MethodName)) ∈ lw_all := lw_g (lw_at lw_m6 160 rfl) rfl
theorem q1483 : (Jvm.Cond.selects "LetterPenModel" ({ cls := "LetterPenModel", name := "feed", desc := "(IIIII)I" } : Jvm.MethodName) ({ cls := "LetterPenModel", name := "feed", desc := "(IIIII)I" } : Jvm.MethodName)) ∈ lw_all := lw_g (lw_at lw_m6 161 rfl) rfl
theorem q1484 : (Jvm.Cond.code ({ cls := "LetterPenModel", name := "feed", desc := "(IIIII)I" } : Jvm.MethodName) prog_12_method_10_code (6 : Nat) (Option.some Jvm.ClassFile.FieldType.int)) ∈ lw_all := lw_g (lw_at lw_m6 162 rfl) rfl
theorem q1485 : (Jvm.Cond.methodLink "LetterPenModel" (138 : Nat) ({ cls := "LetterPenModel", name := "refuses", desc := "(I)I" } : Jvm.MethodName)) ∈ lw_all := lw_g (lw_at lw_m6 163 rfl) rfl
theorem q1486 : (Jvm.Cond.privateMethod ({ cls := "LetterPenModel", name := "refuses", desc := "(I)I" } : Jvm.MethodName)) ∈ lw_tbl := lw_at lw_m6 164 rfl
theorem q1487 : (Jvm.Cond.instanceMethod ({ cls := "LetterPenModel", name := "refuses", desc := "(I)I" } : Jvm.MethodName)) ∈ lw_all := lw_g (lw_at lw_m6 165 rfl) rfl
theorem q1488 : (Jvm.Cond.code ({ cls := "LetterPenModel", name := "refuses", desc := "(I)I" } : Jvm.MethodName) prog_12_method_7_code (2 : Nat) (Option.some Jvm.ClassFile.FieldType.int)) ∈ lw_all := lw_g (lw_at lw_m6 166 rfl) rfl
theorem q1489 : (Jvm.Cond.methodLink "LetterPenModel" (142 : Nat) ({ cls := "LetterPenModel", name := "lays", desc := "(I)V" } : Jvm.MethodName)) ∈ lw_all := lw_g (lw_at lw_m6 167 rfl) rfl
theorem q1490 : (Jvm.Cond.privateMethod ({ cls := "LetterPenModel", name := "lays", desc := "(I)V" } : Jvm.MethodName)) ∈ lw_tbl := lw_at lw_m6 168 rfl
theorem q1491 : (Jvm.Cond.instanceMethod ({ cls := "LetterPenModel", name := "lays", desc := "(I)V" } : Jvm.MethodName)) ∈ lw_all := lw_g (lw_at lw_m6 169 rfl) rfl
theorem q1492 : (Jvm.Cond.code ({ cls := "LetterPenModel", name := "lays", desc := "(I)V" } : Jvm.MethodName) prog_12_method_9_code (3 : Nat) (Option.none : Option Jvm.ClassFile.FieldType)) ∈ lw_all := lw_g (lw_at lw_m6 170 rfl) rfl
theorem q1494 : (Jvm.Cond.instanceMethod ({ cls := "LetterPenModel", name := "end", desc := "(I)Z" } : Jvm.MethodName)) ∈ lw_all := lw_g (lw_at lw_m6 172 rfl) rfl
theorem q1495 : (Jvm.Cond.selects "LetterPenModel" ({ cls := "LetterPenModel", name := "end", desc := "(I)Z" } : Jvm.MethodName) ({ cls := "LetterPenModel", name := "end", desc := "(I)Z" } : Jvm.MethodName)) ∈ lw_all := lw_g (lw_at lw_m6 173 rfl) rfl
theorem q1496 : (Jvm.Cond.code ({ cls := "LetterPenModel", name := "end", desc := "(I)Z" } : Jvm.MethodName) prog_12_method_11_code (2 : Nat) (Option.some Jvm.ClassFile.FieldType.boolean)) ∈ lw_all := lw_g (lw_at lw_m6 174 rfl) rfl
theorem q1497 : (Jvm.Cond.methodLink "LetterPenModel" (146 : Nat) ({ cls := "LetterPenModel", name := "isRefused", desc := "(I)Z" } : Jvm.MethodName)) ∈ lw_all := lw_g (lw_at lw_m6 175 rfl) rfl
theorem q1498 : (Jvm.Cond.privateMethod ({ cls := "LetterPenModel", name := "isRefused", desc := "(I)Z" } : Jvm.MethodName)) ∈ lw_tbl := lw_at lw_m6 176 rfl
theorem q1499 : (Jvm.Cond.instanceMethod ({ cls := "LetterPenModel", name := "isRefused", desc := "(I)Z" } : Jvm.MethodName)) ∈ lw_all := lw_g (lw_at lw_m6 177 rfl) rfl
theorem q1500 : (Jvm.Cond.code ({ cls := "LetterPenModel", name := "isRefused", desc := "(I)Z" } : Jvm.MethodName) prog_12_method_8_code (2 : Nat) (Option.some Jvm.ClassFile.FieldType.boolean)) ∈ lw_all := lw_g (lw_at lw_m6 178 rfl) rfl
theorem q1502 : (Jvm.Cond.instanceMethod ({ cls := "LetterPenModel", name := "pen", desc := "()I" } : Jvm.MethodName)) ∈ lw_all := lw_g (lw_at lw_m6 180 rfl) rfl
theorem q1503 : (Jvm.Cond.selects "LetterPenModel" ({ cls := "LetterPenModel", name := "pen", desc := "()I" } : Jvm.MethodName) ({ cls := "LetterPenModel", name := "pen", desc := "()I" } : Jvm.MethodName)) ∈ lw_all := lw_g (lw_at lw_m6 181 rfl) rfl
theorem q1504 : (Jvm.Cond.code ({ cls := "LetterPenModel", name := "pen", desc := "()I" } : Jvm.MethodName) prog_12_method_31_code (3 : Nat) (Option.some Jvm.ClassFile.FieldType.int)) ∈ lw_all := lw_g (lw_at lw_m6 182 rfl) rfl
theorem q1505 : (Jvm.Cond.methodLink "LetterPenModel" (209 : Nat) ({ cls := "LetterPenModel", name := "taken", desc := "()I" } : Jvm.MethodName)) ∈ lw_all := lw_g (lw_at lw_m6 183 rfl) rfl
theorem q1506 : (Jvm.Cond.privateMethod ({ cls := "LetterPenModel", name := "taken", desc := "()I" } : Jvm.MethodName)) ∈ lw_tbl := lw_at lw_m6 184 rfl
theorem q1507 : (Jvm.Cond.instanceMethod ({ cls := "LetterPenModel", name := "taken", desc := "()I" } : Jvm.MethodName)) ∈ lw_all := lw_g (lw_at lw_m6 185 rfl) rfl
theorem q1508 : (Jvm.Cond.code ({ cls := "LetterPenModel", name := "taken", desc := "()I" } : Jvm.MethodName) prog_12_method_12_code (2 : Nat) (Option.some Jvm.ClassFile.FieldType.int)) ∈ lw_all := lw_g (lw_at lw_m6 186 rfl) rfl
theorem q1509 : (Jvm.Cond.methodLink "LetterPenModel" (212 : Nat) ({ cls := "LetterPenModel", name := "readsAll", desc := "()I" } : Jvm.MethodName)) ∈ lw_all := lw_g (lw_at lw_m6 187 rfl) rfl
theorem q1510 : (Jvm.Cond.privateMethod ({ cls := "LetterPenModel", name := "readsAll", desc := "()I" } : Jvm.MethodName)) ∈ lw_tbl := lw_at lw_m6 188 rfl
theorem q1511 : (Jvm.Cond.instanceMethod ({ cls := "LetterPenModel", name := "readsAll", desc := "()I" } : Jvm.MethodName)) ∈ lw_all := lw_g (lw_at lw_m6 189 rfl) rfl
theorem q1512 : (Jvm.Cond.code ({ cls := "LetterPenModel", name := "readsAll", desc := "()I" } : Jvm.MethodName) prog_12_method_30_code (5 : Nat) (Option.some Jvm.ClassFile.FieldType.int)) ∈ lw_all := lw_g (lw_at lw_m6 190 rfl) rfl
theorem q1513 : (Jvm.Cond.methodLink "LetterPenModel" (153 : Nat) ({ cls := "LetterPenModel", name := "goesWell", desc := "()Z" } : Jvm.MethodName)) ∈ lw_all := lw_g (lw_at lw_m6 191 rfl) rfl
theorem q1514 : (Jvm.Cond.privateMethod ({ cls := "LetterPenModel", name := "goesWell", desc := "()Z" } : Jvm.MethodName)) ∈ lw_tbl := lw_at lw_m6 192 rfl
theorem q1515 : (Jvm.Cond.instanceMethod ({ cls := "LetterPenModel", name := "goesWell", desc := "()Z" } : Jvm.MethodName)) ∈ lw_all := lw_g (lw_at lw_m6 193 rfl) rfl
theorem q1516 : (Jvm.Cond.code ({ cls := "LetterPenModel", name := "goesWell", desc := "()Z" } : Jvm.MethodName) prog_12_method_18_code (1 : Nat) (Option.some Jvm.ClassFile.FieldType.boolean)) ∈ lw_all := lw_g (lw_at lw_m6 194 rfl) rfl
theorem q1517 : (Jvm.Cond.methodLink "LetterPenModel" (157 : Nat) ({ cls := "LetterPenModel", name := "here", desc := "()I" } : Jvm.MethodName)) ∈ lw_all := lw_g (lw_at lw_m6 195 rfl) rfl
theorem q1518 : (Jvm.Cond.privateMethod ({ cls := "LetterPenModel", name := "here", desc := "()I" } : Jvm.MethodName)) ∈ lw_tbl := lw_at lw_m6 196 rfl
theorem q1519 : (Jvm.Cond.instanceMethod ({ cls := "LetterPenModel", name := "here", desc := "()I" } : Jvm.MethodName)) ∈ lw_all := lw_g (lw_at lw_m6 197 rfl) rfl
theorem q1520 : (Jvm.Cond.code ({ cls := "LetterPenModel", name := "here", desc := "()I" } : Jvm.MethodName) prog_12_method_16_code (1 : Nat) (Option.some Jvm.ClassFile.FieldType.int)) ∈ lw_all := lw_g (lw_at lw_m6 198 rfl) rfl
theorem q1521 : (Jvm.Cond.methodLink "LetterPenModel" (150 : Nat) ({ cls := "LetterPenModel", name := "byteAt", desc := "(I)I" } : Jvm.MethodName)) ∈ lw_all := lw_g (lw_at lw_m6 199 rfl) rfl
theorem q1522 : (Jvm.Cond.privateMethod ({ cls := "LetterPenModel", name := "byteAt", desc := "(I)I" } : Jvm.MethodName)) ∈ lw_tbl := lw_at lw_m6 200 rfl
theorem q1523 : (Jvm.Cond.instanceMethod ({ cls := "LetterPenModel", name := "byteAt", desc := "(I)I" } : Jvm.MethodName)) ∈ lw_all := lw_g (lw_at lw_m6 201 rfl) rfl
theorem q1524 : (Jvm.Cond.code ({ cls := "LetterPenModel", name := "byteAt", desc := "(I)I" } : Jvm.MethodName) prog_12_method_13_code (2 : Nat) (Option.some Jvm.ClassFile.FieldType.int)) ∈ lw_all := lw_g (lw_at lw_m6 202 rfl) rfl
theorem q1525 : (Jvm.Cond.methodLink "LetterPenModel" (167 : Nat) ({ cls := "LetterPenModel", name := "faults", desc := "(II)V" } : Jvm.MethodName)) ∈ lw_all := lw_g (lw_at lw_m6 203 rfl) rfl
theorem q1526 : (Jvm.Cond.privateMethod ({ cls := "LetterPenModel", name := "faults", desc := "(II)V" } : Jvm.MethodName)) ∈ lw_tbl := lw_at lw_m6 204 rfl
theorem q1527 : (Jvm.Cond.instanceMethod ({ cls := "LetterPenModel", name := "faults", desc := "(II)V" } : Jvm.MethodName)) ∈ lw_all := lw_g (lw_at lw_m6 205 rfl) rfl
theorem q1528 : (Jvm.Cond.code ({ cls := "LetterPenModel", name := "faults", desc := "(II)V" } : Jvm.MethodName) prog_12_method_17_code (3 : Nat) (Option.none : Option Jvm.ClassFile.FieldType)) ∈ lw_all := lw_g (lw_at lw_m6 206 rfl) rfl
theorem q1529 : (Jvm.Cond.methodLink "LetterPenModel" (175 : Nat) ({ cls := "LetterPenModel", name := "word", desc := "()V" } : Jvm.MethodName)) ∈ lw_all := lw_g (lw_at lw_m6 207 rfl) rfl
theorem q1530 : (Jvm.Cond.privateMethod ({ cls := "LetterPenModel", name := "word", desc := "()V" } : Jvm.MethodName)) ∈ lw_tbl := lw_at lw_m6 208 rfl
theorem q1531 : (Jvm.Cond.instanceMethod ({ cls := "LetterPenModel", name := "word", desc := "()V" } : Jvm.MethodName)) ∈ lw_all := lw_g (lw_at lw_m6 209 rfl) rfl
theorem q1532 : (Jvm.Cond.code ({ cls := "LetterPenModel", name := "word", desc := "()V" } : Jvm.MethodName) prog_12_method_19_code (1 : Nat) (Option.none : Option Jvm.ClassFile.FieldType)) ∈ lw_all := lw_g (lw_at lw_m6 210 rfl) rfl
theorem q1533 : (Jvm.Cond.methodLink "LetterPenModel" (161 : Nat) ({ cls := "LetterPenModel", name := "isSmall", desc := "(I)Z" } : Jvm.MethodName)) ∈ lw_all := lw_g (lw_at lw_m6 211 rfl) rfl
theorem q1534 : (Jvm.Cond.privateMethod ({ cls := "LetterPenModel", name := "isSmall", desc := "(I)Z" } : Jvm.MethodName)) ∈ lw_tbl := lw_at lw_m6 212 rfl
theorem q1535 : (Jvm.Cond.instanceMethod ({ cls := "LetterPenModel", name := "isSmall", desc := "(I)Z" } : Jvm.MethodName)) ∈ lw_all := lw_g (lw_at lw_m6 213 rfl) rfl
theorem q1536 : (Jvm.Cond.code ({ cls := "LetterPenModel", name := "isSmall", desc := "(I)Z" } : Jvm.MethodName) prog_12_method_14_code (2 : Nat) (Option.some Jvm.ClassFile.FieldType.boolean)) ∈ lw_all := lw_g (lw_at lw_m6 214 rfl) rfl
theorem q1537 : (Jvm.Cond.methodLink "LetterPenModel" (164 : Nat) ({ cls := "LetterPenModel", name := "isDigit", desc := "(I)Z" } : Jvm.MethodName)) ∈ lw_all := lw_g (lw_at lw_m6 215 rfl) rfl
theorem q1538 : (Jvm.Cond.privateMethod ({ cls := "LetterPenModel", name := "isDigit", desc := "(I)Z" } : Jvm.MethodName)) ∈ lw_tbl := lw_at lw_m6 216 rfl
theorem q1539 : (Jvm.Cond.instanceMethod ({ cls := "LetterPenModel", name := "isDigit", desc := "(I)Z" } : Jvm.MethodName)) ∈ lw_all := lw_g (lw_at lw_m6 217 rfl) rfl
theorem q1540 : (Jvm.Cond.code ({ cls := "LetterPenModel", name := "isDigit", desc := "(I)Z" } : Jvm.MethodName) prog_12_method_15_code (2 : Nat) (Option.some Jvm.ClassFile.FieldType.boolean)) ∈ lw_all := lw_g (lw_at lw_m6 218 rfl) rfl
theorem q1541 : (Jvm.Cond.methodLink "LetterPenModel" (178 : Nat) ({ cls := "LetterPenModel", name := "own", desc := "()I" } : Jvm.MethodName)) ∈ lw_all := lw_g (lw_at lw_m6 219 rfl) rfl
theorem q1542 : (Jvm.Cond.privateMethod ({ cls := "LetterPenModel", name := "own", desc := "()I" } : Jvm.MethodName)) ∈ lw_tbl := lw_at lw_m6 220 rfl
theorem q1543 : (Jvm.Cond.instanceMethod ({ cls := "LetterPenModel", name := "own", desc := "()I" } : Jvm.MethodName)) ∈ lw_all := lw_g (lw_at lw_m6 221 rfl) rfl
theorem q1544 : (Jvm.Cond.code ({ cls := "LetterPenModel", name := "own", desc := "()I" } : Jvm.MethodName) prog_12_method_20_code (4 : Nat) (Option.some Jvm.ClassFile.FieldType.int)) ∈ lw_all := lw_g (lw_at lw_m6 222 rfl) rfl
theorem q1545 : (Jvm.Cond.methodLink "LetterPenModel" (197 : Nat) ({ cls := "LetterPenModel", name := "readsSet", desc := "()V" } : Jvm.MethodName)) ∈ lw_all := lw_g (lw_at lw_m6 223 rfl) rfl
theorem q1546 : (Jvm.Cond.privateMethod ({ cls := "LetterPenModel", name := "readsSet", desc := "()V" } : Jvm.MethodName)) ∈ lw_tbl := lw_at lw_m6 224 rfl
theorem q1547 : (Jvm.Cond.instanceMethod ({ cls := "LetterPenModel", name := "readsSet", desc := "()V" } : Jvm.MethodName)) ∈ lw_all := lw_g (lw_at lw_m6 225 rfl) rfl
theorem q1548 : (Jvm.Cond.code ({ cls := "LetterPenModel", name := "readsSet", desc := "()V" } : Jvm.MethodName) prog_12_method_26_code (3 : Nat) (Option.none : Option Jvm.ClassFile.FieldType)) ∈ lw_all := lw_g (lw_at lw_m6 226 rfl) rfl
theorem q1549 : (Jvm.Cond.methodLink "LetterPenModel" (171 : Nat) ({ cls := "LetterPenModel", name := "isIn", desc := "(III)Z" } : Jvm.MethodName)) ∈ lw_all := lw_g (lw_at lw_m6 227 rfl) rfl
theorem q1550 : (Jvm.Cond.static ({ cls := "LetterPenModel", name := "isIn", desc := "(III)Z" } : Jvm.MethodName)) ∈ lw_all := lw_g (lw_at lw_m6 228 rfl) rfl
theorem q1551 : (Jvm.Cond.code ({ cls := "LetterPenModel", name := "isIn", desc := "(III)Z" } : Jvm.MethodName) prog_12_method_1_code (3 : Nat) (Option.some Jvm.ClassFile.FieldType.boolean)) ∈ lw_all := lw_g (lw_at lw_m6 229 rfl) rfl
theorem q1552 : (Jvm.Cond.methodLink "LetterPenModel" (181 : Nat) ({ cls := "LetterPenModel", name := "lowOf", desc := "(I)I" } : Jvm.MethodName)) ∈ lw_all := lw_g (lw_at lw_m6 230 rfl) rfl
theorem q1553 : (Jvm.Cond.static ({ cls := "LetterPenModel", name := "lowOf", desc := "(I)I" } : Jvm.MethodName)) ∈ lw_all := lw_g (lw_at lw_m6 231 rfl) rfl
theorem q1554 : (Jvm.Cond.code ({ cls := "LetterPenModel", name := "lowOf", desc := "(I)I" } : Jvm.MethodName) prog_12_method_24_code (1 : Nat) (Option.some Jvm.ClassFile.FieldType.int)) ∈ lw_all := lw_g (lw_at lw_m6 232 rfl) rfl
theorem q1555 : (Jvm.Cond.methodLink "LetterPenModel" (184 : Nat) ({ cls := "LetterPenModel", name := "highOf", desc := "(I)I" } : Jvm.MethodName)) ∈ lw_all := lw_g (lw_at lw_m6 233 rfl) rfl
theorem q1556 : (Jvm.Cond.static ({ cls := "LetterPenModel", name := "highOf", desc := "(I)I" } : Jvm.MethodName)) ∈ lw_all := lw_g (lw_at lw_m6 234 rfl) rfl
theorem q1557 : (Jvm.Cond.code ({ cls := "LetterPenModel", name := "highOf", desc := "(I)I" } : Jvm.MethodName) prog_12_method_25_code (1 : Nat) (Option.some Jvm.ClassFile.FieldType.int)) ∈ lw_all := lw_g (lw_at lw_m6 235 rfl) rfl
theorem q1558 : (Jvm.Cond.methodLink "LetterPenModel" (187 : Nat) ({ cls := "LetterPenModel", name := "number", desc := "(II)I" } : Jvm.MethodName)) ∈ lw_all := lw_g (lw_at lw_m6 236 rfl) rfl
theorem q1559 : (Jvm.Cond.privateMethod ({ cls := "LetterPenModel", name := "number", desc := "(II)I" } : Jvm.MethodName)) ∈ lw_tbl := lw_at lw_m6 237 rfl
theorem q1560 : (Jvm.Cond.instanceMethod ({ cls := "LetterPenModel", name := "number", desc := "(II)I" } : Jvm.MethodName)) ∈ lw_all := lw_g (lw_at lw_m6 238 rfl) rfl
theorem q1561 : (Jvm.Cond.code ({ cls := "LetterPenModel", name := "number", desc := "(II)I" } : Jvm.MethodName) prog_12_method_22_code (4 : Nat) (Option.some Jvm.ClassFile.FieldType.int)) ∈ lw_all := lw_g (lw_at lw_m6 239 rfl) rfl
theorem q1562 : (Jvm.Cond.methodLink "LetterPenModel" (200 : Nat) ({ cls := "LetterPenModel", name := "readsLetter", desc := "()V" } : Jvm.MethodName)) ∈ lw_all := lw_g (lw_at lw_m7 0 rfl) rfl
theorem q1563 : (Jvm.Cond.privateMethod ({ cls := "LetterPenModel", name := "readsLetter", desc := "()V" } : Jvm.MethodName)) ∈ lw_tbl := lw_at lw_m7 1 rfl
theorem q1564 : (Jvm.Cond.instanceMethod ({ cls := "LetterPenModel", name := "readsLetter", desc := "()V" } : Jvm.MethodName)) ∈ lw_all := lw_g (lw_at lw_m7 2 rfl) rfl
theorem q1565 : (Jvm.Cond.code ({ cls := "LetterPenModel", name := "readsLetter", desc := "()V" } : Jvm.MethodName) prog_12_method_28_code (3 : Nat) (Option.none : Option Jvm.ClassFile.FieldType)) ∈ lw_all := lw_g (lw_at lw_m7 3 rfl) rfl
theorem q1566 : (Jvm.Cond.methodLink "LetterPenModel" (194 : Nat) ({ cls := "LetterPenModel", name := "readsName", desc := "()V" } : Jvm.MethodName)) ∈ lw_all := lw_g (lw_at lw_m7 4 rfl) rfl
theorem q1567 : (Jvm.Cond.privateMethod ({ cls := "LetterPenModel", name := "readsName", desc := "()V" } : Jvm.MethodName)) ∈ lw_tbl := lw_at lw_m7 5 rfl
theorem q1568 : (Jvm.Cond.instanceMethod ({ cls := "LetterPenModel", name := "readsName", desc := "()V" } : Jvm.MethodName)) ∈ lw_all := lw_g (lw_at lw_m7 6 rfl) rfl
theorem q1569 : (Jvm.Cond.code ({ cls := "LetterPenModel", name := "readsName", desc := "()V" } : Jvm.MethodName) prog_12_method_27_code (4 : Nat) (Option.none : Option Jvm.ClassFile.FieldType)) ∈ lw_all := lw_g (lw_at lw_m7 7 rfl) rfl
theorem q1570 : (Jvm.Cond.methodLink "LetterPenModel" (191 : Nat) ({ cls := "LetterPenModel", name := "signAt", desc := "(I)I" } : Jvm.MethodName)) ∈ lw_all := lw_g (lw_at lw_m7 8 rfl) rfl
theorem q1571 : (Jvm.Cond.privateMethod ({ cls := "LetterPenModel", name := "signAt", desc := "(I)I" } : Jvm.MethodName)) ∈ lw_tbl := lw_at lw_m7 9 rfl
theorem q1572 : (Jvm.Cond.instanceMethod ({ cls := "LetterPenModel", name := "signAt", desc := "(I)I" } : Jvm.MethodName)) ∈ lw_all := lw_g (lw_at lw_m7 10 rfl) rfl
theorem q1573 : (Jvm.Cond.code ({ cls := "LetterPenModel", name := "signAt", desc := "(I)I" } : Jvm.MethodName) prog_12_method_23_code (2 : Nat) (Option.some Jvm.ClassFile.FieldType.int)) ∈ lw_all := lw_g (lw_at lw_m7 11 rfl) rfl
theorem q1574 : (Jvm.Cond.methodLink "LetterPenModel" (203 : Nat) ({ cls := "LetterPenModel", name := "readsStroke", desc := "(I)V" } : Jvm.MethodName)) ∈ lw_all := lw_g (lw_at lw_m7 12 rfl) rfl
theorem q1575 : (Jvm.Cond.privateMethod ({ cls := "LetterPenModel", name := "readsStroke", desc := "(I)V" } : Jvm.MethodName)) ∈ lw_tbl := lw_at lw_m7 13 rfl
theorem q1576 : (Jvm.Cond.instanceMethod ({ cls := "LetterPenModel", name := "readsStroke", desc := "(I)V" } : Jvm.MethodName)) ∈ lw_all := lw_g (lw_at lw_m7 14 rfl) rfl
theorem q1577 : (Jvm.Cond.code ({ cls := "LetterPenModel", name := "readsStroke", desc := "(I)V" } : Jvm.MethodName) prog_12_method_29_code (6 : Nat) (Option.none : Option Jvm.ClassFile.FieldType)) ∈ lw_all := lw_g (lw_at lw_m7 15 rfl) rfl
theorem q1578 : (Jvm.Cond.methodLink "LetterPenModel" (206 : Nat) ({ cls := "LetterPenModel", name := "endsWell", desc := "()V" } : Jvm.MethodName)) ∈ lw_all := lw_g (lw_at lw_m7 16 rfl) rfl
theorem q1579 : (Jvm.Cond.privateMethod ({ cls := "LetterPenModel", name := "endsWell", desc := "()V" } : Jvm.MethodName)) ∈ lw_tbl := lw_at lw_m7 17 rfl
theorem q1580 : (Jvm.Cond.instanceMethod ({ cls := "LetterPenModel", name := "endsWell", desc := "()V" } : Jvm.MethodName)) ∈ lw_all := lw_g (lw_at lw_m7 18 rfl) rfl
theorem q1581 : (Jvm.Cond.code ({ cls := "LetterPenModel", name := "endsWell", desc := "()V" } : Jvm.MethodName) prog_12_method_21_code (1 : Nat) (Option.none : Option Jvm.ClassFile.FieldType)) ∈ lw_all := lw_g (lw_at lw_m7 19 rfl) rfl
theorem q1583 : (Jvm.Cond.instanceMethod ({ cls := "LetterPenModel", name := "fault", desc := "(I)I" } : Jvm.MethodName)) ∈ lw_all := lw_g (lw_at lw_m7 21 rfl) rfl
theorem q1584 : (Jvm.Cond.selects "LetterPenModel" ({ cls := "LetterPenModel", name := "fault", desc := "(I)I" } : Jvm.MethodName) ({ cls := "LetterPenModel", name := "fault", desc := "(I)I" } : Jvm.MethodName)) ∈ lw_all := lw_g (lw_at lw_m7 22 rfl) rfl
theorem q1585 : (Jvm.Cond.code ({ cls := "LetterPenModel", name := "fault", desc := "(I)I" } : Jvm.MethodName) prog_12_method_32_code (2 : Nat) (Option.some Jvm.ClassFile.FieldType.int)) ∈ lw_all := lw_g (lw_at lw_m7 23 rfl) rfl
theorem q1587 : (Jvm.Cond.instanceMethod ({ cls := "LetterPenModel", name := "has", desc := "(I)I" } : Jvm.MethodName)) ∈ lw_all := lw_g (lw_at lw_m7 25 rfl) rfl
theorem q1588 : (Jvm.Cond.selects "LetterPenModel" ({ cls := "LetterPenModel", name := "has", desc := "(I)I" } : Jvm.MethodName) ({ cls := "LetterPenModel", name := "has", desc := "(I)I" } : Jvm.MethodName)) ∈ lw_all := lw_g (lw_at lw_m7 26 rfl) rfl
theorem q1589 : (Jvm.Cond.code ({ cls := "LetterPenModel", name := "has", desc := "(I)I" } : Jvm.MethodName) prog_12_method_33_code (2 : Nat) (Option.some Jvm.ClassFile.FieldType.int)) ∈ lw_all := lw_g (lw_at lw_m7 27 rfl) rfl
theorem q1591 : (Jvm.Cond.instanceMethod ({ cls := "LetterPenModel", name := "named", desc := "(II)I" } : Jvm.MethodName)) ∈ lw_all := lw_g (lw_at lw_m7 29 rfl) rfl
theorem q1592 : (Jvm.Cond.selects "LetterPenModel" ({ cls := "LetterPenModel", name := "named", desc := "(II)I" } : Jvm.MethodName) ({ cls := "LetterPenModel", name := "named", desc := "(II)I" } : Jvm.MethodName)) ∈ lw_all := lw_g (lw_at lw_m7 30 rfl) rfl
theorem q1593 : (Jvm.Cond.code ({ cls := "LetterPenModel", name := "named", desc := "(II)I" } : Jvm.MethodName) prog_12_method_35_code (3 : Nat) (Option.some Jvm.ClassFile.FieldType.int)) ∈ lw_all := lw_g (lw_at lw_m7 31 rfl) rfl
theorem q1594 : (Jvm.Cond.methodLink "LetterPenModel" (215 : Nat) ({ cls := "LetterPenModel", name := "isModel", desc := "(I)Z" } : Jvm.MethodName)) ∈ lw_all := lw_g (lw_at lw_m7 32 rfl) rfl
theorem q1595 : (Jvm.Cond.privateMethod ({ cls := "LetterPenModel", name := "isModel", desc := "(I)Z" } : Jvm.MethodName)) ∈ lw_tbl := lw_at lw_m7 33 rfl
theorem q1596 : (Jvm.Cond.instanceMethod ({ cls := "LetterPenModel", name := "isModel", desc := "(I)Z" } : Jvm.MethodName)) ∈ lw_all := lw_g (lw_at lw_m7 34 rfl) rfl
theorem q1597 : (Jvm.Cond.code ({ cls := "LetterPenModel", name := "isModel", desc := "(I)Z" } : Jvm.MethodName) prog_12_method_34_code (2 : Nat) (Option.some Jvm.ClassFile.FieldType.boolean)) ∈ lw_all := lw_g (lw_at lw_m7 35 rfl) rfl
theorem q1599 : (Jvm.Cond.instanceMethod ({ cls := "LetterPenModel", name := "strokes", desc := "(I)I" } : Jvm.MethodName)) ∈ lw_all := lw_g (lw_at lw_m7 37 rfl) rfl
theorem q1600 : (Jvm.Cond.selects "LetterPenModel" ({ cls := "LetterPenModel", name := "strokes", desc := "(I)I" } : Jvm.MethodName) ({ cls := "LetterPenModel", name := "strokes", desc := "(I)I" } : Jvm.MethodName)) ∈ lw_all := lw_g (lw_at lw_m7 38 rfl) rfl
theorem q1601 : (Jvm.Cond.code ({ cls := "LetterPenModel", name := "strokes", desc := "(I)I" } : Jvm.MethodName) prog_12_method_39_code (2 : Nat) (Option.some Jvm.ClassFile.FieldType.int)) ∈ lw_all := lw_g (lw_at lw_m7 39 rfl) rfl
theorem q1602 : (Jvm.Cond.methodLink "LetterPenModel" (218 : Nat) ({ cls := "LetterPenModel", name := "isLetter", desc := "(I)Z" } : Jvm.MethodName)) ∈ lw_all := lw_g (lw_at lw_m7 40 rfl) rfl
theorem q1603 : (Jvm.Cond.privateMethod ({ cls := "LetterPenModel", name := "isLetter", desc := "(I)Z" } : Jvm.MethodName)) ∈ lw_tbl := lw_at lw_m7 41 rfl
theorem q1604 : (Jvm.Cond.instanceMethod ({ cls := "LetterPenModel", name := "isLetter", desc := "(I)Z" } : Jvm.MethodName)) ∈ lw_all := lw_g (lw_at lw_m7 42 rfl) rfl
theorem q1605 : (Jvm.Cond.code ({ cls := "LetterPenModel", name := "isLetter", desc := "(I)Z" } : Jvm.MethodName) prog_12_method_36_code (2 : Nat) (Option.some Jvm.ClassFile.FieldType.boolean)) ∈ lw_all := lw_g (lw_at lw_m7 43 rfl) rfl
theorem q1606 : (Jvm.Cond.methodLink "LetterPenModel" (221 : Nat) ({ cls := "LetterPenModel", name := "manyOf", desc := "(I)I" } : Jvm.MethodName)) ∈ lw_all := lw_g (lw_at lw_m7 44 rfl) rfl
theorem q1607 : (Jvm.Cond.privateMethod ({ cls := "LetterPenModel", name := "manyOf", desc := "(I)I" } : Jvm.MethodName)) ∈ lw_tbl := lw_at lw_m7 45 rfl
theorem q1608 : (Jvm.Cond.instanceMethod ({ cls := "LetterPenModel", name := "manyOf", desc := "(I)I" } : Jvm.MethodName)) ∈ lw_all := lw_g (lw_at lw_m7 46 rfl) rfl
theorem q1609 : (Jvm.Cond.code ({ cls := "LetterPenModel", name := "manyOf", desc := "(I)I" } : Jvm.MethodName) prog_12_method_38_code (2 : Nat) (Option.some Jvm.ClassFile.FieldType.int)) ∈ lw_all := lw_g (lw_at lw_m7 47 rfl) rfl
theorem q1611 : (Jvm.Cond.instanceMethod ({ cls := "LetterPenModel", name := "point", desc := "(IIII)I" } : Jvm.MethodName)) ∈ lw_all := lw_g (lw_at lw_m7 49 rfl) rfl
theorem q1612 : (Jvm.Cond.selects "LetterPenModel" ({ cls := "LetterPenModel", name := "point", desc := "(IIII)I" } : Jvm.MethodName) ({ cls := "LetterPenModel", name := "point", desc := "(IIII)I" } : Jvm.MethodName)) ∈ lw_all := lw_g (lw_at lw_m7 50 rfl) rfl
theorem q1613 : (Jvm.Cond.code ({ cls := "LetterPenModel", name := "point", desc := "(IIII)I" } : Jvm.MethodName) prog_12_method_43_code (6 : Nat) (Option.some Jvm.ClassFile.FieldType.int)) ∈ lw_all := lw_g (lw_at lw_m7 51 rfl) rfl
theorem q1614 : (Jvm.Cond.methodLink "LetterPenModel" (227 : Nat) ({ cls := "LetterPenModel", name := "strokeOf", desc := "(II)I" } : Jvm.MethodName)) ∈ lw_all := lw_g (lw_at lw_m7 52 rfl) rfl
theorem q1615 : (Jvm.Cond.privateMethod ({ cls := "LetterPenModel", name := "strokeOf", desc := "(II)I" } : Jvm.MethodName)) ∈ lw_tbl := lw_at lw_m7 53 rfl
theorem q1616 : (Jvm.Cond.instanceMethod ({ cls := "LetterPenModel", name := "strokeOf", desc := "(II)I" } : Jvm.MethodName)) ∈ lw_all := lw_g (lw_at lw_m7 54 rfl) rfl
theorem q1617 : (Jvm.Cond.code ({ cls := "LetterPenModel", name := "strokeOf", desc := "(II)I" } : Jvm.MethodName) prog_12_method_42_code (3 : Nat) (Option.some Jvm.ClassFile.FieldType.int)) ∈ lw_all := lw_g (lw_at lw_m7 55 rfl) rfl
theorem q1618 : (Jvm.Cond.methodLink "LetterPenModel" (224 : Nat) ({ cls := "LetterPenModel", name := "firstOf", desc := "(I)I" } : Jvm.MethodName)) ∈ lw_all := lw_g (lw_at lw_m7 56 rfl) rfl
theorem q1619 : (Jvm.Cond.privateMethod ({ cls := "LetterPenModel", name := "firstOf", desc := "(I)I" } : Jvm.MethodName)) ∈ lw_tbl := lw_at lw_m7 57 rfl
theorem q1620 : (Jvm.Cond.instanceMethod ({ cls := "LetterPenModel", name := "firstOf", desc := "(I)I" } : Jvm.MethodName)) ∈ lw_all := lw_g (lw_at lw_m7 58 rfl) rfl
theorem q1621 : (Jvm.Cond.code ({ cls := "LetterPenModel", name := "firstOf", desc := "(I)I" } : Jvm.MethodName) prog_12_method_37_code (2 : Nat) (Option.some Jvm.ClassFile.FieldType.int)) ∈ lw_all := lw_g (lw_at lw_m7 59 rfl) rfl
theorem q1622 : (Jvm.Cond.methodLink "LetterPenModel" (230 : Nat) ({ cls := "LetterPenModel", name := "pointsOf", desc := "(I)I" } : Jvm.MethodName)) ∈ lw_all := lw_g (lw_at lw_m7 60 rfl) rfl
theorem q1623 : (Jvm.Cond.privateMethod ({ cls := "LetterPenModel", name := "pointsOf", desc := "(I)I" } : Jvm.MethodName)) ∈ lw_tbl := lw_at lw_m7 61 rfl
theorem q1624 : (Jvm.Cond.instanceMethod ({ cls := "LetterPenModel", name := "pointsOf", desc := "(I)I" } : Jvm.MethodName)) ∈ lw_all := lw_g (lw_at lw_m7 62 rfl) rfl
theorem q1625 : (Jvm.Cond.code ({ cls := "LetterPenModel", name := "pointsOf", desc := "(I)I" } : Jvm.MethodName) prog_12_method_40_code (2 : Nat) (Option.some Jvm.ClassFile.FieldType.int)) ∈ lw_all := lw_g (lw_at lw_m7 63 rfl) rfl
theorem q1626 : (Jvm.Cond.methodLink "LetterPenModel" (233 : Nat) ({ cls := "LetterPenModel", name := "numberOf", desc := "(III)I" } : Jvm.MethodName)) ∈ lw_all := lw_g (lw_at lw_m7 64 rfl) rfl
theorem q1627 : (Jvm.Cond.privateMethod ({ cls := "LetterPenModel", name := "numberOf", desc := "(III)I" } : Jvm.MethodName)) ∈ lw_tbl := lw_at lw_m7 65 rfl
theorem q1628 : (Jvm.Cond.instanceMethod ({ cls := "LetterPenModel", name := "numberOf", desc := "(III)I" } : Jvm.MethodName)) ∈ lw_all := lw_g (lw_at lw_m7 66 rfl) rfl
theorem q1629 : (Jvm.Cond.code ({ cls := "LetterPenModel", name := "numberOf", desc := "(III)I" } : Jvm.MethodName) prog_12_method_41_code (4 : Nat) (Option.some Jvm.ClassFile.FieldType.int)) ∈ lw_all := lw_g (lw_at lw_m7 67 rfl) rfl
theorem q1631 : (Jvm.Cond.instanceMethod ({ cls := "LetterPenModel", name := "length", desc := "(II)I" } : Jvm.MethodName)) ∈ lw_all := lw_g (lw_at lw_m7 69 rfl) rfl
theorem q1632 : (Jvm.Cond.selects "LetterPenModel" ({ cls := "LetterPenModel", name := "length", desc := "(II)I" } : Jvm.MethodName) ({ cls := "LetterPenModel", name := "length", desc := "(II)I" } : Jvm.MethodName)) ∈ lw_all := lw_g (lw_at lw_m7 70 rfl) rfl
theorem q1633 : (Jvm.Cond.code ({ cls := "LetterPenModel", name := "length", desc := "(II)I" } : Jvm.MethodName) prog_12_method_47_code (4 : Nat) (Option.some Jvm.ClassFile.FieldType.int)) ∈ lw_all := lw_g (lw_at lw_m7 71 rfl) rfl
theorem q1634 : (Jvm.Cond.methodLink "LetterPenModel" (243 : Nat) ({ cls := "LetterPenModel", name := "lengthOf", desc := "(I)I" } : Jvm.MethodName)) ∈ lw_all := lw_g (lw_at lw_m7 72 rfl) rfl
theorem q1635 : (Jvm.Cond.privateMethod ({ cls := "LetterPenModel", name := "lengthOf", desc := "(I)I" } : Jvm.MethodName)) ∈ lw_tbl := lw_at lw_m7 73 rfl
theorem q1636 : (Jvm.Cond.instanceMethod ({ cls := "LetterPenModel", name := "lengthOf", desc := "(I)I" } : Jvm.MethodName)) ∈ lw_all := lw_g (lw_at lw_m7 74 rfl) rfl
theorem q1637 : (Jvm.Cond.code ({ cls := "LetterPenModel", name := "lengthOf", desc := "(I)I" } : Jvm.MethodName) prog_12_method_46_code (4 : Nat) (Option.some Jvm.ClassFile.FieldType.int)) ∈ lw_all := lw_g (lw_at lw_m7 75 rfl) rfl
theorem q1638 : (Jvm.Cond.methodLink "LetterPenModel" (240 : Nat) ({ cls := "LetterPenModel", name := "pieceOf", desc := "(II)I" } : Jvm.MethodName)) ∈ lw_all := lw_g (lw_at lw_m7 76 rfl) rfl
theorem q1639 : (Jvm.Cond.privateMethod ({ cls := "LetterPenModel", name := "pieceOf", desc := "(II)I" } : Jvm.MethodName)) ∈ lw_tbl := lw_at lw_m7 77 rfl
theorem q1640 : (Jvm.Cond.instanceMethod ({ cls := "LetterPenModel", name := "pieceOf", desc := "(II)I" } : Jvm.MethodName)) ∈ lw_all := lw_g (lw_at lw_m7 78 rfl) rfl
theorem q1641 : (Jvm.Cond.code ({ cls := "LetterPenModel", name := "pieceOf", desc := "(II)I" } : Jvm.MethodName) prog_12_method_45_code (5 : Nat) (Option.some Jvm.ClassFile.FieldType.int)) ∈ lw_all := lw_g (lw_at lw_m7 79 rfl) rfl
theorem q1642 : (Jvm.Cond.methodLink "LetterPenModel" (237 : Nat) ({ cls := "LetterPenModel", name := "rootOf", desc := "(I)I" } : Jvm.MethodName)) ∈ lw_all := lw_g (lw_at lw_m7 80 rfl) rfl
theorem q1643 : (Jvm.Cond.static ({ cls := "LetterPenModel", name := "rootOf", desc := "(I)I" } : Jvm.MethodName)) ∈ lw_all := lw_g (lw_at lw_m7 81 rfl) rfl
theorem q1644 : (Jvm.Cond.code ({ cls := "LetterPenModel", name := "rootOf", desc := "(I)I" } : Jvm.MethodName) prog_12_method_44_code (4 : Nat) (Option.some Jvm.ClassFile.FieldType.int)) ∈ lw_all := lw_g (lw_at lw_m7 82 rfl) rfl
theorem q1646 : (Jvm.Cond.instanceMethod ({ cls := "LetterPenModel", name := "sample", desc := "(IIII)I" } : Jvm.MethodName)) ∈ lw_all := lw_g (lw_at lw_m7 84 rfl) rfl
theorem q1647 : (Jvm.Cond.selects "LetterPenModel" ({ cls := "LetterPenModel", name := "sample", desc := "(IIII)I" } : Jvm.MethodName) ({ cls := "LetterPenModel", name := "sample", desc := "(IIII)I" } : Jvm.MethodName)) ∈ lw_all := lw_g (lw_at lw_m7 85 rfl) rfl
theorem q1648 : (Jvm.Cond.code ({ cls := "LetterPenModel", name := "sample", desc := "(IIII)I" } : Jvm.MethodName) prog_12_method_49_code (6 : Nat) (Option.some Jvm.ClassFile.FieldType.int)) ∈ lw_all := lw_g (lw_at lw_m7 86 rfl) rfl
theorem q1649 : (Jvm.Cond.methodLink "LetterPenModel" (246 : Nat) ({ cls := "LetterPenModel", name := "sampleOf", desc := "(III)I" } : Jvm.MethodName)) ∈ lw_all := lw_g (lw_at lw_m7 87 rfl) rfl
theorem q1650 : (Jvm.Cond.privateMethod ({ cls := "LetterPenModel", name := "sampleOf", desc := "(III)I" } : Jvm.MethodName)) ∈ lw_tbl := lw_at lw_m7 88 rfl
theorem q1651 : (Jvm.Cond.instanceMethod ({ cls := "LetterPenModel", name := "sampleOf", desc := "(III)I" } : Jvm.MethodName)) ∈ lw_all := lw_g (lw_at lw_m7 89 rfl) rfl
theorem q1652 : (Jvm.Cond.code ({ cls := "LetterPenModel", name := "sampleOf", desc := "(III)I" } : Jvm.MethodName) prog_12_method_48_code (8 : Nat) (Option.some Jvm.ClassFile.FieldType.int)) ∈ lw_all := lw_g (lw_at lw_m7 90 rfl) rfl
theorem q1654 : (Jvm.Cond.instanceMethod ({ cls := "LetterPenModel", name := "code", desc := "(III)I" } : Jvm.MethodName)) ∈ lw_all := lw_g (lw_at lw_m7 92 rfl) rfl
theorem q1655 : (Jvm.Cond.selects "LetterPenModel" ({ cls := "LetterPenModel", name := "code", desc := "(III)I" } : Jvm.MethodName) ({ cls := "LetterPenModel", name := "code", desc := "(III)I" } : Jvm.MethodName)) ∈ lw_all := lw_g (lw_at lw_m7 93 rfl) rfl
theorem q1656 : (Jvm.Cond.code ({ cls := "LetterPenModel", name := "code", desc := "(III)I" } : Jvm.MethodName) prog_12_method_53_code (5 : Nat) (Option.some Jvm.ClassFile.FieldType.int)) ∈ lw_all := lw_g (lw_at lw_m7 94 rfl) rfl
theorem q1657 : (Jvm.Cond.methodLink "LetterPenModel" (255 : Nat) ({ cls := "LetterPenModel", name := "laysCodes", desc := "(I)V" } : Jvm.MethodName)) ∈ lw_all := lw_g (lw_at lw_m7 95 rfl) rfl
theorem q1658 : (Jvm.Cond.privateMethod ({ cls := "LetterPenModel", name := "laysCodes", desc := "(I)V" } : Jvm.MethodName)) ∈ lw_tbl := lw_at lw_m7 96 rfl
theorem q1659 : (Jvm.Cond.instanceMethod ({ cls := "LetterPenModel", name := "laysCodes", desc := "(I)V" } : Jvm.MethodName)) ∈ lw_all := lw_g (lw_at lw_m7 97 rfl) rfl
theorem q1660 : (Jvm.Cond.code ({ cls := "LetterPenModel", name := "laysCodes", desc := "(I)V" } : Jvm.MethodName) prog_12_method_51_code (8 : Nat) (Option.none : Option Jvm.ClassFile.FieldType)) ∈ lw_all := lw_g (lw_at lw_m7 98 rfl) rfl
theorem q1661 : (Jvm.Cond.methodLink "LetterPenModel" (252 : Nat) ({ cls := "LetterPenModel", name := "codeOf", desc := "(III)I" } : Jvm.MethodName)) ∈ lw_all := lw_g (lw_at lw_m7 99 rfl) rfl
theorem q1662 : (Jvm.Cond.static ({ cls := "LetterPenModel", name := "codeOf", desc := "(III)I" } : Jvm.MethodName)) ∈ lw_all := lw_g (lw_at lw_m7 100 rfl) rfl
theorem q1663 : (Jvm.Cond.code ({ cls := "LetterPenModel", name := "codeOf", desc := "(III)I" } : Jvm.MethodName) prog_12_method_50_code (3 : Nat) (Option.some Jvm.ClassFile.FieldType.int)) ∈ lw_all := lw_g (lw_at lw_m7 101 rfl) rfl
theorem q1664 : (Jvm.Cond.methodLink "LetterPenModel" (249 : Nat) ({ cls := "LetterPenModel", name := "plain", desc := "(I)I" } : Jvm.MethodName)) ∈ lw_all := lw_g (lw_at lw_m7 102 rfl) rfl
theorem q1665 : (Jvm.Cond.static ({ cls := "LetterPenModel", name := "plain", desc := "(I)I" } : Jvm.MethodName)) ∈ lw_all := lw_g (lw_at lw_m7 103 rfl) rfl
theorem q1666 : (Jvm.Cond.code ({ cls := "LetterPenModel", name := "plain", desc := "(I)I" } : Jvm.MethodName) prog_12_method_4_code (1 : Nat) (Option.some Jvm.ClassFile.FieldType.int)) ∈ lw_all := lw_g (lw_at lw_m7 104 rfl) rfl
theorem q1668 : (Jvm.Cond.instanceMethod ({ cls := "LetterPenModel", name := "bends", desc := "(II)I" } : Jvm.MethodName)) ∈ lw_all := lw_g (lw_at lw_m7 106 rfl) rfl
theorem q1669 : (Jvm.Cond.selects "LetterPenModel" ({ cls := "LetterPenModel", name := "bends", desc := "(II)I" } : Jvm.MethodName) ({ cls := "LetterPenModel", name := "bends", desc := "(II)I" } : Jvm.MethodName)) ∈ lw_all := lw_g (lw_at lw_m7 107 rfl) rfl
theorem q1670 : (Jvm.Cond.code ({ cls := "LetterPenModel", name := "bends", desc := "(II)I" } : Jvm.MethodName) prog_12_method_55_code (6 : Nat) (Option.some Jvm.ClassFile.FieldType.int)) ∈ lw_all := lw_g (lw_at lw_m7 108 rfl) rfl
theorem q1671 : (Jvm.Cond.methodLink "LetterPenModel" (261 : Nat) ({ cls := "LetterPenModel", name := "apart", desc := "(II)I" } : Jvm.MethodName)) ∈ lw_all := lw_g (lw_at lw_m7 109 rfl) rfl
theorem q1672 : (Jvm.Cond.static ({ cls := "LetterPenModel", name := "apart", desc := "(II)I" } : Jvm.MethodName)) ∈ lw_all := lw_g (lw_at lw_m7 110 rfl) rfl
theorem q1673 : (Jvm.Cond.code ({ cls := "LetterPenModel", name := "apart", desc := "(II)I" } : Jvm.MethodName) prog_12_method_54_code (3 : Nat) (Option.some Jvm.ClassFile.FieldType.int)) ∈ lw_all := lw_g (lw_at lw_m7 111 rfl) rfl
theorem q1674 : (Jvm.Cond.methodLink "LetterPenModel" (258 : Nat) ({ cls := "LetterPenModel", name := "lesser", desc := "(II)I" } : Jvm.MethodName)) ∈ lw_all := lw_g (lw_at lw_m7 112 rfl) rfl
theorem q1675 : (Jvm.Cond.static ({ cls := "LetterPenModel", name := "lesser", desc := "(II)I" } : Jvm.MethodName)) ∈ lw_all := lw_g (lw_at lw_m7 113 rfl) rfl
theorem q1676 : (Jvm.Cond.code ({ cls := "LetterPenModel", name := "lesser", desc := "(II)I" } : Jvm.MethodName) prog_12_method_2_code (2 : Nat) (Option.some Jvm.ClassFile.FieldType.int)) ∈ lw_all := lw_g (lw_at lw_m7 114 rfl) rfl
theorem q1678 : (Jvm.Cond.instanceMethod ({ cls := "LetterPenModel", name := "corner", desc := "(III)I" } : Jvm.MethodName)) ∈ lw_all := lw_g (lw_at lw_m7 116 rfl) rfl
theorem q1679 : (Jvm.Cond.selects "LetterPenModel" ({ cls := "LetterPenModel", name := "corner", desc := "(III)I" } : Jvm.MethodName) ({ cls := "LetterPenModel", name := "corner", desc := "(III)I" } : Jvm.MethodName)) ∈ lw_all := lw_g (lw_at lw_m7 117 rfl) rfl
theorem q1680 : (Jvm.Cond.code ({ cls := "LetterPenModel", name := "corner", desc := "(III)I" } : Jvm.MethodName) prog_12_method_56_code (7 : Nat) (Option.some Jvm.ClassFile.FieldType.int)) ∈ lw_all := lw_g (lw_at lw_m7 118 rfl) rfl
theorem q1682 : (Jvm.Cond.instanceMethod ({ cls := "LetterPenModel", name := "cell", desc := "(III)I" } : Jvm.MethodName)) ∈ lw_all := lw_g (lw_at lw_m7 120 rfl) rfl
theorem q1683 : (Jvm.Cond.selects "LetterPenModel" ({ cls := "LetterPenModel", name := "cell", desc := "(III)I" } : Jvm.MethodName) ({ cls := "LetterPenModel", name := "cell", desc := "(III)I" } : Jvm.MethodName)) ∈ lw_all := lw_g (lw_at lw_m7 121 rfl) rfl
theorem q1684 : (Jvm.Cond.code ({ cls := "LetterPenModel", name := "cell", desc := "(III)I" } : Jvm.MethodName) prog_12_method_59_code (5 : Nat) (Option.some Jvm.ClassFile.FieldType.int)) ∈ lw_all := lw_g (lw_at lw_m7 122 rfl) rfl
theorem q1685 : (Jvm.Cond.methodLink "LetterPenModel" (271 : Nat) ({ cls := "LetterPenModel", name := "cellOf", desc := "(IIII)I" } : Jvm.MethodName)) ∈ lw_all := lw_g (lw_at lw_m7 123 rfl) rfl
theorem q1686 : (Jvm.Cond.privateMethod ({ cls := "LetterPenModel", name := "cellOf", desc := "(IIII)I" } : Jvm.MethodName)) ∈ lw_tbl := lw_at lw_m7 124 rfl
theorem q1687 : (Jvm.Cond.instanceMethod ({ cls := "LetterPenModel", name := "cellOf", desc := "(IIII)I" } : Jvm.MethodName)) ∈ lw_all := lw_g (lw_at lw_m7 125 rfl) rfl
theorem q1688 : (Jvm.Cond.code ({ cls := "LetterPenModel", name := "cellOf", desc := "(IIII)I" } : Jvm.MethodName) prog_12_method_58_code (8 : Nat) (Option.some Jvm.ClassFile.FieldType.int)) ∈ lw_all := lw_g (lw_at lw_m7 126 rfl) rfl
theorem q1689 : (Jvm.Cond.methodLink "LetterPenModel" (267 : Nat) ({ cls := "LetterPenModel", name := "edgeOf", desc := "(IIIZ)I" } : Jvm.MethodName)) ∈ lw_all := lw_g (lw_at lw_m7 127 rfl) rfl
theorem q1690 : (Jvm.Cond.privateMethod ({ cls := "LetterPenModel", name := "edgeOf", desc := "(IIIZ)I" } : Jvm.MethodName)) ∈ lw_tbl := lw_at lw_m7 128 rfl
theorem q1691 : (Jvm.Cond.instanceMethod ({ cls := "LetterPenModel", name := "edgeOf", desc := "(IIIZ)I" } : Jvm.MethodName)) ∈ lw_all := lw_g (lw_at lw_m7 129 rfl) rfl
theorem q1692 : (Jvm.Cond.code ({ cls := "LetterPenModel", name := "edgeOf", desc := "(IIIZ)I" } : Jvm.MethodName) prog_12_method_57_code (8 : Nat) (Option.some Jvm.ClassFile.FieldType.int)) ∈ lw_all := lw_g (lw_at lw_m7 130 rfl) rfl
theorem q1693 : (Jvm.Cond.methodLink "LetterPenModel" (264 : Nat) ({ cls := "LetterPenModel", name := "greater", desc := "(II)I" } : Jvm.MethodName)) ∈ lw_all := lw_g (lw_at lw_m7 131 rfl) rfl
theorem q1694 : (Jvm.Cond.static ({ cls := "LetterPenModel", name := "greater", desc := "(II)I" } : Jvm.MethodName)) ∈ lw_all := lw_g (lw_at lw_m7 132 rfl) rfl
theorem q1695 : (Jvm.Cond.code ({ cls := "LetterPenModel", name := "greater", desc := "(II)I" } : Jvm.MethodName) prog_12_method_3_code (2 : Nat) (Option.some Jvm.ClassFile.FieldType.int)) ∈ lw_all := lw_g (lw_at lw_m7 133 rfl) rfl
theorem q1697 : (Jvm.Cond.instanceMethod ({ cls := "LetterPenModel", name := "elastic", desc := "(IIZ)I" } : Jvm.MethodName)) ∈ lw_all := lw_g (lw_at lw_m7 135 rfl) rfl
theorem q1698 : (Jvm.Cond.selects "LetterPenModel" ({ cls := "LetterPenModel", name := "elastic", desc := "(IIZ)I" } : Jvm.MethodName) ({ cls := "LetterPenModel", name := "elastic", desc := "(IIZ)I" } : Jvm.MethodName)) ∈ lw_all := lw_g (lw_at lw_m7 136 rfl) rfl
theorem q1699 : (Jvm.Cond.code ({ cls := "LetterPenModel", name := "elastic", desc := "(IIZ)I" } : Jvm.MethodName) prog_12_method_65_code (4 : Nat) (Option.some Jvm.ClassFile.FieldType.int)) ∈ lw_all := lw_g (lw_at lw_m7 137 rfl) rfl
theorem q1700 : (Jvm.Cond.methodLink "LetterPenModel" (286 : Nat) ({ cls := "LetterPenModel", name := "areStrokes", desc := "(II)Z" } : Jvm.MethodName)) ∈ lw_all := lw_g (lw_at lw_m7 138 rfl) rfl
theorem q1701 : (Jvm.Cond.privateMethod ({ cls := "LetterPenModel", name := "areStrokes", desc := "(II)Z" } : Jvm.MethodName)) ∈ lw_tbl := lw_at lw_m7 139 rfl
theorem q1702 : (Jvm.Cond.instanceMethod ({ cls := "LetterPenModel", name := "areStrokes", desc := "(II)Z" } : Jvm.MethodName)) ∈ lw_all := lw_g (lw_at lw_m7 140 rfl) rfl
theorem q1703 : (Jvm.Cond.code ({ cls := "LetterPenModel", name := "areStrokes", desc := "(II)Z" } : Jvm.MethodName) prog_12_method_64_code (3 : Nat) (Option.some Jvm.ClassFile.FieldType.boolean)) ∈ lw_all := lw_g (lw_at lw_m7 141 rfl) rfl
theorem q1704 : (Jvm.Cond.methodLink "LetterPenModel" (283 : Nat) ({ cls := "LetterPenModel", name := "toldStroke", desc := "(I)I" } : Jvm.MethodName)) ∈ lw_all := lw_g (lw_at lw_m7 142 rfl) rfl
theorem q1705 : (Jvm.Cond.privateMethod ({ cls := "LetterPenModel", name := "toldStroke", desc := "(I)I" } : Jvm.MethodName)) ∈ lw_tbl := lw_at lw_m7 143 rfl
theorem q1706 : (Jvm.Cond.instanceMethod ({ cls := "LetterPenModel", name := "toldStroke", desc := "(I)I" } : Jvm.MethodName)) ∈ lw_all := lw_g (lw_at lw_m7 144 rfl) rfl
theorem q1707 : (Jvm.Cond.code ({ cls := "LetterPenModel", name := "toldStroke", desc := "(I)I" } : Jvm.MethodName) prog_12_method_63_code (3 : Nat) (Option.some Jvm.ClassFile.FieldType.int)) ∈ lw_all := lw_g (lw_at lw_m7 145 rfl) rfl
theorem q1708 : (Jvm.Cond.methodLink "LetterPenModel" (290 : Nat) ({ cls := "LetterPenModel", name := "elasticOf", desc := "(IIZI)I" } : Jvm.MethodName)) ∈ lw_all := lw_g (lw_at lw_m7 146 rfl) rfl
theorem q1709 : (Jvm.Cond.privateMethod ({ cls := "LetterPenModel", name := "elasticOf", desc := "(IIZI)I" } : Jvm.MethodName)) ∈ lw_tbl := lw_at lw_m7 147 rfl
theorem q1710 : (Jvm.Cond.instanceMethod ({ cls := "LetterPenModel", name := "elasticOf", desc := "(IIZI)I" } : Jvm.MethodName)) ∈ lw_all := lw_g (lw_at lw_m7 148 rfl) rfl
theorem q1711 : (Jvm.Cond.code ({ cls := "LetterPenModel", name := "elasticOf", desc := "(IIZI)I" } : Jvm.MethodName) prog_12_method_62_code (9 : Nat) (Option.some Jvm.ClassFile.FieldType.int)) ∈ lw_all := lw_g (lw_at lw_m7 149 rfl) rfl
theorem q1712 : (Jvm.Cond.methodLink "LetterPenModel" (276 : Nat) ({ cls := "LetterPenModel", name := "restAt", desc := "(II)I" } : Jvm.MethodName)) ∈ lw_all := lw_g (lw_at lw_m7 150 rfl) rfl
theorem q1713 : (Jvm.Cond.privateMethod ({ cls := "LetterPenModel", name := "restAt", desc := "(II)I" } : Jvm.MethodName)) ∈ lw_tbl := lw_at lw_m7 151 rfl
theorem q1714 : (Jvm.Cond.instanceMethod ({ cls := "LetterPenModel", name := "restAt", desc := "(II)I" } : Jvm.MethodName)) ∈ lw_all := lw_g (lw_at lw_m7 152 rfl) rfl
theorem q1715 : (Jvm.Cond.code ({ cls := "LetterPenModel", name := "restAt", desc := "(II)I" } : Jvm.MethodName) prog_12_method_61_code (3 : Nat) (Option.some Jvm.ClassFile.FieldType.int)) ∈ lw_all := lw_g (lw_at lw_m7 153 rfl) rfl
theorem q1716 : (Jvm.Cond.constant "LetterPenModel" (275 : Nat) (100000000 : Int32)) ∈ lw_all := lw_g (lw_at lw_m7 154 rfl) rfl
theorem q1717 : (Jvm.Cond.methodLink "LetterPenModel" (279 : Nat) ({ cls := "LetterPenModel", name := "codeAt", desc := "(IIZ)I" } : Jvm.MethodName)) ∈ lw_all := lw_g (lw_at lw_m7 155 rfl) rfl
theorem q1718 : (Jvm.Cond.privateMethod ({ cls := "LetterPenModel", name := "codeAt", desc := "(IIZ)I" } : Jvm.MethodName)) ∈ lw_tbl := lw_at lw_m7 156 rfl
theorem q1719 : (Jvm.Cond.instanceMethod ({ cls := "LetterPenModel", name := "codeAt", desc := "(IIZ)I" } : Jvm.MethodName)) ∈ lw_all := lw_g (lw_at lw_m7 157 rfl) rfl
theorem q1720 : (Jvm.Cond.code ({ cls := "LetterPenModel", name := "codeAt", desc := "(IIZ)I" } : Jvm.MethodName) prog_12_method_60_code (4 : Nat) (Option.some Jvm.ClassFile.FieldType.int)) ∈ lw_all := lw_g (lw_at lw_m7 158 rfl) rfl
theorem q1722 : (Jvm.Cond.instanceMethod ({ cls := "LetterPenModel", name := "way", desc := "(IIII)I" } : Jvm.MethodName)) ∈ lw_all := lw_g (lw_at lw_m7 160 rfl) rfl
theorem q1723 : (Jvm.Cond.selects "LetterPenModel" ({ cls := "LetterPenModel", name := "way", desc := "(IIII)I" } : Jvm.MethodName) ({ cls := "LetterPenModel", name := "way", desc := "(IIII)I" } : Jvm.MethodName)) ∈ lw_all := lw_g (lw_at lw_m7 161 rfl) rfl
theorem q1724 : (Jvm.Cond.code ({ cls := "LetterPenModel", name := "way", desc := "(IIII)I" } : Jvm.MethodName) prog_12_method_66_code (10 : Nat) (Option.some Jvm.ClassFile.FieldType.int)) ∈ lw_all := lw_g (lw_at lw_m7 162 rfl) rfl
theorem q1726 : (Jvm.Cond.instanceMethod ({ cls := "LetterPenModel", name := "strays", desc := "(II)I" } : Jvm.MethodName)) ∈ lw_all := lw_g (lw_at lw_m7 164 rfl) rfl
theorem q1727 : (Jvm.Cond.selects "LetterPenModel" ({ cls := "LetterPenModel", name := "strays", desc := "(II)I" } : Jvm.MethodName) ({ cls := "LetterPenModel", name := "strays", desc := "(II)I" } : Jvm.MethodName)) ∈ lw_all := lw_g (lw_at lw_m7 165 rfl) rfl
theorem q1728 : (Jvm.Cond.code ({ cls := "LetterPenModel", name := "strays", desc := "(II)I" } : Jvm.MethodName) prog_12_method_67_code (6 : Nat) (Option.some Jvm.ClassFile.FieldType.int)) ∈ lw_all := lw_g (lw_at lw_m7 166 rfl) rfl
theorem q1729 : (Jvm.Cond.methodLink "LetterPenModel" (294 : Nat) ({ cls := "LetterPenModel", name := "way", desc := "(IIII)I" } : Jvm.MethodName)) ∈ lw_all := lw_g (lw_at lw_m7 167 rfl) rfl
theorem q1731 : (Jvm.Cond.instanceMethod ({ cls := "LetterPenModel", name := "paired", desc := "(II)I" } : Jvm.MethodName)) ∈ lw_all := lw_g (lw_at lw_m7 169 rfl) rfl
theorem q1732 : (Jvm.Cond.selects "LetterPenModel" ({ cls := "LetterPenModel", name := "paired", desc := "(II)I" } : Jvm.MethodName) ({ cls := "LetterPenModel", name := "paired", desc := "(II)I" } : Jvm.MethodName)) ∈ lw_all := lw_g (lw_at lw_m7 170 rfl) rfl
theorem q1733 : (Jvm.Cond.code ({ cls := "LetterPenModel", name := "paired", desc := "(II)I" } : Jvm.MethodName) prog_12_method_69_code (3 : Nat) (Option.some Jvm.ClassFile.FieldType.int)) ∈ lw_all := lw_g (lw_at lw_m7 171 rfl) rfl
theorem q1734 : (Jvm.Cond.methodLink "LetterPenModel" (297 : Nat) ({ cls := "LetterPenModel", name := "pairedOf", desc := "(II)I" } : Jvm.MethodName)) ∈ lw_all := lw_g (lw_at lw_m7 172 rfl) rfl
theorem q1735 : (Jvm.Cond.privateMethod ({ cls := "LetterPenModel", name := "pairedOf", desc := "(II)I" } : Jvm.MethodName)) ∈ lw_tbl := lw_at lw_m7 173 rfl
theorem q1736 : (Jvm.Cond.instanceMethod ({ cls := "LetterPenModel", name := "pairedOf", desc := "(II)I" } : Jvm.MethodName)) ∈ lw_all := lw_g (lw_at lw_m7 174 rfl) rfl
theorem q1737 : (Jvm.Cond.code ({ cls := "LetterPenModel", name := "pairedOf", desc := "(II)I" } : Jvm.MethodName) prog_12_method_68_code (3 : Nat) (Option.some Jvm.ClassFile.FieldType.int)) ∈ lw_all := lw_g (lw_at lw_m7 175 rfl) rfl
theorem q1739 : (Jvm.Cond.instanceMethod ({ cls := "LetterPenModel", name := "wide", desc := "(II)I" } : Jvm.MethodName)) ∈ lw_all := lw_g (lw_at lw_m7 177 rfl) rfl
theorem q1740 : (Jvm.Cond.selects "LetterPenModel" ({ cls := "LetterPenModel", name := "wide", desc := "(II)I" } : Jvm.MethodName) ({ cls := "LetterPenModel", name := "wide", desc := "(II)I" } : Jvm.MethodName)) ∈ lw_all := lw_g (lw_at lw_m7 178 rfl) rfl
theorem q1741 : (Jvm.Cond.code ({ cls := "LetterPenModel", name := "wide", desc := "(II)I" } : Jvm.MethodName) prog_12_method_70_code (5 : Nat) (Option.some Jvm.ClassFile.FieldType.int)) ∈ lw_all := lw_g (lw_at lw_m7 179 rfl) rfl
theorem q1743 : (Jvm.Cond.instanceMethod ({ cls := "LetterPenModel", name := "score", desc := "(II)I" } : Jvm.MethodName)) ∈ lw_all := lw_g (lw_at lw_m7 181 rfl) rfl
theorem q1744 : (Jvm.Cond.selects "LetterPenModel" ({ cls := "LetterPenModel", name := "score", desc := "(II)I" } : Jvm.MethodName) ({ cls := "LetterPenModel", name := "score", desc := "(II)I" } : Jvm.MethodName)) ∈ lw_all := lw_g (lw_at lw_m7 182 rfl) rfl
theorem q1745 : (Jvm.Cond.code ({ cls := "LetterPenModel", name := "score", desc := "(II)I" } : Jvm.MethodName) prog_12_method_77_code (3 : Nat) (Option.some Jvm.ClassFile.FieldType.int)) ∈ lw_all := lw_g (lw_at lw_m7 183 rfl) rfl
theorem q1746 : (Jvm.Cond.methodLink "LetterPenModel" (319 : Nat) ({ cls := "LetterPenModel", name := "scoreOfTwo", desc := "(II)I" } : Jvm.MethodName)) ∈ lw_all := lw_g (lw_at lw_m7 184 rfl) rfl
theorem q1747 : (Jvm.Cond.privateMethod ({ cls := "LetterPenModel", name := "scoreOfTwo", desc := "(II)I" } : Jvm.MethodName)) ∈ lw_tbl := lw_at lw_m7 185 rfl
theorem q1748 : (Jvm.Cond.instanceMethod ({ cls := "LetterPenModel", name := "scoreOfTwo", desc := "(II)I" } : Jvm.MethodName)) ∈ lw_all := lw_g (lw_at lw_m7 186 rfl) rfl
theorem q1749 : (Jvm.Cond.code ({ cls := "LetterPenModel", name := "scoreOfTwo", desc := "(II)I" } : Jvm.MethodName) prog_12_method_76_code (3 : Nat) (Option.some Jvm.ClassFile.FieldType.int)) ∈ lw_all := lw_g (lw_at lw_m7 187 rfl) rfl
theorem q1750 : (Jvm.Cond.methodLink "LetterPenModel" (316 : Nat) ({ cls := "LetterPenModel", name := "scoreOf", desc := "(IIII)I" } : Jvm.MethodName)) ∈ lw_all := lw_g (lw_at lw_m7 188 rfl) rfl
theorem q1751 : (Jvm.Cond.privateMethod ({ cls := "LetterPenModel", name := "scoreOf", desc := "(IIII)I" } : Jvm.MethodName)) ∈ lw_tbl := lw_at lw_m7 189 rfl
theorem q1752 : (Jvm.Cond.instanceMethod ({ cls := "LetterPenModel", name := "scoreOf", desc := "(IIII)I" } : Jvm.MethodName)) ∈ lw_all := lw_g (lw_at lw_m7 190 rfl) rfl
theorem q1753 : (Jvm.Cond.code ({ cls := "LetterPenModel", name := "scoreOf", desc := "(IIII)I" } : Jvm.MethodName) prog_12_method_75_code (5 : Nat) (Option.some Jvm.ClassFile.FieldType.int)) ∈ lw_all := lw_g (lw_at lw_m7 191 rfl) rfl
theorem q1754 : (Jvm.Cond.methodLink "LetterPenModel" (309 : Nat) ({ cls := "LetterPenModel", name := "laysPairs", desc := "(IIIII)V" } : Jvm.MethodName)) ∈ lw_all := lw_g (lw_at lw_m7 192 rfl) rfl
theorem q1755 : (Jvm.Cond.privateMethod ({ cls := "LetterPenModel", name := "laysPairs", desc := "(IIIII)V" } : Jvm.MethodName)) ∈ lw_tbl := lw_at lw_m7 193 rfl
theorem q1756 : (Jvm.Cond.instanceMethod ({ cls := "LetterPenModel", name := "laysPairs", desc := "(IIIII)V" } : Jvm.MethodName)) ∈ lw_all := lw_g (lw_at lw_m7 194 rfl) rfl
theorem q1757 : (Jvm.Cond.code ({ cls := "LetterPenModel", name := "laysPairs", desc := "(IIIII)V" } : Jvm.MethodName) prog_12_method_71_code (10 : Nat) (Option.none : Option Jvm.ClassFile.FieldType)) ∈ lw_all := lw_g (lw_at lw_m7 195 rfl) rfl
theorem q1758 : (Jvm.Cond.methodLink "LetterPenModel" (300 : Nat) ({ cls := "LetterPenModel", name := "laysLetter", desc := "(II)V" } : Jvm.MethodName)) ∈ lw_all := lw_g (lw_at lw_m7 196 rfl) rfl
theorem q1759 : (Jvm.Cond.privateMethod ({ cls := "LetterPenModel", name := "laysLetter", desc := "(II)V" } : Jvm.MethodName)) ∈ lw_tbl := lw_at lw_m7 197 rfl
theorem q1760 : (Jvm.Cond.instanceMethod ({ cls := "LetterPenModel", name := "laysLetter", desc := "(II)V" } : Jvm.MethodName)) ∈ lw_all := lw_g (lw_at lw_m7 198 rfl) rfl
theorem q1761 : (Jvm.Cond.code ({ cls := "LetterPenModel", name := "laysLetter", desc := "(II)V" } : Jvm.MethodName) prog_12_method_52_code (4 : Nat) (Option.none : Option Jvm.ClassFile.FieldType)) ∈ lw_all := lw_g (lw_at lw_m7 199 rfl) rfl
theorem q1762 : (Jvm.Cond.methodLink "LetterPenModel" (313 : Nat) ({ cls := "LetterPenModel", name := "scoreBy", desc := "(II)I" } : Jvm.MethodName)) ∈ lw_all := lw_g (lw_at lw_m7 200 rfl) rfl
theorem q1763 : (Jvm.Cond.privateMethod ({ cls := "LetterPenModel", name := "scoreBy", desc := "(II)I" } : Jvm.MethodName)) ∈ lw_tbl := lw_at lw_m7 201 rfl
theorem q1764 : (Jvm.Cond.instanceMethod ({ cls := "LetterPenModel", name := "scoreBy", desc := "(II)I" } : Jvm.MethodName)) ∈ lw_all := lw_g (lw_at lw_m7 202 rfl) rfl
theorem q1765 : (Jvm.Cond.code ({ cls := "LetterPenModel", name := "scoreBy", desc := "(II)I" } : Jvm.MethodName) prog_12_method_74_code (8 : Nat) (Option.some Jvm.ClassFile.FieldType.int)) ∈ lw_all := lw_g (lw_at lw_m7 203 rfl) rfl
theorem q1766 : (Jvm.Cond.methodLink "LetterPenModel" (303 : Nat) ({ cls := "LetterPenModel", name := "bits", desc := "(I)I" } : Jvm.MethodName)) ∈ lw_all := lw_g (lw_at lw_m7 204 rfl) rfl
theorem q1767 : (Jvm.Cond.static ({ cls := "LetterPenModel", name := "bits", desc := "(I)I" } : Jvm.MethodName)) ∈ lw_all := lw_g (lw_at lw_m7 205 rfl) rfl
theorem q1768 : (Jvm.Cond.code ({ cls := "LetterPenModel", name := "bits", desc := "(I)I" } : Jvm.MethodName) prog_12_method_73_code (3 : Nat) (Option.some Jvm.ClassFile.FieldType.int)) ∈ lw_all := lw_g (lw_at lw_m7 206 rfl) rfl
theorem q1769 : (Jvm.Cond.methodLink "LetterPenModel" (306 : Nat) ({ cls := "LetterPenModel", name := "costOf", desc := "(III)I" } : Jvm.MethodName)) ∈ lw_all := lw_g (lw_at lw_m7 207 rfl) rfl
theorem q1770 : (Jvm.Cond.privateMethod ({ cls := "LetterPenModel", name := "costOf", desc := "(III)I" } : Jvm.MethodName)) ∈ lw_tbl := lw_at lw_m7 208 rfl
theorem q1771 : (Jvm.Cond.instanceMethod ({ cls := "LetterPenModel", name := "costOf", desc := "(III)I" } : Jvm.MethodName)) ∈ lw_all := lw_g (lw_at lw_m7 209 rfl) rfl
theorem q1772 : (Jvm.Cond.code ({ cls := "LetterPenModel", name := "costOf", desc := "(III)I" } : Jvm.MethodName) prog_12_method_72_code (4 : Nat) (Option.some Jvm.ClassFile.FieldType.int)) ∈ lw_all := lw_g (lw_at lw_m7 210 rfl) rfl
theorem q1774 : (Jvm.Cond.instanceMethod ({ cls := "LetterPenModel", name := "partner", desc := "(IIII)I" } : Jvm.MethodName)) ∈ lw_all := lw_g (lw_at lw_m7 212 rfl) rfl
theorem q1775 : (Jvm.Cond.selects "LetterPenModel" ({ cls := "LetterPenModel", name := "partner", desc := "(IIII)I" } : Jvm.MethodName) ({ cls := "LetterPenModel", name := "partner", desc := "(IIII)I" } : Jvm.MethodName)) ∈ lw_all := lw_g (lw_at lw_m7 213 rfl) rfl
theorem q1776 : (Jvm.Cond.code ({ cls := "LetterPenModel", name := "partner", desc := "(IIII)I" } : Jvm.MethodName) prog_12_method_78_code (10 : Nat) (Option.some Jvm.ClassFile.FieldType.int)) ∈ lw_all := lw_g (lw_at lw_m7 214 rfl) rfl
theorem q1778 : (Jvm.Cond.instanceMethod ({ cls := "LetterPenModel", name := "worst", desc := "(III)I" } : Jvm.MethodName)) ∈ lw_all := lw_g (lw_at lw_m7 216 rfl) rfl
theorem q1779 : (Jvm.Cond.selects "LetterPenModel" ({ cls := "LetterPenModel", name := "worst", desc := "(III)I" } : Jvm.MethodName) ({ cls := "LetterPenModel", name := "worst", desc := "(III)I" } : Jvm.MethodName)) ∈ lw_all := lw_g (lw_at lw_m7 217 rfl) rfl
theorem q1780 : (Jvm.Cond.code ({ cls := "LetterPenModel", name := "worst", desc := "(III)I" } : Jvm.MethodName) prog_12_method_79_code (11 : Nat) (Option.some Jvm.ClassFile.FieldType.int)) ∈ lw_all := lw_g (lw_at lw_m7 218 rfl) rfl
theorem q1781 : (Jvm.Cond.methodLink "LetterPenModel" (322 : Nat) ({ cls := "LetterPenModel", name := "partner", desc := "(IIII)I" } : Jvm.MethodName)) ∈ lw_all := lw_g (lw_at lw_m7 219 rfl) rfl
theorem q1783 : (Jvm.Cond.instanceMethod ({ cls := "LetterPenModel", name := "rank", desc := "(I)I" } : Jvm.MethodName)) ∈ lw_all := lw_g (lw_at lw_m7 221 rfl) rfl
theorem q1784 : (Jvm.Cond.selects "LetterPenModel" ({ cls := "LetterPenModel", name := "rank", desc := "(I)I" } : Jvm.MethodName) ({ cls := "LetterPenModel", name := "rank", desc := "(I)I" } : Jvm.MethodName)) ∈ lw_all := lw_g (lw_at lw_m7 222 rfl) rfl
theorem q1785 : (Jvm.Cond.code ({ cls := "LetterPenModel", name := "rank", desc := "(I)I" } : Jvm.MethodName) prog_12_method_84_code (2 : Nat) (Option.some Jvm.ClassFile.FieldType.int)) ∈ lw_all := lw_g (lw_at lw_m7 223 rfl) rfl
theorem q1786 : (Jvm.Cond.methodLink "LetterPenModel" (332 : Nat) ({ cls := "LetterPenModel", name := "laysScores", desc := "(II)V" } : Jvm.MethodName)) ∈ lw_all := lw_g (lw_at lw_m7 224 rfl) rfl
theorem q1787 : (Jvm.Cond.privateMethod ({ cls := "LetterPenModel", name := "laysScores", desc := "(II)V" } : Jvm.MethodName)) ∈ lw_tbl := lw_at lw_m7 225 rfl
theorem q1788 : (Jvm.Cond.instanceMethod ({ cls := "LetterPenModel", name := "laysScores", desc := "(II)V" } : Jvm.MethodName)) ∈ lw_all := lw_g (lw_at lw_m7 226 rfl) rfl
theorem q1789 : (Jvm.Cond.code ({ cls := "LetterPenModel", name := "laysScores", desc := "(II)V" } : Jvm.MethodName) prog_12_method_80_code (4 : Nat) (Option.none : Option Jvm.ClassFile.FieldType)) ∈ lw_all := lw_g (lw_at lw_m7 227 rfl) rfl
theorem q1790 : (Jvm.Cond.methodLink "LetterPenModel" (329 : Nat) ({ cls := "LetterPenModel", name := "modelAt", desc := "(I)I" } : Jvm.MethodName)) ∈ lw_all := lw_g (lw_at lw_m7 228 rfl) rfl
theorem q1791 : (Jvm.Cond.privateMethod ({ cls := "LetterPenModel", name := "modelAt", desc := "(I)I" } : Jvm.MethodName)) ∈ lw_tbl := lw_at lw_m7 229 rfl
theorem q1792 : (Jvm.Cond.instanceMethod ({ cls := "LetterPenModel", name := "modelAt", desc := "(I)I" } : Jvm.MethodName)) ∈ lw_all := lw_g (lw_at lw_m7 230 rfl) rfl
theorem q1793 : (Jvm.Cond.code ({ cls := "LetterPenModel", name := "modelAt", desc := "(I)I" } : Jvm.MethodName) prog_12_method_82_code (3 : Nat) (Option.some Jvm.ClassFile.FieldType.int)) ∈ lw_all := lw_g (lw_at lw_m7 231 rfl) rfl
theorem q1794 : (Jvm.Cond.methodLink "LetterPenModel" (325 : Nat) ({ cls := "LetterPenModel", name := "placeOf", desc := "(I)I" } : Jvm.MethodName)) ∈ lw_all := lw_g (lw_at lw_m7 232 rfl) rfl
theorem q1795 : (Jvm.Cond.privateMethod ({ cls := "LetterPenModel", name := "placeOf", desc := "(I)I" } : Jvm.MethodName)) ∈ lw_tbl := lw_at lw_m7 233 rfl
theorem q1796 : (Jvm.Cond.instanceMethod ({ cls := "LetterPenModel", name := "placeOf", desc := "(I)I" } : Jvm.MethodName)) ∈ lw_all := lw_g (lw_at lw_m7 234 rfl) rfl
theorem q1797 : (Jvm.Cond.code ({ cls := "LetterPenModel", name := "placeOf", desc := "(I)I" } : Jvm.MethodName) prog_12_method_81_code (4 : Nat) (Option.some Jvm.ClassFile.FieldType.int)) ∈ lw_all := lw_g (lw_at lw_m7 235 rfl) rfl
theorem q1799 : (Jvm.Cond.instanceMethod ({ cls := "LetterPenModel", name := "sure", desc := "()I" } : Jvm.MethodName)) ∈ lw_all := lw_g (lw_at lw_m7 237 rfl) rfl
theorem q1800 : (Jvm.Cond.selects "LetterPenModel" ({ cls := "LetterPenModel", name := "sure", desc := "()I" } : Jvm.MethodName) ({ cls := "LetterPenModel", name := "sure", desc := "()I" } : Jvm.MethodName)) ∈ lw_all := lw_g (lw_at lw_m7 238 rfl) rfl
theorem q1801 : (Jvm.Cond.code ({ cls := "LetterPenModel", name := "sure", desc := "()I" } : Jvm.MethodName) prog_12_method_85_code (1 : Nat) (Option.some Jvm.ClassFile.FieldType.int)) ∈ lw_all := lw_g (lw_at lw_m7 239 rfl) rfl
theorem q1802 : (Jvm.Cond.methodLink "LetterPenModel" (335 : Nat) ({ cls := "LetterPenModel", name := "marginOf", desc := "()I" } : Jvm.MethodName)) ∈ lw_all := lw_g (lw_at lw_m8 0 rfl) rfl
theorem q1803 : (Jvm.Cond.privateMethod ({ cls := "LetterPenModel", name := "marginOf", desc := "()I" } : Jvm.MethodName)) ∈ lw_tbl := lw_at lw_m8 1 rfl
theorem q1804 : (Jvm.Cond.instanceMethod ({ cls := "LetterPenModel", name := "marginOf", desc := "()I" } : Jvm.MethodName)) ∈ lw_all := lw_g (lw_at lw_m8 2 rfl) rfl
theorem q1805 : (Jvm.Cond.code ({ cls := "LetterPenModel", name := "marginOf", desc := "()I" } : Jvm.MethodName) prog_12_method_83_code (1 : Nat) (Option.some Jvm.ClassFile.FieldType.int)) ∈ lw_all := lw_g (lw_at lw_m8 3 rfl) rfl
theorem q1806 : (Jvm.Cond.constant "LetterPenModel" (328 : Nat) (-1000000 : Int32)) ∈ lw_all := lw_g (lw_at lw_m8 4 rfl) rfl
theorem q1808 : (Jvm.Cond.instanceMethod ({ cls := "LetterPenModel", name := "margin", desc := "()I" } : Jvm.MethodName)) ∈ lw_all := lw_g (lw_at lw_m8 6 rfl) rfl
theorem q1809 : (Jvm.Cond.selects "LetterPenModel" ({ cls := "LetterPenModel", name := "margin", desc := "()I" } : Jvm.MethodName) ({ cls := "LetterPenModel", name := "margin", desc := "()I" } : Jvm.MethodName)) ∈ lw_all := lw_g (lw_at lw_m8 7 rfl) rfl
theorem q1810 : (Jvm.Cond.code ({ cls := "LetterPenModel", name := "margin", desc := "()I" } : Jvm.MethodName) prog_12_method_86_code (1 : Nat) (Option.some Jvm.ClassFile.FieldType.int)) ∈ lw_all := lw_g (lw_at lw_m8 8 rfl) rfl
theorem q1812 : (Jvm.Cond.instanceMethod ({ cls := "LetterPenModel", name := "closest", desc := "(I)I" } : Jvm.MethodName)) ∈ lw_all := lw_g (lw_at lw_m8 10 rfl) rfl
theorem q1813 : (Jvm.Cond.selects "LetterPenModel" ({ cls := "LetterPenModel", name := "closest", desc := "(I)I" } : Jvm.MethodName) ({ cls := "LetterPenModel", name := "closest", desc := "(I)I" } : Jvm.MethodName)) ∈ lw_all := lw_g (lw_at lw_m8 11 rfl) rfl
theorem q1814 : (Jvm.Cond.code ({ cls := "LetterPenModel", name := "closest", desc := "(I)I" } : Jvm.MethodName) prog_12_method_87_code (8 : Nat) (Option.some Jvm.ClassFile.FieldType.int)) ∈ lw_all := lw_g (lw_at lw_m8 12 rfl) rfl
theorem q1816 : (Jvm.Cond.instanceMethod ({ cls := "LetterPenModel", name := "nearest", desc := "(II)I" } : Jvm.MethodName)) ∈ lw_all := lw_g (lw_at lw_m8 14 rfl) rfl
theorem q1817 : (Jvm.Cond.selects "LetterPenModel" ({ cls := "LetterPenModel", name := "nearest", desc := "(II)I" } : Jvm.MethodName) ({ cls := "LetterPenModel", name := "nearest", desc := "(II)I" } : Jvm.MethodName)) ∈ lw_all := lw_g (lw_at lw_m8 15 rfl) rfl
theorem q1818 : (Jvm.Cond.code ({ cls := "LetterPenModel", name := "nearest", desc := "(II)I" } : Jvm.MethodName) prog_12_method_88_code (7 : Nat) (Option.some Jvm.ClassFile.FieldType.int)) ∈ lw_all := lw_g (lw_at lw_m8 16 rfl) rfl
theorem q1820 : (Jvm.Cond.instanceMethod ({ cls := "LetterPenModel", name := "group", desc := "(I)I" } : Jvm.MethodName)) ∈ lw_all := lw_g (lw_at lw_m8 18 rfl) rfl
theorem q1821 : (Jvm.Cond.selects "LetterPenModel" ({ cls := "LetterPenModel", name := "group", desc := "(I)I" } : Jvm.MethodName) ({ cls := "LetterPenModel", name := "group", desc := "(I)I" } : Jvm.MethodName)) ∈ lw_all := lw_g (lw_at lw_m8 19 rfl) rfl
theorem q1822 : (Jvm.Cond.code ({ cls := "LetterPenModel", name := "group", desc := "(I)I" } : Jvm.MethodName) prog_12_method_91_code (2 : Nat) (Option.some Jvm.ClassFile.FieldType.int)) ∈ lw_all := lw_g (lw_at lw_m8 20 rfl) rfl
theorem q1823 : (Jvm.Cond.methodLink "LetterPenModel" (341 : Nat) ({ cls := "LetterPenModel", name := "laysGroups", desc := "()V" } : Jvm.MethodName)) ∈ lw_all := lw_g (lw_at lw_m8 21 rfl) rfl
theorem q1824 : (Jvm.Cond.privateMethod ({ cls := "LetterPenModel", name := "laysGroups", desc := "()V" } : Jvm.MethodName)) ∈ lw_tbl := lw_at lw_m8 22 rfl
theorem q1825 : (Jvm.Cond.instanceMethod ({ cls := "LetterPenModel", name := "laysGroups", desc := "()V" } : Jvm.MethodName)) ∈ lw_all := lw_g (lw_at lw_m8 23 rfl) rfl
theorem q1826 : (Jvm.Cond.code ({ cls := "LetterPenModel", name := "laysGroups", desc := "()V" } : Jvm.MethodName) prog_12_method_90_code (3 : Nat) (Option.none : Option Jvm.ClassFile.FieldType)) ∈ lw_all := lw_g (lw_at lw_m8 24 rfl) rfl
theorem q1827 : (Jvm.Cond.methodLink "LetterPenModel" (338 : Nat) ({ cls := "LetterPenModel", name := "joins", desc := "(II)V" } : Jvm.MethodName)) ∈ lw_all := lw_g (lw_at lw_m8 25 rfl) rfl
theorem q1828 : (Jvm.Cond.privateMethod ({ cls := "LetterPenModel", name := "joins", desc := "(II)V" } : Jvm.MethodName)) ∈ lw_tbl := lw_at lw_m8 26 rfl
theorem q1829 : (Jvm.Cond.instanceMethod ({ cls := "LetterPenModel", name := "joins", desc := "(II)V" } : Jvm.MethodName)) ∈ lw_all := lw_g (lw_at lw_m8 27 rfl) rfl
theorem q1830 : (Jvm.Cond.code ({ cls := "LetterPenModel", name := "joins", desc := "(II)V" } : Jvm.MethodName) prog_12_method_89_code (6 : Nat) (Option.none : Option Jvm.ClassFile.FieldType)) ∈ lw_all := lw_g (lw_at lw_m8 28 rfl) rfl
theorem q1832 : (Jvm.Cond.instanceMethod ({ cls := "LetterPenModel", name := "groups", desc := "()I" } : Jvm.MethodName)) ∈ lw_all := lw_g (lw_at lw_m8 30 rfl) rfl
theorem q1833 : (Jvm.Cond.selects "LetterPenModel" ({ cls := "LetterPenModel", name := "groups", desc := "()I" } : Jvm.MethodName) ({ cls := "LetterPenModel", name := "groups", desc := "()I" } : Jvm.MethodName)) ∈ lw_all := lw_g (lw_at lw_m8 31 rfl) rfl
theorem q1834 : (Jvm.Cond.code ({ cls := "LetterPenModel", name := "groups", desc := "()I" } : Jvm.MethodName) prog_12_method_92_code (3 : Nat) (Option.some Jvm.ClassFile.FieldType.int)) ∈ lw_all := lw_g (lw_at lw_m8 32 rfl) rfl
theorem q1836 : (Jvm.Cond.instanceMethod ({ cls := "LetterPenModel", name := "central", desc := "(I)I" } : Jvm.MethodName)) ∈ lw_all := lw_g (lw_at lw_m8 34 rfl) rfl
theorem q1837 : (Jvm.Cond.selects "LetterPenModel" ({ cls := "LetterPenModel", name := "central", desc := "(I)I" } : Jvm.MethodName) ({ cls := "LetterPenModel", name := "central", desc := "(I)I" } : Jvm.MethodName)) ∈ lw_all := lw_g (lw_at lw_m8 35 rfl) rfl
theorem q1838 : (Jvm.Cond.code ({ cls := "LetterPenModel", name := "central", desc := "(I)I" } : Jvm.MethodName) prog_12_method_94_code (6 : Nat) (Option.some Jvm.ClassFile.FieldType.int)) ∈ lw_all := lw_g (lw_at lw_m8 36 rfl) rfl
theorem q1839 : (Jvm.Cond.methodLink "LetterPenModel" (344 : Nat) ({ cls := "LetterPenModel", name := "sumOf", desc := "(I)I" } : Jvm.MethodName)) ∈ lw_all := lw_g (lw_at lw_m8 37 rfl) rfl
theorem q1840 : (Jvm.Cond.privateMethod ({ cls := "LetterPenModel", name := "sumOf", desc := "(I)I" } : Jvm.MethodName)) ∈ lw_tbl := lw_at lw_m8 38 rfl
theorem q1841 : (Jvm.Cond.instanceMethod ({ cls := "LetterPenModel", name := "sumOf", desc := "(I)I" } : Jvm.MethodName)) ∈ lw_all := lw_g (lw_at lw_m8 39 rfl) rfl
theorem q1842 : (Jvm.Cond.code ({ cls := "LetterPenModel", name := "sumOf", desc := "(I)I" } : Jvm.MethodName) prog_12_method_93_code (4 : Nat) (Option.some Jvm.ClassFile.FieldType.int)) ∈ lw_all := lw_g (lw_at lw_m8 40 rfl) rfl
theorem q1844 : (Jvm.Cond.instanceMethod ({ cls := "LetterPenModel", name := "lifted", desc := "(II)I" } : Jvm.MethodName)) ∈ lw_all := lw_g (lw_at lw_m8 42 rfl) rfl
theorem q1845 : (Jvm.Cond.selects "LetterPenModel" ({ cls := "LetterPenModel", name := "lifted", desc := "(II)I" } : Jvm.MethodName) ({ cls := "LetterPenModel", name := "lifted", desc := "(II)I" } : Jvm.MethodName)) ∈ lw_all := lw_g (lw_at lw_m8 43 rfl) rfl
theorem q1846 : (Jvm.Cond.code ({ cls := "LetterPenModel", name := "lifted", desc := "(II)I" } : Jvm.MethodName) prog_12_method_99_code (3 : Nat) (Option.some Jvm.ClassFile.FieldType.int)) ∈ lw_all := lw_g (lw_at lw_m8 44 rfl) rfl
theorem q1847 : (Jvm.Cond.methodLink "LetterPenModel" (347 : Nat) ({ cls := "LetterPenModel", name := "isInked", desc := "(I)Z" } : Jvm.MethodName)) ∈ lw_all := lw_g (lw_at lw_m8 45 rfl) rfl
theorem q1848 : (Jvm.Cond.privateMethod ({ cls := "LetterPenModel", name := "isInked", desc := "(I)Z" } : Jvm.MethodName)) ∈ lw_tbl := lw_at lw_m8 46 rfl
theorem q1849 : (Jvm.Cond.instanceMethod ({ cls := "LetterPenModel", name := "isInked", desc := "(I)Z" } : Jvm.MethodName)) ∈ lw_all := lw_g (lw_at lw_m8 47 rfl) rfl
theorem q1850 : (Jvm.Cond.code ({ cls := "LetterPenModel", name := "isInked", desc := "(I)Z" } : Jvm.MethodName) prog_12_method_98_code (2 : Nat) (Option.some Jvm.ClassFile.FieldType.boolean)) ∈ lw_all := lw_g (lw_at lw_m8 48 rfl) rfl
theorem q1851 : (Jvm.Cond.methodLink "LetterPenModel" (350 : Nat) ({ cls := "LetterPenModel", name := "stashes", desc := "()V" } : Jvm.MethodName)) ∈ lw_all := lw_g (lw_at lw_m8 49 rfl) rfl
theorem q1852 : (Jvm.Cond.privateMethod ({ cls := "LetterPenModel", name := "stashes", desc := "()V" } : Jvm.MethodName)) ∈ lw_tbl := lw_at lw_m8 50 rfl
theorem q1853 : (Jvm.Cond.instanceMethod ({ cls := "LetterPenModel", name := "stashes", desc := "()V" } : Jvm.MethodName)) ∈ lw_all := lw_g (lw_at lw_m8 51 rfl) rfl
theorem q1854 : (Jvm.Cond.code ({ cls := "LetterPenModel", name := "stashes", desc := "()V" } : Jvm.MethodName) prog_12_method_96_code (2 : Nat) (Option.none : Option Jvm.ClassFile.FieldType)) ∈ lw_all := lw_g (lw_at lw_m8 52 rfl) rfl
theorem q1855 : (Jvm.Cond.methodLink "LetterPenModel" (353 : Nat) ({ cls := "LetterPenModel", name := "lifts", desc := "(I)V" } : Jvm.MethodName)) ∈ lw_all := lw_g (lw_at lw_m8 53 rfl) rfl
theorem q1856 : (Jvm.Cond.privateMethod ({ cls := "LetterPenModel", name := "lifts", desc := "(I)V" } : Jvm.MethodName)) ∈ lw_tbl := lw_at lw_m8 54 rfl
theorem q1857 : (Jvm.Cond.instanceMethod ({ cls := "LetterPenModel", name := "lifts", desc := "(I)V" } : Jvm.MethodName)) ∈ lw_all := lw_g (lw_at lw_m8 55 rfl) rfl
theorem q1858 : (Jvm.Cond.code ({ cls := "LetterPenModel", name := "lifts", desc := "(I)V" } : Jvm.MethodName) prog_12_method_95_code (4 : Nat) (Option.none : Option Jvm.ClassFile.FieldType)) ∈ lw_all := lw_g (lw_at lw_m8 56 rfl) rfl
theorem q1859 : (Jvm.Cond.methodLink "LetterPenModel" (356 : Nat) ({ cls := "LetterPenModel", name := "unstashes", desc := "()V" } : Jvm.MethodName)) ∈ lw_all := lw_g (lw_at lw_m8 57 rfl) rfl
theorem q1860 : (Jvm.Cond.privateMethod ({ cls := "LetterPenModel", name := "unstashes", desc := "()V" } : Jvm.MethodName)) ∈ lw_tbl := lw_at lw_m8 58 rfl
theorem q1861 : (Jvm.Cond.instanceMethod ({ cls := "LetterPenModel", name := "unstashes", desc := "()V" } : Jvm.MethodName)) ∈ lw_all := lw_g (lw_at lw_m8 59 rfl) rfl
theorem q1862 : (Jvm.Cond.code ({ cls := "LetterPenModel", name := "unstashes", desc := "()V" } : Jvm.MethodName) prog_12_method_97_code (2 : Nat) (Option.none : Option Jvm.ClassFile.FieldType)) ∈ lw_all := lw_g (lw_at lw_m8 60 rfl) rfl
theorem q1864 : (Jvm.Cond.instanceMethod ({ cls := "LetterPenModel", name := "weakest", desc := "()I" } : Jvm.MethodName)) ∈ lw_all := lw_g (lw_at lw_m8 62 rfl) rfl
theorem q1865 : (Jvm.Cond.selects "LetterPenModel" ({ cls := "LetterPenModel", name := "weakest", desc := "()I" } : Jvm.MethodName) ({ cls := "LetterPenModel", name := "weakest", desc := "()I" } : Jvm.MethodName)) ∈ lw_all := lw_g (lw_at lw_m8 63 rfl) rfl
theorem q1866 : (Jvm.Cond.code ({ cls := "LetterPenModel", name := "weakest", desc := "()I" } : Jvm.MethodName) prog_12_method_100_code (5 : Nat) (Option.some Jvm.ClassFile.FieldType.int)) ∈ lw_all := lw_g (lw_at lw_m8 64 rfl) rfl
theorem q1867 : (Jvm.Cond.methodLink "LetterPenModel" (359 : Nat) ({ cls := "LetterPenModel", name := "lifted", desc := "(II)I" } : Jvm.MethodName)) ∈ lw_all := lw_g (lw_at lw_m8 65 rfl) rfl
theorem q1869 : (Jvm.Cond.instanceMethod ({ cls := "LetterPenModel", name := "reads", desc := "()I" } : Jvm.MethodName)) ∈ lw_all := lw_g (lw_at lw_m8 67 rfl) rfl
theorem q1870 : (Jvm.Cond.selects "LetterPenModel" ({ cls := "LetterPenModel", name := "reads", desc := "()I" } : Jvm.MethodName) ({ cls := "LetterPenModel", name := "reads", desc := "()I" } : Jvm.MethodName)) ∈ lw_all := lw_g (lw_at lw_m8 68 rfl) rfl
theorem q1871 : (Jvm.Cond.code ({ cls := "LetterPenModel", name := "reads", desc := "()I" } : Jvm.MethodName) prog_12_method_103_code (1 : Nat) (Option.some Jvm.ClassFile.FieldType.int)) ∈ lw_all := lw_g (lw_at lw_m8 69 rfl) rfl
theorem q1872 : (Jvm.Cond.methodLink "LetterPenModel" (362 : Nat) ({ cls := "LetterPenModel", name := "isReadable", desc := "()Z" } : Jvm.MethodName)) ∈ lw_all := lw_g (lw_at lw_m8 70 rfl) rfl
theorem q1873 : (Jvm.Cond.privateMethod ({ cls := "LetterPenModel", name := "isReadable", desc := "()Z" } : Jvm.MethodName)) ∈ lw_tbl := lw_at lw_m8 71 rfl
theorem q1874 : (Jvm.Cond.instanceMethod ({ cls := "LetterPenModel", name := "isReadable", desc := "()Z" } : Jvm.MethodName)) ∈ lw_all := lw_g (lw_at lw_m8 72 rfl) rfl
theorem q1875 : (Jvm.Cond.code ({ cls := "LetterPenModel", name := "isReadable", desc := "()Z" } : Jvm.MethodName) prog_12_method_101_code (1 : Nat) (Option.some Jvm.ClassFile.FieldType.boolean)) ∈ lw_all := lw_g (lw_at lw_m8 73 rfl) rfl
theorem q1876 : (Jvm.Cond.methodLink "LetterPenModel" (365 : Nat) ({ cls := "LetterPenModel", name := "laysReading", desc := "()V" } : Jvm.MethodName)) ∈ lw_all := lw_g (lw_at lw_m8 74 rfl) rfl
theorem q1877 : (Jvm.Cond.privateMethod ({ cls := "LetterPenModel", name := "laysReading", desc := "()V" } : Jvm.MethodName)) ∈ lw_tbl := lw_at lw_m8 75 rfl
theorem q1878 : (Jvm.Cond.instanceMethod ({ cls := "LetterPenModel", name := "laysReading", desc := "()V" } : Jvm.MethodName)) ∈ lw_all := lw_g (lw_at lw_m8 76 rfl) rfl
theorem q1879 : (Jvm.Cond.code ({ cls := "LetterPenModel", name := "laysReading", desc := "()V" } : Jvm.MethodName) prog_12_method_102_code (4 : Nat) (Option.none : Option Jvm.ClassFile.FieldType)) ∈ lw_all := lw_g (lw_at lw_m8 77 rfl) rfl
theorem q1881 : (Jvm.Cond.instanceMethod ({ cls := "LetterPenModel", name := "read", desc := "(II)I" } : Jvm.MethodName)) ∈ lw_all := lw_g (lw_at lw_m8 79 rfl) rfl
theorem q1882 : (Jvm.Cond.selects "LetterPenModel" ({ cls := "LetterPenModel", name := "read", desc := "(II)I" } : Jvm.MethodName) ({ cls := "LetterPenModel", name := "read", desc := "(II)I" } : Jvm.MethodName)) ∈ lw_all := lw_g (lw_at lw_m8 80 rfl) rfl
theorem q1883 : (Jvm.Cond.code ({ cls := "LetterPenModel", name := "read", desc := "(II)I" } : Jvm.MethodName) prog_12_method_104_code (5 : Nat) (Option.some Jvm.ClassFile.FieldType.int)) ∈ lw_all := lw_g (lw_at lw_m8 81 rfl) rfl
theorem q1885 : (Jvm.Cond.instanceMethod ({ cls := "LetterPenModel", name := "tell", desc := "(I)I" } : Jvm.MethodName)) ∈ lw_all := lw_g (lw_at lw_m8 83 rfl) rfl
theorem q1886 : (Jvm.Cond.selects "LetterPenModel" ({ cls := "LetterPenModel", name := "tell", desc := "(I)I" } : Jvm.MethodName) ({ cls := "LetterPenModel", name := "tell", desc := "(I)I" } : Jvm.MethodName)) ∈ lw_all := lw_g (lw_at lw_m8 84 rfl) rfl
theorem q1887 : (Jvm.Cond.code ({ cls := "LetterPenModel", name := "tell", desc := "(I)I" } : Jvm.MethodName) prog_12_method_105_code (4 : Nat) (Option.some Jvm.ClassFile.FieldType.int)) ∈ lw_all := lw_g (lw_at lw_m8 85 rfl) rfl
theorem q1889 : (Jvm.Cond.instanceMethod ({ cls := "LetterPenModel", name := "forgetTold", desc := "()I" } : Jvm.MethodName)) ∈ lw_all := lw_g (lw_at lw_m8 87 rfl) rfl
theorem q1890 : (Jvm.Cond.selects "LetterPenModel" ({ cls := "LetterPenModel", name := "forgetTold", desc := "()I" } : Jvm.MethodName) ({ cls := "LetterPenModel", name := "forgetTold", desc := "()I" } : Jvm.MethodName)) ∈ lw_all := lw_g (lw_at lw_m8 88 rfl) rfl
theorem q1891 : (Jvm.Cond.code ({ cls := "LetterPenModel", name := "forgetTold", desc := "()I" } : Jvm.MethodName) prog_12_method_106_code (2 : Nat) (Option.some Jvm.ClassFile.FieldType.int)) ∈ lw_all := lw_g (lw_at lw_m8 89 rfl) rfl
theorem q1893 : (Jvm.Cond.instanceMethod ({ cls := "LetterPenModel", name := "toldAs", desc := "(II)I" } : Jvm.MethodName)) ∈ lw_all := lw_g (lw_at lw_m8 91 rfl) rfl
theorem q1894 : (Jvm.Cond.selects "LetterPenModel" ({ cls := "LetterPenModel", name := "toldAs", desc := "(II)I" } : Jvm.MethodName) ({ cls := "LetterPenModel", name := "toldAs", desc := "(II)I" } : Jvm.MethodName)) ∈ lw_all := lw_g (lw_at lw_m8 92 rfl) rfl
theorem q1895 : (Jvm.Cond.code ({ cls := "LetterPenModel", name := "toldAs", desc := "(II)I" } : Jvm.MethodName) prog_12_method_107_code (3 : Nat) (Option.some Jvm.ClassFile.FieldType.int)) ∈ lw_all := lw_g (lw_at lw_m8 93 rfl) rfl
theorem q1897 : (Jvm.Cond.instanceMethod ({ cls := "LetterPenModel", name := "fits", desc := "(II)I" } : Jvm.MethodName)) ∈ lw_all := lw_g (lw_at lw_m8 95 rfl) rfl
theorem q1898 : (Jvm.Cond.selects "LetterPenModel" ({ cls := "LetterPenModel", name := "fits", desc := "(II)I" } : Jvm.MethodName) ({ cls := "LetterPenModel", name := "fits", desc := "(II)I" } : Jvm.MethodName)) ∈ lw_all := lw_g (lw_at lw_m8 96 rfl) rfl
theorem q1899 : (Jvm.Cond.code ({ cls := "LetterPenModel", name := "fits", desc := "(II)I" } : Jvm.MethodName) prog_12_method_112_code (5 : Nat) (Option.some Jvm.ClassFile.FieldType.int)) ∈ lw_all := lw_g (lw_at lw_m8 97 rfl) rfl
theorem q1900 : (Jvm.Cond.methodLink "LetterPenModel" (377 : Nat) ({ cls := "LetterPenModel", name := "laysAllRight", desc := "(I)V" } : Jvm.MethodName)) ∈ lw_all := lw_g (lw_at lw_m8 98 rfl) rfl
theorem q1901 : (Jvm.Cond.privateMethod ({ cls := "LetterPenModel", name := "laysAllRight", desc := "(I)V" } : Jvm.MethodName)) ∈ lw_tbl := lw_at lw_m8 99 rfl
theorem q1902 : (Jvm.Cond.instanceMethod ({ cls := "LetterPenModel", name := "laysAllRight", desc := "(I)V" } : Jvm.MethodName)) ∈ lw_all := lw_g (lw_at lw_m8 100 rfl) rfl
theorem q1903 : (Jvm.Cond.code ({ cls := "LetterPenModel", name := "laysAllRight", desc := "(I)V" } : Jvm.MethodName) prog_12_method_111_code (3 : Nat) (Option.none : Option Jvm.ClassFile.FieldType)) ∈ lw_all := lw_g (lw_at lw_m8 101 rfl) rfl
theorem q1904 : (Jvm.Cond.methodLink "LetterPenModel" (374 : Nat) ({ cls := "LetterPenModel", name := "laysRight", desc := "(II)V" } : Jvm.MethodName)) ∈ lw_all := lw_g (lw_at lw_m8 102 rfl) rfl
theorem q1905 : (Jvm.Cond.privateMethod ({ cls := "LetterPenModel", name := "laysRight", desc := "(II)V" } : Jvm.MethodName)) ∈ lw_tbl := lw_at lw_m8 103 rfl
theorem q1906 : (Jvm.Cond.instanceMethod ({ cls := "LetterPenModel", name := "laysRight", desc := "(II)V" } : Jvm.MethodName)) ∈ lw_all := lw_g (lw_at lw_m8 104 rfl) rfl
theorem q1907 : (Jvm.Cond.code ({ cls := "LetterPenModel", name := "laysRight", desc := "(II)V" } : Jvm.MethodName) prog_12_method_110_code (9 : Nat) (Option.none : Option Jvm.ClassFile.FieldType)) ∈ lw_all := lw_g (lw_at lw_m8 105 rfl) rfl
theorem q1908 : (Jvm.Cond.methodLink "LetterPenModel" (371 : Nat) ({ cls := "LetterPenModel", name := "laysByValues", desc := "(II)V" } : Jvm.MethodName)) ∈ lw_all := lw_g (lw_at lw_m8 106 rfl) rfl
theorem q1909 : (Jvm.Cond.privateMethod ({ cls := "LetterPenModel", name := "laysByValues", desc := "(II)V" } : Jvm.MethodName)) ∈ lw_tbl := lw_at lw_m8 107 rfl
theorem q1910 : (Jvm.Cond.instanceMethod ({ cls := "LetterPenModel", name := "laysByValues", desc := "(II)V" } : Jvm.MethodName)) ∈ lw_all := lw_g (lw_at lw_m8 108 rfl) rfl
theorem q1911 : (Jvm.Cond.code ({ cls := "LetterPenModel", name := "laysByValues", desc := "(II)V" } : Jvm.MethodName) prog_12_method_109_code (5 : Nat) (Option.none : Option Jvm.ClassFile.FieldType)) ∈ lw_all := lw_g (lw_at lw_m8 109 rfl) rfl
theorem q1912 : (Jvm.Cond.methodLink "LetterPenModel" (368 : Nat) ({ cls := "LetterPenModel", name := "valuesOf", desc := "(I)I" } : Jvm.MethodName)) ∈ lw_all := lw_g (lw_at lw_m8 110 rfl) rfl
theorem q1913 : (Jvm.Cond.static ({ cls := "LetterPenModel", name := "valuesOf", desc := "(I)I" } : Jvm.MethodName)) ∈ lw_all := lw_g (lw_at lw_m8 111 rfl) rfl
theorem q1914 : (Jvm.Cond.code ({ cls := "LetterPenModel", name := "valuesOf", desc := "(I)I" } : Jvm.MethodName) prog_12_method_108_code (1 : Nat) (Option.some Jvm.ClassFile.FieldType.int)) ∈ lw_all := lw_g (lw_at lw_m8 112 rfl) rfl
theorem q1916 : (Jvm.Cond.instanceMethod ({ cls := "LetterPenModel", name := "best", desc := "(II)I" } : Jvm.MethodName)) ∈ lw_all := lw_g (lw_at lw_m8 114 rfl) rfl
theorem q1917 : (Jvm.Cond.selects "LetterPenModel" ({ cls := "LetterPenModel", name := "best", desc := "(II)I" } : Jvm.MethodName) ({ cls := "LetterPenModel", name := "best", desc := "(II)I" } : Jvm.MethodName)) ∈ lw_all := lw_g (lw_at lw_m8 115 rfl) rfl
theorem q1918 : (Jvm.Cond.code ({ cls := "LetterPenModel", name := "best", desc := "(II)I" } : Jvm.MethodName) prog_12_method_114_code (5 : Nat) (Option.some Jvm.ClassFile.FieldType.int)) ∈ lw_all := lw_g (lw_at lw_m8 116 rfl) rfl
theorem q1919 : (Jvm.Cond.methodLink "LetterPenModel" (380 : Nat) ({ cls := "LetterPenModel", name := "areModelsThere", desc := "()Z" } : Jvm.MethodName)) ∈ lw_all := lw_g (lw_at lw_m8 117 rfl) rfl
theorem q1920 : (Jvm.Cond.privateMethod ({ cls := "LetterPenModel", name := "areModelsThere", desc := "()Z" } : Jvm.MethodName)) ∈ lw_tbl := lw_at lw_m8 118 rfl
theorem q1921 : (Jvm.Cond.instanceMethod ({ cls := "LetterPenModel", name := "areModelsThere", desc := "()Z" } : Jvm.MethodName)) ∈ lw_all := lw_g (lw_at lw_m8 119 rfl) rfl
theorem q1922 : (Jvm.Cond.code ({ cls := "LetterPenModel", name := "areModelsThere", desc := "()Z" } : Jvm.MethodName) prog_12_method_113_code (2 : Nat) (Option.some Jvm.ClassFile.FieldType.boolean)) ∈ lw_all := lw_g (lw_at lw_m8 120 rfl) rfl
theorem q1924 : (Jvm.Cond.instanceMethod ({ cls := "LetterPenModel", name := "stroke", desc := "()I" } : Jvm.MethodName)) ∈ lw_all := lw_g (lw_at lw_m8 122 rfl) rfl
theorem q1925 : (Jvm.Cond.selects "LetterPenModel" ({ cls := "LetterPenModel", name := "stroke", desc := "()I" } : Jvm.MethodName) ({ cls := "LetterPenModel", name := "stroke", desc := "()I" } : Jvm.MethodName)) ∈ lw_all := lw_g (lw_at lw_m8 123 rfl) rfl
theorem q1926 : (Jvm.Cond.code ({ cls := "LetterPenModel", name := "stroke", desc := "()I" } : Jvm.MethodName) prog_12_method_116_code (4 : Nat) (Option.some Jvm.ClassFile.FieldType.int)) ∈ lw_all := lw_g (lw_at lw_m8 124 rfl) rfl
theorem q1927 : (Jvm.Cond.methodLink "LetterPenModel" (383 : Nat) ({ cls := "LetterPenModel", name := "remembers", desc := "()V" } : Jvm.MethodName)) ∈ lw_all := lw_g (lw_at lw_m8 125 rfl) rfl
theorem q1928 : (Jvm.Cond.privateMethod ({ cls := "LetterPenModel", name := "remembers", desc := "()V" } : Jvm.MethodName)) ∈ lw_tbl := lw_at lw_m8 126 rfl
theorem q1929 : (Jvm.Cond.instanceMethod ({ cls := "LetterPenModel", name := "remembers", desc := "()V" } : Jvm.MethodName)) ∈ lw_all := lw_g (lw_at lw_m8 127 rfl) rfl
theorem q1930 : (Jvm.Cond.code ({ cls := "LetterPenModel", name := "remembers", desc := "()V" } : Jvm.MethodName) prog_12_method_115_code (2 : Nat) (Option.none : Option Jvm.ClassFile.FieldType)) ∈ lw_all := lw_g (lw_at lw_m8 128 rfl) rfl
theorem q1932 : (Jvm.Cond.instanceMethod ({ cls := "LetterPenModel", name := "lift", desc := "(I)Z" } : Jvm.MethodName)) ∈ lw_all := lw_g (lw_at lw_m8 130 rfl) rfl
theorem q1933 : (Jvm.Cond.selects "LetterPenModel" ({ cls := "LetterPenModel", name := "lift", desc := "(I)Z" } : Jvm.MethodName) ({ cls := "LetterPenModel", name := "lift", desc := "(I)Z" } : Jvm.MethodName)) ∈ lw_all := lw_g (lw_at lw_m8 131 rfl) rfl
theorem q1934 : (Jvm.Cond.code ({ cls := "LetterPenModel", name := "lift", desc := "(I)Z" } : Jvm.MethodName) prog_12_method_117_code (2 : Nat) (Option.some Jvm.ClassFile.FieldType.boolean)) ∈ lw_all := lw_g (lw_at lw_m8 132 rfl) rfl
theorem q1936 : (Jvm.Cond.instanceMethod ({ cls := "LetterPenModel", name := "clear", desc := "()I" } : Jvm.MethodName)) ∈ lw_all := lw_g (lw_at lw_m8 134 rfl) rfl
theorem q1937 : (Jvm.Cond.selects "LetterPenModel" ({ cls := "LetterPenModel", name := "clear", desc := "()I" } : Jvm.MethodName) ({ cls := "LetterPenModel", name := "clear", desc := "()I" } : Jvm.MethodName)) ∈ lw_all := lw_g (lw_at lw_m8 135 rfl) rfl
theorem q1938 : (Jvm.Cond.code ({ cls := "LetterPenModel", name := "clear", desc := "()I" } : Jvm.MethodName) prog_12_method_118_code (2 : Nat) (Option.some Jvm.ClassFile.FieldType.int)) ∈ lw_all := lw_g (lw_at lw_m8 136 rfl) rfl
theorem q1940 : (Jvm.Cond.instanceMethod ({ cls := "LetterPenModel", name := "learn", desc := "()I" } : Jvm.MethodName)) ∈ lw_all := lw_g (lw_at lw_m8 138 rfl) rfl
theorem q1941 : (Jvm.Cond.selects "LetterPenModel" ({ cls := "LetterPenModel", name := "learn", desc := "()I" } : Jvm.MethodName) ({ cls := "LetterPenModel", name := "learn", desc := "()I" } : Jvm.MethodName)) ∈ lw_all := lw_g (lw_at lw_m8 139 rfl) rfl
theorem q1942 : (Jvm.Cond.code ({ cls := "LetterPenModel", name := "learn", desc := "()I" } : Jvm.MethodName) prog_12_method_119_code (5 : Nat) (Option.some Jvm.ClassFile.FieldType.int)) ∈ lw_all := lw_g (lw_at lw_m8 140 rfl) rfl
theorem q1944 : (Jvm.Cond.instanceMethod ({ cls := "LetterPenModel", name := "forget", desc := "(I)Z" } : Jvm.MethodName)) ∈ lw_all := lw_g (lw_at lw_m8 142 rfl) rfl
theorem q1945 : (Jvm.Cond.selects "LetterPenModel" ({ cls := "LetterPenModel", name := "forget", desc := "(I)Z" } : Jvm.MethodName) ({ cls := "LetterPenModel", name := "forget", desc := "(I)Z" } : Jvm.MethodName)) ∈ lw_all := lw_g (lw_at lw_m8 143 rfl) rfl
theorem q1946 : (Jvm.Cond.code ({ cls := "LetterPenModel", name := "forget", desc := "(I)Z" } : Jvm.MethodName) prog_12_method_120_code (4 : Nat) (Option.some Jvm.ClassFile.FieldType.boolean)) ∈ lw_all := lw_g (lw_at lw_m8 144 rfl) rfl
theorem q1948 : (Jvm.Cond.instanceMethod ({ cls := "LetterPenModel", name := "set", desc := "(II)Z" } : Jvm.MethodName)) ∈ lw_all := lw_g (lw_at lw_m8 146 rfl) rfl
theorem q1949 : (Jvm.Cond.selects "LetterPenModel" ({ cls := "LetterPenModel", name := "set", desc := "(II)Z" } : Jvm.MethodName) ({ cls := "LetterPenModel", name := "set", desc := "(II)Z" } : Jvm.MethodName)) ∈ lw_all := lw_g (lw_at lw_m8 147 rfl) rfl
theorem q1950 : (Jvm.Cond.code ({ cls := "LetterPenModel", name := "set", desc := "(II)Z" } : Jvm.MethodName) prog_12_method_121_code (3 : Nat) (Option.some Jvm.ClassFile.FieldType.boolean)) ∈ lw_all := lw_g (lw_at lw_m8 148 rfl) rfl
theorem q1952 : (Jvm.Cond.instanceMethod ({ cls := "LetterPenModel", name := "wobble", desc := "(I)I" } : Jvm.MethodName)) ∈ lw_all := lw_g (lw_at lw_m8 150 rfl) rfl
theorem q1953 : (Jvm.Cond.selects "LetterPenModel" ({ cls := "LetterPenModel", name := "wobble", desc := "(I)I" } : Jvm.MethodName) ({ cls := "LetterPenModel", name := "wobble", desc := "(I)I" } : Jvm.MethodName)) ∈ lw_all := lw_g (lw_at lw_m8 151 rfl) rfl
theorem q1954 : (Jvm.Cond.code ({ cls := "LetterPenModel", name := "wobble", desc := "(I)I" } : Jvm.MethodName) prog_12_method_123_code (6 : Nat) (Option.some Jvm.ClassFile.FieldType.int)) ∈ lw_all := lw_g (lw_at lw_m8 152 rfl) rfl
theorem q1955 : (Jvm.Cond.methodLink "LetterPenModel" (392 : Nat) ({ cls := "LetterPenModel", name := "draw", desc := "(I)I" } : Jvm.MethodName)) ∈ lw_all := lw_g (lw_at lw_m8 153 rfl) rfl
theorem q1956 : (Jvm.Cond.privateMethod ({ cls := "LetterPenModel", name := "draw", desc := "(I)I" } : Jvm.MethodName)) ∈ lw_tbl := lw_at lw_m8 154 rfl
theorem q1957 : (Jvm.Cond.instanceMethod ({ cls := "LetterPenModel", name := "draw", desc := "(I)I" } : Jvm.MethodName)) ∈ lw_all := lw_g (lw_at lw_m8 155 rfl) rfl
theorem q1958 : (Jvm.Cond.code ({ cls := "LetterPenModel", name := "draw", desc := "(I)I" } : Jvm.MethodName) prog_12_method_122_code (2 : Nat) (Option.some Jvm.ClassFile.FieldType.int)) ∈ lw_all := lw_g (lw_at lw_m8 156 rfl) rfl
theorem q1959 : (Jvm.Cond.constantLong "LetterPenModel" (386 : Nat) (1103515245 : Int64)) ∈ lw_all := lw_g (lw_at lw_m8 157 rfl) rfl
theorem q1960 : (Jvm.Cond.constantLong "LetterPenModel" (388 : Nat) (12345 : Int64)) ∈ lw_all := lw_g (lw_at lw_m8 158 rfl) rfl
theorem q1961 : (Jvm.Cond.constantLong "LetterPenModel" (390 : Nat) (2147483648 : Int64)) ∈ lw_all := lw_g (lw_at lw_m8 159 rfl) rfl
theorem q1963 : (Jvm.Cond.instanceMethod ({ cls := "LetterPenModel", name := "undo", desc := "()Z" } : Jvm.MethodName)) ∈ lw_all := lw_g (lw_at lw_m8 161 rfl) rfl
theorem q1964 : (Jvm.Cond.selects "LetterPenModel" ({ cls := "LetterPenModel", name := "undo", desc := "()Z" } : Jvm.MethodName) ({ cls := "LetterPenModel", name := "undo", desc := "()Z" } : Jvm.MethodName)) ∈ lw_all := lw_g (lw_at lw_m8 162 rfl) rfl
theorem q1965 : (Jvm.Cond.code ({ cls := "LetterPenModel", name := "undo", desc := "()Z" } : Jvm.MethodName) prog_12_method_124_code (2 : Nat) (Option.some Jvm.ClassFile.FieldType.boolean)) ∈ lw_all := lw_g (lw_at lw_m8 163 rfl) rfl
theorem q1967 : (Jvm.Cond.instanceMethod ({ cls := "LetterPenModel", name := "seed", desc := "(I)Z" } : Jvm.MethodName)) ∈ lw_all := lw_g (lw_at lw_m8 165 rfl) rfl
theorem q1968 : (Jvm.Cond.selects "LetterPenModel" ({ cls := "LetterPenModel", name := "seed", desc := "(I)Z" } : Jvm.MethodName) ({ cls := "LetterPenModel", name := "seed", desc := "(I)Z" } : Jvm.MethodName)) ∈ lw_all := lw_g (lw_at lw_m8 166 rfl) rfl
theorem q1969 : (Jvm.Cond.code ({ cls := "LetterPenModel", name := "seed", desc := "(I)Z" } : Jvm.MethodName) prog_12_method_125_code (2 : Nat) (Option.some Jvm.ClassFile.FieldType.boolean)) ∈ lw_all := lw_g (lw_at lw_m8 167 rfl) rfl
theorem q1971 : (Jvm.Cond.instanceMethod ({ cls := "LetterPenModel", name := "image", desc := "()I" } : Jvm.MethodName)) ∈ lw_all := lw_g (lw_at lw_m8 169 rfl) rfl
theorem q1972 : (Jvm.Cond.selects "LetterPenModel" ({ cls := "LetterPenModel", name := "image", desc := "()I" } : Jvm.MethodName) ({ cls := "LetterPenModel", name := "image", desc := "()I" } : Jvm.MethodName)) ∈ lw_all := lw_g (lw_at lw_m8 170 rfl) rfl
theorem q1973 : (Jvm.Cond.code ({ cls := "LetterPenModel", name := "image", desc := "()I" } : Jvm.MethodName) prog_12_method_127_code (3 : Nat) (Option.some Jvm.ClassFile.FieldType.int)) ∈ lw_all := lw_g (lw_at lw_m8 171 rfl) rfl
theorem q1974 : (Jvm.Cond.methodLink "LetterPenModel" (395 : Nat) ({ cls := "LetterPenModel", name := "puts", desc := "(I)V" } : Jvm.MethodName)) ∈ lw_all := lw_g (lw_at lw_m8 172 rfl) rfl
theorem q1975 : (Jvm.Cond.privateMethod ({ cls := "LetterPenModel", name := "puts", desc := "(I)V" } : Jvm.MethodName)) ∈ lw_tbl := lw_at lw_m8 173 rfl
theorem q1976 : (Jvm.Cond.instanceMethod ({ cls := "LetterPenModel", name := "puts", desc := "(I)V" } : Jvm.MethodName)) ∈ lw_all := lw_g (lw_at lw_m8 174 rfl) rfl
theorem q1977 : (Jvm.Cond.code ({ cls := "LetterPenModel", name := "puts", desc := "(I)V" } : Jvm.MethodName) prog_12_method_126_code (2 : Nat) (Option.none : Option Jvm.ClassFile.FieldType)) ∈ lw_all := lw_g (lw_at lw_m8 175 rfl) rfl
theorem q1979 : (Jvm.Cond.instanceMethod ({ cls := "LetterPenModel", name := "octet", desc := "(I)I" } : Jvm.MethodName)) ∈ lw_all := lw_g (lw_at lw_m8 177 rfl) rfl
theorem q1980 : (Jvm.Cond.selects "LetterPenModel" ({ cls := "LetterPenModel", name := "octet", desc := "(I)I" } : Jvm.MethodName) ({ cls := "LetterPenModel", name := "octet", desc := "(I)I" } : Jvm.MethodName)) ∈ lw_all := lw_g (lw_at lw_m8 178 rfl) rfl
theorem q1981 : (Jvm.Cond.code ({ cls := "LetterPenModel", name := "octet", desc := "(I)I" } : Jvm.MethodName) prog_12_method_128_code (2 : Nat) (Option.some Jvm.ClassFile.FieldType.int)) ∈ lw_all := lw_g (lw_at lw_m8 179 rfl) rfl
theorem q1983 : (Jvm.Cond.instanceMethod ({ cls := "LetterPenModel", name := "on", desc := "()Z" } : Jvm.MethodName)) ∈ lw_all := lw_g (lw_at lw_m8 181 rfl) rfl
theorem q1984 : (Jvm.Cond.selects "LetterPenModel" ({ cls := "LetterPenModel", name := "on", desc := "()Z" } : Jvm.MethodName) ({ cls := "LetterPenModel", name := "on", desc := "()Z" } : Jvm.MethodName)) ∈ lw_all := lw_g (lw_at lw_m8 182 rfl) rfl
theorem q1985 : (Jvm.Cond.code ({ cls := "LetterPenModel", name := "on", desc := "()Z" } : Jvm.MethodName) prog_12_method_130_code (5 : Nat) (Option.some Jvm.ClassFile.FieldType.boolean)) ∈ lw_all := lw_g (lw_at lw_m8 183 rfl) rfl
theorem q1986 : (Jvm.Cond.methodLink "LetterPenModel" (398 : Nat) ({ cls := "LetterPenModel", name := "takesIn", desc := "(I)Z" } : Jvm.MethodName)) ∈ lw_all := lw_g (lw_at lw_m8 184 rfl) rfl
theorem q1987 : (Jvm.Cond.privateMethod ({ cls := "LetterPenModel", name := "takesIn", desc := "(I)Z" } : Jvm.MethodName)) ∈ lw_tbl := lw_at lw_m8 185 rfl
theorem q1988 : (Jvm.Cond.instanceMethod ({ cls := "LetterPenModel", name := "takesIn", desc := "(I)Z" } : Jvm.MethodName)) ∈ lw_all := lw_g (lw_at lw_m8 186 rfl) rfl
theorem q1989 : (Jvm.Cond.code ({ cls := "LetterPenModel", name := "takesIn", desc := "(I)Z" } : Jvm.MethodName) prog_12_method_129_code (5 : Nat) (Option.some Jvm.ClassFile.FieldType.boolean)) ∈ lw_all := lw_g (lw_at lw_m8 187 rfl) rfl
theorem q1991 : (Jvm.Cond.instanceMethod ({ cls := "LetterPenModel", name := "status", desc := "(I)I" } : Jvm.MethodName)) ∈ lw_all := lw_g (lw_at lw_m8 189 rfl) rfl
theorem q1992 : (Jvm.Cond.selects "LetterPenModel" ({ cls := "LetterPenModel", name := "status", desc := "(I)I" } : Jvm.MethodName) ({ cls := "LetterPenModel", name := "status", desc := "(I)I" } : Jvm.MethodName)) ∈ lw_all := lw_g (lw_at lw_m8 190 rfl) rfl
theorem q1993 : (Jvm.Cond.code ({ cls := "LetterPenModel", name := "status", desc := "(I)I" } : Jvm.MethodName) prog_12_method_131_code (2 : Nat) (Option.some Jvm.ClassFile.FieldType.int)) ∈ lw_all := lw_g (lw_at lw_m8 191 rfl) rfl
theorem q2000 : (Jvm.Cond.castable "LetterPenModel" "java/lang/Object") ∈ lw_tbl := lw_at lw_m8 198 rfl
theorem in_X3 : ∀ w ∈ wsX30, w ∈ lw_all := lw_in wsX30 [1398, 1400, 1402, 1404, 1406, 1408, 1410, 1412, 1414, 1416, 1418, 1420, 1422, 1424, 1426, 1428, 1430, 1432, 1434, 1436, 1438, 1440, 1442, 1444, 1446, 1448, 1450, 1452, 1454, 1456, 1458, 1460, 1462, 1464, 1466, 1468, 1470, 1472, 1474, 1476, 1478] (by decide +kernel) (by decide +kernel)
