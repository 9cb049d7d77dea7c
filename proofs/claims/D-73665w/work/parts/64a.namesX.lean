/-! LetterPen$State -/
set_option maxRecDepth 100000
def RX1 : String := "LetterPen$State"
def TX1 : u_T := fun k => match k with
  | 0 => ("LetterPen$State", "models", "Ljava/util/ArrayList;", true)
  | 1 => ("LetterPen$State", "ink", "Ljava/util/ArrayList;", true)
  | _ => ("LetterPen$State", "values", "[I", true)
def tyX1 : Nat → FieldType := fun k => match k with
  | 0 => .object "java/util/ArrayList"
  | 1 => .object "java/util/ArrayList"
  | _ => .array .int
abbrev wsX10 : List Cond := u_ws RX1 TX1 3
theorem nmX1 : ∀ a, a < 3 → ∀ b, b < 3 → a ≠ b → (TX1 a).2.1 ≠ (TX1 b).2.1 := by decide +kernel
theorem tyX1_ok : ∀ k, k < 3 → parseFieldDescriptor (TX1 k).2.2.1 = some (tyX1 k) := by decide +kernel
abbrev cX1_init : ByteArray := prog_9_method_1_code
def yX1_init : MethodName := ⟨RX1, "<init>", "()V"⟩
def dkwX1_init_2 : List UInt8 := [184, 0, 28, 177]
abbrev dktX1_init_2 : List UInt8 := dkwX1_init_2 ++ []
def dkwX1_init_1 : List UInt8 := [181, 0, 18, 42, 16, 6, 188, 10, 181, 0, 21, 178, 0, 25, 3, 42, 180, 0, 21, 3, 16, 6]
abbrev dktX1_init_1 : List UInt8 := dkwX1_init_1 ++ dktX1_init_2
def dkwX1_init_0 : List UInt8 := [42, 183, 0, 3, 42, 187, 0, 9, 89, 183, 0, 11, 181, 0, 12, 42, 187, 0, 9, 89, 183, 0, 11]
abbrev dktX1_init_0 : List UInt8 := dkwX1_init_0 ++ dktX1_init_1
theorem dksX1_init_0 : cX1_init.data.toList.drop 0 = dktX1_init_0 := by decide +kernel
theorem dksX1_init_1 : cX1_init.data.toList.drop 23 = dktX1_init_1 := dk_seg dksX1_init_0 23 rfl rfl
theorem dksX1_init_2 : cX1_init.data.toList.drop 45 = dktX1_init_2 := dk_seg dksX1_init_1 22 rfl rfl
theorem dX1_init_0 : decode cX1_init 0 = .ok (.aload_n 0, 1) := dk_42 (dk_at dksX1_init_0 0 rfl rfl)
theorem dX1_init_1 : decode cX1_init 1 = .ok (.invokespecial 3, 3) := dk_183 0 3 (dk_at dksX1_init_0 1 rfl rfl)
theorem dX1_init_4 : decode cX1_init 4 = .ok (.aload_n 0, 1) := dk_42 (dk_at dksX1_init_0 4 rfl rfl)
theorem dX1_init_5 : decode cX1_init 5 = .ok (.new 9, 3) := dk_187 0 9 (dk_at dksX1_init_0 5 rfl rfl)
theorem dX1_init_8 : decode cX1_init 8 = .ok (.dup, 1) := dk_89 (dk_at dksX1_init_0 8 rfl rfl)
theorem dX1_init_9 : decode cX1_init 9 = .ok (.invokespecial 11, 3) := dk_183 0 11 (dk_at dksX1_init_0 9 rfl rfl)
theorem dX1_init_12 : decode cX1_init 12 = .ok (.putfield 12, 3) := dk_181 0 12 (dk_at dksX1_init_0 12 rfl rfl)
theorem dX1_init_15 : decode cX1_init 15 = .ok (.aload_n 0, 1) := dk_42 (dk_at dksX1_init_0 15 rfl rfl)
theorem dX1_init_16 : decode cX1_init 16 = .ok (.new 9, 3) := dk_187 0 9 (dk_at dksX1_init_0 16 rfl rfl)
theorem dX1_init_19 : decode cX1_init 19 = .ok (.dup, 1) := dk_89 (dk_at dksX1_init_0 19 rfl rfl)
theorem dX1_init_20 : decode cX1_init 20 = .ok (.invokespecial 11, 3) := dk_183 0 11 (dk_at dksX1_init_0 20 rfl rfl)
theorem dX1_init_23 : decode cX1_init 23 = .ok (.putfield 18, 3) := dk_181 0 18 (dk_at dksX1_init_1 0 rfl rfl)
theorem dX1_init_26 : decode cX1_init 26 = .ok (.aload_n 0, 1) := dk_42 (dk_at dksX1_init_1 3 rfl rfl)
theorem dX1_init_27 : decode cX1_init 27 = .ok (.bipush 6, 2) := dk_16 6 (dk_at dksX1_init_1 4 rfl rfl)
theorem dX1_init_29 : decode cX1_init 29 = .ok (.newarray .int, 2) := dk_188_10 (dk_at dksX1_init_1 6 rfl rfl)
theorem dX1_init_31 : decode cX1_init 31 = .ok (.putfield 21, 3) := dk_181 0 21 (dk_at dksX1_init_1 8 rfl rfl)
theorem dX1_init_34 : decode cX1_init 34 = .ok (.getstatic 25, 3) := dk_178 0 25 (dk_at dksX1_init_1 11 rfl rfl)
theorem dX1_init_37 : decode cX1_init 37 = .ok (.iconst 0, 1) := dk_3 (dk_at dksX1_init_1 14 rfl rfl)
theorem dX1_init_38 : decode cX1_init 38 = .ok (.aload_n 0, 1) := dk_42 (dk_at dksX1_init_1 15 rfl rfl)
theorem dX1_init_39 : decode cX1_init 39 = .ok (.getfield 21, 3) := dk_180 0 21 (dk_at dksX1_init_1 16 rfl rfl)
theorem dX1_init_42 : decode cX1_init 42 = .ok (.iconst 0, 1) := dk_3 (dk_at dksX1_init_1 19 rfl rfl)
theorem dX1_init_43 : decode cX1_init 43 = .ok (.bipush 6, 2) := dk_16 6 (dk_at dksX1_init_1 20 rfl rfl)
theorem dX1_init_45 : decode cX1_init 45 = .ok (.invokestatic 28, 3) := dk_184 0 28 (dk_at dksX1_init_2 0 rfl rfl)
theorem dX1_init_48 : decode cX1_init 48 = .ok (.return_, 1) := dk_177 (dk_at dksX1_init_2 3 rfl rfl)
abbrev cX1_like : ByteArray := prog_9_method_2_code
def yX1_like : MethodName := ⟨RX1, "like", "(LLetterPen$State;)LLetterPen$State;"⟩
def dkwX1_like_2 : List UInt8 := [3, 16, 6, 184, 0, 28, 42, 176]
abbrev dktX1_like_2 : List UInt8 := dkwX1_like_2 ++ []
def dkwX1_like_1 : List UInt8 := [182, 0, 34, 42, 180, 0, 18, 43, 180, 0, 18, 182, 0, 37, 87, 43, 180, 0, 21, 3, 42, 180, 0, 21]
abbrev dktX1_like_1 : List UInt8 := dkwX1_like_1 ++ dktX1_like_2
def dkwX1_like_0 : List UInt8 := [42, 180, 0, 12, 182, 0, 34, 42, 180, 0, 12, 43, 180, 0, 12, 182, 0, 37, 87, 42, 180, 0, 18]
abbrev dktX1_like_0 : List UInt8 := dkwX1_like_0 ++ dktX1_like_1
theorem dksX1_like_0 : cX1_like.data.toList.drop 0 = dktX1_like_0 := by decide +kernel
theorem dksX1_like_1 : cX1_like.data.toList.drop 23 = dktX1_like_1 := dk_seg dksX1_like_0 23 rfl rfl
theorem dksX1_like_2 : cX1_like.data.toList.drop 47 = dktX1_like_2 := dk_seg dksX1_like_1 24 rfl rfl
theorem dX1_like_0 : decode cX1_like 0 = .ok (.aload_n 0, 1) := dk_42 (dk_at dksX1_like_0 0 rfl rfl)
theorem dX1_like_1 : decode cX1_like 1 = .ok (.getfield 12, 3) := dk_180 0 12 (dk_at dksX1_like_0 1 rfl rfl)
theorem dX1_like_4 : decode cX1_like 4 = .ok (.invokevirtual 34, 3) := dk_182 0 34 (dk_at dksX1_like_0 4 rfl rfl)
theorem dX1_like_7 : decode cX1_like 7 = .ok (.aload_n 0, 1) := dk_42 (dk_at dksX1_like_0 7 rfl rfl)
theorem dX1_like_8 : decode cX1_like 8 = .ok (.getfield 12, 3) := dk_180 0 12 (dk_at dksX1_like_0 8 rfl rfl)
theorem dX1_like_11 : decode cX1_like 11 = .ok (.aload_n 1, 1) := dk_43 (dk_at dksX1_like_0 11 rfl rfl)
theorem dX1_like_12 : decode cX1_like 12 = .ok (.getfield 12, 3) := dk_180 0 12 (dk_at dksX1_like_0 12 rfl rfl)
theorem dX1_like_15 : decode cX1_like 15 = .ok (.invokevirtual 37, 3) := dk_182 0 37 (dk_at dksX1_like_0 15 rfl rfl)
theorem dX1_like_18 : decode cX1_like 18 = .ok (.pop, 1) := dk_87 (dk_at dksX1_like_0 18 rfl rfl)
theorem dX1_like_19 : decode cX1_like 19 = .ok (.aload_n 0, 1) := dk_42 (dk_at dksX1_like_0 19 rfl rfl)
theorem dX1_like_20 : decode cX1_like 20 = .ok (.getfield 18, 3) := dk_180 0 18 (dk_at dksX1_like_0 20 rfl rfl)
theorem dX1_like_23 : decode cX1_like 23 = .ok (.invokevirtual 34, 3) := dk_182 0 34 (dk_at dksX1_like_1 0 rfl rfl)
theorem dX1_like_26 : decode cX1_like 26 = .ok (.aload_n 0, 1) := dk_42 (dk_at dksX1_like_1 3 rfl rfl)
theorem dX1_like_27 : decode cX1_like 27 = .ok (.getfield 18, 3) := dk_180 0 18 (dk_at dksX1_like_1 4 rfl rfl)
theorem dX1_like_30 : decode cX1_like 30 = .ok (.aload_n 1, 1) := dk_43 (dk_at dksX1_like_1 7 rfl rfl)
theorem dX1_like_31 : decode cX1_like 31 = .ok (.getfield 18, 3) := dk_180 0 18 (dk_at dksX1_like_1 8 rfl rfl)
theorem dX1_like_34 : decode cX1_like 34 = .ok (.invokevirtual 37, 3) := dk_182 0 37 (dk_at dksX1_like_1 11 rfl rfl)
theorem dX1_like_37 : decode cX1_like 37 = .ok (.pop, 1) := dk_87 (dk_at dksX1_like_1 14 rfl rfl)
theorem dX1_like_38 : decode cX1_like 38 = .ok (.aload_n 1, 1) := dk_43 (dk_at dksX1_like_1 15 rfl rfl)
theorem dX1_like_39 : decode cX1_like 39 = .ok (.getfield 21, 3) := dk_180 0 21 (dk_at dksX1_like_1 16 rfl rfl)
theorem dX1_like_42 : decode cX1_like 42 = .ok (.iconst 0, 1) := dk_3 (dk_at dksX1_like_1 19 rfl rfl)
theorem dX1_like_43 : decode cX1_like 43 = .ok (.aload_n 0, 1) := dk_42 (dk_at dksX1_like_1 20 rfl rfl)
theorem dX1_like_44 : decode cX1_like 44 = .ok (.getfield 21, 3) := dk_180 0 21 (dk_at dksX1_like_1 21 rfl rfl)
theorem dX1_like_47 : decode cX1_like 47 = .ok (.iconst 0, 1) := dk_3 (dk_at dksX1_like_2 0 rfl rfl)
theorem dX1_like_48 : decode cX1_like 48 = .ok (.bipush 6, 2) := dk_16 6 (dk_at dksX1_like_2 1 rfl rfl)
theorem dX1_like_50 : decode cX1_like 50 = .ok (.invokestatic 28, 3) := dk_184 0 28 (dk_at dksX1_like_2 3 rfl rfl)
theorem dX1_like_53 : decode cX1_like 53 = .ok (.aload_n 0, 1) := dk_42 (dk_at dksX1_like_2 6 rfl rfl)
theorem dX1_like_54 : decode cX1_like 54 = .ok (.areturn, 1) := dk_176 (dk_at dksX1_like_2 7 rfl rfl)
theorem q124 : (Jvm.Cond.initialized "LetterPen$State") ∈ lw_all := lw_g (lw_at lw_m1 2 rfl) rfl
theorem q157 : (Jvm.Cond.instantiable "LetterPen$State" (3 : Nat)) ∈ lw_all := lw_g (lw_at lw_m1 35 rfl) rfl
theorem q159 : (Jvm.Cond.instanceMethod ({ cls := "LetterPen$State", name := "<init>", desc := "()V" } : Jvm.MethodName)) ∈ lw_all := lw_g (lw_at lw_m1 37 rfl) rfl
theorem q160 : (Jvm.Cond.code ({ cls := "LetterPen$State", name := "<init>", desc := "()V" } : Jvm.MethodName) prog_9_method_1_code (1 : Nat) (Option.none : Option Jvm.ClassFile.FieldType)) ∈ lw_all := lw_g (lw_at lw_m1 38 rfl) rfl
theorem q161 : (Jvm.Cond.methodLink "LetterPen$State" (3 : Nat) ({ cls := "java/lang/Object", name := "<init>", desc := "()V" } : Jvm.MethodName)) ∈ lw_all := lw_g (lw_at lw_m1 39 rfl) rfl
theorem q162 : (Jvm.Cond.classLink "LetterPen$State" (9 : Nat) "java/util/ArrayList") ∈ lw_all := lw_g (lw_at lw_m1 40 rfl) rfl
theorem q164 : (Jvm.Cond.methodLink "LetterPen$State" (11 : Nat) ({ cls := "java/util/ArrayList", name := "<init>", desc := "()V" } : Jvm.MethodName)) ∈ lw_all := lw_g (lw_at lw_m1 42 rfl) rfl
theorem q190 : (Jvm.Cond.fieldLinkNest "LetterPen$State" (25 : Nat) "LetterPen" "BEGUN" "[I" "LetterPen") ∈ lw_tbl := lw_at lw_m1 68 rfl
theorem q192 : (Jvm.Cond.methodLink "LetterPen$State" (28 : Nat) ({ cls := "java/lang/System", name := "arraycopy", desc := "(Ljava/lang/Object;ILjava/lang/Object;II)V" } : Jvm.MethodName)) ∈ lw_all := lw_g (lw_at lw_m1 70 rfl) rfl
theorem q195 : (Jvm.Cond.fieldLink "LetterPen$State" (12 : Nat) "LetterPen$State" "models" "Ljava/util/ArrayList;") ∈ lw_all := lw_g (lw_at lw_m1 73 rfl) rfl
theorem q198 : (Jvm.Cond.fieldLink "LetterPen$State" (18 : Nat) "LetterPen$State" "ink" "Ljava/util/ArrayList;") ∈ lw_all := lw_g (lw_at lw_m1 76 rfl) rfl
theorem q201 : (Jvm.Cond.fieldLink "LetterPen$State" (21 : Nat) "LetterPen$State" "values" "[I") ∈ lw_all := lw_g (lw_at lw_m1 79 rfl) rfl
theorem q204 : (Jvm.Cond.laysFinal "LetterPen$State" "LetterPen$State" "models" "Ljava/util/ArrayList;") ∈ lw_all := lw_g (lw_at lw_m1 82 rfl) rfl
theorem q205 : (Jvm.Cond.soleField "LetterPen$State" "models") ∈ lw_all := lw_g (lw_at lw_m1 83 rfl) rfl
theorem q206 : (Jvm.Cond.laysFinal "LetterPen$State" "LetterPen$State" "ink" "Ljava/util/ArrayList;") ∈ lw_all := lw_g (lw_at lw_m1 84 rfl) rfl
theorem q207 : (Jvm.Cond.soleField "LetterPen$State" "ink") ∈ lw_all := lw_g (lw_at lw_m1 85 rfl) rfl
theorem q208 : (Jvm.Cond.laysFinal "LetterPen$State" "LetterPen$State" "values" "[I") ∈ lw_all := lw_g (lw_at lw_m1 86 rfl) rfl
theorem q209 : (Jvm.Cond.soleField "LetterPen$State" "values") ∈ lw_all := lw_g (lw_at lw_m1 87 rfl) rfl
theorem q210 : (Jvm.Cond.superclass "LetterPen$State" "java/lang/Object") ∈ lw_all := lw_g (lw_at lw_m1 88 rfl) rfl
theorem q697 : (Jvm.Cond.selects "LetterPen$State" ({ cls := "java/lang/Object", name := "equals", desc := "(Ljava/lang/Object;)Z" } : Jvm.MethodName) ({ cls := "java/lang/Object", name := "equals", desc := "(Ljava/lang/Object;)Z" } : Jvm.MethodName)) ∈ lw_all := lw_g (lw_at lw_m3 95 rfl) rfl
theorem q741 : (Jvm.Cond.selects "LetterPen$State" ({ cls := "java/lang/Object", name := "getClass", desc := "()Ljava/lang/Class;" } : Jvm.MethodName) ({ cls := "java/lang/Object", name := "getClass", desc := "()Ljava/lang/Class;" } : Jvm.MethodName)) ∈ lw_all := lw_g (lw_at lw_m3 139 rfl) rfl
theorem q1269 : (Jvm.Cond.instanceMethod ({ cls := "LetterPen$State", name := "like", desc := "(LLetterPen$State;)LLetterPen$State;" } : Jvm.MethodName)) ∈ lw_all := lw_g (lw_at lw_m5 187 rfl) rfl
theorem q1270 : (Jvm.Cond.selects "LetterPen$State" ({ cls := "LetterPen$State", name := "like", desc := "(LLetterPen$State;)LLetterPen$State;" } : Jvm.MethodName) ({ cls := "LetterPen$State", name := "like", desc := "(LLetterPen$State;)LLetterPen$State;" } : Jvm.MethodName)) ∈ lw_all := lw_g (lw_at lw_m5 188 rfl) rfl
theorem q1271 : (Jvm.Cond.code ({ cls := "LetterPen$State", name := "like", desc := "(LLetterPen$State;)LLetterPen$State;" } : Jvm.MethodName) prog_9_method_2_code (2 : Nat) (Option.some (Jvm.ClassFile.FieldType.object "LetterPen$State"))) ∈ lw_all := lw_g (lw_at lw_m5 189 rfl) rfl
theorem q1272 : (Jvm.Cond.methodLink "LetterPen$State" (34 : Nat) ({ cls := "java/util/ArrayList", name := "clear", desc := "()V" } : Jvm.MethodName)) ∈ lw_all := lw_g (lw_at lw_m5 190 rfl) rfl
theorem q1273 : (Jvm.Cond.methodLink "LetterPen$State" (37 : Nat) ({ cls := "java/util/ArrayList", name := "addAll", desc := "(Ljava/util/Collection;)Z" } : Jvm.MethodName)) ∈ lw_all := lw_g (lw_at lw_m5 191 rfl) rfl
theorem q1997 : (Jvm.Cond.castable "LetterPen$State" "java/lang/Object") ∈ lw_tbl := lw_at lw_m8 195 rfl
theorem in_X1 : ∀ w ∈ wsX10, w ∈ lw_all := lw_in wsX10 [204, 206, 208] (by decide +kernel) (by decide +kernel)

/-! LetterPen$Box -/
set_option maxRecDepth 100000
def RX2 : String := "LetterPen$Box"
def TX2 : u_T := fun k => match k with
  | 0 => ("LetterPen$Box", "least", "[I", true)
  | _ => ("LetterPen$Box", "most", "[I", true)
def tyX2 : Nat → FieldType := fun k => match k with
  | 0 => .array .int
  | _ => .array .int
abbrev wsX20 : List Cond := u_ws RX2 TX2 2
theorem nmX2 : ∀ a, a < 2 → ∀ b, b < 2 → a ≠ b → (TX2 a).2.1 ≠ (TX2 b).2.1 := by decide +kernel
theorem tyX2_ok : ∀ k, k < 2 → parseFieldDescriptor (TX2 k).2.2.1 = some (tyX2 k) := by decide +kernel
abbrev cX2_init : ByteArray := prog_2_method_1_code
def yX2_init : MethodName := ⟨RX2, "<init>", "()V"⟩
def dkwX2_init_0 : List UInt8 := [42, 183, 0, 3, 42, 5, 188, 10, 181, 0, 9, 42, 5, 188, 10, 181, 0, 15, 42, 182, 0, 18, 177]
abbrev dktX2_init_0 : List UInt8 := dkwX2_init_0 ++ []
theorem dksX2_init_0 : cX2_init.data.toList.drop 0 = dktX2_init_0 := by decide +kernel
theorem dX2_init_0 : decode cX2_init 0 = .ok (.aload_n 0, 1) := dk_42 (dk_at dksX2_init_0 0 rfl rfl)
theorem dX2_init_1 : decode cX2_init 1 = .ok (.invokespecial 3, 3) := dk_183 0 3 (dk_at dksX2_init_0 1 rfl rfl)
theorem dX2_init_4 : decode cX2_init 4 = .ok (.aload_n 0, 1) := dk_42 (dk_at dksX2_init_0 4 rfl rfl)
theorem dX2_init_5 : decode cX2_init 5 = .ok (.iconst 2, 1) := dk_5 (dk_at dksX2_init_0 5 rfl rfl)
theorem dX2_init_6 : decode cX2_init 6 = .ok (.newarray .int, 2) := dk_188_10 (dk_at dksX2_init_0 6 rfl rfl)
theorem dX2_init_8 : decode cX2_init 8 = .ok (.putfield 9, 3) := dk_181 0 9 (dk_at dksX2_init_0 8 rfl rfl)
theorem dX2_init_11 : decode cX2_init 11 = .ok (.aload_n 0, 1) := dk_42 (dk_at dksX2_init_0 11 rfl rfl)
theorem dX2_init_12 : decode cX2_init 12 = .ok (.iconst 2, 1) := dk_5 (dk_at dksX2_init_0 12 rfl rfl)
theorem dX2_init_13 : decode cX2_init 13 = .ok (.newarray .int, 2) := dk_188_10 (dk_at dksX2_init_0 13 rfl rfl)
theorem dX2_init_15 : decode cX2_init 15 = .ok (.putfield 15, 3) := dk_181 0 15 (dk_at dksX2_init_0 15 rfl rfl)
theorem dX2_init_18 : decode cX2_init 18 = .ok (.aload_n 0, 1) := dk_42 (dk_at dksX2_init_0 18 rfl rfl)
theorem dX2_init_19 : decode cX2_init 19 = .ok (.invokevirtual 18, 3) := dk_182 0 18 (dk_at dksX2_init_0 19 rfl rfl)
theorem dX2_init_22 : decode cX2_init 22 = .ok (.return_, 1) := dk_177 (dk_at dksX2_init_0 22 rfl rfl)
abbrev cX2_begins : ByteArray := prog_2_method_2_code
def yX2_begins : MethodName := ⟨RX2, "begins", "()V"⟩
def dkwX2_begins_1 : List UInt8 := [132, 1, 1, 167, 255, 233, 177]
abbrev dktX2_begins_1 : List UInt8 := dkwX2_begins_1 ++ []
def dkwX2_begins_0 : List UInt8 := [3, 60, 27, 5, 162, 0, 24, 42, 180, 0, 9, 27, 16, 99, 79, 42, 180, 0, 15, 27, 3, 79]
abbrev dktX2_begins_0 : List UInt8 := dkwX2_begins_0 ++ dktX2_begins_1
theorem dksX2_begins_0 : cX2_begins.data.toList.drop 0 = dktX2_begins_0 := by decide +kernel
theorem dksX2_begins_1 : cX2_begins.data.toList.drop 22 = dktX2_begins_1 := dk_seg dksX2_begins_0 22 rfl rfl
theorem dX2_begins_0 : decode cX2_begins 0 = .ok (.iconst 0, 1) := dk_3 (dk_at dksX2_begins_0 0 rfl rfl)
theorem dX2_begins_1 : decode cX2_begins 1 = .ok (.istore_n 1, 1) := dk_60 (dk_at dksX2_begins_0 1 rfl rfl)
theorem dX2_begins_2 : decode cX2_begins 2 = .ok (.iload_n 1, 1) := dk_27 (dk_at dksX2_begins_0 2 rfl rfl)
theorem dX2_begins_3 : decode cX2_begins 3 = .ok (.iconst 2, 1) := dk_5 (dk_at dksX2_begins_0 3 rfl rfl)
theorem dX2_begins_4 : decode cX2_begins 4 = .ok (.if_icmp .ge 24, 3) := dk_162 0 24 (dk_at dksX2_begins_0 4 rfl rfl)
theorem dX2_begins_7 : decode cX2_begins 7 = .ok (.aload_n 0, 1) := dk_42 (dk_at dksX2_begins_0 7 rfl rfl)
theorem dX2_begins_8 : decode cX2_begins 8 = .ok (.getfield 9, 3) := dk_180 0 9 (dk_at dksX2_begins_0 8 rfl rfl)
theorem dX2_begins_11 : decode cX2_begins 11 = .ok (.iload_n 1, 1) := dk_27 (dk_at dksX2_begins_0 11 rfl rfl)
theorem dX2_begins_12 : decode cX2_begins 12 = .ok (.bipush 99, 2) := dk_16 99 (dk_at dksX2_begins_0 12 rfl rfl)
theorem dX2_begins_14 : decode cX2_begins 14 = .ok (.iastore, 1) := dk_79 (dk_at dksX2_begins_0 14 rfl rfl)
theorem dX2_begins_15 : decode cX2_begins 15 = .ok (.aload_n 0, 1) := dk_42 (dk_at dksX2_begins_0 15 rfl rfl)
theorem dX2_begins_16 : decode cX2_begins 16 = .ok (.getfield 15, 3) := dk_180 0 15 (dk_at dksX2_begins_0 16 rfl rfl)
theorem dX2_begins_19 : decode cX2_begins 19 = .ok (.iload_n 1, 1) := dk_27 (dk_at dksX2_begins_0 19 rfl rfl)
theorem dX2_begins_20 : decode cX2_begins 20 = .ok (.iconst 0, 1) := dk_3 (dk_at dksX2_begins_0 20 rfl rfl)
theorem dX2_begins_21 : decode cX2_begins 21 = .ok (.iastore, 1) := dk_79 (dk_at dksX2_begins_0 21 rfl rfl)
theorem dX2_begins_22 : decode cX2_begins 22 = .ok (.iinc 1 1, 3) := dk_132 1 1 (dk_at dksX2_begins_1 0 rfl rfl)
theorem dX2_begins_25 : decode cX2_begins 25 = .ok (.goto (-23), 3) := dk_167 255 233 (dk_at dksX2_begins_1 3 rfl rfl)
theorem dX2_begins_28 : decode cX2_begins 28 = .ok (.return_, 1) := dk_177 (dk_at dksX2_begins_1 6 rfl rfl)
abbrev cX2_around : ByteArray := prog_2_method_4_code
def yX2_around : MethodName := ⟨RX2, "around", "(Ljava/util/ArrayList;)LLetterPen$Box;"⟩
def dkwX2_around_1 : List UInt8 := [182, 0, 46, 132, 2, 1, 167, 255, 233, 42, 176]
abbrev dktX2_around_1 : List UInt8 := dkwX2_around_1 ++ []
def dkwX2_around_0 : List UInt8 := [42, 182, 0, 18, 3, 61, 28, 43, 182, 0, 36, 162, 0, 21, 42, 43, 28, 182, 0, 42, 192, 0, 22]
abbrev dktX2_around_0 : List UInt8 := dkwX2_around_0 ++ dktX2_around_1
theorem dksX2_around_0 : cX2_around.data.toList.drop 0 = dktX2_around_0 := by decide +kernel
theorem dksX2_around_1 : cX2_around.data.toList.drop 23 = dktX2_around_1 := dk_seg dksX2_around_0 23 rfl rfl
theorem dX2_around_0 : decode cX2_around 0 = .ok (.aload_n 0, 1) := dk_42 (dk_at dksX2_around_0 0 rfl rfl)
theorem dX2_around_1 : decode cX2_around 1 = .ok (.invokevirtual 18, 3) := dk_182 0 18 (dk_at dksX2_around_0 1 rfl rfl)
theorem dX2_around_4 : decode cX2_around 4 = .ok (.iconst 0, 1) := dk_3 (dk_at dksX2_around_0 4 rfl rfl)
theorem dX2_around_5 : decode cX2_around 5 = .ok (.istore_n 2, 1) := dk_61 (dk_at dksX2_around_0 5 rfl rfl)
theorem dX2_around_6 : decode cX2_around 6 = .ok (.iload_n 2, 1) := dk_28 (dk_at dksX2_around_0 6 rfl rfl)
theorem dX2_around_7 : decode cX2_around 7 = .ok (.aload_n 1, 1) := dk_43 (dk_at dksX2_around_0 7 rfl rfl)
theorem dX2_around_8 : decode cX2_around 8 = .ok (.invokevirtual 36, 3) := dk_182 0 36 (dk_at dksX2_around_0 8 rfl rfl)
theorem dX2_around_11 : decode cX2_around 11 = .ok (.if_icmp .ge 21, 3) := dk_162 0 21 (dk_at dksX2_around_0 11 rfl rfl)
theorem dX2_around_14 : decode cX2_around 14 = .ok (.aload_n 0, 1) := dk_42 (dk_at dksX2_around_0 14 rfl rfl)
theorem dX2_around_15 : decode cX2_around 15 = .ok (.aload_n 1, 1) := dk_43 (dk_at dksX2_around_0 15 rfl rfl)
theorem dX2_around_16 : decode cX2_around 16 = .ok (.iload_n 2, 1) := dk_28 (dk_at dksX2_around_0 16 rfl rfl)
theorem dX2_around_17 : decode cX2_around 17 = .ok (.invokevirtual 42, 3) := dk_182 0 42 (dk_at dksX2_around_0 17 rfl rfl)
theorem dX2_around_20 : decode cX2_around 20 = .ok (.checkcast 22, 3) := dk_192 0 22 (dk_at dksX2_around_0 20 rfl rfl)
theorem dX2_around_23 : decode cX2_around 23 = .ok (.invokevirtual 46, 3) := dk_182 0 46 (dk_at dksX2_around_1 0 rfl rfl)
theorem dX2_around_26 : decode cX2_around 26 = .ok (.iinc 2 1, 3) := dk_132 2 1 (dk_at dksX2_around_1 3 rfl rfl)
theorem dX2_around_29 : decode cX2_around 29 = .ok (.goto (-23), 3) := dk_167 255 233 (dk_at dksX2_around_1 6 rfl rfl)
theorem dX2_around_32 : decode cX2_around 32 = .ok (.aload_n 0, 1) := dk_42 (dk_at dksX2_around_1 9 rfl rfl)
theorem dX2_around_33 : decode cX2_around 33 = .ok (.areturn, 1) := dk_176 (dk_at dksX2_around_1 10 rfl rfl)
abbrev cX2_takes : ByteArray := prog_2_method_3_code
def yX2_takes : MethodName := ⟨RX2, "takes", "(LLetterPen$Stroke;)V"⟩
def dkwX2_takes_2 : List UInt8 := [79, 132, 2, 1, 167, 255, 206, 177]
abbrev dktX2_takes_2 : List UInt8 := dkwX2_takes_2 ++ []
def dkwX2_takes_1 : List UInt8 := [184, 0, 27, 79, 42, 180, 0, 15, 28, 42, 180, 0, 15, 28, 46, 43, 28, 4, 182, 0, 21, 184, 0, 33]
abbrev dktX2_takes_1 : List UInt8 := dkwX2_takes_1 ++ dktX2_takes_2
def dkwX2_takes_0 : List UInt8 := [3, 61, 28, 5, 162, 0, 51, 42, 180, 0, 9, 28, 42, 180, 0, 9, 28, 46, 43, 28, 3, 182, 0, 21]
abbrev dktX2_takes_0 : List UInt8 := dkwX2_takes_0 ++ dktX2_takes_1
theorem dksX2_takes_0 : cX2_takes.data.toList.drop 0 = dktX2_takes_0 := by decide +kernel
theorem dksX2_takes_1 : cX2_takes.data.toList.drop 24 = dktX2_takes_1 := dk_seg dksX2_takes_0 24 rfl rfl
theorem dksX2_takes_2 : cX2_takes.data.toList.drop 48 = dktX2_takes_2 := dk_seg dksX2_takes_1 24 rfl rfl
theorem dX2_takes_0 : decode cX2_takes 0 = .ok (.iconst 0, 1) := dk_3 (dk_at dksX2_takes_0 0 rfl rfl)
theorem dX2_takes_1 : decode cX2_takes 1 = .ok (.istore_n 2, 1) := dk_61 (dk_at dksX2_takes_0 1 rfl rfl)
theorem dX2_takes_2 : decode cX2_takes 2 = .ok (.iload_n 2, 1) := dk_28 (dk_at dksX2_takes_0 2 rfl rfl)
theorem dX2_takes_3 : decode cX2_takes 3 = .ok (.iconst 2, 1) := dk_5 (dk_at dksX2_takes_0 3 rfl rfl)
theorem dX2_takes_4 : decode cX2_takes 4 = .ok (.if_icmp .ge 51, 3) := dk_162 0 51 (dk_at dksX2_takes_0 4 rfl rfl)
theorem dX2_takes_7 : decode cX2_takes 7 = .ok (.aload_n 0, 1) := dk_42 (dk_at dksX2_takes_0 7 rfl rfl)
theorem dX2_takes_8 : decode cX2_takes 8 = .ok (.getfield 9, 3) := dk_180 0 9 (dk_at dksX2_takes_0 8 rfl rfl)
theorem dX2_takes_11 : decode cX2_takes 11 = .ok (.iload_n 2, 1) := dk_28 (dk_at dksX2_takes_0 11 rfl rfl)
theorem dX2_takes_12 : decode cX2_takes 12 = .ok (.aload_n 0, 1) := dk_42 (dk_at dksX2_takes_0 12 rfl rfl)
theorem dX2_takes_13 : decode cX2_takes 13 = .ok (.getfield 9, 3) := dk_180 0 9 (dk_at dksX2_takes_0 13 rfl rfl)
theorem dX2_takes_16 : decode cX2_takes 16 = .ok (.iload_n 2, 1) := dk_28 (dk_at dksX2_takes_0 16 rfl rfl)
theorem dX2_takes_17 : decode cX2_takes 17 = .ok (.iaload, 1) := dk_46 (dk_at dksX2_takes_0 17 rfl rfl)
theorem dX2_takes_18 : decode cX2_takes 18 = .ok (.aload_n 1, 1) := dk_43 (dk_at dksX2_takes_0 18 rfl rfl)
theorem dX2_takes_19 : decode cX2_takes 19 = .ok (.iload_n 2, 1) := dk_28 (dk_at dksX2_takes_0 19 rfl rfl)
theorem dX2_takes_20 : decode cX2_takes 20 = .ok (.iconst 0, 1) := dk_3 (dk_at dksX2_takes_0 20 rfl rfl)
theorem dX2_takes_21 : decode cX2_takes 21 = .ok (.invokevirtual 21, 3) := dk_182 0 21 (dk_at dksX2_takes_0 21 rfl rfl)
theorem dX2_takes_24 : decode cX2_takes 24 = .ok (.invokestatic 27, 3) := dk_184 0 27 (dk_at dksX2_takes_1 0 rfl rfl)
theorem dX2_takes_27 : decode cX2_takes 27 = .ok (.iastore, 1) := dk_79 (dk_at dksX2_takes_1 3 rfl rfl)
theorem dX2_takes_28 : decode cX2_takes 28 = .ok (.aload_n 0, 1) := dk_42 (dk_at dksX2_takes_1 4 rfl rfl)
theorem dX2_takes_29 : decode cX2_takes 29 = .ok (.getfield 15, 3) := dk_180 0 15 (dk_at dksX2_takes_1 5 rfl rfl)
theorem dX2_takes_32 : decode cX2_takes 32 = .ok (.iload_n 2, 1) := dk_28 (dk_at dksX2_takes_1 8 rfl rfl)
theorem dX2_takes_33 : decode cX2_takes 33 = .ok (.aload_n 0, 1) := dk_42 (dk_at dksX2_takes_1 9 rfl rfl)
theorem dX2_takes_34 : decode cX2_takes 34 = .ok (.getfield 15, 3) := dk_180 0 15 (dk_at dksX2_takes_1 10 rfl rfl)
theorem dX2_takes_37 : decode cX2_takes 37 = .ok (.iload_n 2, 1) := dk_28 (dk_at dksX2_takes_1 13 rfl rfl)
theorem dX2_takes_38 : decode cX2_takes 38 = .ok (.iaload, 1) := dk_46 (dk_at dksX2_takes_1 14 rfl rfl)
theorem dX2_takes_39 : decode cX2_takes 39 = .ok (.aload_n 1, 1) := dk_43 (dk_at dksX2_takes_1 15 rfl rfl)
theorem dX2_takes_40 : decode cX2_takes 40 = .ok (.iload_n 2, 1) := dk_28 (dk_at dksX2_takes_1 16 rfl rfl)
theorem dX2_takes_41 : decode cX2_takes 41 = .ok (.iconst 1, 1) := dk_4 (dk_at dksX2_takes_1 17 rfl rfl)
theorem dX2_takes_42 : decode cX2_takes 42 = .ok (.invokevirtual 21, 3) := dk_182 0 21 (dk_at dksX2_takes_1 18 rfl rfl)
theorem dX2_takes_45 : decode cX2_takes 45 = .ok (.invokestatic 33, 3) := dk_184 0 33 (dk_at dksX2_takes_1 21 rfl rfl)
theorem dX2_takes_48 : decode cX2_takes 48 = .ok (.iastore, 1) := dk_79 (dk_at dksX2_takes_2 0 rfl rfl)
theorem dX2_takes_49 : decode cX2_takes 49 = .ok (.iinc 2 1, 3) := dk_132 2 1 (dk_at dksX2_takes_2 1 rfl rfl)
theorem dX2_takes_52 : decode cX2_takes 52 = .ok (.goto (-50), 3) := dk_167 255 206 (dk_at dksX2_takes_2 4 rfl rfl)
theorem dX2_takes_55 : decode cX2_takes 55 = .ok (.return_, 1) := dk_177 (dk_at dksX2_takes_2 7 rfl rfl)
abbrev cX2_cell : ByteArray := prog_2_method_5_code
def yX2_cell : MethodName := ⟨RX2, "cell", "(LLetterPen$Stroke;I)I"⟩
def dkwX2_cell_1 : List UInt8 := [5, 42, 180, 0, 15, 28, 46, 42, 180, 0, 9, 28, 46, 100, 104, 4, 96, 108, 172]
abbrev dktX2_cell_1 : List UInt8 := dkwX2_cell_1 ++ []
def dkwX2_cell_0 : List UInt8 := [6, 43, 28, 3, 182, 0, 21, 43, 28, 4, 182, 0, 21, 96, 5, 42, 180, 0, 9, 28, 46, 104, 100, 104]
abbrev dktX2_cell_0 : List UInt8 := dkwX2_cell_0 ++ dktX2_cell_1
theorem dksX2_cell_0 : cX2_cell.data.toList.drop 0 = dktX2_cell_0 := by decide +kernel
theorem dksX2_cell_1 : cX2_cell.data.toList.drop 24 = dktX2_cell_1 := dk_seg dksX2_cell_0 24 rfl rfl
theorem dX2_cell_0 : decode cX2_cell 0 = .ok (.iconst 3, 1) := dk_6 (dk_at dksX2_cell_0 0 rfl rfl)
theorem dX2_cell_1 : decode cX2_cell 1 = .ok (.aload_n 1, 1) := dk_43 (dk_at dksX2_cell_0 1 rfl rfl)
theorem dX2_cell_2 : decode cX2_cell 2 = .ok (.iload_n 2, 1) := dk_28 (dk_at dksX2_cell_0 2 rfl rfl)
theorem dX2_cell_3 : decode cX2_cell 3 = .ok (.iconst 0, 1) := dk_3 (dk_at dksX2_cell_0 3 rfl rfl)
theorem dX2_cell_4 : decode cX2_cell 4 = .ok (.invokevirtual 21, 3) := dk_182 0 21 (dk_at dksX2_cell_0 4 rfl rfl)
theorem dX2_cell_7 : decode cX2_cell 7 = .ok (.aload_n 1, 1) := dk_43 (dk_at dksX2_cell_0 7 rfl rfl)
theorem dX2_cell_8 : decode cX2_cell 8 = .ok (.iload_n 2, 1) := dk_28 (dk_at dksX2_cell_0 8 rfl rfl)
theorem dX2_cell_9 : decode cX2_cell 9 = .ok (.iconst 1, 1) := dk_4 (dk_at dksX2_cell_0 9 rfl rfl)
theorem dX2_cell_10 : decode cX2_cell 10 = .ok (.invokevirtual 21, 3) := dk_182 0 21 (dk_at dksX2_cell_0 10 rfl rfl)
theorem dX2_cell_13 : decode cX2_cell 13 = .ok (.iadd, 1) := dk_96 (dk_at dksX2_cell_0 13 rfl rfl)
theorem dX2_cell_14 : decode cX2_cell 14 = .ok (.iconst 2, 1) := dk_5 (dk_at dksX2_cell_0 14 rfl rfl)
theorem dX2_cell_15 : decode cX2_cell 15 = .ok (.aload_n 0, 1) := dk_42 (dk_at dksX2_cell_0 15 rfl rfl)
theorem dX2_cell_16 : decode cX2_cell 16 = .ok (.getfield 9, 3) := dk_180 0 9 (dk_at dksX2_cell_0 16 rfl rfl)
theorem dX2_cell_19 : decode cX2_cell 19 = .ok (.iload_n 2, 1) := dk_28 (dk_at dksX2_cell_0 19 rfl rfl)
theorem dX2_cell_20 : decode cX2_cell 20 = .ok (.iaload, 1) := dk_46 (dk_at dksX2_cell_0 20 rfl rfl)
theorem dX2_cell_21 : decode cX2_cell 21 = .ok (.imul, 1) := dk_104 (dk_at dksX2_cell_0 21 rfl rfl)
theorem dX2_cell_22 : decode cX2_cell 22 = .ok (.isub, 1) := dk_100 (dk_at dksX2_cell_0 22 rfl rfl)
theorem dX2_cell_23 : decode cX2_cell 23 = .ok (.imul, 1) := dk_104 (dk_at dksX2_cell_0 23 rfl rfl)
theorem dX2_cell_24 : decode cX2_cell 24 = .ok (.iconst 2, 1) := dk_5 (dk_at dksX2_cell_1 0 rfl rfl)
theorem dX2_cell_25 : decode cX2_cell 25 = .ok (.aload_n 0, 1) := dk_42 (dk_at dksX2_cell_1 1 rfl rfl)
theorem dX2_cell_26 : decode cX2_cell 26 = .ok (.getfield 15, 3) := dk_180 0 15 (dk_at dksX2_cell_1 2 rfl rfl)
theorem dX2_cell_29 : decode cX2_cell 29 = .ok (.iload_n 2, 1) := dk_28 (dk_at dksX2_cell_1 5 rfl rfl)
theorem dX2_cell_30 : decode cX2_cell 30 = .ok (.iaload, 1) := dk_46 (dk_at dksX2_cell_1 6 rfl rfl)
theorem dX2_cell_31 : decode cX2_cell 31 = .ok (.aload_n 0, 1) := dk_42 (dk_at dksX2_cell_1 7 rfl rfl)
theorem dX2_cell_32 : decode cX2_cell 32 = .ok (.getfield 9, 3) := dk_180 0 9 (dk_at dksX2_cell_1 8 rfl rfl)
theorem dX2_cell_35 : decode cX2_cell 35 = .ok (.iload_n 2, 1) := dk_28 (dk_at dksX2_cell_1 11 rfl rfl)
theorem dX2_cell_36 : decode cX2_cell 36 = .ok (.iaload, 1) := dk_46 (dk_at dksX2_cell_1 12 rfl rfl)
theorem dX2_cell_37 : decode cX2_cell 37 = .ok (.isub, 1) := dk_100 (dk_at dksX2_cell_1 13 rfl rfl)
theorem dX2_cell_38 : decode cX2_cell 38 = .ok (.imul, 1) := dk_104 (dk_at dksX2_cell_1 14 rfl rfl)
theorem dX2_cell_39 : decode cX2_cell 39 = .ok (.iconst 1, 1) := dk_4 (dk_at dksX2_cell_1 15 rfl rfl)
theorem dX2_cell_40 : decode cX2_cell 40 = .ok (.iadd, 1) := dk_96 (dk_at dksX2_cell_1 16 rfl rfl)
theorem dX2_cell_41 : decode cX2_cell 41 = .ok (.idiv, 1) := dk_108 (dk_at dksX2_cell_1 17 rfl rfl)
theorem dX2_cell_42 : decode cX2_cell 42 = .ok (.ireturn, 1) := dk_172 (dk_at dksX2_cell_1 18 rfl rfl)
theorem q130 : (Jvm.Cond.initialized "LetterPen$Box") ∈ lw_all := lw_g (lw_at lw_m1 8 rfl) rfl
theorem q228 : (Jvm.Cond.instantiable "LetterPen$Box" (2 : Nat)) ∈ lw_all := lw_g (lw_at lw_m1 106 rfl) rfl
theorem q230 : (Jvm.Cond.instanceMethod ({ cls := "LetterPen$Box", name := "<init>", desc := "()V" } : Jvm.MethodName)) ∈ lw_all := lw_g (lw_at lw_m1 108 rfl) rfl
theorem q231 : (Jvm.Cond.code ({ cls := "LetterPen$Box", name := "<init>", desc := "()V" } : Jvm.MethodName) prog_2_method_1_code (1 : Nat) (Option.none : Option Jvm.ClassFile.FieldType)) ∈ lw_all := lw_g (lw_at lw_m1 109 rfl) rfl
theorem q232 : (Jvm.Cond.methodLink "LetterPen$Box" (3 : Nat) ({ cls := "java/lang/Object", name := "<init>", desc := "()V" } : Jvm.MethodName)) ∈ lw_all := lw_g (lw_at lw_m1 110 rfl) rfl
theorem q233 : (Jvm.Cond.methodLink "LetterPen$Box" (18 : Nat) ({ cls := "LetterPen$Box", name := "begins", desc := "()V" } : Jvm.MethodName)) ∈ lw_all := lw_g (lw_at lw_m1 111 rfl) rfl
theorem q234 : (Jvm.Cond.privateMethod ({ cls := "LetterPen$Box", name := "begins", desc := "()V" } : Jvm.MethodName)) ∈ lw_tbl := lw_at lw_m1 112 rfl
theorem q235 : (Jvm.Cond.instanceMethod ({ cls := "LetterPen$Box", name := "begins", desc := "()V" } : Jvm.MethodName)) ∈ lw_all := lw_g (lw_at lw_m1 113 rfl) rfl
theorem q236 : (Jvm.Cond.code ({ cls := "LetterPen$Box", name := "begins", desc := "()V" } : Jvm.MethodName) prog_2_method_2_code (2 : Nat) (Option.none : Option Jvm.ClassFile.FieldType)) ∈ lw_all := lw_g (lw_at lw_m1 114 rfl) rfl
theorem q237 : (Jvm.Cond.fieldLink "LetterPen$Box" (9 : Nat) "LetterPen$Box" "least" "[I") ∈ lw_all := lw_g (lw_at lw_m1 115 rfl) rfl
theorem q238 : (Jvm.Cond.fieldLink "LetterPen$Box" (15 : Nat) "LetterPen$Box" "most" "[I") ∈ lw_all := lw_g (lw_at lw_m1 116 rfl) rfl
theorem q239 : (Jvm.Cond.laysFinal "LetterPen$Box" "LetterPen$Box" "least" "[I") ∈ lw_all := lw_g (lw_at lw_m1 117 rfl) rfl
theorem q240 : (Jvm.Cond.soleField "LetterPen$Box" "least") ∈ lw_all := lw_g (lw_at lw_m1 118 rfl) rfl
theorem q241 : (Jvm.Cond.laysFinal "LetterPen$Box" "LetterPen$Box" "most" "[I") ∈ lw_all := lw_g (lw_at lw_m1 119 rfl) rfl
theorem q242 : (Jvm.Cond.soleField "LetterPen$Box" "most") ∈ lw_all := lw_g (lw_at lw_m1 120 rfl) rfl
theorem q243 : (Jvm.Cond.superclass "LetterPen$Box" "java/lang/Object") ∈ lw_all := lw_g (lw_at lw_m1 121 rfl) rfl
theorem q691 : (Jvm.Cond.selects "LetterPen$Box" ({ cls := "java/lang/Object", name := "equals", desc := "(Ljava/lang/Object;)Z" } : Jvm.MethodName) ({ cls := "java/lang/Object", name := "equals", desc := "(Ljava/lang/Object;)Z" } : Jvm.MethodName)) ∈ lw_all := lw_g (lw_at lw_m3 89 rfl) rfl
theorem q735 : (Jvm.Cond.selects "LetterPen$Box" ({ cls := "java/lang/Object", name := "getClass", desc := "()Ljava/lang/Class;" } : Jvm.MethodName) ({ cls := "java/lang/Object", name := "getClass", desc := "()Ljava/lang/Class;" } : Jvm.MethodName)) ∈ lw_all := lw_g (lw_at lw_m3 133 rfl) rfl
theorem q954 : (Jvm.Cond.instanceMethod ({ cls := "LetterPen$Box", name := "around", desc := "(Ljava/util/ArrayList;)LLetterPen$Box;" } : Jvm.MethodName)) ∈ lw_all := lw_g (lw_at lw_m4 112 rfl) rfl
theorem q955 : (Jvm.Cond.selects "LetterPen$Box" ({ cls := "LetterPen$Box", name := "around", desc := "(Ljava/util/ArrayList;)LLetterPen$Box;" } : Jvm.MethodName) ({ cls := "LetterPen$Box", name := "around", desc := "(Ljava/util/ArrayList;)LLetterPen$Box;" } : Jvm.MethodName)) ∈ lw_all := lw_g (lw_at lw_m4 113 rfl) rfl
theorem q956 : (Jvm.Cond.code ({ cls := "LetterPen$Box", name := "around", desc := "(Ljava/util/ArrayList;)LLetterPen$Box;" } : Jvm.MethodName) prog_2_method_4_code (3 : Nat) (Option.some (Jvm.ClassFile.FieldType.object "LetterPen$Box"))) ∈ lw_all := lw_g (lw_at lw_m4 114 rfl) rfl
theorem q957 : (Jvm.Cond.methodLink "LetterPen$Box" (36 : Nat) ({ cls := "java/util/ArrayList", name := "size", desc := "()I" } : Jvm.MethodName)) ∈ lw_all := lw_g (lw_at lw_m4 115 rfl) rfl
theorem q958 : (Jvm.Cond.methodLink "LetterPen$Box" (42 : Nat) ({ cls := "java/util/ArrayList", name := "get", desc := "(I)Ljava/lang/Object;" } : Jvm.MethodName)) ∈ lw_all := lw_g (lw_at lw_m4 116 rfl) rfl
theorem q959 : (Jvm.Cond.classLink "LetterPen$Box" (22 : Nat) "LetterPen$Stroke") ∈ lw_all := lw_g (lw_at lw_m4 117 rfl) rfl
theorem q960 : (Jvm.Cond.methodLink "LetterPen$Box" (46 : Nat) ({ cls := "LetterPen$Box", name := "takes", desc := "(LLetterPen$Stroke;)V" } : Jvm.MethodName)) ∈ lw_all := lw_g (lw_at lw_m4 118 rfl) rfl
theorem q961 : (Jvm.Cond.privateMethod ({ cls := "LetterPen$Box", name := "takes", desc := "(LLetterPen$Stroke;)V" } : Jvm.MethodName)) ∈ lw_tbl := lw_at lw_m4 119 rfl
theorem q962 : (Jvm.Cond.instanceMethod ({ cls := "LetterPen$Box", name := "takes", desc := "(LLetterPen$Stroke;)V" } : Jvm.MethodName)) ∈ lw_all := lw_g (lw_at lw_m4 120 rfl) rfl
theorem q963 : (Jvm.Cond.code ({ cls := "LetterPen$Box", name := "takes", desc := "(LLetterPen$Stroke;)V" } : Jvm.MethodName) prog_2_method_3_code (3 : Nat) (Option.none : Option Jvm.ClassFile.FieldType)) ∈ lw_all := lw_g (lw_at lw_m4 121 rfl) rfl
theorem q964 : (Jvm.Cond.methodLink "LetterPen$Box" (21 : Nat) ({ cls := "LetterPen$Stroke", name := "end", desc := "(IZ)I" } : Jvm.MethodName)) ∈ lw_all := lw_g (lw_at lw_m4 122 rfl) rfl
theorem q970 : (Jvm.Cond.methodLink "LetterPen$Box" (27 : Nat) ({ cls := "java/lang/Math", name := "min", desc := "(II)I" } : Jvm.MethodName)) ∈ lw_all := lw_g (lw_at lw_m4 128 rfl) rfl
theorem q971 : (Jvm.Cond.methodLink "LetterPen$Box" (33 : Nat) ({ cls := "java/lang/Math", name := "max", desc := "(II)I" } : Jvm.MethodName)) ∈ lw_all := lw_g (lw_at lw_m4 129 rfl) rfl
theorem q973 : (Jvm.Cond.instanceMethod ({ cls := "LetterPen$Box", name := "cell", desc := "(LLetterPen$Stroke;I)I" } : Jvm.MethodName)) ∈ lw_all := lw_g (lw_at lw_m4 131 rfl) rfl
theorem q974 : (Jvm.Cond.selects "LetterPen$Box" ({ cls := "LetterPen$Box", name := "cell", desc := "(LLetterPen$Stroke;I)I" } : Jvm.MethodName) ({ cls := "LetterPen$Box", name := "cell", desc := "(LLetterPen$Stroke;I)I" } : Jvm.MethodName)) ∈ lw_all := lw_g (lw_at lw_m4 132 rfl) rfl
theorem q975 : (Jvm.Cond.code ({ cls := "LetterPen$Box", name := "cell", desc := "(LLetterPen$Stroke;I)I" } : Jvm.MethodName) prog_2_method_5_code (3 : Nat) (Option.some Jvm.ClassFile.FieldType.int)) ∈ lw_all := lw_g (lw_at lw_m4 133 rfl) rfl
theorem q1999 : (Jvm.Cond.castable "LetterPen$Box" "java/lang/Object") ∈ lw_tbl := lw_at lw_m8 197 rfl
theorem in_X2 : ∀ w ∈ wsX20, w ∈ lw_all := lw_in wsX20 [239, 241] (by decide +kernel) (by decide +kernel)

/-! LetterPen$Scan -/
set_option maxRecDepth 100000
def RX4 : String := "LetterPen$Scan"
def TX4 : u_T := fun k => match k with
  | 0 => ("LetterPen$Scan", "size", "I", true)
  | 1 => ("LetterPen$Scan", "h", "LLetterPen$Plan;", true)
  | 2 => ("LetterPen$Scan", "into", "Ljava/util/ArrayList;", false)
  | 3 => ("LetterPen$Scan", "at", "I", false)
  | 4 => ("LetterPen$Scan", "ended", "I", false)
  | _ => ("LetterPen$Scan", "this$0", "LLetterPen;", true)
def tyX4 : Nat → FieldType := fun k => match k with
  | 0 => .int
  | 1 => .object "LetterPen$Plan"
  | 2 => .object "java/util/ArrayList"
  | 3 => .int
  | 4 => .int
  | _ => .object "LetterPen"
abbrev wsX40 : List Cond := u_ws RX4 TX4 6
theorem nmX4 : ∀ a, a < 6 → ∀ b, b < 6 → a ≠ b → (TX4 a).2.1 ≠ (TX4 b).2.1 := by decide +kernel
theorem tyX4_ok : ∀ k, k < 6 → parseFieldDescriptor (TX4 k).2.2.1 = some (tyX4 k) := by decide +kernel
abbrev cX4_init : ByteArray := prog_8_method_1_code
def yX4_init : MethodName := ⟨RX4, "<init>", "(LLetterPen;I)V"⟩
def dkwX4_init_1 : List UInt8 := [181, 0, 22, 42, 28, 181, 0, 26, 177]
abbrev dktX4_init_1 : List UInt8 := dkwX4_init_1 ++ []
def dkwX4_init_0 : List UInt8 := [42, 43, 181, 0, 3, 42, 183, 0, 9, 42, 187, 0, 15, 89, 183, 0, 17, 181, 0, 18, 42, 2]
abbrev dktX4_init_0 : List UInt8 := dkwX4_init_0 ++ dktX4_init_1
theorem dksX4_init_0 : cX4_init.data.toList.drop 0 = dktX4_init_0 := by decide +kernel
theorem dksX4_init_1 : cX4_init.data.toList.drop 22 = dktX4_init_1 := dk_seg dksX4_init_0 22 rfl rfl
theorem dX4_init_0 : decode cX4_init 0 = .ok (.aload_n 0, 1) := dk_42 (dk_at dksX4_init_0 0 rfl rfl)
theorem dX4_init_1 : decode cX4_init 1 = .ok (.aload_n 1, 1) := dk_43 (dk_at dksX4_init_0 1 rfl rfl)
theorem dX4_init_2 : decode cX4_init 2 = .ok (.putfield 3, 3) := dk_181 0 3 (dk_at dksX4_init_0 2 rfl rfl)
theorem dX4_init_5 : decode cX4_init 5 = .ok (.aload_n 0, 1) := dk_42 (dk_at dksX4_init_0 5 rfl rfl)
theorem dX4_init_6 : decode cX4_init 6 = .ok (.invokespecial 9, 3) := dk_183 0 9 (dk_at dksX4_init_0 6 rfl rfl)
theorem dX4_init_9 : decode cX4_init 9 = .ok (.aload_n 0, 1) := dk_42 (dk_at dksX4_init_0 9 rfl rfl)
theorem dX4_init_10 : decode cX4_init 10 = .ok (.new 15, 3) := dk_187 0 15 (dk_at dksX4_init_0 10 rfl rfl)
theorem dX4_init_13 : decode cX4_init 13 = .ok (.dup, 1) := dk_89 (dk_at dksX4_init_0 13 rfl rfl)
theorem dX4_init_14 : decode cX4_init 14 = .ok (.invokespecial 17, 3) := dk_183 0 17 (dk_at dksX4_init_0 14 rfl rfl)
theorem dX4_init_17 : decode cX4_init 17 = .ok (.putfield 18, 3) := dk_181 0 18 (dk_at dksX4_init_0 17 rfl rfl)
theorem dX4_init_20 : decode cX4_init 20 = .ok (.aload_n 0, 1) := dk_42 (dk_at dksX4_init_0 20 rfl rfl)
theorem dX4_init_21 : decode cX4_init 21 = .ok (.iconst (-1), 1) := dk_2 (dk_at dksX4_init_0 21 rfl rfl)
theorem dX4_init_22 : decode cX4_init 22 = .ok (.putfield 22, 3) := dk_181 0 22 (dk_at dksX4_init_1 0 rfl rfl)
theorem dX4_init_25 : decode cX4_init 25 = .ok (.aload_n 0, 1) := dk_42 (dk_at dksX4_init_1 3 rfl rfl)
theorem dX4_init_26 : decode cX4_init 26 = .ok (.iload_n 2, 1) := dk_28 (dk_at dksX4_init_1 4 rfl rfl)
theorem dX4_init_27 : decode cX4_init 27 = .ok (.putfield 26, 3) := dk_181 0 26 (dk_at dksX4_init_1 5 rfl rfl)
theorem dX4_init_30 : decode cX4_init 30 = .ok (.return_, 1) := dk_177 (dk_at dksX4_init_1 8 rfl rfl)
abbrev cX4_read : ByteArray := prog_8_method_14_code
def yX4_read : MethodName := ⟨RX4, "read", "()LLetterPen$Plan;"⟩
def dkwX4_read_0 : List UInt8 := [42, 182, 0, 179, 42, 182, 0, 38, 42, 180, 0, 26, 161, 255, 244, 42, 180, 0, 18, 176]
abbrev dktX4_read_0 : List UInt8 := dkwX4_read_0 ++ []
theorem dksX4_read_0 : cX4_read.data.toList.drop 0 = dktX4_read_0 := by decide +kernel
theorem dX4_read_0 : decode cX4_read 0 = .ok (.aload_n 0, 1) := dk_42 (dk_at dksX4_read_0 0 rfl rfl)
theorem dX4_read_1 : decode cX4_read 1 = .ok (.invokevirtual 179, 3) := dk_182 0 179 (dk_at dksX4_read_0 1 rfl rfl)
theorem dX4_read_4 : decode cX4_read 4 = .ok (.aload_n 0, 1) := dk_42 (dk_at dksX4_read_0 4 rfl rfl)
theorem dX4_read_5 : decode cX4_read 5 = .ok (.invokevirtual 38, 3) := dk_182 0 38 (dk_at dksX4_read_0 5 rfl rfl)
theorem dX4_read_8 : decode cX4_read 8 = .ok (.aload_n 0, 1) := dk_42 (dk_at dksX4_read_0 8 rfl rfl)
theorem dX4_read_9 : decode cX4_read 9 = .ok (.getfield 26, 3) := dk_180 0 26 (dk_at dksX4_read_0 9 rfl rfl)
theorem dX4_read_12 : decode cX4_read 12 = .ok (.if_icmp .lt (-12), 3) := dk_161 255 244 (dk_at dksX4_read_0 12 rfl rfl)
theorem dX4_read_15 : decode cX4_read 15 = .ok (.aload_n 0, 1) := dk_42 (dk_at dksX4_read_0 15 rfl rfl)
theorem dX4_read_16 : decode cX4_read 16 = .ok (.getfield 18, 3) := dk_180 0 18 (dk_at dksX4_read_0 16 rfl rfl)
theorem dX4_read_19 : decode cX4_read 19 = .ok (.areturn, 1) := dk_176 (dk_at dksX4_read_0 19 rfl rfl)
abbrev cX4_statement : ByteArray := prog_8_method_13_code
def yX4_statement : MethodName := ⟨RX4, "statement", "()V"⟩
def dkwX4_statement_6 : List UInt8 := [42, 180, 0, 18, 89, 180, 0, 156, 4, 96, 181, 0, 156, 177]
abbrev dktX4_statement_6 : List UInt8 := dkwX4_statement_6 ++ []
def dkwX4_statement_5 : List UInt8 := [180, 0, 33, 52, 16, 59, 159, 0, 8, 42, 182, 0, 70, 191, 42, 89, 180, 0, 33, 4, 96, 181, 0, 33]
abbrev dktX4_statement_5 : List UInt8 := dkwX4_statement_5 ++ dktX4_statement_6
def dkwX4_statement_4 : List UInt8 := [42, 182, 0, 70, 191, 42, 182, 0, 38, 42, 180, 0, 26, 159, 0, 20, 42, 180, 0, 3, 180, 0, 29, 42]
abbrev dktX4_statement_4 : List UInt8 := dkwX4_statement_4 ++ dktX4_statement_5
def dkwX4_statement_3 : List UInt8 := [27, 182, 0, 171, 167, 0, 25, 42, 18, 174, 182, 0, 82, 153, 0, 11, 42, 27, 182, 0, 176, 167, 0, 8]
abbrev dktX4_statement_3 : List UInt8 := dkwX4_statement_3 ++ dktX4_statement_4
def dkwX4_statement_2 : List UInt8 := [182, 0, 82, 153, 0, 11, 42, 27, 182, 0, 166, 167, 0, 42, 42, 18, 170, 182, 0, 82, 153, 0, 11, 42]
abbrev dktX4_statement_2 : List UInt8 := dkwX4_statement_2 ++ dktX4_statement_3
def dkwX4_statement_1 : List UInt8 := [183, 0, 42, 191, 42, 18, 159, 182, 0, 82, 153, 0, 10, 42, 182, 0, 161, 167, 0, 59, 42, 18, 164]
abbrev dktX4_statement_1 : List UInt8 := dkwX4_statement_1 ++ dktX4_statement_2
def dkwX4_statement_0 : List UInt8 := [42, 182, 0, 38, 60, 42, 180, 0, 18, 180, 0, 156, 16, 80, 160, 0, 13, 187, 0, 36, 89, 8, 27]
abbrev dktX4_statement_0 : List UInt8 := dkwX4_statement_0 ++ dktX4_statement_1
theorem dksX4_statement_0 : cX4_statement.data.toList.drop 0 = dktX4_statement_0 := by decide +kernel
theorem dksX4_statement_1 : cX4_statement.data.toList.drop 23 = dktX4_statement_1 := dk_seg dksX4_statement_0 23 rfl rfl
theorem dksX4_statement_2 : cX4_statement.data.toList.drop 46 = dktX4_statement_2 := dk_seg dksX4_statement_1 23 rfl rfl
theorem dksX4_statement_3 : cX4_statement.data.toList.drop 70 = dktX4_statement_3 := dk_seg dksX4_statement_2 24 rfl rfl
theorem dksX4_statement_4 : cX4_statement.data.toList.drop 94 = dktX4_statement_4 := dk_seg dksX4_statement_3 24 rfl rfl
theorem dksX4_statement_5 : cX4_statement.data.toList.drop 118 = dktX4_statement_5 := dk_seg dksX4_statement_4 24 rfl rfl
theorem dksX4_statement_6 : cX4_statement.data.toList.drop 142 = dktX4_statement_6 := dk_seg dksX4_statement_5 24 rfl rfl
theorem dX4_statement_0 : decode cX4_statement 0 = .ok (.aload_n 0, 1) := dk_42 (dk_at dksX4_statement_0 0 rfl rfl)
theorem dX4_statement_1 : decode cX4_statement 1 = .ok (.invokevirtual 38, 3) := dk_182 0 38 (dk_at dksX4_statement_0 1 rfl rfl)
theorem dX4_statement_4 : decode cX4_statement 4 = .ok (.istore_n 1, 1) := dk_60 (dk_at dksX4_statement_0 4 rfl rfl)
theorem dX4_statement_5 : decode cX4_statement 5 = .ok (.aload_n 0, 1) := dk_42 (dk_at dksX4_statement_0 5 rfl rfl)
theorem dX4_statement_6 : decode cX4_statement 6 = .ok (.getfield 18, 3) := dk_180 0 18 (dk_at dksX4_statement_0 6 rfl rfl)
theorem dX4_statement_9 : decode cX4_statement 9 = .ok (.getfield 156, 3) := dk_180 0 156 (dk_at dksX4_statement_0 9 rfl rfl)
theorem dX4_statement_12 : decode cX4_statement 12 = .ok (.bipush 80, 2) := dk_16 80 (dk_at dksX4_statement_0 12 rfl rfl)
theorem dX4_statement_14 : decode cX4_statement 14 = .ok (.if_icmp .ne 13, 3) := dk_160 0 13 (dk_at dksX4_statement_0 14 rfl rfl)
theorem dX4_statement_17 : decode cX4_statement 17 = .ok (.new 36, 3) := dk_187 0 36 (dk_at dksX4_statement_0 17 rfl rfl)
theorem dX4_statement_20 : decode cX4_statement 20 = .ok (.dup, 1) := dk_89 (dk_at dksX4_statement_0 20 rfl rfl)
theorem dX4_statement_21 : decode cX4_statement 21 = .ok (.iconst 5, 1) := dk_8 (dk_at dksX4_statement_0 21 rfl rfl)
theorem dX4_statement_22 : decode cX4_statement 22 = .ok (.iload_n 1, 1) := dk_27 (dk_at dksX4_statement_0 22 rfl rfl)
theorem dX4_statement_23 : decode cX4_statement 23 = .ok (.invokespecial 42, 3) := dk_183 0 42 (dk_at dksX4_statement_1 0 rfl rfl)
theorem dX4_statement_26 : decode cX4_statement 26 = .ok (.athrow, 1) := dk_191 (dk_at dksX4_statement_1 3 rfl rfl)
theorem dX4_statement_27 : decode cX4_statement 27 = .ok (.aload_n 0, 1) := dk_42 (dk_at dksX4_statement_1 4 rfl rfl)
theorem dX4_statement_28 : decode cX4_statement 28 = .ok (.ldc 159, 2) := dk_18 159 (dk_at dksX4_statement_1 5 rfl rfl)
theorem dX4_statement_30 : decode cX4_statement 30 = .ok (.invokevirtual 82, 3) := dk_182 0 82 (dk_at dksX4_statement_1 7 rfl rfl)
theorem dX4_statement_33 : decode cX4_statement 33 = .ok (.ifCond .eq 10, 3) := dk_153 0 10 (dk_at dksX4_statement_1 10 rfl rfl)
theorem dX4_statement_36 : decode cX4_statement 36 = .ok (.aload_n 0, 1) := dk_42 (dk_at dksX4_statement_1 13 rfl rfl)
theorem dX4_statement_37 : decode cX4_statement 37 = .ok (.invokevirtual 161, 3) := dk_182 0 161 (dk_at dksX4_statement_1 14 rfl rfl)
theorem dX4_statement_40 : decode cX4_statement 40 = .ok (.goto 59, 3) := dk_167 0 59 (dk_at dksX4_statement_1 17 rfl rfl)
theorem dX4_statement_43 : decode cX4_statement 43 = .ok (.aload_n 0, 1) := dk_42 (dk_at dksX4_statement_1 20 rfl rfl)
theorem dX4_statement_44 : decode cX4_statement 44 = .ok (.ldc 164, 2) := dk_18 164 (dk_at dksX4_statement_1 21 rfl rfl)
theorem dX4_statement_46 : decode cX4_statement 46 = .ok (.invokevirtual 82, 3) := dk_182 0 82 (dk_at dksX4_statement_2 0 rfl rfl)
theorem dX4_statement_49 : decode cX4_statement 49 = .ok (.ifCond .eq 11, 3) := dk_153 0 11 (dk_at dksX4_statement_2 3 rfl rfl)
theorem dX4_statement_52 : decode cX4_statement 52 = .ok (.aload_n 0, 1) := dk_42 (dk_at dksX4_statement_2 6 rfl rfl)
theorem dX4_statement_53 : decode cX4_statement 53 = .ok (.iload_n 1, 1) := dk_27 (dk_at dksX4_statement_2 7 rfl rfl)
theorem dX4_statement_54 : decode cX4_statement 54 = .ok (.invokevirtual 166, 3) := dk_182 0 166 (dk_at dksX4_statement_2 8 rfl rfl)
theorem dX4_statement_57 : decode cX4_statement 57 = .ok (.goto 42, 3) := dk_167 0 42 (dk_at dksX4_statement_2 11 rfl rfl)
theorem dX4_statement_60 : decode cX4_statement 60 = .ok (.aload_n 0, 1) := dk_42 (dk_at dksX4_statement_2 14 rfl rfl)
theorem dX4_statement_61 : decode cX4_statement 61 = .ok (.ldc 170, 2) := dk_18 170 (dk_at dksX4_statement_2 15 rfl rfl)
theorem dX4_statement_63 : decode cX4_statement 63 = .ok (.invokevirtual 82, 3) := dk_182 0 82 (dk_at dksX4_statement_2 17 rfl rfl)
theorem dX4_statement_66 : decode cX4_statement 66 = .ok (.ifCond .eq 11, 3) := dk_153 0 11 (dk_at dksX4_statement_2 20 rfl rfl)
theorem dX4_statement_69 : decode cX4_statement 69 = .ok (.aload_n 0, 1) := dk_42 (dk_at dksX4_statement_2 23 rfl rfl)
theorem dX4_statement_70 : decode cX4_statement 70 = .ok (.iload_n 1, 1) := dk_27 (dk_at dksX4_statement_3 0 rfl rfl)
theorem dX4_statement_71 : decode cX4_statement 71 = .ok (.invokevirtual 171, 3) := dk_182 0 171 (dk_at dksX4_statement_3 1 rfl rfl)
theorem dX4_statement_74 : decode cX4_statement 74 = .ok (.goto 25, 3) := dk_167 0 25 (dk_at dksX4_statement_3 4 rfl rfl)
theorem dX4_statement_77 : decode cX4_statement 77 = .ok (.aload_n 0, 1) := dk_42 (dk_at dksX4_statement_3 7 rfl rfl)
theorem dX4_statement_78 : decode cX4_statement 78 = .ok (.ldc 174, 2) := dk_18 174 (dk_at dksX4_statement_3 8 rfl rfl)
theorem dX4_statement_80 : decode cX4_statement 80 = .ok (.invokevirtual 82, 3) := dk_182 0 82 (dk_at dksX4_statement_3 10 rfl rfl)
theorem dX4_statement_83 : decode cX4_statement 83 = .ok (.ifCond .eq 11, 3) := dk_153 0 11 (dk_at dksX4_statement_3 13 rfl rfl)
theorem dX4_statement_86 : decode cX4_statement 86 = .ok (.aload_n 0, 1) := dk_42 (dk_at dksX4_statement_3 16 rfl rfl)
theorem dX4_statement_87 : decode cX4_statement 87 = .ok (.iload_n 1, 1) := dk_27 (dk_at dksX4_statement_3 17 rfl rfl)
theorem dX4_statement_88 : decode cX4_statement 88 = .ok (.invokevirtual 176, 3) := dk_182 0 176 (dk_at dksX4_statement_3 18 rfl rfl)
theorem dX4_statement_91 : decode cX4_statement 91 = .ok (.goto 8, 3) := dk_167 0 8 (dk_at dksX4_statement_3 21 rfl rfl)
theorem dX4_statement_94 : decode cX4_statement 94 = .ok (.aload_n 0, 1) := dk_42 (dk_at dksX4_statement_4 0 rfl rfl)
theorem dX4_statement_95 : decode cX4_statement 95 = .ok (.invokevirtual 70, 3) := dk_182 0 70 (dk_at dksX4_statement_4 1 rfl rfl)
theorem dX4_statement_98 : decode cX4_statement 98 = .ok (.athrow, 1) := dk_191 (dk_at dksX4_statement_4 4 rfl rfl)
theorem dX4_statement_99 : decode cX4_statement 99 = .ok (.aload_n 0, 1) := dk_42 (dk_at dksX4_statement_4 5 rfl rfl)
theorem dX4_statement_100 : decode cX4_statement 100 = .ok (.invokevirtual 38, 3) := dk_182 0 38 (dk_at dksX4_statement_4 6 rfl rfl)
theorem dX4_statement_103 : decode cX4_statement 103 = .ok (.aload_n 0, 1) := dk_42 (dk_at dksX4_statement_4 9 rfl rfl)
theorem dX4_statement_104 : decode cX4_statement 104 = .ok (.getfield 26, 3) := dk_180 0 26 (dk_at dksX4_statement_4 10 rfl rfl)
theorem dX4_statement_107 : decode cX4_statement 107 = .ok (.if_icmp .eq 20, 3) := dk_159 0 20 (dk_at dksX4_statement_4 13 rfl rfl)
theorem dX4_statement_110 : decode cX4_statement 110 = .ok (.aload_n 0, 1) := dk_42 (dk_at dksX4_statement_4 16 rfl rfl)
theorem dX4_statement_111 : decode cX4_statement 111 = .ok (.getfield 3, 3) := dk_180 0 3 (dk_at dksX4_statement_4 17 rfl rfl)
theorem dX4_statement_114 : decode cX4_statement 114 = .ok (.getfield 29, 3) := dk_180 0 29 (dk_at dksX4_statement_4 20 rfl rfl)
theorem dX4_statement_117 : decode cX4_statement 117 = .ok (.aload_n 0, 1) := dk_42 (dk_at dksX4_statement_4 23 rfl rfl)
theorem dX4_statement_118 : decode cX4_statement 118 = .ok (.getfield 33, 3) := dk_180 0 33 (dk_at dksX4_statement_5 0 rfl rfl)
theorem dX4_statement_121 : decode cX4_statement 121 = .ok (.caload, 1) := dk_52 (dk_at dksX4_statement_5 3 rfl rfl)
theorem dX4_statement_122 : decode cX4_statement 122 = .ok (.bipush 59, 2) := dk_16 59 (dk_at dksX4_statement_5 4 rfl rfl)
theorem dX4_statement_124 : decode cX4_statement 124 = .ok (.if_icmp .eq 8, 3) := dk_159 0 8 (dk_at dksX4_statement_5 6 rfl rfl)
theorem dX4_statement_127 : decode cX4_statement 127 = .ok (.aload_n 0, 1) := dk_42 (dk_at dksX4_statement_5 9 rfl rfl)
theorem dX4_statement_128 : decode cX4_statement 128 = .ok (.invokevirtual 70, 3) := dk_182 0 70 (dk_at dksX4_statement_5 10 rfl rfl)
theorem dX4_statement_131 : decode cX4_statement 131 = .ok (.athrow, 1) := dk_191 (dk_at dksX4_statement_5 13 rfl rfl)
theorem dX4_statement_132 : decode cX4_statement 132 = .ok (.aload_n 0, 1) := dk_42 (dk_at dksX4_statement_5 14 rfl rfl)
theorem dX4_statement_133 : decode cX4_statement 133 = .ok (.dup, 1) := dk_89 (dk_at dksX4_statement_5 15 rfl rfl)
theorem dX4_statement_134 : decode cX4_statement 134 = .ok (.getfield 33, 3) := dk_180 0 33 (dk_at dksX4_statement_5 16 rfl rfl)
theorem dX4_statement_137 : decode cX4_statement 137 = .ok (.iconst 1, 1) := dk_4 (dk_at dksX4_statement_5 19 rfl rfl)
theorem dX4_statement_138 : decode cX4_statement 138 = .ok (.iadd, 1) := dk_96 (dk_at dksX4_statement_5 20 rfl rfl)
theorem dX4_statement_139 : decode cX4_statement 139 = .ok (.putfield 33, 3) := dk_181 0 33 (dk_at dksX4_statement_5 21 rfl rfl)
theorem dX4_statement_142 : decode cX4_statement 142 = .ok (.aload_n 0, 1) := dk_42 (dk_at dksX4_statement_6 0 rfl rfl)
theorem dX4_statement_143 : decode cX4_statement 143 = .ok (.getfield 18, 3) := dk_180 0 18 (dk_at dksX4_statement_6 1 rfl rfl)
theorem dX4_statement_146 : decode cX4_statement 146 = .ok (.dup, 1) := dk_89 (dk_at dksX4_statement_6 4 rfl rfl)
theorem dX4_statement_147 : decode cX4_statement 147 = .ok (.getfield 156, 3) := dk_180 0 156 (dk_at dksX4_statement_6 5 rfl rfl)
theorem dX4_statement_150 : decode cX4_statement 150 = .ok (.iconst 1, 1) := dk_4 (dk_at dksX4_statement_6 8 rfl rfl)
theorem dX4_statement_151 : decode cX4_statement 151 = .ok (.iadd, 1) := dk_96 (dk_at dksX4_statement_6 9 rfl rfl)
theorem dX4_statement_152 : decode cX4_statement 152 = .ok (.putfield 156, 3) := dk_181 0 156 (dk_at dksX4_statement_6 10 rfl rfl)
theorem dX4_statement_155 : decode cX4_statement 155 = .ok (.return_, 1) := dk_177 (dk_at dksX4_statement_6 13 rfl rfl)
abbrev cX4_next : ByteArray := prog_8_method_4_code
def yX4_next : MethodName := ⟨RX4, "next", "()I"⟩
def dkwX4_next_2 : List UInt8 := [180, 0, 33, 4, 96, 181, 0, 33, 167, 255, 201, 42, 180, 0, 33, 172]
abbrev dktX4_next_2 : List UInt8 := dkwX4_next_2 ++ []
def dkwX4_next_1 : List UInt8 := [16, 32, 159, 0, 20, 42, 180, 0, 3, 180, 0, 29, 42, 180, 0, 33, 52, 16, 10, 160, 0, 16, 42, 89]
abbrev dktX4_next_1 : List UInt8 := dkwX4_next_1 ++ dktX4_next_2
def dkwX4_next_0 : List UInt8 := [42, 180, 0, 33, 42, 180, 0, 26, 162, 0, 50, 42, 180, 0, 3, 180, 0, 29, 42, 180, 0, 33, 52]
abbrev dktX4_next_0 : List UInt8 := dkwX4_next_0 ++ dktX4_next_1
theorem dksX4_next_0 : cX4_next.data.toList.drop 0 = dktX4_next_0 := by decide +kernel
theorem dksX4_next_1 : cX4_next.data.toList.drop 23 = dktX4_next_1 := dk_seg dksX4_next_0 23 rfl rfl
theorem dksX4_next_2 : cX4_next.data.toList.drop 47 = dktX4_next_2 := dk_seg dksX4_next_1 24 rfl rfl
theorem dX4_next_0 : decode cX4_next 0 = .ok (.aload_n 0, 1) := dk_42 (dk_at dksX4_next_0 0 rfl rfl)
theorem dX4_next_1 : decode cX4_next 1 = .ok (.getfield 33, 3) := dk_180 0 33 (dk_at dksX4_next_0 1 rfl rfl)
theorem dX4_next_4 : decode cX4_next 4 = .ok (.aload_n 0, 1) := dk_42 (dk_at dksX4_next_0 4 rfl rfl)
theorem dX4_next_5 : decode cX4_next 5 = .ok (.getfield 26, 3) := dk_180 0 26 (dk_at dksX4_next_0 5 rfl rfl)
theorem dX4_next_8 : decode cX4_next 8 = .ok (.if_icmp .ge 50, 3) := dk_162 0 50 (dk_at dksX4_next_0 8 rfl rfl)
theorem dX4_next_11 : decode cX4_next 11 = .ok (.aload_n 0, 1) := dk_42 (dk_at dksX4_next_0 11 rfl rfl)
theorem dX4_next_12 : decode cX4_next 12 = .ok (.getfield 3, 3) := dk_180 0 3 (dk_at dksX4_next_0 12 rfl rfl)
theorem dX4_next_15 : decode cX4_next 15 = .ok (.getfield 29, 3) := dk_180 0 29 (dk_at dksX4_next_0 15 rfl rfl)
theorem dX4_next_18 : decode cX4_next 18 = .ok (.aload_n 0, 1) := dk_42 (dk_at dksX4_next_0 18 rfl rfl)
theorem dX4_next_19 : decode cX4_next 19 = .ok (.getfield 33, 3) := dk_180 0 33 (dk_at dksX4_next_0 19 rfl rfl)
theorem dX4_next_22 : decode cX4_next 22 = .ok (.caload, 1) := dk_52 (dk_at dksX4_next_0 22 rfl rfl)
theorem dX4_next_23 : decode cX4_next 23 = .ok (.bipush 32, 2) := dk_16 32 (dk_at dksX4_next_1 0 rfl rfl)
theorem dX4_next_25 : decode cX4_next 25 = .ok (.if_icmp .eq 20, 3) := dk_159 0 20 (dk_at dksX4_next_1 2 rfl rfl)
theorem dX4_next_28 : decode cX4_next 28 = .ok (.aload_n 0, 1) := dk_42 (dk_at dksX4_next_1 5 rfl rfl)
theorem dX4_next_29 : decode cX4_next 29 = .ok (.getfield 3, 3) := dk_180 0 3 (dk_at dksX4_next_1 6 rfl rfl)
theorem dX4_next_32 : decode cX4_next 32 = .ok (.getfield 29, 3) := dk_180 0 29 (dk_at dksX4_next_1 9 rfl rfl)
theorem dX4_next_35 : decode cX4_next 35 = .ok (.aload_n 0, 1) := dk_42 (dk_at dksX4_next_1 12 rfl rfl)
theorem dX4_next_36 : decode cX4_next 36 = .ok (.getfield 33, 3) := dk_180 0 33 (dk_at dksX4_next_1 13 rfl rfl)
theorem dX4_next_39 : decode cX4_next 39 = .ok (.caload, 1) := dk_52 (dk_at dksX4_next_1 16 rfl rfl)
theorem dX4_next_40 : decode cX4_next 40 = .ok (.bipush 10, 2) := dk_16 10 (dk_at dksX4_next_1 17 rfl rfl)
theorem dX4_next_42 : decode cX4_next 42 = .ok (.if_icmp .ne 16, 3) := dk_160 0 16 (dk_at dksX4_next_1 19 rfl rfl)
theorem dX4_next_45 : decode cX4_next 45 = .ok (.aload_n 0, 1) := dk_42 (dk_at dksX4_next_1 22 rfl rfl)
theorem dX4_next_46 : decode cX4_next 46 = .ok (.dup, 1) := dk_89 (dk_at dksX4_next_1 23 rfl rfl)
theorem dX4_next_47 : decode cX4_next 47 = .ok (.getfield 33, 3) := dk_180 0 33 (dk_at dksX4_next_2 0 rfl rfl)
theorem dX4_next_50 : decode cX4_next 50 = .ok (.iconst 1, 1) := dk_4 (dk_at dksX4_next_2 3 rfl rfl)
theorem dX4_next_51 : decode cX4_next 51 = .ok (.iadd, 1) := dk_96 (dk_at dksX4_next_2 4 rfl rfl)
theorem dX4_next_52 : decode cX4_next 52 = .ok (.putfield 33, 3) := dk_181 0 33 (dk_at dksX4_next_2 5 rfl rfl)
theorem dX4_next_55 : decode cX4_next 55 = .ok (.goto (-55), 3) := dk_167 255 201 (dk_at dksX4_next_2 8 rfl rfl)
theorem dX4_next_58 : decode cX4_next 58 = .ok (.aload_n 0, 1) := dk_42 (dk_at dksX4_next_2 11 rfl rfl)
theorem dX4_next_59 : decode cX4_next 59 = .ok (.getfield 33, 3) := dk_180 0 33 (dk_at dksX4_next_2 12 rfl rfl)
theorem dX4_next_62 : decode cX4_next 62 = .ok (.ireturn, 1) := dk_172 (dk_at dksX4_next_2 15 rfl rfl)
abbrev cX4_takes : ByteArray := prog_8_method_7_code
def yX4_takes : MethodName := ⟨RX4, "takes", "(Ljava/lang/String;)Z"⟩
def dkwX4_takes_1 : List UInt8 := [181, 0, 33, 42, 42, 180, 0, 33, 181, 0, 22, 4, 172]
abbrev dktX4_takes_1 : List UInt8 := dkwX4_takes_1 ++ []
def dkwX4_takes_0 : List UInt8 := [42, 182, 0, 56, 43, 182, 0, 60, 154, 0, 5, 3, 172, 42, 89, 180, 0, 33, 43, 182, 0, 64, 96]
abbrev dktX4_takes_0 : List UInt8 := dkwX4_takes_0 ++ dktX4_takes_1
theorem dksX4_takes_0 : cX4_takes.data.toList.drop 0 = dktX4_takes_0 := by decide +kernel
theorem dksX4_takes_1 : cX4_takes.data.toList.drop 23 = dktX4_takes_1 := dk_seg dksX4_takes_0 23 rfl rfl
theorem dX4_takes_0 : decode cX4_takes 0 = .ok (.aload_n 0, 1) := dk_42 (dk_at dksX4_takes_0 0 rfl rfl)
theorem dX4_takes_1 : decode cX4_takes 1 = .ok (.invokevirtual 56, 3) := dk_182 0 56 (dk_at dksX4_takes_0 1 rfl rfl)
theorem dX4_takes_4 : decode cX4_takes 4 = .ok (.aload_n 1, 1) := dk_43 (dk_at dksX4_takes_0 4 rfl rfl)
theorem dX4_takes_5 : decode cX4_takes 5 = .ok (.invokevirtual 60, 3) := dk_182 0 60 (dk_at dksX4_takes_0 5 rfl rfl)
theorem dX4_takes_8 : decode cX4_takes 8 = .ok (.ifCond .ne 5, 3) := dk_154 0 5 (dk_at dksX4_takes_0 8 rfl rfl)
theorem dX4_takes_11 : decode cX4_takes 11 = .ok (.iconst 0, 1) := dk_3 (dk_at dksX4_takes_0 11 rfl rfl)
theorem dX4_takes_12 : decode cX4_takes 12 = .ok (.ireturn, 1) := dk_172 (dk_at dksX4_takes_0 12 rfl rfl)
theorem dX4_takes_13 : decode cX4_takes 13 = .ok (.aload_n 0, 1) := dk_42 (dk_at dksX4_takes_0 13 rfl rfl)
theorem dX4_takes_14 : decode cX4_takes 14 = .ok (.dup, 1) := dk_89 (dk_at dksX4_takes_0 14 rfl rfl)
theorem dX4_takes_15 : decode cX4_takes 15 = .ok (.getfield 33, 3) := dk_180 0 33 (dk_at dksX4_takes_0 15 rfl rfl)
theorem dX4_takes_18 : decode cX4_takes 18 = .ok (.aload_n 1, 1) := dk_43 (dk_at dksX4_takes_0 18 rfl rfl)
theorem dX4_takes_19 : decode cX4_takes 19 = .ok (.invokevirtual 64, 3) := dk_182 0 64 (dk_at dksX4_takes_0 19 rfl rfl)
theorem dX4_takes_22 : decode cX4_takes 22 = .ok (.iadd, 1) := dk_96 (dk_at dksX4_takes_0 22 rfl rfl)
theorem dX4_takes_23 : decode cX4_takes 23 = .ok (.putfield 33, 3) := dk_181 0 33 (dk_at dksX4_takes_1 0 rfl rfl)
theorem dX4_takes_26 : decode cX4_takes 26 = .ok (.aload_n 0, 1) := dk_42 (dk_at dksX4_takes_1 3 rfl rfl)
theorem dX4_takes_27 : decode cX4_takes 27 = .ok (.aload_n 0, 1) := dk_42 (dk_at dksX4_takes_1 4 rfl rfl)
theorem dX4_takes_28 : decode cX4_takes 28 = .ok (.getfield 33, 3) := dk_180 0 33 (dk_at dksX4_takes_1 5 rfl rfl)
theorem dX4_takes_31 : decode cX4_takes 31 = .ok (.putfield 22, 3) := dk_181 0 22 (dk_at dksX4_takes_1 8 rfl rfl)
theorem dX4_takes_34 : decode cX4_takes 34 = .ok (.iconst 1, 1) := dk_4 (dk_at dksX4_takes_1 11 rfl rfl)
theorem dX4_takes_35 : decode cX4_takes 35 = .ok (.ireturn, 1) := dk_172 (dk_at dksX4_takes_1 12 rfl rfl)
abbrev cX4_wordHere : ByteArray := prog_8_method_6_code
def yX4_wordHere : MethodName := ⟨RX4, "wordHere", "()Ljava/lang/String;"⟩
def dkwX4_wordHere_2 : List UInt8 := [180, 0, 29, 42, 180, 0, 33, 27, 42, 180, 0, 33, 100, 183, 0, 53, 176]
abbrev dktX4_wordHere_2 : List UInt8 := dkwX4_wordHere_2 ++ []
def dkwX4_wordHere_1 : List UInt8 := [42, 27, 182, 0, 45, 153, 0, 9, 132, 1, 1, 167, 255, 245, 187, 0, 51, 89, 42, 180, 0, 3]
abbrev dktX4_wordHere_1 : List UInt8 := dkwX4_wordHere_1 ++ dktX4_wordHere_2
def dkwX4_wordHere_0 : List UInt8 := [42, 182, 0, 38, 60, 42, 27, 182, 0, 45, 153, 0, 11, 27, 42, 180, 0, 22, 160, 0, 6, 18, 49, 176]
abbrev dktX4_wordHere_0 : List UInt8 := dkwX4_wordHere_0 ++ dktX4_wordHere_1
theorem dksX4_wordHere_0 : cX4_wordHere.data.toList.drop 0 = dktX4_wordHere_0 := by decide +kernel
theorem dksX4_wordHere_1 : cX4_wordHere.data.toList.drop 24 = dktX4_wordHere_1 := dk_seg dksX4_wordHere_0 24 rfl rfl
theorem dksX4_wordHere_2 : cX4_wordHere.data.toList.drop 46 = dktX4_wordHere_2 := dk_seg dksX4_wordHere_1 22 rfl rfl
theorem dX4_wordHere_0 : decode cX4_wordHere 0 = .ok (.aload_n 0, 1) := dk_42 (dk_at dksX4_wordHere_0 0 rfl rfl)
theorem dX4_wordHere_1 : decode cX4_wordHere 1 = .ok (.invokevirtual 38, 3) := dk_182 0 38 (dk_at dksX4_wordHere_0 1 rfl rfl)
theorem dX4_wordHere_4 : decode cX4_wordHere 4 = .ok (.istore_n 1, 1) := dk_60 (dk_at dksX4_wordHere_0 4 rfl rfl)
theorem dX4_wordHere_5 : decode cX4_wordHere 5 = .ok (.aload_n 0, 1) := dk_42 (dk_at dksX4_wordHere_0 5 rfl rfl)
theorem dX4_wordHere_6 : decode cX4_wordHere 6 = .ok (.iload_n 1, 1) := dk_27 (dk_at dksX4_wordHere_0 6 rfl rfl)
theorem dX4_wordHere_7 : decode cX4_wordHere 7 = .ok (.invokevirtual 45, 3) := dk_182 0 45 (dk_at dksX4_wordHere_0 7 rfl rfl)
theorem dX4_wordHere_10 : decode cX4_wordHere 10 = .ok (.ifCond .eq 11, 3) := dk_153 0 11 (dk_at dksX4_wordHere_0 10 rfl rfl)
theorem dX4_wordHere_13 : decode cX4_wordHere 13 = .ok (.iload_n 1, 1) := dk_27 (dk_at dksX4_wordHere_0 13 rfl rfl)
theorem dX4_wordHere_14 : decode cX4_wordHere 14 = .ok (.aload_n 0, 1) := dk_42 (dk_at dksX4_wordHere_0 14 rfl rfl)
theorem dX4_wordHere_15 : decode cX4_wordHere 15 = .ok (.getfield 22, 3) := dk_180 0 22 (dk_at dksX4_wordHere_0 15 rfl rfl)
theorem dX4_wordHere_18 : decode cX4_wordHere 18 = .ok (.if_icmp .ne 6, 3) := dk_160 0 6 (dk_at dksX4_wordHere_0 18 rfl rfl)
theorem dX4_wordHere_21 : decode cX4_wordHere 21 = .ok (.ldc 49, 2) := dk_18 49 (dk_at dksX4_wordHere_0 21 rfl rfl)
theorem dX4_wordHere_23 : decode cX4_wordHere 23 = .ok (.areturn, 1) := dk_176 (dk_at dksX4_wordHere_0 23 rfl rfl)
theorem dX4_wordHere_24 : decode cX4_wordHere 24 = .ok (.aload_n 0, 1) := dk_42 (dk_at dksX4_wordHere_1 0 rfl rfl)
theorem dX4_wordHere_25 : decode cX4_wordHere 25 = .ok (.iload_n 1, 1) := dk_27 (dk_at dksX4_wordHere_1 1 rfl rfl)
theorem dX4_wordHere_26 : decode cX4_wordHere 26 = .ok (.invokevirtual 45, 3) := dk_182 0 45 (dk_at dksX4_wordHere_1 2 rfl rfl)
theorem dX4_wordHere_29 : decode cX4_wordHere 29 = .ok (.ifCond .eq 9, 3) := dk_153 0 9 (dk_at dksX4_wordHere_1 5 rfl rfl)
theorem dX4_wordHere_32 : decode cX4_wordHere 32 = .ok (.iinc 1 1, 3) := dk_132 1 1 (dk_at dksX4_wordHere_1 8 rfl rfl)
theorem dX4_wordHere_35 : decode cX4_wordHere 35 = .ok (.goto (-11), 3) := dk_167 255 245 (dk_at dksX4_wordHere_1 11 rfl rfl)
theorem dX4_wordHere_38 : decode cX4_wordHere 38 = .ok (.new 51, 3) := dk_187 0 51 (dk_at dksX4_wordHere_1 14 rfl rfl)
theorem dX4_wordHere_41 : decode cX4_wordHere 41 = .ok (.dup, 1) := dk_89 (dk_at dksX4_wordHere_1 17 rfl rfl)
theorem dX4_wordHere_42 : decode cX4_wordHere 42 = .ok (.aload_n 0, 1) := dk_42 (dk_at dksX4_wordHere_1 18 rfl rfl)
theorem dX4_wordHere_43 : decode cX4_wordHere 43 = .ok (.getfield 3, 3) := dk_180 0 3 (dk_at dksX4_wordHere_1 19 rfl rfl)
theorem dX4_wordHere_46 : decode cX4_wordHere 46 = .ok (.getfield 29, 3) := dk_180 0 29 (dk_at dksX4_wordHere_2 0 rfl rfl)
theorem dX4_wordHere_49 : decode cX4_wordHere 49 = .ok (.aload_n 0, 1) := dk_42 (dk_at dksX4_wordHere_2 3 rfl rfl)
theorem dX4_wordHere_50 : decode cX4_wordHere 50 = .ok (.getfield 33, 3) := dk_180 0 33 (dk_at dksX4_wordHere_2 4 rfl rfl)
theorem dX4_wordHere_53 : decode cX4_wordHere 53 = .ok (.iload_n 1, 1) := dk_27 (dk_at dksX4_wordHere_2 7 rfl rfl)
theorem dX4_wordHere_54 : decode cX4_wordHere 54 = .ok (.aload_n 0, 1) := dk_42 (dk_at dksX4_wordHere_2 8 rfl rfl)
theorem dX4_wordHere_55 : decode cX4_wordHere 55 = .ok (.getfield 33, 3) := dk_180 0 33 (dk_at dksX4_wordHere_2 9 rfl rfl)
theorem dX4_wordHere_58 : decode cX4_wordHere 58 = .ok (.isub, 1) := dk_100 (dk_at dksX4_wordHere_2 12 rfl rfl)
theorem dX4_wordHere_59 : decode cX4_wordHere 59 = .ok (.invokespecial 53, 3) := dk_183 0 53 (dk_at dksX4_wordHere_2 13 rfl rfl)
theorem dX4_wordHere_62 : decode cX4_wordHere 62 = .ok (.areturn, 1) := dk_176 (dk_at dksX4_wordHere_2 16 rfl rfl)
abbrev cX4_isLetter : ByteArray := prog_8_method_2_code
def yX4_isLetter : MethodName := ⟨RX4, "isLetter", "(I)Z"⟩
def dkwX4_isLetter_1 : List UInt8 := [180, 0, 3, 180, 0, 29, 27, 52, 16, 122, 163, 0, 7, 4, 167, 0, 4, 3, 172]
abbrev dktX4_isLetter_1 : List UInt8 := dkwX4_isLetter_1 ++ []
def dkwX4_isLetter_0 : List UInt8 := [27, 42, 180, 0, 26, 162, 0, 35, 42, 180, 0, 3, 180, 0, 29, 27, 52, 16, 97, 161, 0, 21, 42]
abbrev dktX4_isLetter_0 : List UInt8 := dkwX4_isLetter_0 ++ dktX4_isLetter_1
theorem dksX4_isLetter_0 : cX4_isLetter.data.toList.drop 0 = dktX4_isLetter_0 := by decide +kernel
theorem dksX4_isLetter_1 : cX4_isLetter.data.toList.drop 23 = dktX4_isLetter_1 := dk_seg dksX4_isLetter_0 23 rfl rfl
theorem dX4_isLetter_0 : decode cX4_isLetter 0 = .ok (.iload_n 1, 1) := dk_27 (dk_at dksX4_isLetter_0 0 rfl rfl)
theorem dX4_isLetter_1 : decode cX4_isLetter 1 = .ok (.aload_n 0, 1) := dk_42 (dk_at dksX4_isLetter_0 1 rfl rfl)
theorem dX4_isLetter_2 : decode cX4_isLetter 2 = .ok (.getfield 26, 3) := dk_180 0 26 (dk_at dksX4_isLetter_0 2 rfl rfl)
theorem dX4_isLetter_5 : decode cX4_isLetter 5 = .ok (.if_icmp .ge 35, 3) := dk_162 0 35 (dk_at dksX4_isLetter_0 5 rfl rfl)
theorem dX4_isLetter_8 : decode cX4_isLetter 8 = .ok (.aload_n 0, 1) := dk_42 (dk_at dksX4_isLetter_0 8 rfl rfl)
theorem dX4_isLetter_9 : decode cX4_isLetter 9 = .ok (.getfield 3, 3) := dk_180 0 3 (dk_at dksX4_isLetter_0 9 rfl rfl)
theorem dX4_isLetter_12 : decode cX4_isLetter 12 = .ok (.getfield 29, 3) := dk_180 0 29 (dk_at dksX4_isLetter_0 12 rfl rfl)
theorem dX4_isLetter_15 : decode cX4_isLetter 15 = .ok (.iload_n 1, 1) := dk_27 (dk_at dksX4_isLetter_0 15 rfl rfl)
theorem dX4_isLetter_16 : decode cX4_isLetter 16 = .ok (.caload, 1) := dk_52 (dk_at dksX4_isLetter_0 16 rfl rfl)
theorem dX4_isLetter_17 : decode cX4_isLetter 17 = .ok (.bipush 97, 2) := dk_16 97 (dk_at dksX4_isLetter_0 17 rfl rfl)
theorem dX4_isLetter_19 : decode cX4_isLetter 19 = .ok (.if_icmp .lt 21, 3) := dk_161 0 21 (dk_at dksX4_isLetter_0 19 rfl rfl)
theorem dX4_isLetter_22 : decode cX4_isLetter 22 = .ok (.aload_n 0, 1) := dk_42 (dk_at dksX4_isLetter_0 22 rfl rfl)
theorem dX4_isLetter_23 : decode cX4_isLetter 23 = .ok (.getfield 3, 3) := dk_180 0 3 (dk_at dksX4_isLetter_1 0 rfl rfl)
theorem dX4_isLetter_26 : decode cX4_isLetter 26 = .ok (.getfield 29, 3) := dk_180 0 29 (dk_at dksX4_isLetter_1 3 rfl rfl)
theorem dX4_isLetter_29 : decode cX4_isLetter 29 = .ok (.iload_n 1, 1) := dk_27 (dk_at dksX4_isLetter_1 6 rfl rfl)
theorem dX4_isLetter_30 : decode cX4_isLetter 30 = .ok (.caload, 1) := dk_52 (dk_at dksX4_isLetter_1 7 rfl rfl)
theorem dX4_isLetter_31 : decode cX4_isLetter 31 = .ok (.bipush 122, 2) := dk_16 122 (dk_at dksX4_isLetter_1 8 rfl rfl)
theorem dX4_isLetter_33 : decode cX4_isLetter 33 = .ok (.if_icmp .gt 7, 3) := dk_163 0 7 (dk_at dksX4_isLetter_1 10 rfl rfl)
theorem dX4_isLetter_36 : decode cX4_isLetter 36 = .ok (.iconst 1, 1) := dk_4 (dk_at dksX4_isLetter_1 13 rfl rfl)
theorem dX4_isLetter_37 : decode cX4_isLetter 37 = .ok (.goto 4, 3) := dk_167 0 4 (dk_at dksX4_isLetter_1 14 rfl rfl)
theorem dX4_isLetter_40 : decode cX4_isLetter 40 = .ok (.iconst 0, 1) := dk_3 (dk_at dksX4_isLetter_1 17 rfl rfl)
theorem dX4_isLetter_41 : decode cX4_isLetter 41 = .ok (.ireturn, 1) := dk_172 (dk_at dksX4_isLetter_1 18 rfl rfl)
abbrev cX4_valueTold : ByteArray := prog_8_method_9_code
def yX4_valueTold : MethodName := ⟨RX4, "valueTold", "()V"⟩
def dkwX4_valueTold_2 : List UInt8 := [79, 177, 132, 1, 1, 167, 255, 207, 42, 182, 0, 70, 191]
abbrev dktX4_valueTold_2 : List UInt8 := dkwX4_valueTold_2 ++ []
def dkwX4_valueTold_1 : List UInt8 := [180, 0, 18, 180, 0, 86, 180, 0, 90, 27, 42, 178, 0, 96, 27, 46, 178, 0, 99, 27, 46, 182, 0, 102]
abbrev dktX4_valueTold_1 : List UInt8 := dkwX4_valueTold_1 ++ dktX4_valueTold_2
def dkwX4_valueTold_0 : List UInt8 := [3, 60, 27, 8, 163, 0, 50, 42, 178, 0, 78, 4, 27, 96, 50, 182, 0, 82, 153, 0, 30, 42]
abbrev dktX4_valueTold_0 : List UInt8 := dkwX4_valueTold_0 ++ dktX4_valueTold_1
theorem dksX4_valueTold_0 : cX4_valueTold.data.toList.drop 0 = dktX4_valueTold_0 := by decide +kernel
theorem dksX4_valueTold_1 : cX4_valueTold.data.toList.drop 22 = dktX4_valueTold_1 := dk_seg dksX4_valueTold_0 22 rfl rfl
theorem dksX4_valueTold_2 : cX4_valueTold.data.toList.drop 46 = dktX4_valueTold_2 := dk_seg dksX4_valueTold_1 24 rfl rfl
theorem dX4_valueTold_0 : decode cX4_valueTold 0 = .ok (.iconst 0, 1) := dk_3 (dk_at dksX4_valueTold_0 0 rfl rfl)
theorem dX4_valueTold_1 : decode cX4_valueTold 1 = .ok (.istore_n 1, 1) := dk_60 (dk_at dksX4_valueTold_0 1 rfl rfl)
theorem dX4_valueTold_2 : decode cX4_valueTold 2 = .ok (.iload_n 1, 1) := dk_27 (dk_at dksX4_valueTold_0 2 rfl rfl)
theorem dX4_valueTold_3 : decode cX4_valueTold 3 = .ok (.iconst 5, 1) := dk_8 (dk_at dksX4_valueTold_0 3 rfl rfl)
theorem dX4_valueTold_4 : decode cX4_valueTold 4 = .ok (.if_icmp .gt 50, 3) := dk_163 0 50 (dk_at dksX4_valueTold_0 4 rfl rfl)
theorem dX4_valueTold_7 : decode cX4_valueTold 7 = .ok (.aload_n 0, 1) := dk_42 (dk_at dksX4_valueTold_0 7 rfl rfl)
theorem dX4_valueTold_8 : decode cX4_valueTold 8 = .ok (.getstatic 78, 3) := dk_178 0 78 (dk_at dksX4_valueTold_0 8 rfl rfl)
theorem dX4_valueTold_11 : decode cX4_valueTold 11 = .ok (.iconst 1, 1) := dk_4 (dk_at dksX4_valueTold_0 11 rfl rfl)
theorem dX4_valueTold_12 : decode cX4_valueTold 12 = .ok (.iload_n 1, 1) := dk_27 (dk_at dksX4_valueTold_0 12 rfl rfl)
theorem dX4_valueTold_13 : decode cX4_valueTold 13 = .ok (.iadd, 1) := dk_96 (dk_at dksX4_valueTold_0 13 rfl rfl)
theorem dX4_valueTold_14 : decode cX4_valueTold 14 = .ok (.aaload, 1) := dk_50 (dk_at dksX4_valueTold_0 14 rfl rfl)
theorem dX4_valueTold_15 : decode cX4_valueTold 15 = .ok (.invokevirtual 82, 3) := dk_182 0 82 (dk_at dksX4_valueTold_0 15 rfl rfl)
theorem dX4_valueTold_18 : decode cX4_valueTold 18 = .ok (.ifCond .eq 30, 3) := dk_153 0 30 (dk_at dksX4_valueTold_0 18 rfl rfl)
theorem dX4_valueTold_21 : decode cX4_valueTold 21 = .ok (.aload_n 0, 1) := dk_42 (dk_at dksX4_valueTold_0 21 rfl rfl)
theorem dX4_valueTold_22 : decode cX4_valueTold 22 = .ok (.getfield 18, 3) := dk_180 0 18 (dk_at dksX4_valueTold_1 0 rfl rfl)
theorem dX4_valueTold_25 : decode cX4_valueTold 25 = .ok (.getfield 86, 3) := dk_180 0 86 (dk_at dksX4_valueTold_1 3 rfl rfl)
theorem dX4_valueTold_28 : decode cX4_valueTold 28 = .ok (.getfield 90, 3) := dk_180 0 90 (dk_at dksX4_valueTold_1 6 rfl rfl)
theorem dX4_valueTold_31 : decode cX4_valueTold 31 = .ok (.iload_n 1, 1) := dk_27 (dk_at dksX4_valueTold_1 9 rfl rfl)
theorem dX4_valueTold_32 : decode cX4_valueTold 32 = .ok (.aload_n 0, 1) := dk_42 (dk_at dksX4_valueTold_1 10 rfl rfl)
theorem dX4_valueTold_33 : decode cX4_valueTold 33 = .ok (.getstatic 96, 3) := dk_178 0 96 (dk_at dksX4_valueTold_1 11 rfl rfl)
theorem dX4_valueTold_36 : decode cX4_valueTold 36 = .ok (.iload_n 1, 1) := dk_27 (dk_at dksX4_valueTold_1 14 rfl rfl)
theorem dX4_valueTold_37 : decode cX4_valueTold 37 = .ok (.iaload, 1) := dk_46 (dk_at dksX4_valueTold_1 15 rfl rfl)
theorem dX4_valueTold_38 : decode cX4_valueTold 38 = .ok (.getstatic 99, 3) := dk_178 0 99 (dk_at dksX4_valueTold_1 16 rfl rfl)
theorem dX4_valueTold_41 : decode cX4_valueTold 41 = .ok (.iload_n 1, 1) := dk_27 (dk_at dksX4_valueTold_1 19 rfl rfl)
theorem dX4_valueTold_42 : decode cX4_valueTold 42 = .ok (.iaload, 1) := dk_46 (dk_at dksX4_valueTold_1 20 rfl rfl)
theorem dX4_valueTold_43 : decode cX4_valueTold 43 = .ok (.invokevirtual 102, 3) := dk_182 0 102 (dk_at dksX4_valueTold_1 21 rfl rfl)
theorem dX4_valueTold_46 : decode cX4_valueTold 46 = .ok (.iastore, 1) := dk_79 (dk_at dksX4_valueTold_2 0 rfl rfl)
theorem dX4_valueTold_47 : decode cX4_valueTold 47 = .ok (.return_, 1) := dk_177 (dk_at dksX4_valueTold_2 1 rfl rfl)
theorem dX4_valueTold_48 : decode cX4_valueTold 48 = .ok (.iinc 1 1, 3) := dk_132 1 1 (dk_at dksX4_valueTold_2 2 rfl rfl)
theorem dX4_valueTold_51 : decode cX4_valueTold 51 = .ok (.goto (-49), 3) := dk_167 255 207 (dk_at dksX4_valueTold_2 5 rfl rfl)
theorem dX4_valueTold_54 : decode cX4_valueTold 54 = .ok (.aload_n 0, 1) := dk_42 (dk_at dksX4_valueTold_2 8 rfl rfl)
theorem dX4_valueTold_55 : decode cX4_valueTold 55 = .ok (.invokevirtual 70, 3) := dk_182 0 70 (dk_at dksX4_valueTold_2 9 rfl rfl)
theorem dX4_valueTold_58 : decode cX4_valueTold 58 = .ok (.athrow, 1) := dk_191 (dk_at dksX4_valueTold_2 12 rfl rfl)
abbrev cX4_number : ByteArray := prog_8_method_8_code
def yX4_number : MethodName := ⟨RX4, "number", "(II)I"⟩
def dkwX4_number_5 : List UInt8 := [5, 29, 183, 0, 42, 191, 21, 4, 172]
abbrev dktX4_number_5 : List UInt8 := dkwX4_number_5 ++ []
def dkwX4_number_4 : List UInt8 := [42, 180, 0, 33, 181, 0, 22, 21, 4, 133, 27, 133, 28, 133, 184, 0, 74, 154, 0, 13, 187, 0, 36, 89]
abbrev dktX4_number_4 : List UInt8 := dkwX4_number_4 ++ dktX4_number_5
def dkwX4_number_3 : List UInt8 := [180, 0, 33, 52, 96, 16, 48, 100, 54, 4, 42, 89, 180, 0, 33, 4, 96, 181, 0, 33, 167, 255, 197, 42]
abbrev dktX4_number_3 : List UInt8 := dkwX4_number_3 ++ dktX4_number_4
def dkwX4_number_2 : List UInt8 := [5, 160, 0, 8, 42, 182, 0, 70, 191, 16, 10, 21, 4, 104, 42, 180, 0, 3, 180, 0, 29, 42]
abbrev dktX4_number_2 : List UInt8 := dkwX4_number_2 ++ dktX4_number_3
def dkwX4_number_1 : List UInt8 := [182, 0, 70, 191, 3, 54, 4, 42, 42, 180, 0, 33, 182, 0, 67, 153, 0, 54, 42, 180, 0, 33, 29, 100]
abbrev dktX4_number_1 : List UInt8 := dkwX4_number_1 ++ dktX4_number_2
def dkwX4_number_0 : List UInt8 := [42, 182, 0, 38, 62, 42, 29, 182, 0, 67, 153, 0, 11, 29, 42, 180, 0, 22, 160, 0, 8, 42]
abbrev dktX4_number_0 : List UInt8 := dkwX4_number_0 ++ dktX4_number_1
theorem dksX4_number_0 : cX4_number.data.toList.drop 0 = dktX4_number_0 := by decide +kernel
theorem dksX4_number_1 : cX4_number.data.toList.drop 22 = dktX4_number_1 := dk_seg dksX4_number_0 22 rfl rfl
theorem dksX4_number_2 : cX4_number.data.toList.drop 46 = dktX4_number_2 := dk_seg dksX4_number_1 24 rfl rfl
theorem dksX4_number_3 : cX4_number.data.toList.drop 68 = dktX4_number_3 := dk_seg dksX4_number_2 22 rfl rfl
theorem dksX4_number_4 : cX4_number.data.toList.drop 92 = dktX4_number_4 := dk_seg dksX4_number_3 24 rfl rfl
theorem dksX4_number_5 : cX4_number.data.toList.drop 116 = dktX4_number_5 := dk_seg dksX4_number_4 24 rfl rfl
theorem dX4_number_0 : decode cX4_number 0 = .ok (.aload_n 0, 1) := dk_42 (dk_at dksX4_number_0 0 rfl rfl)
theorem dX4_number_1 : decode cX4_number 1 = .ok (.invokevirtual 38, 3) := dk_182 0 38 (dk_at dksX4_number_0 1 rfl rfl)
theorem dX4_number_4 : decode cX4_number 4 = .ok (.istore_n 3, 1) := dk_62 (dk_at dksX4_number_0 4 rfl rfl)
theorem dX4_number_5 : decode cX4_number 5 = .ok (.aload_n 0, 1) := dk_42 (dk_at dksX4_number_0 5 rfl rfl)
theorem dX4_number_6 : decode cX4_number 6 = .ok (.iload_n 3, 1) := dk_29 (dk_at dksX4_number_0 6 rfl rfl)
theorem dX4_number_7 : decode cX4_number 7 = .ok (.invokevirtual 67, 3) := dk_182 0 67 (dk_at dksX4_number_0 7 rfl rfl)
theorem dX4_number_10 : decode cX4_number 10 = .ok (.ifCond .eq 11, 3) := dk_153 0 11 (dk_at dksX4_number_0 10 rfl rfl)
theorem dX4_number_13 : decode cX4_number 13 = .ok (.iload_n 3, 1) := dk_29 (dk_at dksX4_number_0 13 rfl rfl)
theorem dX4_number_14 : decode cX4_number 14 = .ok (.aload_n 0, 1) := dk_42 (dk_at dksX4_number_0 14 rfl rfl)
theorem dX4_number_15 : decode cX4_number 15 = .ok (.getfield 22, 3) := dk_180 0 22 (dk_at dksX4_number_0 15 rfl rfl)
theorem dX4_number_18 : decode cX4_number 18 = .ok (.if_icmp .ne 8, 3) := dk_160 0 8 (dk_at dksX4_number_0 18 rfl rfl)
theorem dX4_number_21 : decode cX4_number 21 = .ok (.aload_n 0, 1) := dk_42 (dk_at dksX4_number_0 21 rfl rfl)
theorem dX4_number_22 : decode cX4_number 22 = .ok (.invokevirtual 70, 3) := dk_182 0 70 (dk_at dksX4_number_1 0 rfl rfl)
theorem dX4_number_25 : decode cX4_number 25 = .ok (.athrow, 1) := dk_191 (dk_at dksX4_number_1 3 rfl rfl)
theorem dX4_number_26 : decode cX4_number 26 = .ok (.iconst 0, 1) := dk_3 (dk_at dksX4_number_1 4 rfl rfl)
theorem dX4_number_27 : decode cX4_number 27 = .ok (.istore 4, 2) := dk_54 4 (dk_at dksX4_number_1 5 rfl rfl)
theorem dX4_number_29 : decode cX4_number 29 = .ok (.aload_n 0, 1) := dk_42 (dk_at dksX4_number_1 7 rfl rfl)
theorem dX4_number_30 : decode cX4_number 30 = .ok (.aload_n 0, 1) := dk_42 (dk_at dksX4_number_1 8 rfl rfl)
theorem dX4_number_31 : decode cX4_number 31 = .ok (.getfield 33, 3) := dk_180 0 33 (dk_at dksX4_number_1 9 rfl rfl)
theorem dX4_number_34 : decode cX4_number 34 = .ok (.invokevirtual 67, 3) := dk_182 0 67 (dk_at dksX4_number_1 12 rfl rfl)
theorem dX4_number_37 : decode cX4_number 37 = .ok (.ifCond .eq 54, 3) := dk_153 0 54 (dk_at dksX4_number_1 15 rfl rfl)
theorem dX4_number_40 : decode cX4_number 40 = .ok (.aload_n 0, 1) := dk_42 (dk_at dksX4_number_1 18 rfl rfl)
theorem dX4_number_41 : decode cX4_number 41 = .ok (.getfield 33, 3) := dk_180 0 33 (dk_at dksX4_number_1 19 rfl rfl)
theorem dX4_number_44 : decode cX4_number 44 = .ok (.iload_n 3, 1) := dk_29 (dk_at dksX4_number_1 22 rfl rfl)
theorem dX4_number_45 : decode cX4_number 45 = .ok (.isub, 1) := dk_100 (dk_at dksX4_number_1 23 rfl rfl)
theorem dX4_number_46 : decode cX4_number 46 = .ok (.iconst 2, 1) := dk_5 (dk_at dksX4_number_2 0 rfl rfl)
theorem dX4_number_47 : decode cX4_number 47 = .ok (.if_icmp .ne 8, 3) := dk_160 0 8 (dk_at dksX4_number_2 1 rfl rfl)
theorem dX4_number_50 : decode cX4_number 50 = .ok (.aload_n 0, 1) := dk_42 (dk_at dksX4_number_2 4 rfl rfl)
theorem dX4_number_51 : decode cX4_number 51 = .ok (.invokevirtual 70, 3) := dk_182 0 70 (dk_at dksX4_number_2 5 rfl rfl)
theorem dX4_number_54 : decode cX4_number 54 = .ok (.athrow, 1) := dk_191 (dk_at dksX4_number_2 8 rfl rfl)
theorem dX4_number_55 : decode cX4_number 55 = .ok (.bipush 10, 2) := dk_16 10 (dk_at dksX4_number_2 9 rfl rfl)
theorem dX4_number_57 : decode cX4_number 57 = .ok (.iload 4, 2) := dk_21 4 (dk_at dksX4_number_2 11 rfl rfl)
theorem dX4_number_59 : decode cX4_number 59 = .ok (.imul, 1) := dk_104 (dk_at dksX4_number_2 13 rfl rfl)
theorem dX4_number_60 : decode cX4_number 60 = .ok (.aload_n 0, 1) := dk_42 (dk_at dksX4_number_2 14 rfl rfl)
theorem dX4_number_61 : decode cX4_number 61 = .ok (.getfield 3, 3) := dk_180 0 3 (dk_at dksX4_number_2 15 rfl rfl)
theorem dX4_number_64 : decode cX4_number 64 = .ok (.getfield 29, 3) := dk_180 0 29 (dk_at dksX4_number_2 18 rfl rfl)
theorem dX4_number_67 : decode cX4_number 67 = .ok (.aload_n 0, 1) := dk_42 (dk_at dksX4_number_2 21 rfl rfl)
theorem dX4_number_68 : decode cX4_number 68 = .ok (.getfield 33, 3) := dk_180 0 33 (dk_at dksX4_number_3 0 rfl rfl)
theorem dX4_number_71 : decode cX4_number 71 = .ok (.caload, 1) := dk_52 (dk_at dksX4_number_3 3 rfl rfl)
theorem dX4_number_72 : decode cX4_number 72 = .ok (.iadd, 1) := dk_96 (dk_at dksX4_number_3 4 rfl rfl)
theorem dX4_number_73 : decode cX4_number 73 = .ok (.bipush 48, 2) := dk_16 48 (dk_at dksX4_number_3 5 rfl rfl)
theorem dX4_number_75 : decode cX4_number 75 = .ok (.isub, 1) := dk_100 (dk_at dksX4_number_3 7 rfl rfl)
theorem dX4_number_76 : decode cX4_number 76 = .ok (.istore 4, 2) := dk_54 4 (dk_at dksX4_number_3 8 rfl rfl)
theorem dX4_number_78 : decode cX4_number 78 = .ok (.aload_n 0, 1) := dk_42 (dk_at dksX4_number_3 10 rfl rfl)
theorem dX4_number_79 : decode cX4_number 79 = .ok (.dup, 1) := dk_89 (dk_at dksX4_number_3 11 rfl rfl)
theorem dX4_number_80 : decode cX4_number 80 = .ok (.getfield 33, 3) := dk_180 0 33 (dk_at dksX4_number_3 12 rfl rfl)
theorem dX4_number_83 : decode cX4_number 83 = .ok (.iconst 1, 1) := dk_4 (dk_at dksX4_number_3 15 rfl rfl)
theorem dX4_number_84 : decode cX4_number 84 = .ok (.iadd, 1) := dk_96 (dk_at dksX4_number_3 16 rfl rfl)
theorem dX4_number_85 : decode cX4_number 85 = .ok (.putfield 33, 3) := dk_181 0 33 (dk_at dksX4_number_3 17 rfl rfl)
theorem dX4_number_88 : decode cX4_number 88 = .ok (.goto (-59), 3) := dk_167 255 197 (dk_at dksX4_number_3 20 rfl rfl)
theorem dX4_number_91 : decode cX4_number 91 = .ok (.aload_n 0, 1) := dk_42 (dk_at dksX4_number_3 23 rfl rfl)
theorem dX4_number_92 : decode cX4_number 92 = .ok (.aload_n 0, 1) := dk_42 (dk_at dksX4_number_4 0 rfl rfl)
theorem dX4_number_93 : decode cX4_number 93 = .ok (.getfield 33, 3) := dk_180 0 33 (dk_at dksX4_number_4 1 rfl rfl)
theorem dX4_number_96 : decode cX4_number 96 = .ok (.putfield 22, 3) := dk_181 0 22 (dk_at dksX4_number_4 4 rfl rfl)
theorem dX4_number_99 : decode cX4_number 99 = .ok (.iload 4, 2) := dk_21 4 (dk_at dksX4_number_4 7 rfl rfl)
theorem dX4_number_101 : decode cX4_number 101 = .ok (.i2l, 1) := dk_133 (dk_at dksX4_number_4 9 rfl rfl)
theorem dX4_number_102 : decode cX4_number 102 = .ok (.iload_n 1, 1) := dk_27 (dk_at dksX4_number_4 10 rfl rfl)
theorem dX4_number_103 : decode cX4_number 103 = .ok (.i2l, 1) := dk_133 (dk_at dksX4_number_4 11 rfl rfl)
theorem dX4_number_104 : decode cX4_number 104 = .ok (.iload_n 2, 1) := dk_28 (dk_at dksX4_number_4 12 rfl rfl)
theorem dX4_number_105 : decode cX4_number 105 = .ok (.i2l, 1) := dk_133 (dk_at dksX4_number_4 13 rfl rfl)
theorem dX4_number_106 : decode cX4_number 106 = .ok (.invokestatic 74, 3) := dk_184 0 74 (dk_at dksX4_number_4 14 rfl rfl)
theorem dX4_number_109 : decode cX4_number 109 = .ok (.ifCond .ne 13, 3) := dk_154 0 13 (dk_at dksX4_number_4 17 rfl rfl)
theorem dX4_number_112 : decode cX4_number 112 = .ok (.new 36, 3) := dk_187 0 36 (dk_at dksX4_number_4 20 rfl rfl)
theorem dX4_number_115 : decode cX4_number 115 = .ok (.dup, 1) := dk_89 (dk_at dksX4_number_4 23 rfl rfl)
theorem dX4_number_116 : decode cX4_number 116 = .ok (.iconst 2, 1) := dk_5 (dk_at dksX4_number_5 0 rfl rfl)
theorem dX4_number_117 : decode cX4_number 117 = .ok (.iload_n 3, 1) := dk_29 (dk_at dksX4_number_5 1 rfl rfl)
theorem dX4_number_118 : decode cX4_number 118 = .ok (.invokespecial 42, 3) := dk_183 0 42 (dk_at dksX4_number_5 2 rfl rfl)
theorem dX4_number_121 : decode cX4_number 121 = .ok (.athrow, 1) := dk_191 (dk_at dksX4_number_5 5 rfl rfl)
theorem dX4_number_122 : decode cX4_number 122 = .ok (.iload 4, 2) := dk_21 4 (dk_at dksX4_number_5 6 rfl rfl)
theorem dX4_number_124 : decode cX4_number 124 = .ok (.ireturn, 1) := dk_172 (dk_at dksX4_number_5 8 rfl rfl)
abbrev cX4_isDigit : ByteArray := prog_8_method_3_code
def yX4_isDigit : MethodName := ⟨RX4, "isDigit", "(I)Z"⟩
def dkwX4_isDigit_1 : List UInt8 := [180, 0, 3, 180, 0, 29, 27, 52, 16, 57, 163, 0, 7, 4, 167, 0, 4, 3, 172]
abbrev dktX4_isDigit_1 : List UInt8 := dkwX4_isDigit_1 ++ []
def dkwX4_isDigit_0 : List UInt8 := [27, 42, 180, 0, 26, 162, 0, 35, 42, 180, 0, 3, 180, 0, 29, 27, 52, 16, 48, 161, 0, 21, 42]
abbrev dktX4_isDigit_0 : List UInt8 := dkwX4_isDigit_0 ++ dktX4_isDigit_1
theorem dksX4_isDigit_0 : cX4_isDigit.data.toList.drop 0 = dktX4_isDigit_0 := by decide +kernel
theorem dksX4_isDigit_1 : cX4_isDigit.data.toList.drop 23 = dktX4_isDigit_1 := dk_seg dksX4_isDigit_0 23 rfl rfl
theorem dX4_isDigit_0 : decode cX4_isDigit 0 = .ok (.iload_n 1, 1) := dk_27 (dk_at dksX4_isDigit_0 0 rfl rfl)
theorem dX4_isDigit_1 : decode cX4_isDigit 1 = .ok (.aload_n 0, 1) := dk_42 (dk_at dksX4_isDigit_0 1 rfl rfl)
theorem dX4_isDigit_2 : decode cX4_isDigit 2 = .ok (.getfield 26, 3) := dk_180 0 26 (dk_at dksX4_isDigit_0 2 rfl rfl)
theorem dX4_isDigit_5 : decode cX4_isDigit 5 = .ok (.if_icmp .ge 35, 3) := dk_162 0 35 (dk_at dksX4_isDigit_0 5 rfl rfl)
theorem dX4_isDigit_8 : decode cX4_isDigit 8 = .ok (.aload_n 0, 1) := dk_42 (dk_at dksX4_isDigit_0 8 rfl rfl)
theorem dX4_isDigit_9 : decode cX4_isDigit 9 = .ok (.getfield 3, 3) := dk_180 0 3 (dk_at dksX4_isDigit_0 9 rfl rfl)
theorem dX4_isDigit_12 : decode cX4_isDigit 12 = .ok (.getfield 29, 3) := dk_180 0 29 (dk_at dksX4_isDigit_0 12 rfl rfl)
theorem dX4_isDigit_15 : decode cX4_isDigit 15 = .ok (.iload_n 1, 1) := dk_27 (dk_at dksX4_isDigit_0 15 rfl rfl)
theorem dX4_isDigit_16 : decode cX4_isDigit 16 = .ok (.caload, 1) := dk_52 (dk_at dksX4_isDigit_0 16 rfl rfl)
theorem dX4_isDigit_17 : decode cX4_isDigit 17 = .ok (.bipush 48, 2) := dk_16 48 (dk_at dksX4_isDigit_0 17 rfl rfl)
theorem dX4_isDigit_19 : decode cX4_isDigit 19 = .ok (.if_icmp .lt 21, 3) := dk_161 0 21 (dk_at dksX4_isDigit_0 19 rfl rfl)
theorem dX4_isDigit_22 : decode cX4_isDigit 22 = .ok (.aload_n 0, 1) := dk_42 (dk_at dksX4_isDigit_0 22 rfl rfl)
theorem dX4_isDigit_23 : decode cX4_isDigit 23 = .ok (.getfield 3, 3) := dk_180 0 3 (dk_at dksX4_isDigit_1 0 rfl rfl)
theorem dX4_isDigit_26 : decode cX4_isDigit 26 = .ok (.getfield 29, 3) := dk_180 0 29 (dk_at dksX4_isDigit_1 3 rfl rfl)
theorem dX4_isDigit_29 : decode cX4_isDigit 29 = .ok (.iload_n 1, 1) := dk_27 (dk_at dksX4_isDigit_1 6 rfl rfl)
theorem dX4_isDigit_30 : decode cX4_isDigit 30 = .ok (.caload, 1) := dk_52 (dk_at dksX4_isDigit_1 7 rfl rfl)
theorem dX4_isDigit_31 : decode cX4_isDigit 31 = .ok (.bipush 57, 2) := dk_16 57 (dk_at dksX4_isDigit_1 8 rfl rfl)
theorem dX4_isDigit_33 : decode cX4_isDigit 33 = .ok (.if_icmp .gt 7, 3) := dk_163 0 7 (dk_at dksX4_isDigit_1 10 rfl rfl)
theorem dX4_isDigit_36 : decode cX4_isDigit 36 = .ok (.iconst 1, 1) := dk_4 (dk_at dksX4_isDigit_1 13 rfl rfl)
theorem dX4_isDigit_37 : decode cX4_isDigit 37 = .ok (.goto 4, 3) := dk_167 0 4 (dk_at dksX4_isDigit_1 14 rfl rfl)
theorem dX4_isDigit_40 : decode cX4_isDigit 40 = .ok (.iconst 0, 1) := dk_3 (dk_at dksX4_isDigit_1 17 rfl rfl)
theorem dX4_isDigit_41 : decode cX4_isDigit 41 = .ok (.ireturn, 1) := dk_172 (dk_at dksX4_isDigit_1 18 rfl rfl)
abbrev cX4_unlike : ByteArray := prog_8_method_5_code
def yX4_unlike : MethodName := ⟨RX4, "unlike", "()LLetterPen$Fault;"⟩
def dkwX4_unlike_0 : List UInt8 := [187, 0, 36, 89, 4, 42, 182, 0, 38, 183, 0, 42, 176]
abbrev dktX4_unlike_0 : List UInt8 := dkwX4_unlike_0 ++ []
theorem dksX4_unlike_0 : cX4_unlike.data.toList.drop 0 = dktX4_unlike_0 := by decide +kernel
theorem dX4_unlike_0 : decode cX4_unlike 0 = .ok (.new 36, 3) := dk_187 0 36 (dk_at dksX4_unlike_0 0 rfl rfl)
theorem dX4_unlike_3 : decode cX4_unlike 3 = .ok (.dup, 1) := dk_89 (dk_at dksX4_unlike_0 3 rfl rfl)
theorem dX4_unlike_4 : decode cX4_unlike 4 = .ok (.iconst 1, 1) := dk_4 (dk_at dksX4_unlike_0 4 rfl rfl)
theorem dX4_unlike_5 : decode cX4_unlike 5 = .ok (.aload_n 0, 1) := dk_42 (dk_at dksX4_unlike_0 5 rfl rfl)
theorem dX4_unlike_6 : decode cX4_unlike 6 = .ok (.invokevirtual 38, 3) := dk_182 0 38 (dk_at dksX4_unlike_0 6 rfl rfl)
theorem dX4_unlike_9 : decode cX4_unlike 9 = .ok (.invokespecial 42, 3) := dk_183 0 42 (dk_at dksX4_unlike_0 9 rfl rfl)
theorem dX4_unlike_12 : decode cX4_unlike 12 = .ok (.areturn, 1) := dk_176 (dk_at dksX4_unlike_0 12 rfl rfl)
abbrev cX4_letterTold : ByteArray := prog_8_method_10_code
def yX4_letterTold : MethodName := ⟨RX4, "letterTold", "(I)V"⟩
def dkwX4_letterTold_7 : List UInt8 := [180, 0, 135, 181, 0, 138, 177]
abbrev dktX4_letterTold_7 : List UInt8 := dkwX4_letterTold_7 ++ []
def dkwX4_letterTold_6 : List UInt8 := [183, 0, 132, 58, 4, 42, 180, 0, 18, 180, 0, 86, 180, 0, 106, 25, 4, 182, 0, 127, 87, 42, 25, 4]
abbrev dktX4_letterTold_6 : List UInt8 := dkwX4_letterTold_6 ++ dktX4_letterTold_7
def dkwX4_letterTold_5 : List UInt8 := [89, 6, 28, 183, 0, 42, 191, 42, 180, 0, 18, 180, 0, 121, 45, 182, 0, 127, 87, 187, 0, 130, 89, 45]
abbrev dktX4_letterTold_5 : List UInt8 := dkwX4_letterTold_5 ++ dktX4_letterTold_6
def dkwX4_letterTold_4 : List UInt8 := [42, 180, 0, 33, 181, 0, 22, 42, 180, 0, 18, 180, 0, 121, 45, 182, 0, 124, 153, 0, 13, 187, 0, 36]
abbrev dktX4_letterTold_4 : List UInt8 := dkwX4_letterTold_4 ++ dktX4_letterTold_5
def dkwX4_letterTold_3 : List UInt8 := [42, 180, 0, 33, 7, 96, 183, 0, 42, 191, 42, 89, 180, 0, 33, 45, 182, 0, 64, 96, 181, 0, 33, 42]
abbrev dktX4_letterTold_3 : List UInt8 := dkwX4_letterTold_3 ++ dktX4_letterTold_4
def dkwX4_letterTold_2 : List UInt8 := [184, 0, 118, 153, 0, 8, 42, 182, 0, 70, 191, 45, 182, 0, 64, 7, 164, 0, 18, 187, 0, 36, 89, 4]
abbrev dktX4_letterTold_2 : List UInt8 := dkwX4_letterTold_2 ++ dktX4_letterTold_3
def dkwX4_letterTold_1 : List UInt8 := [183, 0, 42, 191, 42, 182, 0, 38, 61, 42, 182, 0, 56, 78, 45, 182, 0, 114, 154, 0, 10, 45]
abbrev dktX4_letterTold_1 : List UInt8 := dkwX4_letterTold_1 ++ dktX4_letterTold_2
def dkwX4_letterTold_0 : List UInt8 := [42, 180, 0, 18, 180, 0, 86, 180, 0, 106, 182, 0, 110, 16, 8, 160, 0, 13, 187, 0, 36, 89, 8, 27]
abbrev dktX4_letterTold_0 : List UInt8 := dkwX4_letterTold_0 ++ dktX4_letterTold_1
theorem dksX4_letterTold_0 : cX4_letterTold.data.toList.drop 0 = dktX4_letterTold_0 := by decide +kernel
theorem dksX4_letterTold_1 : cX4_letterTold.data.toList.drop 24 = dktX4_letterTold_1 := dk_seg dksX4_letterTold_0 24 rfl rfl
theorem dksX4_letterTold_2 : cX4_letterTold.data.toList.drop 46 = dktX4_letterTold_2 := dk_seg dksX4_letterTold_1 22 rfl rfl
theorem dksX4_letterTold_3 : cX4_letterTold.data.toList.drop 70 = dktX4_letterTold_3 := dk_seg dksX4_letterTold_2 24 rfl rfl
theorem dksX4_letterTold_4 : cX4_letterTold.data.toList.drop 94 = dktX4_letterTold_4 := dk_seg dksX4_letterTold_3 24 rfl rfl
theorem dksX4_letterTold_5 : cX4_letterTold.data.toList.drop 118 = dktX4_letterTold_5 := dk_seg dksX4_letterTold_4 24 rfl rfl
theorem dksX4_letterTold_6 : cX4_letterTold.data.toList.drop 142 = dktX4_letterTold_6 := dk_seg dksX4_letterTold_5 24 rfl rfl
theorem dksX4_letterTold_7 : cX4_letterTold.data.toList.drop 166 = dktX4_letterTold_7 := dk_seg dksX4_letterTold_6 24 rfl rfl
theorem dX4_letterTold_0 : decode cX4_letterTold 0 = .ok (.aload_n 0, 1) := dk_42 (dk_at dksX4_letterTold_0 0 rfl rfl)
theorem dX4_letterTold_1 : decode cX4_letterTold 1 = .ok (.getfield 18, 3) := dk_180 0 18 (dk_at dksX4_letterTold_0 1 rfl rfl)
theorem dX4_letterTold_4 : decode cX4_letterTold 4 = .ok (.getfield 86, 3) := dk_180 0 86 (dk_at dksX4_letterTold_0 4 rfl rfl)
theorem dX4_letterTold_7 : decode cX4_letterTold 7 = .ok (.getfield 106, 3) := dk_180 0 106 (dk_at dksX4_letterTold_0 7 rfl rfl)
theorem dX4_letterTold_10 : decode cX4_letterTold 10 = .ok (.invokevirtual 110, 3) := dk_182 0 110 (dk_at dksX4_letterTold_0 10 rfl rfl)
theorem dX4_letterTold_13 : decode cX4_letterTold 13 = .ok (.bipush 8, 2) := dk_16 8 (dk_at dksX4_letterTold_0 13 rfl rfl)
theorem dX4_letterTold_15 : decode cX4_letterTold 15 = .ok (.if_icmp .ne 13, 3) := dk_160 0 13 (dk_at dksX4_letterTold_0 15 rfl rfl)
theorem dX4_letterTold_18 : decode cX4_letterTold 18 = .ok (.new 36, 3) := dk_187 0 36 (dk_at dksX4_letterTold_0 18 rfl rfl)
theorem dX4_letterTold_21 : decode cX4_letterTold 21 = .ok (.dup, 1) := dk_89 (dk_at dksX4_letterTold_0 21 rfl rfl)
theorem dX4_letterTold_22 : decode cX4_letterTold 22 = .ok (.iconst 5, 1) := dk_8 (dk_at dksX4_letterTold_0 22 rfl rfl)
theorem dX4_letterTold_23 : decode cX4_letterTold 23 = .ok (.iload_n 1, 1) := dk_27 (dk_at dksX4_letterTold_0 23 rfl rfl)
theorem dX4_letterTold_24 : decode cX4_letterTold 24 = .ok (.invokespecial 42, 3) := dk_183 0 42 (dk_at dksX4_letterTold_1 0 rfl rfl)
theorem dX4_letterTold_27 : decode cX4_letterTold 27 = .ok (.athrow, 1) := dk_191 (dk_at dksX4_letterTold_1 3 rfl rfl)
theorem dX4_letterTold_28 : decode cX4_letterTold 28 = .ok (.aload_n 0, 1) := dk_42 (dk_at dksX4_letterTold_1 4 rfl rfl)
theorem dX4_letterTold_29 : decode cX4_letterTold 29 = .ok (.invokevirtual 38, 3) := dk_182 0 38 (dk_at dksX4_letterTold_1 5 rfl rfl)
theorem dX4_letterTold_32 : decode cX4_letterTold 32 = .ok (.istore_n 2, 1) := dk_61 (dk_at dksX4_letterTold_1 8 rfl rfl)
theorem dX4_letterTold_33 : decode cX4_letterTold 33 = .ok (.aload_n 0, 1) := dk_42 (dk_at dksX4_letterTold_1 9 rfl rfl)
theorem dX4_letterTold_34 : decode cX4_letterTold 34 = .ok (.invokevirtual 56, 3) := dk_182 0 56 (dk_at dksX4_letterTold_1 10 rfl rfl)
theorem dX4_letterTold_37 : decode cX4_letterTold 37 = .ok (.astore_n 3, 1) := dk_78 (dk_at dksX4_letterTold_1 13 rfl rfl)
theorem dX4_letterTold_38 : decode cX4_letterTold 38 = .ok (.aload_n 3, 1) := dk_45 (dk_at dksX4_letterTold_1 14 rfl rfl)
theorem dX4_letterTold_39 : decode cX4_letterTold 39 = .ok (.invokevirtual 114, 3) := dk_182 0 114 (dk_at dksX4_letterTold_1 15 rfl rfl)
theorem dX4_letterTold_42 : decode cX4_letterTold 42 = .ok (.ifCond .ne 10, 3) := dk_154 0 10 (dk_at dksX4_letterTold_1 18 rfl rfl)
theorem dX4_letterTold_45 : decode cX4_letterTold 45 = .ok (.aload_n 3, 1) := dk_45 (dk_at dksX4_letterTold_1 21 rfl rfl)
theorem dX4_letterTold_46 : decode cX4_letterTold 46 = .ok (.invokestatic 118, 3) := dk_184 0 118 (dk_at dksX4_letterTold_2 0 rfl rfl)
theorem dX4_letterTold_49 : decode cX4_letterTold 49 = .ok (.ifCond .eq 8, 3) := dk_153 0 8 (dk_at dksX4_letterTold_2 3 rfl rfl)
theorem dX4_letterTold_52 : decode cX4_letterTold 52 = .ok (.aload_n 0, 1) := dk_42 (dk_at dksX4_letterTold_2 6 rfl rfl)
theorem dX4_letterTold_53 : decode cX4_letterTold 53 = .ok (.invokevirtual 70, 3) := dk_182 0 70 (dk_at dksX4_letterTold_2 7 rfl rfl)
theorem dX4_letterTold_56 : decode cX4_letterTold 56 = .ok (.athrow, 1) := dk_191 (dk_at dksX4_letterTold_2 10 rfl rfl)
theorem dX4_letterTold_57 : decode cX4_letterTold 57 = .ok (.aload_n 3, 1) := dk_45 (dk_at dksX4_letterTold_2 11 rfl rfl)
theorem dX4_letterTold_58 : decode cX4_letterTold 58 = .ok (.invokevirtual 64, 3) := dk_182 0 64 (dk_at dksX4_letterTold_2 12 rfl rfl)
theorem dX4_letterTold_61 : decode cX4_letterTold 61 = .ok (.iconst 4, 1) := dk_7 (dk_at dksX4_letterTold_2 15 rfl rfl)
theorem dX4_letterTold_62 : decode cX4_letterTold 62 = .ok (.if_icmp .le 18, 3) := dk_164 0 18 (dk_at dksX4_letterTold_2 16 rfl rfl)
theorem dX4_letterTold_65 : decode cX4_letterTold 65 = .ok (.new 36, 3) := dk_187 0 36 (dk_at dksX4_letterTold_2 19 rfl rfl)
theorem dX4_letterTold_68 : decode cX4_letterTold 68 = .ok (.dup, 1) := dk_89 (dk_at dksX4_letterTold_2 22 rfl rfl)
theorem dX4_letterTold_69 : decode cX4_letterTold 69 = .ok (.iconst 1, 1) := dk_4 (dk_at dksX4_letterTold_2 23 rfl rfl)
theorem dX4_letterTold_70 : decode cX4_letterTold 70 = .ok (.aload_n 0, 1) := dk_42 (dk_at dksX4_letterTold_3 0 rfl rfl)
theorem dX4_letterTold_71 : decode cX4_letterTold 71 = .ok (.getfield 33, 3) := dk_180 0 33 (dk_at dksX4_letterTold_3 1 rfl rfl)
theorem dX4_letterTold_74 : decode cX4_letterTold 74 = .ok (.iconst 4, 1) := dk_7 (dk_at dksX4_letterTold_3 4 rfl rfl)
theorem dX4_letterTold_75 : decode cX4_letterTold 75 = .ok (.iadd, 1) := dk_96 (dk_at dksX4_letterTold_3 5 rfl rfl)
theorem dX4_letterTold_76 : decode cX4_letterTold 76 = .ok (.invokespecial 42, 3) := dk_183 0 42 (dk_at dksX4_letterTold_3 6 rfl rfl)
theorem dX4_letterTold_79 : decode cX4_letterTold 79 = .ok (.athrow, 1) := dk_191 (dk_at dksX4_letterTold_3 9 rfl rfl)
theorem dX4_letterTold_80 : decode cX4_letterTold 80 = .ok (.aload_n 0, 1) := dk_42 (dk_at dksX4_letterTold_3 10 rfl rfl)
theorem dX4_letterTold_81 : decode cX4_letterTold 81 = .ok (.dup, 1) := dk_89 (dk_at dksX4_letterTold_3 11 rfl rfl)
theorem dX4_letterTold_82 : decode cX4_letterTold 82 = .ok (.getfield 33, 3) := dk_180 0 33 (dk_at dksX4_letterTold_3 12 rfl rfl)
theorem dX4_letterTold_85 : decode cX4_letterTold 85 = .ok (.aload_n 3, 1) := dk_45 (dk_at dksX4_letterTold_3 15 rfl rfl)
theorem dX4_letterTold_86 : decode cX4_letterTold 86 = .ok (.invokevirtual 64, 3) := dk_182 0 64 (dk_at dksX4_letterTold_3 16 rfl rfl)
theorem dX4_letterTold_89 : decode cX4_letterTold 89 = .ok (.iadd, 1) := dk_96 (dk_at dksX4_letterTold_3 19 rfl rfl)
theorem dX4_letterTold_90 : decode cX4_letterTold 90 = .ok (.putfield 33, 3) := dk_181 0 33 (dk_at dksX4_letterTold_3 20 rfl rfl)
theorem dX4_letterTold_93 : decode cX4_letterTold 93 = .ok (.aload_n 0, 1) := dk_42 (dk_at dksX4_letterTold_3 23 rfl rfl)
theorem dX4_letterTold_94 : decode cX4_letterTold 94 = .ok (.aload_n 0, 1) := dk_42 (dk_at dksX4_letterTold_4 0 rfl rfl)
theorem dX4_letterTold_95 : decode cX4_letterTold 95 = .ok (.getfield 33, 3) := dk_180 0 33 (dk_at dksX4_letterTold_4 1 rfl rfl)
theorem dX4_letterTold_98 : decode cX4_letterTold 98 = .ok (.putfield 22, 3) := dk_181 0 22 (dk_at dksX4_letterTold_4 4 rfl rfl)
theorem dX4_letterTold_101 : decode cX4_letterTold 101 = .ok (.aload_n 0, 1) := dk_42 (dk_at dksX4_letterTold_4 7 rfl rfl)
theorem dX4_letterTold_102 : decode cX4_letterTold 102 = .ok (.getfield 18, 3) := dk_180 0 18 (dk_at dksX4_letterTold_4 8 rfl rfl)
theorem dX4_letterTold_105 : decode cX4_letterTold 105 = .ok (.getfield 121, 3) := dk_180 0 121 (dk_at dksX4_letterTold_4 11 rfl rfl)
theorem dX4_letterTold_108 : decode cX4_letterTold 108 = .ok (.aload_n 3, 1) := dk_45 (dk_at dksX4_letterTold_4 14 rfl rfl)
theorem dX4_letterTold_109 : decode cX4_letterTold 109 = .ok (.invokevirtual 124, 3) := dk_182 0 124 (dk_at dksX4_letterTold_4 15 rfl rfl)
theorem dX4_letterTold_112 : decode cX4_letterTold 112 = .ok (.ifCond .eq 13, 3) := dk_153 0 13 (dk_at dksX4_letterTold_4 18 rfl rfl)
theorem dX4_letterTold_115 : decode cX4_letterTold 115 = .ok (.new 36, 3) := dk_187 0 36 (dk_at dksX4_letterTold_4 21 rfl rfl)
theorem dX4_letterTold_118 : decode cX4_letterTold 118 = .ok (.dup, 1) := dk_89 (dk_at dksX4_letterTold_5 0 rfl rfl)
theorem dX4_letterTold_119 : decode cX4_letterTold 119 = .ok (.iconst 3, 1) := dk_6 (dk_at dksX4_letterTold_5 1 rfl rfl)
theorem dX4_letterTold_120 : decode cX4_letterTold 120 = .ok (.iload_n 2, 1) := dk_28 (dk_at dksX4_letterTold_5 2 rfl rfl)
theorem dX4_letterTold_121 : decode cX4_letterTold 121 = .ok (.invokespecial 42, 3) := dk_183 0 42 (dk_at dksX4_letterTold_5 3 rfl rfl)
theorem dX4_letterTold_124 : decode cX4_letterTold 124 = .ok (.athrow, 1) := dk_191 (dk_at dksX4_letterTold_5 6 rfl rfl)
theorem dX4_letterTold_125 : decode cX4_letterTold 125 = .ok (.aload_n 0, 1) := dk_42 (dk_at dksX4_letterTold_5 7 rfl rfl)
theorem dX4_letterTold_126 : decode cX4_letterTold 126 = .ok (.getfield 18, 3) := dk_180 0 18 (dk_at dksX4_letterTold_5 8 rfl rfl)
theorem dX4_letterTold_129 : decode cX4_letterTold 129 = .ok (.getfield 121, 3) := dk_180 0 121 (dk_at dksX4_letterTold_5 11 rfl rfl)
theorem dX4_letterTold_132 : decode cX4_letterTold 132 = .ok (.aload_n 3, 1) := dk_45 (dk_at dksX4_letterTold_5 14 rfl rfl)
theorem dX4_letterTold_133 : decode cX4_letterTold 133 = .ok (.invokevirtual 127, 3) := dk_182 0 127 (dk_at dksX4_letterTold_5 15 rfl rfl)
theorem dX4_letterTold_136 : decode cX4_letterTold 136 = .ok (.pop, 1) := dk_87 (dk_at dksX4_letterTold_5 18 rfl rfl)
theorem dX4_letterTold_137 : decode cX4_letterTold 137 = .ok (.new 130, 3) := dk_187 0 130 (dk_at dksX4_letterTold_5 19 rfl rfl)
theorem dX4_letterTold_140 : decode cX4_letterTold 140 = .ok (.dup, 1) := dk_89 (dk_at dksX4_letterTold_5 22 rfl rfl)
theorem dX4_letterTold_141 : decode cX4_letterTold 141 = .ok (.aload_n 3, 1) := dk_45 (dk_at dksX4_letterTold_5 23 rfl rfl)
theorem dX4_letterTold_142 : decode cX4_letterTold 142 = .ok (.invokespecial 132, 3) := dk_183 0 132 (dk_at dksX4_letterTold_6 0 rfl rfl)
theorem dX4_letterTold_145 : decode cX4_letterTold 145 = .ok (.astore 4, 2) := dk_58 4 (dk_at dksX4_letterTold_6 3 rfl rfl)
theorem dX4_letterTold_147 : decode cX4_letterTold 147 = .ok (.aload_n 0, 1) := dk_42 (dk_at dksX4_letterTold_6 5 rfl rfl)
theorem dX4_letterTold_148 : decode cX4_letterTold 148 = .ok (.getfield 18, 3) := dk_180 0 18 (dk_at dksX4_letterTold_6 6 rfl rfl)
theorem dX4_letterTold_151 : decode cX4_letterTold 151 = .ok (.getfield 86, 3) := dk_180 0 86 (dk_at dksX4_letterTold_6 9 rfl rfl)
theorem dX4_letterTold_154 : decode cX4_letterTold 154 = .ok (.getfield 106, 3) := dk_180 0 106 (dk_at dksX4_letterTold_6 12 rfl rfl)
theorem dX4_letterTold_157 : decode cX4_letterTold 157 = .ok (.aload 4, 2) := dk_25 4 (dk_at dksX4_letterTold_6 15 rfl rfl)
theorem dX4_letterTold_159 : decode cX4_letterTold 159 = .ok (.invokevirtual 127, 3) := dk_182 0 127 (dk_at dksX4_letterTold_6 17 rfl rfl)
theorem dX4_letterTold_162 : decode cX4_letterTold 162 = .ok (.pop, 1) := dk_87 (dk_at dksX4_letterTold_6 20 rfl rfl)
theorem dX4_letterTold_163 : decode cX4_letterTold 163 = .ok (.aload_n 0, 1) := dk_42 (dk_at dksX4_letterTold_6 21 rfl rfl)
theorem dX4_letterTold_164 : decode cX4_letterTold 164 = .ok (.aload 4, 2) := dk_25 4 (dk_at dksX4_letterTold_6 22 rfl rfl)
theorem dX4_letterTold_166 : decode cX4_letterTold 166 = .ok (.getfield 135, 3) := dk_180 0 135 (dk_at dksX4_letterTold_7 0 rfl rfl)
theorem dX4_letterTold_169 : decode cX4_letterTold 169 = .ok (.putfield 138, 3) := dk_181 0 138 (dk_at dksX4_letterTold_7 3 rfl rfl)
theorem dX4_letterTold_172 : decode cX4_letterTold 172 = .ok (.return_, 1) := dk_177 (dk_at dksX4_letterTold_7 6 rfl rfl)
abbrev cX4_inkTold : ByteArray := prog_8_method_11_code
def yX4_inkTold : MethodName := ⟨RX4, "inkTold", "(I)V"⟩
def dkwX4_inkTold_1 : List UInt8 := [4, 181, 0, 141, 42, 42, 180, 0, 18, 180, 0, 86, 180, 0, 145, 181, 0, 138, 177]
abbrev dktX4_inkTold_1 : List UInt8 := dkwX4_inkTold_1 ++ []
def dkwX4_inkTold_0 : List UInt8 := [42, 180, 0, 18, 180, 0, 141, 153, 0, 13, 187, 0, 36, 89, 8, 27, 183, 0, 42, 191, 42, 180, 0, 18]
abbrev dktX4_inkTold_0 : List UInt8 := dkwX4_inkTold_0 ++ dktX4_inkTold_1
theorem dksX4_inkTold_0 : cX4_inkTold.data.toList.drop 0 = dktX4_inkTold_0 := by decide +kernel
theorem dksX4_inkTold_1 : cX4_inkTold.data.toList.drop 24 = dktX4_inkTold_1 := dk_seg dksX4_inkTold_0 24 rfl rfl
theorem dX4_inkTold_0 : decode cX4_inkTold 0 = .ok (.aload_n 0, 1) := dk_42 (dk_at dksX4_inkTold_0 0 rfl rfl)
theorem dX4_inkTold_1 : decode cX4_inkTold 1 = .ok (.getfield 18, 3) := dk_180 0 18 (dk_at dksX4_inkTold_0 1 rfl rfl)
theorem dX4_inkTold_4 : decode cX4_inkTold 4 = .ok (.getfield 141, 3) := dk_180 0 141 (dk_at dksX4_inkTold_0 4 rfl rfl)
theorem dX4_inkTold_7 : decode cX4_inkTold 7 = .ok (.ifCond .eq 13, 3) := dk_153 0 13 (dk_at dksX4_inkTold_0 7 rfl rfl)
theorem dX4_inkTold_10 : decode cX4_inkTold 10 = .ok (.new 36, 3) := dk_187 0 36 (dk_at dksX4_inkTold_0 10 rfl rfl)
theorem dX4_inkTold_13 : decode cX4_inkTold 13 = .ok (.dup, 1) := dk_89 (dk_at dksX4_inkTold_0 13 rfl rfl)
theorem dX4_inkTold_14 : decode cX4_inkTold 14 = .ok (.iconst 5, 1) := dk_8 (dk_at dksX4_inkTold_0 14 rfl rfl)
theorem dX4_inkTold_15 : decode cX4_inkTold 15 = .ok (.iload_n 1, 1) := dk_27 (dk_at dksX4_inkTold_0 15 rfl rfl)
theorem dX4_inkTold_16 : decode cX4_inkTold 16 = .ok (.invokespecial 42, 3) := dk_183 0 42 (dk_at dksX4_inkTold_0 16 rfl rfl)
theorem dX4_inkTold_19 : decode cX4_inkTold 19 = .ok (.athrow, 1) := dk_191 (dk_at dksX4_inkTold_0 19 rfl rfl)
theorem dX4_inkTold_20 : decode cX4_inkTold 20 = .ok (.aload_n 0, 1) := dk_42 (dk_at dksX4_inkTold_0 20 rfl rfl)
theorem dX4_inkTold_21 : decode cX4_inkTold 21 = .ok (.getfield 18, 3) := dk_180 0 18 (dk_at dksX4_inkTold_0 21 rfl rfl)
theorem dX4_inkTold_24 : decode cX4_inkTold 24 = .ok (.iconst 1, 1) := dk_4 (dk_at dksX4_inkTold_1 0 rfl rfl)
theorem dX4_inkTold_25 : decode cX4_inkTold 25 = .ok (.putfield 141, 3) := dk_181 0 141 (dk_at dksX4_inkTold_1 1 rfl rfl)
theorem dX4_inkTold_28 : decode cX4_inkTold 28 = .ok (.aload_n 0, 1) := dk_42 (dk_at dksX4_inkTold_1 4 rfl rfl)
theorem dX4_inkTold_29 : decode cX4_inkTold 29 = .ok (.aload_n 0, 1) := dk_42 (dk_at dksX4_inkTold_1 5 rfl rfl)
theorem dX4_inkTold_30 : decode cX4_inkTold 30 = .ok (.getfield 18, 3) := dk_180 0 18 (dk_at dksX4_inkTold_1 6 rfl rfl)
theorem dX4_inkTold_33 : decode cX4_inkTold 33 = .ok (.getfield 86, 3) := dk_180 0 86 (dk_at dksX4_inkTold_1 9 rfl rfl)
theorem dX4_inkTold_36 : decode cX4_inkTold 36 = .ok (.getfield 145, 3) := dk_180 0 145 (dk_at dksX4_inkTold_1 12 rfl rfl)
theorem dX4_inkTold_39 : decode cX4_inkTold 39 = .ok (.putfield 138, 3) := dk_181 0 138 (dk_at dksX4_inkTold_1 15 rfl rfl)
theorem dX4_inkTold_42 : decode cX4_inkTold 42 = .ok (.return_, 1) := dk_177 (dk_at dksX4_inkTold_1 18 rfl rfl)
abbrev cX4_strokeTold : ByteArray := prog_8_method_12_code
def yX4_strokeTold : MethodName := ⟨RX4, "strokeTold", "(I)V"⟩
def dkwX4_strokeTold_6 : List UInt8 := [180, 0, 138, 187, 0, 151, 89, 42, 180, 0, 3, 180, 0, 148, 28, 183, 0, 153, 182, 0, 127, 87, 177]
abbrev dktX4_strokeTold_6 : List UInt8 := dkwX4_strokeTold_6 ++ []
def dkwX4_strokeTold_5 : List UInt8 := [180, 0, 3, 180, 0, 148, 28, 42, 3, 16, 99, 182, 0, 102, 79, 132, 2, 1, 167, 255, 184, 42]
abbrev dktX4_strokeTold_5 : List UInt8 := dkwX4_strokeTold_5 ++ dktX4_strokeTold_6
def dkwX4_strokeTold_4 : List UInt8 := [159, 0, 44, 28, 16, 24, 160, 0, 16, 187, 0, 36, 89, 8, 42, 180, 0, 33, 183, 0, 42, 191, 42]
abbrev dktX4_strokeTold_4 : List UInt8 := dkwX4_strokeTold_4 ++ dktX4_strokeTold_5
def dkwX4_strokeTold_3 : List UInt8 := [159, 0, 25, 42, 42, 182, 0, 38, 182, 0, 67, 153, 0, 55, 42, 180, 0, 33, 42, 180, 0, 22]
abbrev dktX4_strokeTold_3 : List UInt8 := dkwX4_strokeTold_3 ++ dktX4_strokeTold_4
def dkwX4_strokeTold_2 : List UInt8 := [160, 0, 13, 187, 0, 36, 89, 8, 27, 183, 0, 42, 191, 3, 61, 28, 7, 161, 0, 32, 28, 5, 112, 4]
abbrev dktX4_strokeTold_2 : List UInt8 := dkwX4_strokeTold_2 ++ dktX4_strokeTold_3
def dkwX4_strokeTold_1 : List UInt8 := [42, 180, 0, 138, 42, 180, 0, 18, 180, 0, 86, 180, 0, 145, 166, 0, 8, 16, 8, 167, 0, 4, 7]
abbrev dktX4_strokeTold_1 : List UInt8 := dkwX4_strokeTold_1 ++ dktX4_strokeTold_2
def dkwX4_strokeTold_0 : List UInt8 := [42, 180, 0, 138, 199, 0, 13, 187, 0, 36, 89, 4, 27, 183, 0, 42, 191, 42, 180, 0, 138, 182, 0, 110]
abbrev dktX4_strokeTold_0 : List UInt8 := dkwX4_strokeTold_0 ++ dktX4_strokeTold_1
theorem dksX4_strokeTold_0 : cX4_strokeTold.data.toList.drop 0 = dktX4_strokeTold_0 := by decide +kernel
theorem dksX4_strokeTold_1 : cX4_strokeTold.data.toList.drop 24 = dktX4_strokeTold_1 := dk_seg dksX4_strokeTold_0 24 rfl rfl
theorem dksX4_strokeTold_2 : cX4_strokeTold.data.toList.drop 47 = dktX4_strokeTold_2 := dk_seg dksX4_strokeTold_1 23 rfl rfl
theorem dksX4_strokeTold_3 : cX4_strokeTold.data.toList.drop 71 = dktX4_strokeTold_3 := dk_seg dksX4_strokeTold_2 24 rfl rfl
theorem dksX4_strokeTold_4 : cX4_strokeTold.data.toList.drop 93 = dktX4_strokeTold_4 := dk_seg dksX4_strokeTold_3 22 rfl rfl
theorem dksX4_strokeTold_5 : cX4_strokeTold.data.toList.drop 116 = dktX4_strokeTold_5 := dk_seg dksX4_strokeTold_4 23 rfl rfl
theorem dksX4_strokeTold_6 : cX4_strokeTold.data.toList.drop 138 = dktX4_strokeTold_6 := dk_seg dksX4_strokeTold_5 22 rfl rfl
theorem dX4_strokeTold_0 : decode cX4_strokeTold 0 = .ok (.aload_n 0, 1) := dk_42 (dk_at dksX4_strokeTold_0 0 rfl rfl)
theorem dX4_strokeTold_1 : decode cX4_strokeTold 1 = .ok (.getfield 138, 3) := dk_180 0 138 (dk_at dksX4_strokeTold_0 1 rfl rfl)
theorem dX4_strokeTold_4 : decode cX4_strokeTold 4 = .ok (.ifnonnull 13, 3) := dk_199 0 13 (dk_at dksX4_strokeTold_0 4 rfl rfl)
theorem dX4_strokeTold_7 : decode cX4_strokeTold 7 = .ok (.new 36, 3) := dk_187 0 36 (dk_at dksX4_strokeTold_0 7 rfl rfl)
theorem dX4_strokeTold_10 : decode cX4_strokeTold 10 = .ok (.dup, 1) := dk_89 (dk_at dksX4_strokeTold_0 10 rfl rfl)
theorem dX4_strokeTold_11 : decode cX4_strokeTold 11 = .ok (.iconst 1, 1) := dk_4 (dk_at dksX4_strokeTold_0 11 rfl rfl)
theorem dX4_strokeTold_12 : decode cX4_strokeTold 12 = .ok (.iload_n 1, 1) := dk_27 (dk_at dksX4_strokeTold_0 12 rfl rfl)
theorem dX4_strokeTold_13 : decode cX4_strokeTold 13 = .ok (.invokespecial 42, 3) := dk_183 0 42 (dk_at dksX4_strokeTold_0 13 rfl rfl)
theorem dX4_strokeTold_16 : decode cX4_strokeTold 16 = .ok (.athrow, 1) := dk_191 (dk_at dksX4_strokeTold_0 16 rfl rfl)
theorem dX4_strokeTold_17 : decode cX4_strokeTold 17 = .ok (.aload_n 0, 1) := dk_42 (dk_at dksX4_strokeTold_0 17 rfl rfl)
theorem dX4_strokeTold_18 : decode cX4_strokeTold 18 = .ok (.getfield 138, 3) := dk_180 0 138 (dk_at dksX4_strokeTold_0 18 rfl rfl)
theorem dX4_strokeTold_21 : decode cX4_strokeTold 21 = .ok (.invokevirtual 110, 3) := dk_182 0 110 (dk_at dksX4_strokeTold_0 21 rfl rfl)
theorem dX4_strokeTold_24 : decode cX4_strokeTold 24 = .ok (.aload_n 0, 1) := dk_42 (dk_at dksX4_strokeTold_1 0 rfl rfl)
theorem dX4_strokeTold_25 : decode cX4_strokeTold 25 = .ok (.getfield 138, 3) := dk_180 0 138 (dk_at dksX4_strokeTold_1 1 rfl rfl)
theorem dX4_strokeTold_28 : decode cX4_strokeTold 28 = .ok (.aload_n 0, 1) := dk_42 (dk_at dksX4_strokeTold_1 4 rfl rfl)
theorem dX4_strokeTold_29 : decode cX4_strokeTold 29 = .ok (.getfield 18, 3) := dk_180 0 18 (dk_at dksX4_strokeTold_1 5 rfl rfl)
theorem dX4_strokeTold_32 : decode cX4_strokeTold 32 = .ok (.getfield 86, 3) := dk_180 0 86 (dk_at dksX4_strokeTold_1 8 rfl rfl)
theorem dX4_strokeTold_35 : decode cX4_strokeTold 35 = .ok (.getfield 145, 3) := dk_180 0 145 (dk_at dksX4_strokeTold_1 11 rfl rfl)
theorem dX4_strokeTold_38 : decode cX4_strokeTold 38 = .ok (.if_acmp .ne 8, 3) := dk_166 0 8 (dk_at dksX4_strokeTold_1 14 rfl rfl)
theorem dX4_strokeTold_41 : decode cX4_strokeTold 41 = .ok (.bipush 8, 2) := dk_16 8 (dk_at dksX4_strokeTold_1 17 rfl rfl)
theorem dX4_strokeTold_43 : decode cX4_strokeTold 43 = .ok (.goto 4, 3) := dk_167 0 4 (dk_at dksX4_strokeTold_1 19 rfl rfl)
theorem dX4_strokeTold_46 : decode cX4_strokeTold 46 = .ok (.iconst 4, 1) := dk_7 (dk_at dksX4_strokeTold_1 22 rfl rfl)
theorem dX4_strokeTold_47 : decode cX4_strokeTold 47 = .ok (.if_icmp .ne 13, 3) := dk_160 0 13 (dk_at dksX4_strokeTold_2 0 rfl rfl)
theorem dX4_strokeTold_50 : decode cX4_strokeTold 50 = .ok (.new 36, 3) := dk_187 0 36 (dk_at dksX4_strokeTold_2 3 rfl rfl)
theorem dX4_strokeTold_53 : decode cX4_strokeTold 53 = .ok (.dup, 1) := dk_89 (dk_at dksX4_strokeTold_2 6 rfl rfl)
theorem dX4_strokeTold_54 : decode cX4_strokeTold 54 = .ok (.iconst 5, 1) := dk_8 (dk_at dksX4_strokeTold_2 7 rfl rfl)
theorem dX4_strokeTold_55 : decode cX4_strokeTold 55 = .ok (.iload_n 1, 1) := dk_27 (dk_at dksX4_strokeTold_2 8 rfl rfl)
theorem dX4_strokeTold_56 : decode cX4_strokeTold 56 = .ok (.invokespecial 42, 3) := dk_183 0 42 (dk_at dksX4_strokeTold_2 9 rfl rfl)
theorem dX4_strokeTold_59 : decode cX4_strokeTold 59 = .ok (.athrow, 1) := dk_191 (dk_at dksX4_strokeTold_2 12 rfl rfl)
theorem dX4_strokeTold_60 : decode cX4_strokeTold 60 = .ok (.iconst 0, 1) := dk_3 (dk_at dksX4_strokeTold_2 13 rfl rfl)
theorem dX4_strokeTold_61 : decode cX4_strokeTold 61 = .ok (.istore_n 2, 1) := dk_61 (dk_at dksX4_strokeTold_2 14 rfl rfl)
theorem dX4_strokeTold_62 : decode cX4_strokeTold 62 = .ok (.iload_n 2, 1) := dk_28 (dk_at dksX4_strokeTold_2 15 rfl rfl)
theorem dX4_strokeTold_63 : decode cX4_strokeTold 63 = .ok (.iconst 4, 1) := dk_7 (dk_at dksX4_strokeTold_2 16 rfl rfl)
theorem dX4_strokeTold_64 : decode cX4_strokeTold 64 = .ok (.if_icmp .lt 32, 3) := dk_161 0 32 (dk_at dksX4_strokeTold_2 17 rfl rfl)
theorem dX4_strokeTold_67 : decode cX4_strokeTold 67 = .ok (.iload_n 2, 1) := dk_28 (dk_at dksX4_strokeTold_2 20 rfl rfl)
theorem dX4_strokeTold_68 : decode cX4_strokeTold 68 = .ok (.iconst 2, 1) := dk_5 (dk_at dksX4_strokeTold_2 21 rfl rfl)
theorem dX4_strokeTold_69 : decode cX4_strokeTold 69 = .ok (.irem, 1) := dk_112 (dk_at dksX4_strokeTold_2 22 rfl rfl)
theorem dX4_strokeTold_70 : decode cX4_strokeTold 70 = .ok (.iconst 1, 1) := dk_4 (dk_at dksX4_strokeTold_2 23 rfl rfl)
theorem dX4_strokeTold_71 : decode cX4_strokeTold 71 = .ok (.if_icmp .eq 25, 3) := dk_159 0 25 (dk_at dksX4_strokeTold_3 0 rfl rfl)
theorem dX4_strokeTold_74 : decode cX4_strokeTold 74 = .ok (.aload_n 0, 1) := dk_42 (dk_at dksX4_strokeTold_3 3 rfl rfl)
theorem dX4_strokeTold_75 : decode cX4_strokeTold 75 = .ok (.aload_n 0, 1) := dk_42 (dk_at dksX4_strokeTold_3 4 rfl rfl)
theorem dX4_strokeTold_76 : decode cX4_strokeTold 76 = .ok (.invokevirtual 38, 3) := dk_182 0 38 (dk_at dksX4_strokeTold_3 5 rfl rfl)
theorem dX4_strokeTold_79 : decode cX4_strokeTold 79 = .ok (.invokevirtual 67, 3) := dk_182 0 67 (dk_at dksX4_strokeTold_3 8 rfl rfl)
theorem dX4_strokeTold_82 : decode cX4_strokeTold 82 = .ok (.ifCond .eq 55, 3) := dk_153 0 55 (dk_at dksX4_strokeTold_3 11 rfl rfl)
theorem dX4_strokeTold_85 : decode cX4_strokeTold 85 = .ok (.aload_n 0, 1) := dk_42 (dk_at dksX4_strokeTold_3 14 rfl rfl)
theorem dX4_strokeTold_86 : decode cX4_strokeTold 86 = .ok (.getfield 33, 3) := dk_180 0 33 (dk_at dksX4_strokeTold_3 15 rfl rfl)
theorem dX4_strokeTold_89 : decode cX4_strokeTold 89 = .ok (.aload_n 0, 1) := dk_42 (dk_at dksX4_strokeTold_3 18 rfl rfl)
theorem dX4_strokeTold_90 : decode cX4_strokeTold 90 = .ok (.getfield 22, 3) := dk_180 0 22 (dk_at dksX4_strokeTold_3 19 rfl rfl)
theorem dX4_strokeTold_93 : decode cX4_strokeTold 93 = .ok (.if_icmp .eq 44, 3) := dk_159 0 44 (dk_at dksX4_strokeTold_4 0 rfl rfl)
theorem dX4_strokeTold_96 : decode cX4_strokeTold 96 = .ok (.iload_n 2, 1) := dk_28 (dk_at dksX4_strokeTold_4 3 rfl rfl)
theorem dX4_strokeTold_97 : decode cX4_strokeTold 97 = .ok (.bipush 24, 2) := dk_16 24 (dk_at dksX4_strokeTold_4 4 rfl rfl)
theorem dX4_strokeTold_99 : decode cX4_strokeTold 99 = .ok (.if_icmp .ne 16, 3) := dk_160 0 16 (dk_at dksX4_strokeTold_4 6 rfl rfl)
theorem dX4_strokeTold_102 : decode cX4_strokeTold 102 = .ok (.new 36, 3) := dk_187 0 36 (dk_at dksX4_strokeTold_4 9 rfl rfl)
theorem dX4_strokeTold_105 : decode cX4_strokeTold 105 = .ok (.dup, 1) := dk_89 (dk_at dksX4_strokeTold_4 12 rfl rfl)
theorem dX4_strokeTold_106 : decode cX4_strokeTold 106 = .ok (.iconst 5, 1) := dk_8 (dk_at dksX4_strokeTold_4 13 rfl rfl)
theorem dX4_strokeTold_107 : decode cX4_strokeTold 107 = .ok (.aload_n 0, 1) := dk_42 (dk_at dksX4_strokeTold_4 14 rfl rfl)
theorem dX4_strokeTold_108 : decode cX4_strokeTold 108 = .ok (.getfield 33, 3) := dk_180 0 33 (dk_at dksX4_strokeTold_4 15 rfl rfl)
theorem dX4_strokeTold_111 : decode cX4_strokeTold 111 = .ok (.invokespecial 42, 3) := dk_183 0 42 (dk_at dksX4_strokeTold_4 18 rfl rfl)
theorem dX4_strokeTold_114 : decode cX4_strokeTold 114 = .ok (.athrow, 1) := dk_191 (dk_at dksX4_strokeTold_4 21 rfl rfl)
theorem dX4_strokeTold_115 : decode cX4_strokeTold 115 = .ok (.aload_n 0, 1) := dk_42 (dk_at dksX4_strokeTold_4 22 rfl rfl)
theorem dX4_strokeTold_116 : decode cX4_strokeTold 116 = .ok (.getfield 3, 3) := dk_180 0 3 (dk_at dksX4_strokeTold_5 0 rfl rfl)
theorem dX4_strokeTold_119 : decode cX4_strokeTold 119 = .ok (.getfield 148, 3) := dk_180 0 148 (dk_at dksX4_strokeTold_5 3 rfl rfl)
theorem dX4_strokeTold_122 : decode cX4_strokeTold 122 = .ok (.iload_n 2, 1) := dk_28 (dk_at dksX4_strokeTold_5 6 rfl rfl)
theorem dX4_strokeTold_123 : decode cX4_strokeTold 123 = .ok (.aload_n 0, 1) := dk_42 (dk_at dksX4_strokeTold_5 7 rfl rfl)
theorem dX4_strokeTold_124 : decode cX4_strokeTold 124 = .ok (.iconst 0, 1) := dk_3 (dk_at dksX4_strokeTold_5 8 rfl rfl)
theorem dX4_strokeTold_125 : decode cX4_strokeTold 125 = .ok (.bipush 99, 2) := dk_16 99 (dk_at dksX4_strokeTold_5 9 rfl rfl)
theorem dX4_strokeTold_127 : decode cX4_strokeTold 127 = .ok (.invokevirtual 102, 3) := dk_182 0 102 (dk_at dksX4_strokeTold_5 11 rfl rfl)
theorem dX4_strokeTold_130 : decode cX4_strokeTold 130 = .ok (.iastore, 1) := dk_79 (dk_at dksX4_strokeTold_5 14 rfl rfl)
theorem dX4_strokeTold_131 : decode cX4_strokeTold 131 = .ok (.iinc 2 1, 3) := dk_132 2 1 (dk_at dksX4_strokeTold_5 15 rfl rfl)
theorem dX4_strokeTold_134 : decode cX4_strokeTold 134 = .ok (.goto (-72), 3) := dk_167 255 184 (dk_at dksX4_strokeTold_5 18 rfl rfl)
theorem dX4_strokeTold_137 : decode cX4_strokeTold 137 = .ok (.aload_n 0, 1) := dk_42 (dk_at dksX4_strokeTold_5 21 rfl rfl)
theorem dX4_strokeTold_138 : decode cX4_strokeTold 138 = .ok (.getfield 138, 3) := dk_180 0 138 (dk_at dksX4_strokeTold_6 0 rfl rfl)
theorem dX4_strokeTold_141 : decode cX4_strokeTold 141 = .ok (.new 151, 3) := dk_187 0 151 (dk_at dksX4_strokeTold_6 3 rfl rfl)
theorem dX4_strokeTold_144 : decode cX4_strokeTold 144 = .ok (.dup, 1) := dk_89 (dk_at dksX4_strokeTold_6 6 rfl rfl)
theorem dX4_strokeTold_145 : decode cX4_strokeTold 145 = .ok (.aload_n 0, 1) := dk_42 (dk_at dksX4_strokeTold_6 7 rfl rfl)
theorem dX4_strokeTold_146 : decode cX4_strokeTold 146 = .ok (.getfield 3, 3) := dk_180 0 3 (dk_at dksX4_strokeTold_6 8 rfl rfl)
theorem dX4_strokeTold_149 : decode cX4_strokeTold 149 = .ok (.getfield 148, 3) := dk_180 0 148 (dk_at dksX4_strokeTold_6 11 rfl rfl)
theorem dX4_strokeTold_152 : decode cX4_strokeTold 152 = .ok (.iload_n 2, 1) := dk_28 (dk_at dksX4_strokeTold_6 14 rfl rfl)
theorem dX4_strokeTold_153 : decode cX4_strokeTold 153 = .ok (.invokespecial 153, 3) := dk_183 0 153 (dk_at dksX4_strokeTold_6 15 rfl rfl)
theorem dX4_strokeTold_156 : decode cX4_strokeTold 156 = .ok (.invokevirtual 127, 3) := dk_182 0 127 (dk_at dksX4_strokeTold_6 18 rfl rfl)
theorem dX4_strokeTold_159 : decode cX4_strokeTold 159 = .ok (.pop, 1) := dk_87 (dk_at dksX4_strokeTold_6 21 rfl rfl)
theorem dX4_strokeTold_160 : decode cX4_strokeTold 160 = .ok (.return_, 1) := dk_177 (dk_at dksX4_strokeTold_6 22 rfl rfl)
theorem q132 : (Jvm.Cond.initialized "LetterPen$Scan") ∈ lw_all := lw_g (lw_at lw_m1 10 rfl) rfl
theorem q196 : (Jvm.Cond.fieldLink "LetterPen$Scan" (106 : Nat) "LetterPen$State" "models" "Ljava/util/ArrayList;") ∈ lw_all := lw_g (lw_at lw_m1 74 rfl) rfl
theorem q199 : (Jvm.Cond.fieldLink "LetterPen$Scan" (145 : Nat) "LetterPen$State" "ink" "Ljava/util/ArrayList;") ∈ lw_all := lw_g (lw_at lw_m1 77 rfl) rfl
theorem q202 : (Jvm.Cond.fieldLink "LetterPen$Scan" (90 : Nat) "LetterPen$State" "values" "[I") ∈ lw_all := lw_g (lw_at lw_m1 80 rfl) rfl
theorem q245 : (Jvm.Cond.fieldLinkNest "LetterPen$Scan" (29 : Nat) "LetterPen" "tape" "[C" "LetterPen") ∈ lw_tbl := lw_at lw_m1 123 rfl
theorem q249 : (Jvm.Cond.fieldLinkNest "LetterPen$Scan" (148 : Nat) "LetterPen" "read" "[I" "LetterPen") ∈ lw_tbl := lw_at lw_m1 127 rfl
theorem q396 : (Jvm.Cond.instantiable "LetterPen$Scan" (6 : Nat)) ∈ lw_all := lw_g (lw_at lw_m2 34 rfl) rfl
theorem q398 : (Jvm.Cond.instanceMethod ({ cls := "LetterPen$Scan", name := "<init>", desc := "(LLetterPen;I)V" } : Jvm.MethodName)) ∈ lw_all := lw_g (lw_at lw_m2 36 rfl) rfl
theorem q399 : (Jvm.Cond.code ({ cls := "LetterPen$Scan", name := "<init>", desc := "(LLetterPen;I)V" } : Jvm.MethodName) prog_8_method_1_code (3 : Nat) (Option.none : Option Jvm.ClassFile.FieldType)) ∈ lw_all := lw_g (lw_at lw_m2 37 rfl) rfl
theorem q400 : (Jvm.Cond.methodLink "LetterPen$Scan" (9 : Nat) ({ cls := "java/lang/Object", name := "<init>", desc := "()V" } : Jvm.MethodName)) ∈ lw_all := lw_g (lw_at lw_m2 38 rfl) rfl
theorem q401 : (Jvm.Cond.classLink "LetterPen$Scan" (15 : Nat) "LetterPen$Plan") ∈ lw_all := lw_g (lw_at lw_m2 39 rfl) rfl
theorem q403 : (Jvm.Cond.methodLinkNest "LetterPen$Scan" (17 : Nat) ({ cls := "LetterPen$Plan", name := "<init>", desc := "()V" } : Jvm.MethodName) "LetterPen") ∈ lw_tbl := lw_at lw_m2 41 rfl
theorem q412 : (Jvm.Cond.fieldLink "LetterPen$Scan" (86 : Nat) "LetterPen$Plan" "state" "LLetterPen$State;") ∈ lw_all := lw_g (lw_at lw_m2 50 rfl) rfl
theorem q415 : (Jvm.Cond.fieldLink "LetterPen$Scan" (121 : Nat) "LetterPen$Plan" "names" "Ljava/util/ArrayList;") ∈ lw_all := lw_g (lw_at lw_m2 53 rfl) rfl
theorem q416 : (Jvm.Cond.fieldLink "LetterPen$Scan" (156 : Nat) "LetterPen$Plan" "statements" "I") ∈ lw_all := lw_g (lw_at lw_m2 54 rfl) rfl
theorem q418 : (Jvm.Cond.fieldLink "LetterPen$Scan" (141 : Nat) "LetterPen$Plan" "isInked" "Z") ∈ lw_all := lw_g (lw_at lw_m2 56 rfl) rfl
theorem q428 : (Jvm.Cond.fieldLink "LetterPen$Scan" (26 : Nat) "LetterPen$Scan" "size" "I") ∈ lw_all := lw_g (lw_at lw_m2 66 rfl) rfl
theorem q429 : (Jvm.Cond.fieldLink "LetterPen$Scan" (18 : Nat) "LetterPen$Scan" "h" "LLetterPen$Plan;") ∈ lw_all := lw_g (lw_at lw_m2 67 rfl) rfl
theorem q430 : (Jvm.Cond.fieldLink "LetterPen$Scan" (138 : Nat) "LetterPen$Scan" "into" "Ljava/util/ArrayList;") ∈ lw_all := lw_g (lw_at lw_m2 68 rfl) rfl
theorem q431 : (Jvm.Cond.fieldLink "LetterPen$Scan" (33 : Nat) "LetterPen$Scan" "at" "I") ∈ lw_all := lw_g (lw_at lw_m2 69 rfl) rfl
theorem q432 : (Jvm.Cond.fieldLink "LetterPen$Scan" (22 : Nat) "LetterPen$Scan" "ended" "I") ∈ lw_all := lw_g (lw_at lw_m2 70 rfl) rfl
theorem q433 : (Jvm.Cond.fieldLink "LetterPen$Scan" (3 : Nat) "LetterPen$Scan" "this$0" "LLetterPen;") ∈ lw_all := lw_g (lw_at lw_m2 71 rfl) rfl
theorem q434 : (Jvm.Cond.laysFinal "LetterPen$Scan" "LetterPen$Scan" "size" "I") ∈ lw_all := lw_g (lw_at lw_m2 72 rfl) rfl
theorem q435 : (Jvm.Cond.soleField "LetterPen$Scan" "size") ∈ lw_all := lw_g (lw_at lw_m2 73 rfl) rfl
theorem q436 : (Jvm.Cond.laysFinal "LetterPen$Scan" "LetterPen$Scan" "h" "LLetterPen$Plan;") ∈ lw_all := lw_g (lw_at lw_m2 74 rfl) rfl
theorem q437 : (Jvm.Cond.soleField "LetterPen$Scan" "h") ∈ lw_all := lw_g (lw_at lw_m2 75 rfl) rfl
theorem q438 : (Jvm.Cond.lays "LetterPen$Scan" "LetterPen$Scan" "into" "Ljava/util/ArrayList;") ∈ lw_all := lw_g (lw_at lw_m2 76 rfl) rfl
theorem q439 : (Jvm.Cond.soleField "LetterPen$Scan" "into") ∈ lw_all := lw_g (lw_at lw_m2 77 rfl) rfl
theorem q440 : (Jvm.Cond.lays "LetterPen$Scan" "LetterPen$Scan" "at" "I") ∈ lw_all := lw_g (lw_at lw_m2 78 rfl) rfl
theorem q441 : (Jvm.Cond.soleField "LetterPen$Scan" "at") ∈ lw_all := lw_g (lw_at lw_m2 79 rfl) rfl
theorem q442 : (Jvm.Cond.lays "LetterPen$Scan" "LetterPen$Scan" "ended" "I") ∈ lw_all := lw_g (lw_at lw_m2 80 rfl) rfl
theorem q443 : (Jvm.Cond.soleField "LetterPen$Scan" "ended") ∈ lw_all := lw_g (lw_at lw_m2 81 rfl) rfl
theorem q444 : (Jvm.Cond.laysFinal "LetterPen$Scan" "LetterPen$Scan" "this$0" "LLetterPen;") ∈ lw_all := lw_g (lw_at lw_m2 82 rfl) rfl
theorem q445 : (Jvm.Cond.soleField "LetterPen$Scan" "this$0") ∈ lw_all := lw_g (lw_at lw_m2 83 rfl) rfl
theorem q446 : (Jvm.Cond.superclass "LetterPen$Scan" "java/lang/Object") ∈ lw_all := lw_g (lw_at lw_m2 84 rfl) rfl
theorem q448 : (Jvm.Cond.instanceMethod ({ cls := "LetterPen$Scan", name := "read", desc := "()LLetterPen$Plan;" } : Jvm.MethodName)) ∈ lw_all := lw_g (lw_at lw_m2 86 rfl) rfl
theorem q449 : (Jvm.Cond.selects "LetterPen$Scan" ({ cls := "LetterPen$Scan", name := "read", desc := "()LLetterPen$Plan;" } : Jvm.MethodName) ({ cls := "LetterPen$Scan", name := "read", desc := "()LLetterPen$Plan;" } : Jvm.MethodName)) ∈ lw_all := lw_g (lw_at lw_m2 87 rfl) rfl
theorem q450 : (Jvm.Cond.code ({ cls := "LetterPen$Scan", name := "read", desc := "()LLetterPen$Plan;" } : Jvm.MethodName) prog_8_method_14_code (1 : Nat) (Option.some (Jvm.ClassFile.FieldType.object "LetterPen$Plan"))) ∈ lw_all := lw_g (lw_at lw_m2 88 rfl) rfl
theorem q451 : (Jvm.Cond.methodLink "LetterPen$Scan" (179 : Nat) ({ cls := "LetterPen$Scan", name := "statement", desc := "()V" } : Jvm.MethodName)) ∈ lw_all := lw_g (lw_at lw_m2 89 rfl) rfl
theorem q452 : (Jvm.Cond.privateMethod ({ cls := "LetterPen$Scan", name := "statement", desc := "()V" } : Jvm.MethodName)) ∈ lw_tbl := lw_at lw_m2 90 rfl
theorem q453 : (Jvm.Cond.instanceMethod ({ cls := "LetterPen$Scan", name := "statement", desc := "()V" } : Jvm.MethodName)) ∈ lw_all := lw_g (lw_at lw_m2 91 rfl) rfl
theorem q454 : (Jvm.Cond.code ({ cls := "LetterPen$Scan", name := "statement", desc := "()V" } : Jvm.MethodName) prog_8_method_13_code (2 : Nat) (Option.none : Option Jvm.ClassFile.FieldType)) ∈ lw_all := lw_g (lw_at lw_m2 92 rfl) rfl
theorem q455 : (Jvm.Cond.methodLink "LetterPen$Scan" (38 : Nat) ({ cls := "LetterPen$Scan", name := "next", desc := "()I" } : Jvm.MethodName)) ∈ lw_all := lw_g (lw_at lw_m2 93 rfl) rfl
theorem q456 : (Jvm.Cond.privateMethod ({ cls := "LetterPen$Scan", name := "next", desc := "()I" } : Jvm.MethodName)) ∈ lw_tbl := lw_at lw_m2 94 rfl
theorem q457 : (Jvm.Cond.instanceMethod ({ cls := "LetterPen$Scan", name := "next", desc := "()I" } : Jvm.MethodName)) ∈ lw_all := lw_g (lw_at lw_m2 95 rfl) rfl
theorem q458 : (Jvm.Cond.code ({ cls := "LetterPen$Scan", name := "next", desc := "()I" } : Jvm.MethodName) prog_8_method_4_code (1 : Nat) (Option.some Jvm.ClassFile.FieldType.int)) ∈ lw_all := lw_g (lw_at lw_m2 96 rfl) rfl
theorem q459 : (Jvm.Cond.classLink "LetterPen$Scan" (36 : Nat) "LetterPen$Fault") ∈ lw_all := lw_g (lw_at lw_m2 97 rfl) rfl
theorem q496 : (Jvm.Cond.methodLink "LetterPen$Scan" (42 : Nat) ({ cls := "LetterPen$Fault", name := "<init>", desc := "(II)V" } : Jvm.MethodName)) ∈ lw_all := lw_g (lw_at lw_m2 134 rfl) rfl
theorem q526 : (Jvm.Cond.stringRef "LetterPen$Scan" (159 : Nat) "set") ∈ lw_tbl := lw_at lw_m2 164 rfl
theorem q527 : (Jvm.Cond.methodLink "LetterPen$Scan" (82 : Nat) ({ cls := "LetterPen$Scan", name := "takes", desc := "(Ljava/lang/String;)Z" } : Jvm.MethodName)) ∈ lw_all := lw_g (lw_at lw_m2 165 rfl) rfl
theorem q528 : (Jvm.Cond.privateMethod ({ cls := "LetterPen$Scan", name := "takes", desc := "(Ljava/lang/String;)Z" } : Jvm.MethodName)) ∈ lw_tbl := lw_at lw_m2 166 rfl
theorem q529 : (Jvm.Cond.instanceMethod ({ cls := "LetterPen$Scan", name := "takes", desc := "(Ljava/lang/String;)Z" } : Jvm.MethodName)) ∈ lw_all := lw_g (lw_at lw_m2 167 rfl) rfl
theorem q530 : (Jvm.Cond.code ({ cls := "LetterPen$Scan", name := "takes", desc := "(Ljava/lang/String;)Z" } : Jvm.MethodName) prog_8_method_7_code (2 : Nat) (Option.some Jvm.ClassFile.FieldType.boolean)) ∈ lw_all := lw_g (lw_at lw_m2 168 rfl) rfl
theorem q531 : (Jvm.Cond.methodLink "LetterPen$Scan" (56 : Nat) ({ cls := "LetterPen$Scan", name := "wordHere", desc := "()Ljava/lang/String;" } : Jvm.MethodName)) ∈ lw_all := lw_g (lw_at lw_m2 169 rfl) rfl
theorem q532 : (Jvm.Cond.privateMethod ({ cls := "LetterPen$Scan", name := "wordHere", desc := "()Ljava/lang/String;" } : Jvm.MethodName)) ∈ lw_tbl := lw_at lw_m2 170 rfl
theorem q533 : (Jvm.Cond.instanceMethod ({ cls := "LetterPen$Scan", name := "wordHere", desc := "()Ljava/lang/String;" } : Jvm.MethodName)) ∈ lw_all := lw_g (lw_at lw_m2 171 rfl) rfl
theorem q534 : (Jvm.Cond.code ({ cls := "LetterPen$Scan", name := "wordHere", desc := "()Ljava/lang/String;" } : Jvm.MethodName) prog_8_method_6_code (2 : Nat) (Option.some (Jvm.ClassFile.FieldType.object "java/lang/String"))) ∈ lw_all := lw_g (lw_at lw_m2 172 rfl) rfl
theorem q535 : (Jvm.Cond.methodLink "LetterPen$Scan" (45 : Nat) ({ cls := "LetterPen$Scan", name := "isLetter", desc := "(I)Z" } : Jvm.MethodName)) ∈ lw_all := lw_g (lw_at lw_m2 173 rfl) rfl
theorem q536 : (Jvm.Cond.privateMethod ({ cls := "LetterPen$Scan", name := "isLetter", desc := "(I)Z" } : Jvm.MethodName)) ∈ lw_tbl := lw_at lw_m2 174 rfl
theorem q537 : (Jvm.Cond.instanceMethod ({ cls := "LetterPen$Scan", name := "isLetter", desc := "(I)Z" } : Jvm.MethodName)) ∈ lw_all := lw_g (lw_at lw_m2 175 rfl) rfl
theorem q538 : (Jvm.Cond.code ({ cls := "LetterPen$Scan", name := "isLetter", desc := "(I)Z" } : Jvm.MethodName) prog_8_method_2_code (2 : Nat) (Option.some Jvm.ClassFile.FieldType.boolean)) ∈ lw_all := lw_g (lw_at lw_m2 176 rfl) rfl
theorem q539 : (Jvm.Cond.stringRef "LetterPen$Scan" (49 : Nat) "") ∈ lw_tbl := lw_at lw_m2 177 rfl
theorem q540 : (Jvm.Cond.classLink "LetterPen$Scan" (51 : Nat) "java/lang/String") ∈ lw_all := lw_g (lw_at lw_m2 178 rfl) rfl
theorem q542 : (Jvm.Cond.methodLink "LetterPen$Scan" (53 : Nat) ({ cls := "java/lang/String", name := "<init>", desc := "([CII)V" } : Jvm.MethodName)) ∈ lw_all := lw_g (lw_at lw_m2 180 rfl) rfl
theorem q617 : (Jvm.Cond.methodLink "LetterPen$Scan" (60 : Nat) ({ cls := "java/lang/String", name := "equals", desc := "(Ljava/lang/Object;)Z" } : Jvm.MethodName)) ∈ lw_all := lw_g (lw_at lw_m3 15 rfl) rfl
theorem q625 : (Jvm.Cond.methodLink "LetterPen$Scan" (64 : Nat) ({ cls := "java/lang/String", name := "length", desc := "()I" } : Jvm.MethodName)) ∈ lw_all := lw_g (lw_at lw_m3 23 rfl) rfl
theorem q633 : (Jvm.Cond.methodLink "LetterPen$Scan" (161 : Nat) ({ cls := "LetterPen$Scan", name := "valueTold", desc := "()V" } : Jvm.MethodName)) ∈ lw_all := lw_g (lw_at lw_m3 31 rfl) rfl
theorem q634 : (Jvm.Cond.privateMethod ({ cls := "LetterPen$Scan", name := "valueTold", desc := "()V" } : Jvm.MethodName)) ∈ lw_tbl := lw_at lw_m3 32 rfl
theorem q635 : (Jvm.Cond.instanceMethod ({ cls := "LetterPen$Scan", name := "valueTold", desc := "()V" } : Jvm.MethodName)) ∈ lw_all := lw_g (lw_at lw_m3 33 rfl) rfl
theorem q636 : (Jvm.Cond.code ({ cls := "LetterPen$Scan", name := "valueTold", desc := "()V" } : Jvm.MethodName) prog_8_method_9_code (2 : Nat) (Option.none : Option Jvm.ClassFile.FieldType)) ∈ lw_all := lw_g (lw_at lw_m3 34 rfl) rfl
theorem q637 : (Jvm.Cond.fieldLinkNest "LetterPen$Scan" (78 : Nat) "LetterPen" "OWN" "[Ljava/lang/String;" "LetterPen") ∈ lw_tbl := lw_at lw_m3 35 rfl
theorem q639 : (Jvm.Cond.fieldLinkNest "LetterPen$Scan" (96 : Nat) "LetterPen" "LEAST" "[I" "LetterPen") ∈ lw_tbl := lw_at lw_m3 37 rfl
theorem q641 : (Jvm.Cond.fieldLinkNest "LetterPen$Scan" (99 : Nat) "LetterPen" "GREATEST" "[I" "LetterPen") ∈ lw_tbl := lw_at lw_m3 39 rfl
theorem q643 : (Jvm.Cond.methodLink "LetterPen$Scan" (102 : Nat) ({ cls := "LetterPen$Scan", name := "number", desc := "(II)I" } : Jvm.MethodName)) ∈ lw_all := lw_g (lw_at lw_m3 41 rfl) rfl
theorem q644 : (Jvm.Cond.privateMethod ({ cls := "LetterPen$Scan", name := "number", desc := "(II)I" } : Jvm.MethodName)) ∈ lw_tbl := lw_at lw_m3 42 rfl
theorem q645 : (Jvm.Cond.instanceMethod ({ cls := "LetterPen$Scan", name := "number", desc := "(II)I" } : Jvm.MethodName)) ∈ lw_all := lw_g (lw_at lw_m3 43 rfl) rfl
theorem q646 : (Jvm.Cond.code ({ cls := "LetterPen$Scan", name := "number", desc := "(II)I" } : Jvm.MethodName) prog_8_method_8_code (5 : Nat) (Option.some Jvm.ClassFile.FieldType.int)) ∈ lw_all := lw_g (lw_at lw_m3 44 rfl) rfl
theorem q647 : (Jvm.Cond.methodLink "LetterPen$Scan" (67 : Nat) ({ cls := "LetterPen$Scan", name := "isDigit", desc := "(I)Z" } : Jvm.MethodName)) ∈ lw_all := lw_g (lw_at lw_m3 45 rfl) rfl
theorem q648 : (Jvm.Cond.privateMethod ({ cls := "LetterPen$Scan", name := "isDigit", desc := "(I)Z" } : Jvm.MethodName)) ∈ lw_tbl := lw_at lw_m3 46 rfl
theorem q649 : (Jvm.Cond.instanceMethod ({ cls := "LetterPen$Scan", name := "isDigit", desc := "(I)Z" } : Jvm.MethodName)) ∈ lw_all := lw_g (lw_at lw_m3 47 rfl) rfl
theorem q650 : (Jvm.Cond.code ({ cls := "LetterPen$Scan", name := "isDigit", desc := "(I)Z" } : Jvm.MethodName) prog_8_method_3_code (2 : Nat) (Option.some Jvm.ClassFile.FieldType.boolean)) ∈ lw_all := lw_g (lw_at lw_m3 48 rfl) rfl
theorem q651 : (Jvm.Cond.methodLink "LetterPen$Scan" (70 : Nat) ({ cls := "LetterPen$Scan", name := "unlike", desc := "()LLetterPen$Fault;" } : Jvm.MethodName)) ∈ lw_all := lw_g (lw_at lw_m3 49 rfl) rfl
theorem q652 : (Jvm.Cond.privateMethod ({ cls := "LetterPen$Scan", name := "unlike", desc := "()LLetterPen$Fault;" } : Jvm.MethodName)) ∈ lw_tbl := lw_at lw_m3 50 rfl
theorem q653 : (Jvm.Cond.instanceMethod ({ cls := "LetterPen$Scan", name := "unlike", desc := "()LLetterPen$Fault;" } : Jvm.MethodName)) ∈ lw_all := lw_g (lw_at lw_m3 51 rfl) rfl
theorem q654 : (Jvm.Cond.code ({ cls := "LetterPen$Scan", name := "unlike", desc := "()LLetterPen$Fault;" } : Jvm.MethodName) prog_8_method_5_code (1 : Nat) (Option.some (Jvm.ClassFile.FieldType.object "LetterPen$Fault"))) ∈ lw_all := lw_g (lw_at lw_m3 52 rfl) rfl
theorem q655 : (Jvm.Cond.methodLinkNest "LetterPen$Scan" (74 : Nat) ({ cls := "LetterPen", name := "isIn", desc := "(JJJ)Z" } : Jvm.MethodName) "LetterPen") ∈ lw_tbl := lw_at lw_m3 53 rfl
theorem q656 : (Jvm.Cond.stringRef "LetterPen$Scan" (164 : Nat) "letter") ∈ lw_tbl := lw_at lw_m3 54 rfl
theorem q657 : (Jvm.Cond.methodLink "LetterPen$Scan" (166 : Nat) ({ cls := "LetterPen$Scan", name := "letterTold", desc := "(I)V" } : Jvm.MethodName)) ∈ lw_all := lw_g (lw_at lw_m3 55 rfl) rfl
theorem q658 : (Jvm.Cond.privateMethod ({ cls := "LetterPen$Scan", name := "letterTold", desc := "(I)V" } : Jvm.MethodName)) ∈ lw_tbl := lw_at lw_m3 56 rfl
theorem q659 : (Jvm.Cond.instanceMethod ({ cls := "LetterPen$Scan", name := "letterTold", desc := "(I)V" } : Jvm.MethodName)) ∈ lw_all := lw_g (lw_at lw_m3 57 rfl) rfl
theorem q660 : (Jvm.Cond.code ({ cls := "LetterPen$Scan", name := "letterTold", desc := "(I)V" } : Jvm.MethodName) prog_8_method_10_code (5 : Nat) (Option.none : Option Jvm.ClassFile.FieldType)) ∈ lw_all := lw_g (lw_at lw_m3 58 rfl) rfl
theorem q661 : (Jvm.Cond.methodLink "LetterPen$Scan" (110 : Nat) ({ cls := "java/util/ArrayList", name := "size", desc := "()I" } : Jvm.MethodName)) ∈ lw_all := lw_g (lw_at lw_m3 59 rfl) rfl
theorem q665 : (Jvm.Cond.methodLink "LetterPen$Scan" (114 : Nat) ({ cls := "java/lang/String", name := "isEmpty", desc := "()Z" } : Jvm.MethodName)) ∈ lw_all := lw_g (lw_at lw_m3 63 rfl) rfl
theorem q669 : (Jvm.Cond.methodLinkNest "LetterPen$Scan" (118 : Nat) ({ cls := "LetterPen", name := "isOwn", desc := "(Ljava/lang/String;)Z" } : Jvm.MethodName) "LetterPen") ∈ lw_tbl := lw_at lw_m3 67 rfl
theorem q674 : (Jvm.Cond.methodLink "LetterPen$Scan" (124 : Nat) ({ cls := "java/util/ArrayList", name := "contains", desc := "(Ljava/lang/Object;)Z" } : Jvm.MethodName)) ∈ lw_all := lw_g (lw_at lw_m3 72 rfl) rfl
theorem q696 : (Jvm.Cond.selects "LetterPen$Scan" ({ cls := "java/lang/Object", name := "equals", desc := "(Ljava/lang/Object;)Z" } : Jvm.MethodName) ({ cls := "java/lang/Object", name := "equals", desc := "(Ljava/lang/Object;)Z" } : Jvm.MethodName)) ∈ lw_all := lw_g (lw_at lw_m3 94 rfl) rfl
theorem q702 : (Jvm.Cond.methodLink "LetterPen$Scan" (127 : Nat) ({ cls := "java/util/ArrayList", name := "add", desc := "(Ljava/lang/Object;)Z" } : Jvm.MethodName)) ∈ lw_all := lw_g (lw_at lw_m3 100 rfl) rfl
theorem q740 : (Jvm.Cond.selects "LetterPen$Scan" ({ cls := "java/lang/Object", name := "getClass", desc := "()Ljava/lang/Class;" } : Jvm.MethodName) ({ cls := "java/lang/Object", name := "getClass", desc := "()Ljava/lang/Class;" } : Jvm.MethodName)) ∈ lw_all := lw_g (lw_at lw_m3 138 rfl) rfl
theorem q757 : (Jvm.Cond.classLink "LetterPen$Scan" (130 : Nat) "LetterPen$Letter") ∈ lw_all := lw_g (lw_at lw_m3 155 rfl) rfl
theorem q759 : (Jvm.Cond.methodLink "LetterPen$Scan" (132 : Nat) ({ cls := "LetterPen$Letter", name := "<init>", desc := "(Ljava/lang/String;)V" } : Jvm.MethodName)) ∈ lw_all := lw_g (lw_at lw_m3 157 rfl) rfl
theorem q768 : (Jvm.Cond.fieldLink "LetterPen$Scan" (135 : Nat) "LetterPen$Letter" "strokes" "Ljava/util/ArrayList;") ∈ lw_all := lw_g (lw_at lw_m3 166 rfl) rfl
theorem q775 : (Jvm.Cond.stringRef "LetterPen$Scan" (170 : Nat) "ink") ∈ lw_tbl := lw_at lw_m3 173 rfl
theorem q776 : (Jvm.Cond.methodLink "LetterPen$Scan" (171 : Nat) ({ cls := "LetterPen$Scan", name := "inkTold", desc := "(I)V" } : Jvm.MethodName)) ∈ lw_all := lw_g (lw_at lw_m3 174 rfl) rfl
theorem q777 : (Jvm.Cond.privateMethod ({ cls := "LetterPen$Scan", name := "inkTold", desc := "(I)V" } : Jvm.MethodName)) ∈ lw_tbl := lw_at lw_m3 175 rfl
theorem q778 : (Jvm.Cond.instanceMethod ({ cls := "LetterPen$Scan", name := "inkTold", desc := "(I)V" } : Jvm.MethodName)) ∈ lw_all := lw_g (lw_at lw_m3 176 rfl) rfl
theorem q779 : (Jvm.Cond.code ({ cls := "LetterPen$Scan", name := "inkTold", desc := "(I)V" } : Jvm.MethodName) prog_8_method_11_code (2 : Nat) (Option.none : Option Jvm.ClassFile.FieldType)) ∈ lw_all := lw_g (lw_at lw_m3 177 rfl) rfl
theorem q780 : (Jvm.Cond.stringRef "LetterPen$Scan" (174 : Nat) "stroke") ∈ lw_tbl := lw_at lw_m3 178 rfl
theorem q781 : (Jvm.Cond.methodLink "LetterPen$Scan" (176 : Nat) ({ cls := "LetterPen$Scan", name := "strokeTold", desc := "(I)V" } : Jvm.MethodName)) ∈ lw_all := lw_g (lw_at lw_m3 179 rfl) rfl
theorem q782 : (Jvm.Cond.privateMethod ({ cls := "LetterPen$Scan", name := "strokeTold", desc := "(I)V" } : Jvm.MethodName)) ∈ lw_tbl := lw_at lw_m3 180 rfl
theorem q783 : (Jvm.Cond.instanceMethod ({ cls := "LetterPen$Scan", name := "strokeTold", desc := "(I)V" } : Jvm.MethodName)) ∈ lw_all := lw_g (lw_at lw_m3 181 rfl) rfl
theorem q784 : (Jvm.Cond.code ({ cls := "LetterPen$Scan", name := "strokeTold", desc := "(I)V" } : Jvm.MethodName) prog_8_method_12_code (3 : Nat) (Option.none : Option Jvm.ClassFile.FieldType)) ∈ lw_all := lw_g (lw_at lw_m3 182 rfl) rfl
theorem q785 : (Jvm.Cond.classLink "LetterPen$Scan" (151 : Nat) "LetterPen$Stroke") ∈ lw_all := lw_g (lw_at lw_m3 183 rfl) rfl
theorem q787 : (Jvm.Cond.methodLink "LetterPen$Scan" (153 : Nat) ({ cls := "LetterPen$Stroke", name := "<init>", desc := "([II)V" } : Jvm.MethodName)) ∈ lw_all := lw_g (lw_at lw_m3 185 rfl) rfl
theorem q2001 : (Jvm.Cond.castable "LetterPen$Scan" "java/lang/Object") ∈ lw_tbl := lw_at lw_m8 199 rfl
theorem in_X4 : ∀ w ∈ wsX40, w ∈ lw_all := lw_in wsX40 [434, 436, 438, 440, 442, 444] (by decide +kernel) (by decide +kernel)

/-! LetterPen$Plan -/
set_option maxRecDepth 100000
def RX5 : String := "LetterPen$Plan"
def TX5 : u_T := fun k => match k with
  | 0 => ("LetterPen$Plan", "state", "LLetterPen$State;", true)
  | 1 => ("LetterPen$Plan", "names", "Ljava/util/ArrayList;", true)
  | 2 => ("LetterPen$Plan", "statements", "I", false)
  | _ => ("LetterPen$Plan", "isInked", "Z", false)
def tyX5 : Nat → FieldType := fun k => match k with
  | 0 => .object "LetterPen$State"
  | 1 => .object "java/util/ArrayList"
  | 2 => .int
  | _ => .boolean
abbrev wsX50 : List Cond := u_ws RX5 TX5 4
theorem nmX5 : ∀ a, a < 4 → ∀ b, b < 4 → a ≠ b → (TX5 a).2.1 ≠ (TX5 b).2.1 := by decide +kernel
theorem tyX5_ok : ∀ k, k < 4 → parseFieldDescriptor (TX5 k).2.2.1 = some (tyX5 k) := by decide +kernel
abbrev cX5_init : ByteArray := prog_6_method_1_code
def yX5_init : MethodName := ⟨RX5, "<init>", "()V"⟩
def dkwX5_init_1 : List UInt8 := [181, 0, 19, 177]
abbrev dktX5_init_1 : List UInt8 := dkwX5_init_1 ++ []
def dkwX5_init_0 : List UInt8 := [42, 183, 0, 1, 42, 187, 0, 7, 89, 183, 0, 9, 181, 0, 10, 42, 187, 0, 16, 89, 183, 0, 18]
abbrev dktX5_init_0 : List UInt8 := dkwX5_init_0 ++ dktX5_init_1
theorem dksX5_init_0 : cX5_init.data.toList.drop 0 = dktX5_init_0 := by decide +kernel
theorem dksX5_init_1 : cX5_init.data.toList.drop 23 = dktX5_init_1 := dk_seg dksX5_init_0 23 rfl rfl
theorem dX5_init_0 : decode cX5_init 0 = .ok (.aload_n 0, 1) := dk_42 (dk_at dksX5_init_0 0 rfl rfl)
theorem dX5_init_1 : decode cX5_init 1 = .ok (.invokespecial 1, 3) := dk_183 0 1 (dk_at dksX5_init_0 1 rfl rfl)
theorem dX5_init_4 : decode cX5_init 4 = .ok (.aload_n 0, 1) := dk_42 (dk_at dksX5_init_0 4 rfl rfl)
theorem dX5_init_5 : decode cX5_init 5 = .ok (.new 7, 3) := dk_187 0 7 (dk_at dksX5_init_0 5 rfl rfl)
theorem dX5_init_8 : decode cX5_init 8 = .ok (.dup, 1) := dk_89 (dk_at dksX5_init_0 8 rfl rfl)
theorem dX5_init_9 : decode cX5_init 9 = .ok (.invokespecial 9, 3) := dk_183 0 9 (dk_at dksX5_init_0 9 rfl rfl)
theorem dX5_init_12 : decode cX5_init 12 = .ok (.putfield 10, 3) := dk_181 0 10 (dk_at dksX5_init_0 12 rfl rfl)
theorem dX5_init_15 : decode cX5_init 15 = .ok (.aload_n 0, 1) := dk_42 (dk_at dksX5_init_0 15 rfl rfl)
theorem dX5_init_16 : decode cX5_init 16 = .ok (.new 16, 3) := dk_187 0 16 (dk_at dksX5_init_0 16 rfl rfl)
theorem dX5_init_19 : decode cX5_init 19 = .ok (.dup, 1) := dk_89 (dk_at dksX5_init_0 19 rfl rfl)
theorem dX5_init_20 : decode cX5_init 20 = .ok (.invokespecial 18, 3) := dk_183 0 18 (dk_at dksX5_init_0 20 rfl rfl)
theorem dX5_init_23 : decode cX5_init 23 = .ok (.putfield 19, 3) := dk_181 0 19 (dk_at dksX5_init_1 0 rfl rfl)
theorem dX5_init_26 : decode cX5_init 26 = .ok (.return_, 1) := dk_177 (dk_at dksX5_init_1 3 rfl rfl)
theorem q133 : (Jvm.Cond.initialized "LetterPen$Plan") ∈ lw_all := lw_g (lw_at lw_m1 11 rfl) rfl
theorem q402 : (Jvm.Cond.instantiable "LetterPen$Plan" (4 : Nat)) ∈ lw_all := lw_g (lw_at lw_m2 40 rfl) rfl
theorem q404 : (Jvm.Cond.instanceMethod ({ cls := "LetterPen$Plan", name := "<init>", desc := "()V" } : Jvm.MethodName)) ∈ lw_all := lw_g (lw_at lw_m2 42 rfl) rfl
theorem q405 : (Jvm.Cond.code ({ cls := "LetterPen$Plan", name := "<init>", desc := "()V" } : Jvm.MethodName) prog_6_method_1_code (1 : Nat) (Option.none : Option Jvm.ClassFile.FieldType)) ∈ lw_all := lw_g (lw_at lw_m2 43 rfl) rfl
theorem q406 : (Jvm.Cond.methodLink "LetterPen$Plan" (1 : Nat) ({ cls := "java/lang/Object", name := "<init>", desc := "()V" } : Jvm.MethodName)) ∈ lw_all := lw_g (lw_at lw_m2 44 rfl) rfl
theorem q407 : (Jvm.Cond.classLink "LetterPen$Plan" (7 : Nat) "LetterPen$State") ∈ lw_all := lw_g (lw_at lw_m2 45 rfl) rfl
theorem q408 : (Jvm.Cond.methodLinkNest "LetterPen$Plan" (9 : Nat) ({ cls := "LetterPen$State", name := "<init>", desc := "()V" } : Jvm.MethodName) "LetterPen") ∈ lw_tbl := lw_at lw_m2 46 rfl
theorem q409 : (Jvm.Cond.classLink "LetterPen$Plan" (16 : Nat) "java/util/ArrayList") ∈ lw_all := lw_g (lw_at lw_m2 47 rfl) rfl
theorem q410 : (Jvm.Cond.methodLink "LetterPen$Plan" (18 : Nat) ({ cls := "java/util/ArrayList", name := "<init>", desc := "()V" } : Jvm.MethodName)) ∈ lw_all := lw_g (lw_at lw_m2 48 rfl) rfl
theorem q411 : (Jvm.Cond.fieldLink "LetterPen$Plan" (10 : Nat) "LetterPen$Plan" "state" "LLetterPen$State;") ∈ lw_all := lw_g (lw_at lw_m2 49 rfl) rfl
theorem q414 : (Jvm.Cond.fieldLink "LetterPen$Plan" (19 : Nat) "LetterPen$Plan" "names" "Ljava/util/ArrayList;") ∈ lw_all := lw_g (lw_at lw_m2 52 rfl) rfl
theorem q419 : (Jvm.Cond.laysFinal "LetterPen$Plan" "LetterPen$Plan" "state" "LLetterPen$State;") ∈ lw_all := lw_g (lw_at lw_m2 57 rfl) rfl
theorem q420 : (Jvm.Cond.soleField "LetterPen$Plan" "state") ∈ lw_all := lw_g (lw_at lw_m2 58 rfl) rfl
theorem q421 : (Jvm.Cond.laysFinal "LetterPen$Plan" "LetterPen$Plan" "names" "Ljava/util/ArrayList;") ∈ lw_all := lw_g (lw_at lw_m2 59 rfl) rfl
theorem q422 : (Jvm.Cond.soleField "LetterPen$Plan" "names") ∈ lw_all := lw_g (lw_at lw_m2 60 rfl) rfl
theorem q423 : (Jvm.Cond.lays "LetterPen$Plan" "LetterPen$Plan" "statements" "I") ∈ lw_all := lw_g (lw_at lw_m2 61 rfl) rfl
theorem q424 : (Jvm.Cond.soleField "LetterPen$Plan" "statements") ∈ lw_all := lw_g (lw_at lw_m2 62 rfl) rfl
theorem q425 : (Jvm.Cond.lays "LetterPen$Plan" "LetterPen$Plan" "isInked" "Z") ∈ lw_all := lw_g (lw_at lw_m2 63 rfl) rfl
theorem q426 : (Jvm.Cond.soleField "LetterPen$Plan" "isInked") ∈ lw_all := lw_g (lw_at lw_m2 64 rfl) rfl
theorem q427 : (Jvm.Cond.superclass "LetterPen$Plan" "java/lang/Object") ∈ lw_all := lw_g (lw_at lw_m2 65 rfl) rfl
theorem q694 : (Jvm.Cond.selects "LetterPen$Plan" ({ cls := "java/lang/Object", name := "equals", desc := "(Ljava/lang/Object;)Z" } : Jvm.MethodName) ({ cls := "java/lang/Object", name := "equals", desc := "(Ljava/lang/Object;)Z" } : Jvm.MethodName)) ∈ lw_all := lw_g (lw_at lw_m3 92 rfl) rfl
theorem q738 : (Jvm.Cond.selects "LetterPen$Plan" ({ cls := "java/lang/Object", name := "getClass", desc := "()Ljava/lang/Class;" } : Jvm.MethodName) ({ cls := "java/lang/Object", name := "getClass", desc := "()Ljava/lang/Class;" } : Jvm.MethodName)) ∈ lw_all := lw_g (lw_at lw_m3 136 rfl) rfl
theorem q2002 : (Jvm.Cond.castable "LetterPen$Plan" "java/lang/Object") ∈ lw_tbl := lw_at lw_m8 200 rfl
theorem in_X5 : ∀ w ∈ wsX50, w ∈ lw_all := lw_in wsX50 [419, 421, 423, 425] (by decide +kernel) (by decide +kernel)

/-! LetterPen$Fault -/
set_option maxRecDepth 100000
def RX6 : String := "LetterPen$Fault"
def TX6 : u_T := fun k => match k with
  | 0 => ("java/lang/Throwable", "cause", "Ljava/lang/Throwable;", false)
  | 1 => ("java/lang/Throwable", "stackTrace", "[Ljava/lang/StackTraceElement;", false)
  | 2 => ("java/lang/Throwable", "suppressedExceptions", "Ljava/util/List;", false)
  | 3 => ("java/lang/Throwable", "detailMessage", "Ljava/lang/String;", false)
  | 4 => ("java/lang/Throwable", "backtrace", "Ljava/lang/Object;", false)
  | 5 => ("java/lang/Throwable", "depth", "I", false)
  | 6 => ("LetterPen$Fault", "kind", "I", true)
  | _ => ("LetterPen$Fault", "place", "I", true)
def tyX6 : Nat → FieldType := fun k => match k with
  | 0 => .object "java/lang/Throwable"
  | 1 => .array (.object "java/lang/StackTraceElement")
  | 2 => .object "java/util/List"
  | 3 => .object "java/lang/String"
  | 4 => .object "java/lang/Object"
  | 5 => .int
  | 6 => .int
  | _ => .int
abbrev wsX60 : List Cond := u_ws RX6 TX6 8
theorem nmX6 : ∀ a, a < 8 → ∀ b, b < 8 → a ≠ b → (TX6 a).2.1 ≠ (TX6 b).2.1 := by decide +kernel
theorem tyX6_ok : ∀ k, k < 8 → parseFieldDescriptor (TX6 k).2.2.1 = some (tyX6 k) := by decide +kernel
abbrev cX6_init : ByteArray := prog_4_method_1_code
def yX6_init : MethodName := ⟨RX6, "<init>", "(II)V"⟩
def dkwX6_init_0 : List UInt8 := [42, 1, 1, 3, 3, 183, 0, 1, 42, 27, 181, 0, 7, 42, 28, 181, 0, 13, 177]
abbrev dktX6_init_0 : List UInt8 := dkwX6_init_0 ++ []
theorem dksX6_init_0 : cX6_init.data.toList.drop 0 = dktX6_init_0 := by decide +kernel
theorem dX6_init_0 : decode cX6_init 0 = .ok (.aload_n 0, 1) := dk_42 (dk_at dksX6_init_0 0 rfl rfl)
theorem dX6_init_1 : decode cX6_init 1 = .ok (.aconst_null, 1) := dk_1 (dk_at dksX6_init_0 1 rfl rfl)
theorem dX6_init_2 : decode cX6_init 2 = .ok (.aconst_null, 1) := dk_1 (dk_at dksX6_init_0 2 rfl rfl)
theorem dX6_init_3 : decode cX6_init 3 = .ok (.iconst 0, 1) := dk_3 (dk_at dksX6_init_0 3 rfl rfl)
theorem dX6_init_4 : decode cX6_init 4 = .ok (.iconst 0, 1) := dk_3 (dk_at dksX6_init_0 4 rfl rfl)
theorem dX6_init_5 : decode cX6_init 5 = .ok (.invokespecial 1, 3) := dk_183 0 1 (dk_at dksX6_init_0 5 rfl rfl)
theorem dX6_init_8 : decode cX6_init 8 = .ok (.aload_n 0, 1) := dk_42 (dk_at dksX6_init_0 8 rfl rfl)
theorem dX6_init_9 : decode cX6_init 9 = .ok (.iload_n 1, 1) := dk_27 (dk_at dksX6_init_0 9 rfl rfl)
theorem dX6_init_10 : decode cX6_init 10 = .ok (.putfield 7, 3) := dk_181 0 7 (dk_at dksX6_init_0 10 rfl rfl)
theorem dX6_init_13 : decode cX6_init 13 = .ok (.aload_n 0, 1) := dk_42 (dk_at dksX6_init_0 13 rfl rfl)
theorem dX6_init_14 : decode cX6_init 14 = .ok (.iload_n 2, 1) := dk_28 (dk_at dksX6_init_0 14 rfl rfl)
theorem dX6_init_15 : decode cX6_init 15 = .ok (.putfield 13, 3) := dk_181 0 13 (dk_at dksX6_init_0 15 rfl rfl)
theorem dX6_init_18 : decode cX6_init 18 = .ok (.return_, 1) := dk_177 (dk_at dksX6_init_0 18 rfl rfl)
theorem q136 : (Jvm.Cond.initialized "LetterPen$Fault") ∈ lw_all := lw_g (lw_at lw_m1 14 rfl) rfl
theorem q460 : (Jvm.Cond.instantiable "LetterPen$Fault" (8 : Nat)) ∈ lw_all := lw_g (lw_at lw_m2 98 rfl) rfl
theorem q461 : (Jvm.Cond.castable "LetterPen$Fault" "LetterPen$Fault") ∈ lw_tbl := lw_at lw_m2 99 rfl
theorem q466 : (Jvm.Cond.selects "LetterPen$Fault" ({ cls := "java/lang/Throwable", name := "fillInStackTrace", desc := "(I)Ljava/lang/Throwable;" } : Jvm.MethodName) ({ cls := "java/lang/Throwable", name := "fillInStackTrace", desc := "(I)Ljava/lang/Throwable;" } : Jvm.MethodName)) ∈ lw_all := lw_g (lw_at lw_m2 104 rfl) rfl
theorem q467 : (Jvm.Cond.selects "LetterPen$Fault" ({ cls := "java/lang/Throwable", name := "fillInStackTrace", desc := "()Ljava/lang/Throwable;" } : Jvm.MethodName) ({ cls := "java/lang/Throwable", name := "fillInStackTrace", desc := "()Ljava/lang/Throwable;" } : Jvm.MethodName)) ∈ lw_all := lw_g (lw_at lw_m2 105 rfl) rfl
theorem q468 : (Jvm.Cond.lays "LetterPen$Fault" "java/lang/Throwable" "cause" "Ljava/lang/Throwable;") ∈ lw_all := lw_g (lw_at lw_m2 106 rfl) rfl
theorem q470 : (Jvm.Cond.lays "LetterPen$Fault" "java/lang/Throwable" "stackTrace" "[Ljava/lang/StackTraceElement;") ∈ lw_all := lw_g (lw_at lw_m2 108 rfl) rfl
theorem q472 : (Jvm.Cond.lays "LetterPen$Fault" "java/lang/Throwable" "suppressedExceptions" "Ljava/util/List;") ∈ lw_all := lw_g (lw_at lw_m2 110 rfl) rfl
theorem q474 : (Jvm.Cond.lays "LetterPen$Fault" "java/lang/Throwable" "detailMessage" "Ljava/lang/String;") ∈ lw_all := lw_g (lw_at lw_m2 112 rfl) rfl
theorem q476 : (Jvm.Cond.lays "LetterPen$Fault" "java/lang/Throwable" "backtrace" "Ljava/lang/Object;") ∈ lw_all := lw_g (lw_at lw_m2 114 rfl) rfl
theorem q497 : (Jvm.Cond.instanceMethod ({ cls := "LetterPen$Fault", name := "<init>", desc := "(II)V" } : Jvm.MethodName)) ∈ lw_all := lw_g (lw_at lw_m2 135 rfl) rfl
theorem q498 : (Jvm.Cond.code ({ cls := "LetterPen$Fault", name := "<init>", desc := "(II)V" } : Jvm.MethodName) prog_4_method_1_code (3 : Nat) (Option.none : Option Jvm.ClassFile.FieldType)) ∈ lw_all := lw_g (lw_at lw_m2 136 rfl) rfl
theorem q499 : (Jvm.Cond.methodLink "LetterPen$Fault" (1 : Nat) ({ cls := "java/lang/Exception", name := "<init>", desc := "(Ljava/lang/String;Ljava/lang/Throwable;ZZ)V" } : Jvm.MethodName)) ∈ lw_all := lw_g (lw_at lw_m2 137 rfl) rfl
theorem q505 : (Jvm.Cond.fieldLink "LetterPen$Fault" (7 : Nat) "LetterPen$Fault" "kind" "I") ∈ lw_all := lw_g (lw_at lw_m2 143 rfl) rfl
theorem q507 : (Jvm.Cond.fieldLink "LetterPen$Fault" (13 : Nat) "LetterPen$Fault" "place" "I") ∈ lw_all := lw_g (lw_at lw_m2 145 rfl) rfl
theorem q514 : (Jvm.Cond.laysFinal "LetterPen$Fault" "LetterPen$Fault" "kind" "I") ∈ lw_all := lw_g (lw_at lw_m2 152 rfl) rfl
theorem q515 : (Jvm.Cond.soleField "LetterPen$Fault" "kind") ∈ lw_all := lw_g (lw_at lw_m2 153 rfl) rfl
theorem q516 : (Jvm.Cond.laysFinal "LetterPen$Fault" "LetterPen$Fault" "place" "I") ∈ lw_all := lw_g (lw_at lw_m2 154 rfl) rfl
theorem q517 : (Jvm.Cond.soleField "LetterPen$Fault" "place") ∈ lw_all := lw_g (lw_at lw_m2 155 rfl) rfl
theorem q522 : (Jvm.Cond.lays "LetterPen$Fault" "java/lang/Throwable" "depth" "I") ∈ lw_all := lw_g (lw_at lw_m2 160 rfl) rfl
theorem q525 : (Jvm.Cond.superclass "LetterPen$Fault" "java/lang/Exception") ∈ lw_all := lw_g (lw_at lw_m2 163 rfl) rfl
theorem q692 : (Jvm.Cond.selects "LetterPen$Fault" ({ cls := "java/lang/Object", name := "equals", desc := "(Ljava/lang/Object;)Z" } : Jvm.MethodName) ({ cls := "java/lang/Object", name := "equals", desc := "(Ljava/lang/Object;)Z" } : Jvm.MethodName)) ∈ lw_all := lw_g (lw_at lw_m3 90 rfl) rfl
theorem q736 : (Jvm.Cond.selects "LetterPen$Fault" ({ cls := "java/lang/Object", name := "getClass", desc := "()Ljava/lang/Class;" } : Jvm.MethodName) ({ cls := "java/lang/Object", name := "getClass", desc := "()Ljava/lang/Class;" } : Jvm.MethodName)) ∈ lw_all := lw_g (lw_at lw_m3 134 rfl) rfl
theorem q2003 : (Jvm.Cond.castable "LetterPen$Fault" "java/lang/Object") ∈ lw_tbl := lw_at lw_m8 201 rfl
theorem in_X6 : ∀ w ∈ wsX60, w ∈ lw_all := lw_in wsX60 [468, 470, 472, 474, 476, 522, 514, 516] (by decide +kernel) (by decide +kernel)

/-! LetterPen$Letter -/
set_option maxRecDepth 100000
def RX7 : String := "LetterPen$Letter"
def TX7 : u_T := fun k => match k with
  | 0 => ("LetterPen$Letter", "name", "Ljava/lang/String;", true)
  | _ => ("LetterPen$Letter", "strokes", "Ljava/util/ArrayList;", true)
def tyX7 : Nat → FieldType := fun k => match k with
  | 0 => .object "java/lang/String"
  | _ => .object "java/util/ArrayList"
abbrev wsX70 : List Cond := u_ws RX7 TX7 2
theorem nmX7 : ∀ a, a < 2 → ∀ b, b < 2 → a ≠ b → (TX7 a).2.1 ≠ (TX7 b).2.1 := by decide +kernel
theorem tyX7_ok : ∀ k, k < 2 → parseFieldDescriptor (TX7 k).2.2.1 = some (tyX7 k) := by decide +kernel
abbrev cX7_init : ByteArray := prog_5_method_1_code
def yX7_init : MethodName := ⟨RX7, "<init>", "(Ljava/lang/String;)V"⟩
def dkwX7_init_0 : List UInt8 := [42, 183, 0, 1, 42, 187, 0, 7, 89, 183, 0, 9, 181, 0, 10, 42, 43, 181, 0, 16, 177]
abbrev dktX7_init_0 : List UInt8 := dkwX7_init_0 ++ []
theorem dksX7_init_0 : cX7_init.data.toList.drop 0 = dktX7_init_0 := by decide +kernel
theorem dX7_init_0 : decode cX7_init 0 = .ok (.aload_n 0, 1) := dk_42 (dk_at dksX7_init_0 0 rfl rfl)
theorem dX7_init_1 : decode cX7_init 1 = .ok (.invokespecial 1, 3) := dk_183 0 1 (dk_at dksX7_init_0 1 rfl rfl)
theorem dX7_init_4 : decode cX7_init 4 = .ok (.aload_n 0, 1) := dk_42 (dk_at dksX7_init_0 4 rfl rfl)
theorem dX7_init_5 : decode cX7_init 5 = .ok (.new 7, 3) := dk_187 0 7 (dk_at dksX7_init_0 5 rfl rfl)
theorem dX7_init_8 : decode cX7_init 8 = .ok (.dup, 1) := dk_89 (dk_at dksX7_init_0 8 rfl rfl)
theorem dX7_init_9 : decode cX7_init 9 = .ok (.invokespecial 9, 3) := dk_183 0 9 (dk_at dksX7_init_0 9 rfl rfl)
theorem dX7_init_12 : decode cX7_init 12 = .ok (.putfield 10, 3) := dk_181 0 10 (dk_at dksX7_init_0 12 rfl rfl)
theorem dX7_init_15 : decode cX7_init 15 = .ok (.aload_n 0, 1) := dk_42 (dk_at dksX7_init_0 15 rfl rfl)
theorem dX7_init_16 : decode cX7_init 16 = .ok (.aload_n 1, 1) := dk_43 (dk_at dksX7_init_0 16 rfl rfl)
theorem dX7_init_17 : decode cX7_init 17 = .ok (.putfield 16, 3) := dk_181 0 16 (dk_at dksX7_init_0 17 rfl rfl)
theorem dX7_init_20 : decode cX7_init 20 = .ok (.return_, 1) := dk_177 (dk_at dksX7_init_0 20 rfl rfl)
abbrev cX7_init_2 : ByteArray := prog_5_method_3_code
def yX7_init_2 : MethodName := ⟨RX7, "<init>", "(Ljava/util/ArrayList;)V"⟩
def dkwX7_init_2_0 : List UInt8 := [42, 183, 0, 25, 42, 180, 0, 10, 43, 182, 0, 26, 87, 177]
abbrev dktX7_init_2_0 : List UInt8 := dkwX7_init_2_0 ++ []
theorem dksX7_init_2_0 : cX7_init_2.data.toList.drop 0 = dktX7_init_2_0 := by decide +kernel
theorem dX7_init_2_0 : decode cX7_init_2 0 = .ok (.aload_n 0, 1) := dk_42 (dk_at dksX7_init_2_0 0 rfl rfl)
theorem dX7_init_2_1 : decode cX7_init_2 1 = .ok (.invokespecial 25, 3) := dk_183 0 25 (dk_at dksX7_init_2_0 1 rfl rfl)
theorem dX7_init_2_4 : decode cX7_init_2 4 = .ok (.aload_n 0, 1) := dk_42 (dk_at dksX7_init_2_0 4 rfl rfl)
theorem dX7_init_2_5 : decode cX7_init_2 5 = .ok (.getfield 10, 3) := dk_180 0 10 (dk_at dksX7_init_2_0 5 rfl rfl)
theorem dX7_init_2_8 : decode cX7_init_2 8 = .ok (.aload_n 1, 1) := dk_43 (dk_at dksX7_init_2_0 8 rfl rfl)
theorem dX7_init_2_9 : decode cX7_init_2 9 = .ok (.invokevirtual 26, 3) := dk_182 0 26 (dk_at dksX7_init_2_0 9 rfl rfl)
theorem dX7_init_2_12 : decode cX7_init_2 12 = .ok (.pop, 1) := dk_87 (dk_at dksX7_init_2_0 12 rfl rfl)
theorem dX7_init_2_13 : decode cX7_init_2 13 = .ok (.return_, 1) := dk_177 (dk_at dksX7_init_2_0 13 rfl rfl)
abbrev cX7_init_3 : ByteArray := prog_5_method_2_code
def yX7_init_3 : MethodName := ⟨RX7, "<init>", "()V"⟩
def dkwX7_init_3_0 : List UInt8 := [42, 18, 20, 183, 0, 22, 177]
abbrev dktX7_init_3_0 : List UInt8 := dkwX7_init_3_0 ++ []
theorem dksX7_init_3_0 : cX7_init_3.data.toList.drop 0 = dktX7_init_3_0 := by decide +kernel
theorem dX7_init_3_0 : decode cX7_init_3 0 = .ok (.aload_n 0, 1) := dk_42 (dk_at dksX7_init_3_0 0 rfl rfl)
theorem dX7_init_3_1 : decode cX7_init_3 1 = .ok (.ldc 20, 2) := dk_18 20 (dk_at dksX7_init_3_0 1 rfl rfl)
theorem dX7_init_3_3 : decode cX7_init_3 3 = .ok (.invokespecial 22, 3) := dk_183 0 22 (dk_at dksX7_init_3_0 3 rfl rfl)
theorem dX7_init_3_6 : decode cX7_init_3 6 = .ok (.return_, 1) := dk_177 (dk_at dksX7_init_3_0 6 rfl rfl)
abbrev cX7_many : ByteArray := prog_5_method_4_code
def yX7_many : MethodName := ⟨RX7, "many", "()I"⟩
def dkwX7_many_0 : List UInt8 := [42, 180, 0, 10, 182, 0, 30, 172]
abbrev dktX7_many_0 : List UInt8 := dkwX7_many_0 ++ []
theorem dksX7_many_0 : cX7_many.data.toList.drop 0 = dktX7_many_0 := by decide +kernel
theorem dX7_many_0 : decode cX7_many 0 = .ok (.aload_n 0, 1) := dk_42 (dk_at dksX7_many_0 0 rfl rfl)
theorem dX7_many_1 : decode cX7_many 1 = .ok (.getfield 10, 3) := dk_180 0 10 (dk_at dksX7_many_0 1 rfl rfl)
theorem dX7_many_4 : decode cX7_many 4 = .ok (.invokevirtual 30, 3) := dk_182 0 30 (dk_at dksX7_many_0 4 rfl rfl)
theorem dX7_many_7 : decode cX7_many 7 = .ok (.ireturn, 1) := dk_172 (dk_at dksX7_many_0 7 rfl rfl)
theorem q143 : (Jvm.Cond.initialized "LetterPen$Letter") ∈ lw_all := lw_g (lw_at lw_m1 21 rfl) rfl
theorem q693 : (Jvm.Cond.selects "LetterPen$Letter" ({ cls := "java/lang/Object", name := "equals", desc := "(Ljava/lang/Object;)Z" } : Jvm.MethodName) ({ cls := "java/lang/Object", name := "equals", desc := "(Ljava/lang/Object;)Z" } : Jvm.MethodName)) ∈ lw_all := lw_g (lw_at lw_m3 91 rfl) rfl
theorem q737 : (Jvm.Cond.selects "LetterPen$Letter" ({ cls := "java/lang/Object", name := "getClass", desc := "()Ljava/lang/Class;" } : Jvm.MethodName) ({ cls := "java/lang/Object", name := "getClass", desc := "()Ljava/lang/Class;" } : Jvm.MethodName)) ∈ lw_all := lw_g (lw_at lw_m3 135 rfl) rfl
theorem q758 : (Jvm.Cond.instantiable "LetterPen$Letter" (2 : Nat)) ∈ lw_all := lw_g (lw_at lw_m3 156 rfl) rfl
theorem q760 : (Jvm.Cond.instanceMethod ({ cls := "LetterPen$Letter", name := "<init>", desc := "(Ljava/lang/String;)V" } : Jvm.MethodName)) ∈ lw_all := lw_g (lw_at lw_m3 158 rfl) rfl
theorem q761 : (Jvm.Cond.code ({ cls := "LetterPen$Letter", name := "<init>", desc := "(Ljava/lang/String;)V" } : Jvm.MethodName) prog_5_method_1_code (2 : Nat) (Option.none : Option Jvm.ClassFile.FieldType)) ∈ lw_all := lw_g (lw_at lw_m3 159 rfl) rfl
theorem q762 : (Jvm.Cond.methodLink "LetterPen$Letter" (1 : Nat) ({ cls := "java/lang/Object", name := "<init>", desc := "()V" } : Jvm.MethodName)) ∈ lw_all := lw_g (lw_at lw_m3 160 rfl) rfl
theorem q763 : (Jvm.Cond.classLink "LetterPen$Letter" (7 : Nat) "java/util/ArrayList") ∈ lw_all := lw_g (lw_at lw_m3 161 rfl) rfl
theorem q764 : (Jvm.Cond.methodLink "LetterPen$Letter" (9 : Nat) ({ cls := "java/util/ArrayList", name := "<init>", desc := "()V" } : Jvm.MethodName)) ∈ lw_all := lw_g (lw_at lw_m3 162 rfl) rfl
theorem q765 : (Jvm.Cond.fieldLink "LetterPen$Letter" (16 : Nat) "LetterPen$Letter" "name" "Ljava/lang/String;") ∈ lw_all := lw_g (lw_at lw_m3 163 rfl) rfl
theorem q767 : (Jvm.Cond.fieldLink "LetterPen$Letter" (10 : Nat) "LetterPen$Letter" "strokes" "Ljava/util/ArrayList;") ∈ lw_all := lw_g (lw_at lw_m3 165 rfl) rfl
theorem q770 : (Jvm.Cond.laysFinal "LetterPen$Letter" "LetterPen$Letter" "name" "Ljava/lang/String;") ∈ lw_all := lw_g (lw_at lw_m3 168 rfl) rfl
theorem q771 : (Jvm.Cond.soleField "LetterPen$Letter" "name") ∈ lw_all := lw_g (lw_at lw_m3 169 rfl) rfl
theorem q772 : (Jvm.Cond.laysFinal "LetterPen$Letter" "LetterPen$Letter" "strokes" "Ljava/util/ArrayList;") ∈ lw_all := lw_g (lw_at lw_m3 170 rfl) rfl
theorem q773 : (Jvm.Cond.soleField "LetterPen$Letter" "strokes") ∈ lw_all := lw_g (lw_at lw_m3 171 rfl) rfl
theorem q774 : (Jvm.Cond.superclass "LetterPen$Letter" "java/lang/Object") ∈ lw_all := lw_g (lw_at lw_m3 172 rfl) rfl
theorem q1175 : (Jvm.Cond.instanceMethod ({ cls := "LetterPen$Letter", name := "<init>", desc := "(Ljava/util/ArrayList;)V" } : Jvm.MethodName)) ∈ lw_all := lw_g (lw_at lw_m5 93 rfl) rfl
theorem q1176 : (Jvm.Cond.code ({ cls := "LetterPen$Letter", name := "<init>", desc := "(Ljava/util/ArrayList;)V" } : Jvm.MethodName) prog_5_method_3_code (2 : Nat) (Option.none : Option Jvm.ClassFile.FieldType)) ∈ lw_all := lw_g (lw_at lw_m5 94 rfl) rfl
theorem q1177 : (Jvm.Cond.methodLink "LetterPen$Letter" (25 : Nat) ({ cls := "LetterPen$Letter", name := "<init>", desc := "()V" } : Jvm.MethodName)) ∈ lw_all := lw_g (lw_at lw_m5 95 rfl) rfl
theorem q1178 : (Jvm.Cond.instanceMethod ({ cls := "LetterPen$Letter", name := "<init>", desc := "()V" } : Jvm.MethodName)) ∈ lw_all := lw_g (lw_at lw_m5 96 rfl) rfl
theorem q1179 : (Jvm.Cond.code ({ cls := "LetterPen$Letter", name := "<init>", desc := "()V" } : Jvm.MethodName) prog_5_method_2_code (1 : Nat) (Option.none : Option Jvm.ClassFile.FieldType)) ∈ lw_all := lw_g (lw_at lw_m5 97 rfl) rfl
theorem q1180 : (Jvm.Cond.stringRef "LetterPen$Letter" (20 : Nat) "") ∈ lw_tbl := lw_at lw_m5 98 rfl
theorem q1181 : (Jvm.Cond.methodLink "LetterPen$Letter" (22 : Nat) ({ cls := "LetterPen$Letter", name := "<init>", desc := "(Ljava/lang/String;)V" } : Jvm.MethodName)) ∈ lw_all := lw_g (lw_at lw_m5 99 rfl) rfl
theorem q1182 : (Jvm.Cond.methodLink "LetterPen$Letter" (26 : Nat) ({ cls := "java/util/ArrayList", name := "addAll", desc := "(Ljava/util/Collection;)Z" } : Jvm.MethodName)) ∈ lw_all := lw_g (lw_at lw_m5 100 rfl) rfl
theorem q1215 : (Jvm.Cond.instanceMethod ({ cls := "LetterPen$Letter", name := "many", desc := "()I" } : Jvm.MethodName)) ∈ lw_all := lw_g (lw_at lw_m5 133 rfl) rfl
theorem q1216 : (Jvm.Cond.selects "LetterPen$Letter" ({ cls := "LetterPen$Letter", name := "many", desc := "()I" } : Jvm.MethodName) ({ cls := "LetterPen$Letter", name := "many", desc := "()I" } : Jvm.MethodName)) ∈ lw_all := lw_g (lw_at lw_m5 134 rfl) rfl
theorem q1217 : (Jvm.Cond.code ({ cls := "LetterPen$Letter", name := "many", desc := "()I" } : Jvm.MethodName) prog_5_method_4_code (1 : Nat) (Option.some Jvm.ClassFile.FieldType.int)) ∈ lw_all := lw_g (lw_at lw_m5 135 rfl) rfl
theorem q1218 : (Jvm.Cond.methodLink "LetterPen$Letter" (30 : Nat) ({ cls := "java/util/ArrayList", name := "size", desc := "()I" } : Jvm.MethodName)) ∈ lw_all := lw_g (lw_at lw_m5 136 rfl) rfl
theorem q2004 : (Jvm.Cond.castable "LetterPen$Letter" "java/lang/Object") ∈ lw_tbl := lw_at lw_m8 202 rfl
theorem in_X7 : ∀ w ∈ wsX70, w ∈ lw_all := lw_in wsX70 [770, 772] (by decide +kernel) (by decide +kernel)

/-! LetterPen$Stroke -/
set_option maxRecDepth 100000
def RX8 : String := "LetterPen$Stroke"
def TX8 : u_T := fun k => match k with
  | 0 => ("LetterPen$Stroke", "points", "[I", true)
  | 1 => ("LetterPen$Stroke", "pieces", "[I", true)
  | 2 => ("LetterPen$Stroke", "length", "I", true)
  | 3 => ("LetterPen$Stroke", "laidFor", "I", false)
  | 4 => ("LetterPen$Stroke", "samples", "[I", true)
  | 5 => ("LetterPen$Stroke", "codes", "[I", true)
  | _ => ("LetterPen$Stroke", "backwards", "[I", true)
def tyX8 : Nat → FieldType := fun k => match k with
  | 0 => .array .int
  | 1 => .array .int
  | 2 => .int
  | 3 => .int
  | 4 => .array .int
  | 5 => .array .int
  | _ => .array .int
abbrev wsX80 : List Cond := u_ws RX8 TX8 7
theorem nmX8 : ∀ a, a < 7 → ∀ b, b < 7 → a ≠ b → (TX8 a).2.1 ≠ (TX8 b).2.1 := by decide +kernel
theorem tyX8_ok : ∀ k, k < 7 → parseFieldDescriptor (TX8 k).2.2.1 = some (tyX8 k) := by decide +kernel
abbrev cX8_init : ByteArray := prog_10_method_2_code
def yX8_init : MethodName := ⟨RX8, "<init>", "([II)V"⟩
def dkwX8_init_0 : List UInt8 := [42, 43, 28, 184, 0, 35, 183, 0, 39, 177]
abbrev dktX8_init_0 : List UInt8 := dkwX8_init_0 ++ []
theorem dksX8_init_0 : cX8_init.data.toList.drop 0 = dktX8_init_0 := by decide +kernel
theorem dX8_init_0 : decode cX8_init 0 = .ok (.aload_n 0, 1) := dk_42 (dk_at dksX8_init_0 0 rfl rfl)
theorem dX8_init_1 : decode cX8_init 1 = .ok (.aload_n 1, 1) := dk_43 (dk_at dksX8_init_0 1 rfl rfl)
theorem dX8_init_2 : decode cX8_init 2 = .ok (.iload_n 2, 1) := dk_28 (dk_at dksX8_init_0 2 rfl rfl)
theorem dX8_init_3 : decode cX8_init 3 = .ok (.invokestatic 35, 3) := dk_184 0 35 (dk_at dksX8_init_0 3 rfl rfl)
theorem dX8_init_6 : decode cX8_init 6 = .ok (.invokespecial 39, 3) := dk_183 0 39 (dk_at dksX8_init_0 6 rfl rfl)
theorem dX8_init_9 : decode cX8_init 9 = .ok (.return_, 1) := dk_177 (dk_at dksX8_init_0 9 rfl rfl)
abbrev cX8_cut : ByteArray := prog_10_method_3_code
def yX8_cut : MethodName := ⟨RX8, "cut", "([II)[I"⟩
def dkwX8_cut_0 : List UInt8 := [27, 188, 10, 77, 42, 3, 44, 3, 27, 184, 0, 42, 44, 176]
abbrev dktX8_cut_0 : List UInt8 := dkwX8_cut_0 ++ []
theorem dksX8_cut_0 : cX8_cut.data.toList.drop 0 = dktX8_cut_0 := by decide +kernel
theorem dX8_cut_0 : decode cX8_cut 0 = .ok (.iload_n 1, 1) := dk_27 (dk_at dksX8_cut_0 0 rfl rfl)
theorem dX8_cut_1 : decode cX8_cut 1 = .ok (.newarray .int, 2) := dk_188_10 (dk_at dksX8_cut_0 1 rfl rfl)
theorem dX8_cut_3 : decode cX8_cut 3 = .ok (.astore_n 2, 1) := dk_77 (dk_at dksX8_cut_0 3 rfl rfl)
theorem dX8_cut_4 : decode cX8_cut 4 = .ok (.aload_n 0, 1) := dk_42 (dk_at dksX8_cut_0 4 rfl rfl)
theorem dX8_cut_5 : decode cX8_cut 5 = .ok (.iconst 0, 1) := dk_3 (dk_at dksX8_cut_0 5 rfl rfl)
theorem dX8_cut_6 : decode cX8_cut 6 = .ok (.aload_n 2, 1) := dk_44 (dk_at dksX8_cut_0 6 rfl rfl)
theorem dX8_cut_7 : decode cX8_cut 7 = .ok (.iconst 0, 1) := dk_3 (dk_at dksX8_cut_0 7 rfl rfl)
theorem dX8_cut_8 : decode cX8_cut 8 = .ok (.iload_n 1, 1) := dk_27 (dk_at dksX8_cut_0 8 rfl rfl)
theorem dX8_cut_9 : decode cX8_cut 9 = .ok (.invokestatic 42, 3) := dk_184 0 42 (dk_at dksX8_cut_0 9 rfl rfl)
theorem dX8_cut_12 : decode cX8_cut 12 = .ok (.aload_n 2, 1) := dk_44 (dk_at dksX8_cut_0 12 rfl rfl)
theorem dX8_cut_13 : decode cX8_cut 13 = .ok (.areturn, 1) := dk_176 (dk_at dksX8_cut_0 13 rfl rfl)
abbrev cX8_init_2 : ByteArray := prog_10_method_1_code
def yX8_init_2 : MethodName := ⟨RX8, "<init>", "([I)V"⟩
def dkwX8_init_2_5 : List UInt8 := [29, 46, 96, 61, 132, 3, 1, 167, 255, 179, 42, 28, 181, 0, 31, 177]
abbrev dktX8_init_2_5 : List UInt8 := dkwX8_init_2_5 ++ []
def dkwX8_init_2_4 : List UInt8 := [17, 39, 16, 21, 4, 21, 4, 104, 21, 5, 21, 5, 104, 96, 104, 184, 0, 27, 79, 28, 42, 180, 0, 24]
abbrev dktX8_init_2_4 : List UInt8 := dkwX8_init_2_4 ++ dktX8_init_2_5
def dkwX8_init_2_3 : List UInt8 := [54, 4, 43, 5, 29, 104, 6, 96, 46, 43, 5, 29, 104, 4, 96, 46, 100, 54, 5, 42, 180, 0, 24, 29]
abbrev dktX8_init_2_3 : List UInt8 := dkwX8_init_2_3 ++ dktX8_init_2_4
def dkwX8_init_2_2 : List UInt8 := [3, 62, 29, 42, 180, 0, 24, 190, 162, 0, 74, 43, 5, 29, 104, 5, 96, 46, 43, 5, 29, 104, 46, 100]
abbrev dktX8_init_2_2 : List UInt8 := dkwX8_init_2_2 ++ dktX8_init_2_3
def dkwX8_init_2_1 : List UInt8 := [188, 10, 181, 0, 18, 42, 43, 181, 0, 21, 42, 43, 190, 5, 108, 4, 100, 188, 10, 181, 0, 24, 3, 61]
abbrev dktX8_init_2_1 : List UInt8 := dkwX8_init_2_1 ++ dktX8_init_2_2
def dkwX8_init_2_0 : List UInt8 := [42, 183, 0, 3, 42, 16, 34, 188, 10, 181, 0, 9, 42, 16, 16, 188, 10, 181, 0, 15, 42, 16, 16]
abbrev dktX8_init_2_0 : List UInt8 := dkwX8_init_2_0 ++ dktX8_init_2_1
theorem dksX8_init_2_0 : cX8_init_2.data.toList.drop 0 = dktX8_init_2_0 := by decide +kernel
theorem dksX8_init_2_1 : cX8_init_2.data.toList.drop 23 = dktX8_init_2_1 := dk_seg dksX8_init_2_0 23 rfl rfl
theorem dksX8_init_2_2 : cX8_init_2.data.toList.drop 47 = dktX8_init_2_2 := dk_seg dksX8_init_2_1 24 rfl rfl
theorem dksX8_init_2_3 : cX8_init_2.data.toList.drop 71 = dktX8_init_2_3 := dk_seg dksX8_init_2_2 24 rfl rfl
theorem dksX8_init_2_4 : cX8_init_2.data.toList.drop 95 = dktX8_init_2_4 := dk_seg dksX8_init_2_3 24 rfl rfl
theorem dksX8_init_2_5 : cX8_init_2.data.toList.drop 119 = dktX8_init_2_5 := dk_seg dksX8_init_2_4 24 rfl rfl
theorem dX8_init_2_0 : decode cX8_init_2 0 = .ok (.aload_n 0, 1) := dk_42 (dk_at dksX8_init_2_0 0 rfl rfl)
theorem dX8_init_2_1 : decode cX8_init_2 1 = .ok (.invokespecial 3, 3) := dk_183 0 3 (dk_at dksX8_init_2_0 1 rfl rfl)
theorem dX8_init_2_4 : decode cX8_init_2 4 = .ok (.aload_n 0, 1) := dk_42 (dk_at dksX8_init_2_0 4 rfl rfl)
theorem dX8_init_2_5 : decode cX8_init_2 5 = .ok (.bipush 34, 2) := dk_16 34 (dk_at dksX8_init_2_0 5 rfl rfl)
theorem dX8_init_2_7 : decode cX8_init_2 7 = .ok (.newarray .int, 2) := dk_188_10 (dk_at dksX8_init_2_0 7 rfl rfl)
theorem dX8_init_2_9 : decode cX8_init_2 9 = .ok (.putfield 9, 3) := dk_181 0 9 (dk_at dksX8_init_2_0 9 rfl rfl)
theorem dX8_init_2_12 : decode cX8_init_2 12 = .ok (.aload_n 0, 1) := dk_42 (dk_at dksX8_init_2_0 12 rfl rfl)
theorem dX8_init_2_13 : decode cX8_init_2 13 = .ok (.bipush 16, 2) := dk_16 16 (dk_at dksX8_init_2_0 13 rfl rfl)
theorem dX8_init_2_15 : decode cX8_init_2 15 = .ok (.newarray .int, 2) := dk_188_10 (dk_at dksX8_init_2_0 15 rfl rfl)
theorem dX8_init_2_17 : decode cX8_init_2 17 = .ok (.putfield 15, 3) := dk_181 0 15 (dk_at dksX8_init_2_0 17 rfl rfl)
theorem dX8_init_2_20 : decode cX8_init_2 20 = .ok (.aload_n 0, 1) := dk_42 (dk_at dksX8_init_2_0 20 rfl rfl)
theorem dX8_init_2_21 : decode cX8_init_2 21 = .ok (.bipush 16, 2) := dk_16 16 (dk_at dksX8_init_2_0 21 rfl rfl)
theorem dX8_init_2_23 : decode cX8_init_2 23 = .ok (.newarray .int, 2) := dk_188_10 (dk_at dksX8_init_2_1 0 rfl rfl)
theorem dX8_init_2_25 : decode cX8_init_2 25 = .ok (.putfield 18, 3) := dk_181 0 18 (dk_at dksX8_init_2_1 2 rfl rfl)
theorem dX8_init_2_28 : decode cX8_init_2 28 = .ok (.aload_n 0, 1) := dk_42 (dk_at dksX8_init_2_1 5 rfl rfl)
theorem dX8_init_2_29 : decode cX8_init_2 29 = .ok (.aload_n 1, 1) := dk_43 (dk_at dksX8_init_2_1 6 rfl rfl)
theorem dX8_init_2_30 : decode cX8_init_2 30 = .ok (.putfield 21, 3) := dk_181 0 21 (dk_at dksX8_init_2_1 7 rfl rfl)
theorem dX8_init_2_33 : decode cX8_init_2 33 = .ok (.aload_n 0, 1) := dk_42 (dk_at dksX8_init_2_1 10 rfl rfl)
theorem dX8_init_2_34 : decode cX8_init_2 34 = .ok (.aload_n 1, 1) := dk_43 (dk_at dksX8_init_2_1 11 rfl rfl)
theorem dX8_init_2_35 : decode cX8_init_2 35 = .ok (.arraylength, 1) := dk_190 (dk_at dksX8_init_2_1 12 rfl rfl)
theorem dX8_init_2_36 : decode cX8_init_2 36 = .ok (.iconst 2, 1) := dk_5 (dk_at dksX8_init_2_1 13 rfl rfl)
theorem dX8_init_2_37 : decode cX8_init_2 37 = .ok (.idiv, 1) := dk_108 (dk_at dksX8_init_2_1 14 rfl rfl)
theorem dX8_init_2_38 : decode cX8_init_2 38 = .ok (.iconst 1, 1) := dk_4 (dk_at dksX8_init_2_1 15 rfl rfl)
theorem dX8_init_2_39 : decode cX8_init_2 39 = .ok (.isub, 1) := dk_100 (dk_at dksX8_init_2_1 16 rfl rfl)
theorem dX8_init_2_40 : decode cX8_init_2 40 = .ok (.newarray .int, 2) := dk_188_10 (dk_at dksX8_init_2_1 17 rfl rfl)
theorem dX8_init_2_42 : decode cX8_init_2 42 = .ok (.putfield 24, 3) := dk_181 0 24 (dk_at dksX8_init_2_1 19 rfl rfl)
theorem dX8_init_2_45 : decode cX8_init_2 45 = .ok (.iconst 0, 1) := dk_3 (dk_at dksX8_init_2_1 22 rfl rfl)
theorem dX8_init_2_46 : decode cX8_init_2 46 = .ok (.istore_n 2, 1) := dk_61 (dk_at dksX8_init_2_1 23 rfl rfl)
theorem dX8_init_2_47 : decode cX8_init_2 47 = .ok (.iconst 0, 1) := dk_3 (dk_at dksX8_init_2_2 0 rfl rfl)
theorem dX8_init_2_48 : decode cX8_init_2 48 = .ok (.istore_n 3, 1) := dk_62 (dk_at dksX8_init_2_2 1 rfl rfl)
theorem dX8_init_2_49 : decode cX8_init_2 49 = .ok (.iload_n 3, 1) := dk_29 (dk_at dksX8_init_2_2 2 rfl rfl)
theorem dX8_init_2_50 : decode cX8_init_2 50 = .ok (.aload_n 0, 1) := dk_42 (dk_at dksX8_init_2_2 3 rfl rfl)
theorem dX8_init_2_51 : decode cX8_init_2 51 = .ok (.getfield 24, 3) := dk_180 0 24 (dk_at dksX8_init_2_2 4 rfl rfl)
theorem dX8_init_2_54 : decode cX8_init_2 54 = .ok (.arraylength, 1) := dk_190 (dk_at dksX8_init_2_2 7 rfl rfl)
theorem dX8_init_2_55 : decode cX8_init_2 55 = .ok (.if_icmp .ge 74, 3) := dk_162 0 74 (dk_at dksX8_init_2_2 8 rfl rfl)
theorem dX8_init_2_58 : decode cX8_init_2 58 = .ok (.aload_n 1, 1) := dk_43 (dk_at dksX8_init_2_2 11 rfl rfl)
theorem dX8_init_2_59 : decode cX8_init_2 59 = .ok (.iconst 2, 1) := dk_5 (dk_at dksX8_init_2_2 12 rfl rfl)
theorem dX8_init_2_60 : decode cX8_init_2 60 = .ok (.iload_n 3, 1) := dk_29 (dk_at dksX8_init_2_2 13 rfl rfl)
theorem dX8_init_2_61 : decode cX8_init_2 61 = .ok (.imul, 1) := dk_104 (dk_at dksX8_init_2_2 14 rfl rfl)
theorem dX8_init_2_62 : decode cX8_init_2 62 = .ok (.iconst 2, 1) := dk_5 (dk_at dksX8_init_2_2 15 rfl rfl)
theorem dX8_init_2_63 : decode cX8_init_2 63 = .ok (.iadd, 1) := dk_96 (dk_at dksX8_init_2_2 16 rfl rfl)
theorem dX8_init_2_64 : decode cX8_init_2 64 = .ok (.iaload, 1) := dk_46 (dk_at dksX8_init_2_2 17 rfl rfl)
theorem dX8_init_2_65 : decode cX8_init_2 65 = .ok (.aload_n 1, 1) := dk_43 (dk_at dksX8_init_2_2 18 rfl rfl)
theorem dX8_init_2_66 : decode cX8_init_2 66 = .ok (.iconst 2, 1) := dk_5 (dk_at dksX8_init_2_2 19 rfl rfl)
theorem dX8_init_2_67 : decode cX8_init_2 67 = .ok (.iload_n 3, 1) := dk_29 (dk_at dksX8_init_2_2 20 rfl rfl)
theorem dX8_init_2_68 : decode cX8_init_2 68 = .ok (.imul, 1) := dk_104 (dk_at dksX8_init_2_2 21 rfl rfl)
theorem dX8_init_2_69 : decode cX8_init_2 69 = .ok (.iaload, 1) := dk_46 (dk_at dksX8_init_2_2 22 rfl rfl)
theorem dX8_init_2_70 : decode cX8_init_2 70 = .ok (.isub, 1) := dk_100 (dk_at dksX8_init_2_2 23 rfl rfl)
theorem dX8_init_2_71 : decode cX8_init_2 71 = .ok (.istore 4, 2) := dk_54 4 (dk_at dksX8_init_2_3 0 rfl rfl)
theorem dX8_init_2_73 : decode cX8_init_2 73 = .ok (.aload_n 1, 1) := dk_43 (dk_at dksX8_init_2_3 2 rfl rfl)
theorem dX8_init_2_74 : decode cX8_init_2 74 = .ok (.iconst 2, 1) := dk_5 (dk_at dksX8_init_2_3 3 rfl rfl)
theorem dX8_init_2_75 : decode cX8_init_2 75 = .ok (.iload_n 3, 1) := dk_29 (dk_at dksX8_init_2_3 4 rfl rfl)
theorem dX8_init_2_76 : decode cX8_init_2 76 = .ok (.imul, 1) := dk_104 (dk_at dksX8_init_2_3 5 rfl rfl)
theorem dX8_init_2_77 : decode cX8_init_2 77 = .ok (.iconst 3, 1) := dk_6 (dk_at dksX8_init_2_3 6 rfl rfl)
theorem dX8_init_2_78 : decode cX8_init_2 78 = .ok (.iadd, 1) := dk_96 (dk_at dksX8_init_2_3 7 rfl rfl)
theorem dX8_init_2_79 : decode cX8_init_2 79 = .ok (.iaload, 1) := dk_46 (dk_at dksX8_init_2_3 8 rfl rfl)
theorem dX8_init_2_80 : decode cX8_init_2 80 = .ok (.aload_n 1, 1) := dk_43 (dk_at dksX8_init_2_3 9 rfl rfl)
theorem dX8_init_2_81 : decode cX8_init_2 81 = .ok (.iconst 2, 1) := dk_5 (dk_at dksX8_init_2_3 10 rfl rfl)
theorem dX8_init_2_82 : decode cX8_init_2 82 = .ok (.iload_n 3, 1) := dk_29 (dk_at dksX8_init_2_3 11 rfl rfl)
theorem dX8_init_2_83 : decode cX8_init_2 83 = .ok (.imul, 1) := dk_104 (dk_at dksX8_init_2_3 12 rfl rfl)
theorem dX8_init_2_84 : decode cX8_init_2 84 = .ok (.iconst 1, 1) := dk_4 (dk_at dksX8_init_2_3 13 rfl rfl)
theorem dX8_init_2_85 : decode cX8_init_2 85 = .ok (.iadd, 1) := dk_96 (dk_at dksX8_init_2_3 14 rfl rfl)
theorem dX8_init_2_86 : decode cX8_init_2 86 = .ok (.iaload, 1) := dk_46 (dk_at dksX8_init_2_3 15 rfl rfl)
theorem dX8_init_2_87 : decode cX8_init_2 87 = .ok (.isub, 1) := dk_100 (dk_at dksX8_init_2_3 16 rfl rfl)
theorem dX8_init_2_88 : decode cX8_init_2 88 = .ok (.istore 5, 2) := dk_54 5 (dk_at dksX8_init_2_3 17 rfl rfl)
theorem dX8_init_2_90 : decode cX8_init_2 90 = .ok (.aload_n 0, 1) := dk_42 (dk_at dksX8_init_2_3 19 rfl rfl)
theorem dX8_init_2_91 : decode cX8_init_2 91 = .ok (.getfield 24, 3) := dk_180 0 24 (dk_at dksX8_init_2_3 20 rfl rfl)
theorem dX8_init_2_94 : decode cX8_init_2 94 = .ok (.iload_n 3, 1) := dk_29 (dk_at dksX8_init_2_3 23 rfl rfl)
theorem dX8_init_2_95 : decode cX8_init_2 95 = .ok (.sipush 10000, 3) := dk_17 39 16 (dk_at dksX8_init_2_4 0 rfl rfl)
theorem dX8_init_2_98 : decode cX8_init_2 98 = .ok (.iload 4, 2) := dk_21 4 (dk_at dksX8_init_2_4 3 rfl rfl)
theorem dX8_init_2_100 : decode cX8_init_2 100 = .ok (.iload 4, 2) := dk_21 4 (dk_at dksX8_init_2_4 5 rfl rfl)
theorem dX8_init_2_102 : decode cX8_init_2 102 = .ok (.imul, 1) := dk_104 (dk_at dksX8_init_2_4 7 rfl rfl)
theorem dX8_init_2_103 : decode cX8_init_2 103 = .ok (.iload 5, 2) := dk_21 5 (dk_at dksX8_init_2_4 8 rfl rfl)
theorem dX8_init_2_105 : decode cX8_init_2 105 = .ok (.iload 5, 2) := dk_21 5 (dk_at dksX8_init_2_4 10 rfl rfl)
theorem dX8_init_2_107 : decode cX8_init_2 107 = .ok (.imul, 1) := dk_104 (dk_at dksX8_init_2_4 12 rfl rfl)
theorem dX8_init_2_108 : decode cX8_init_2 108 = .ok (.iadd, 1) := dk_96 (dk_at dksX8_init_2_4 13 rfl rfl)
theorem dX8_init_2_109 : decode cX8_init_2 109 = .ok (.imul, 1) := dk_104 (dk_at dksX8_init_2_4 14 rfl rfl)
theorem dX8_init_2_110 : decode cX8_init_2 110 = .ok (.invokestatic 27, 3) := dk_184 0 27 (dk_at dksX8_init_2_4 15 rfl rfl)
theorem dX8_init_2_113 : decode cX8_init_2 113 = .ok (.iastore, 1) := dk_79 (dk_at dksX8_init_2_4 18 rfl rfl)
theorem dX8_init_2_114 : decode cX8_init_2 114 = .ok (.iload_n 2, 1) := dk_28 (dk_at dksX8_init_2_4 19 rfl rfl)
theorem dX8_init_2_115 : decode cX8_init_2 115 = .ok (.aload_n 0, 1) := dk_42 (dk_at dksX8_init_2_4 20 rfl rfl)
theorem dX8_init_2_116 : decode cX8_init_2 116 = .ok (.getfield 24, 3) := dk_180 0 24 (dk_at dksX8_init_2_4 21 rfl rfl)
theorem dX8_init_2_119 : decode cX8_init_2 119 = .ok (.iload_n 3, 1) := dk_29 (dk_at dksX8_init_2_5 0 rfl rfl)
theorem dX8_init_2_120 : decode cX8_init_2 120 = .ok (.iaload, 1) := dk_46 (dk_at dksX8_init_2_5 1 rfl rfl)
theorem dX8_init_2_121 : decode cX8_init_2 121 = .ok (.iadd, 1) := dk_96 (dk_at dksX8_init_2_5 2 rfl rfl)
theorem dX8_init_2_122 : decode cX8_init_2 122 = .ok (.istore_n 2, 1) := dk_61 (dk_at dksX8_init_2_5 3 rfl rfl)
theorem dX8_init_2_123 : decode cX8_init_2 123 = .ok (.iinc 3 1, 3) := dk_132 3 1 (dk_at dksX8_init_2_5 4 rfl rfl)
theorem dX8_init_2_126 : decode cX8_init_2 126 = .ok (.goto (-77), 3) := dk_167 255 179 (dk_at dksX8_init_2_5 7 rfl rfl)
theorem dX8_init_2_129 : decode cX8_init_2 129 = .ok (.aload_n 0, 1) := dk_42 (dk_at dksX8_init_2_5 10 rfl rfl)
theorem dX8_init_2_130 : decode cX8_init_2 130 = .ok (.iload_n 2, 1) := dk_28 (dk_at dksX8_init_2_5 11 rfl rfl)
theorem dX8_init_2_131 : decode cX8_init_2 131 = .ok (.putfield 31, 3) := dk_181 0 31 (dk_at dksX8_init_2_5 12 rfl rfl)
theorem dX8_init_2_134 : decode cX8_init_2 134 = .ok (.return_, 1) := dk_177 (dk_at dksX8_init_2_5 15 rfl rfl)
abbrev cX8_laid : ByteArray := prog_10_method_7_code
def yX8_laid : MethodName := ⟨RX8, "laid", "(I)LLetterPen$Stroke;"⟩
def dkwX8_laid_6 : List UInt8 := [42, 180, 0, 15, 27, 4, 100, 28, 100, 46, 7, 96, 16, 8, 112, 79, 132, 2, 1, 167, 255, 227, 42, 176]
abbrev dktX8_laid_6 : List UInt8 := dkwX8_laid_6 ++ []
def dkwX8_laid_5 : List UInt8 := [21, 4, 184, 0, 62, 79, 132, 2, 1, 167, 255, 165, 3, 61, 28, 27, 162, 0, 30, 42, 180, 0, 18, 28]
abbrev dktX8_laid_5 : List UInt8 := dkwX8_laid_5 ++ dktX8_laid_6
def dkwX8_laid_4 : List UInt8 := [154, 0, 22, 28, 154, 0, 7, 3, 167, 0, 20, 42, 180, 0, 15, 28, 4, 100, 46, 167, 0, 9, 29]
abbrev dktX8_laid_4 : List UInt8 := dkwX8_laid_4 ++ dktX8_laid_5
def dkwX8_laid_3 : List UInt8 := [180, 0, 9, 5, 28, 104, 4, 96, 46, 100, 54, 4, 42, 180, 0, 15, 28, 29, 154, 0, 27, 21, 4]
abbrev dktX8_laid_3 : List UInt8 := dkwX8_laid_3 ++ dktX8_laid_4
def dkwX8_laid_2 : List UInt8 := [5, 96, 46, 42, 180, 0, 9, 5, 28, 104, 46, 100, 62, 42, 180, 0, 9, 5, 28, 104, 6, 96, 46, 42]
abbrev dktX8_laid_2 : List UInt8 := dkwX8_laid_2 ++ dktX8_laid_3
def dkwX8_laid_1 : List UInt8 := [27, 182, 0, 58, 132, 2, 1, 167, 255, 242, 3, 61, 28, 27, 162, 0, 92, 42, 180, 0, 9, 5, 28, 104]
abbrev dktX8_laid_1 : List UInt8 := dkwX8_laid_1 ++ dktX8_laid_2
def dkwX8_laid_0 : List UInt8 := [42, 180, 0, 55, 27, 160, 0, 5, 42, 176, 42, 27, 181, 0, 55, 3, 61, 28, 27, 163, 0, 15, 42, 28]
abbrev dktX8_laid_0 : List UInt8 := dkwX8_laid_0 ++ dktX8_laid_1
theorem dksX8_laid_0 : cX8_laid.data.toList.drop 0 = dktX8_laid_0 := by decide +kernel
theorem dksX8_laid_1 : cX8_laid.data.toList.drop 24 = dktX8_laid_1 := dk_seg dksX8_laid_0 24 rfl rfl
theorem dksX8_laid_2 : cX8_laid.data.toList.drop 48 = dktX8_laid_2 := dk_seg dksX8_laid_1 24 rfl rfl
theorem dksX8_laid_3 : cX8_laid.data.toList.drop 72 = dktX8_laid_3 := dk_seg dksX8_laid_2 24 rfl rfl
theorem dksX8_laid_4 : cX8_laid.data.toList.drop 95 = dktX8_laid_4 := dk_seg dksX8_laid_3 23 rfl rfl
theorem dksX8_laid_5 : cX8_laid.data.toList.drop 118 = dktX8_laid_5 := dk_seg dksX8_laid_4 23 rfl rfl
theorem dksX8_laid_6 : cX8_laid.data.toList.drop 142 = dktX8_laid_6 := dk_seg dksX8_laid_5 24 rfl rfl
theorem dX8_laid_0 : decode cX8_laid 0 = .ok (.aload_n 0, 1) := dk_42 (dk_at dksX8_laid_0 0 rfl rfl)
theorem dX8_laid_1 : decode cX8_laid 1 = .ok (.getfield 55, 3) := dk_180 0 55 (dk_at dksX8_laid_0 1 rfl rfl)
theorem dX8_laid_4 : decode cX8_laid 4 = .ok (.iload_n 1, 1) := dk_27 (dk_at dksX8_laid_0 4 rfl rfl)
theorem dX8_laid_5 : decode cX8_laid 5 = .ok (.if_icmp .ne 5, 3) := dk_160 0 5 (dk_at dksX8_laid_0 5 rfl rfl)
theorem dX8_laid_8 : decode cX8_laid 8 = .ok (.aload_n 0, 1) := dk_42 (dk_at dksX8_laid_0 8 rfl rfl)
theorem dX8_laid_9 : decode cX8_laid 9 = .ok (.areturn, 1) := dk_176 (dk_at dksX8_laid_0 9 rfl rfl)
theorem dX8_laid_10 : decode cX8_laid 10 = .ok (.aload_n 0, 1) := dk_42 (dk_at dksX8_laid_0 10 rfl rfl)
theorem dX8_laid_11 : decode cX8_laid 11 = .ok (.iload_n 1, 1) := dk_27 (dk_at dksX8_laid_0 11 rfl rfl)
theorem dX8_laid_12 : decode cX8_laid 12 = .ok (.putfield 55, 3) := dk_181 0 55 (dk_at dksX8_laid_0 12 rfl rfl)
theorem dX8_laid_15 : decode cX8_laid 15 = .ok (.iconst 0, 1) := dk_3 (dk_at dksX8_laid_0 15 rfl rfl)
theorem dX8_laid_16 : decode cX8_laid 16 = .ok (.istore_n 2, 1) := dk_61 (dk_at dksX8_laid_0 16 rfl rfl)
theorem dX8_laid_17 : decode cX8_laid 17 = .ok (.iload_n 2, 1) := dk_28 (dk_at dksX8_laid_0 17 rfl rfl)
theorem dX8_laid_18 : decode cX8_laid 18 = .ok (.iload_n 1, 1) := dk_27 (dk_at dksX8_laid_0 18 rfl rfl)
theorem dX8_laid_19 : decode cX8_laid 19 = .ok (.if_icmp .gt 15, 3) := dk_163 0 15 (dk_at dksX8_laid_0 19 rfl rfl)
theorem dX8_laid_22 : decode cX8_laid 22 = .ok (.aload_n 0, 1) := dk_42 (dk_at dksX8_laid_0 22 rfl rfl)
theorem dX8_laid_23 : decode cX8_laid 23 = .ok (.iload_n 2, 1) := dk_28 (dk_at dksX8_laid_0 23 rfl rfl)
theorem dX8_laid_24 : decode cX8_laid 24 = .ok (.iload_n 1, 1) := dk_27 (dk_at dksX8_laid_1 0 rfl rfl)
theorem dX8_laid_25 : decode cX8_laid 25 = .ok (.invokevirtual 58, 3) := dk_182 0 58 (dk_at dksX8_laid_1 1 rfl rfl)
theorem dX8_laid_28 : decode cX8_laid 28 = .ok (.iinc 2 1, 3) := dk_132 2 1 (dk_at dksX8_laid_1 4 rfl rfl)
theorem dX8_laid_31 : decode cX8_laid 31 = .ok (.goto (-14), 3) := dk_167 255 242 (dk_at dksX8_laid_1 7 rfl rfl)
theorem dX8_laid_34 : decode cX8_laid 34 = .ok (.iconst 0, 1) := dk_3 (dk_at dksX8_laid_1 10 rfl rfl)
theorem dX8_laid_35 : decode cX8_laid 35 = .ok (.istore_n 2, 1) := dk_61 (dk_at dksX8_laid_1 11 rfl rfl)
theorem dX8_laid_36 : decode cX8_laid 36 = .ok (.iload_n 2, 1) := dk_28 (dk_at dksX8_laid_1 12 rfl rfl)
theorem dX8_laid_37 : decode cX8_laid 37 = .ok (.iload_n 1, 1) := dk_27 (dk_at dksX8_laid_1 13 rfl rfl)
theorem dX8_laid_38 : decode cX8_laid 38 = .ok (.if_icmp .ge 92, 3) := dk_162 0 92 (dk_at dksX8_laid_1 14 rfl rfl)
theorem dX8_laid_41 : decode cX8_laid 41 = .ok (.aload_n 0, 1) := dk_42 (dk_at dksX8_laid_1 17 rfl rfl)
theorem dX8_laid_42 : decode cX8_laid 42 = .ok (.getfield 9, 3) := dk_180 0 9 (dk_at dksX8_laid_1 18 rfl rfl)
theorem dX8_laid_45 : decode cX8_laid 45 = .ok (.iconst 2, 1) := dk_5 (dk_at dksX8_laid_1 21 rfl rfl)
theorem dX8_laid_46 : decode cX8_laid 46 = .ok (.iload_n 2, 1) := dk_28 (dk_at dksX8_laid_1 22 rfl rfl)
theorem dX8_laid_47 : decode cX8_laid 47 = .ok (.imul, 1) := dk_104 (dk_at dksX8_laid_1 23 rfl rfl)
theorem dX8_laid_48 : decode cX8_laid 48 = .ok (.iconst 2, 1) := dk_5 (dk_at dksX8_laid_2 0 rfl rfl)
theorem dX8_laid_49 : decode cX8_laid 49 = .ok (.iadd, 1) := dk_96 (dk_at dksX8_laid_2 1 rfl rfl)
theorem dX8_laid_50 : decode cX8_laid 50 = .ok (.iaload, 1) := dk_46 (dk_at dksX8_laid_2 2 rfl rfl)
theorem dX8_laid_51 : decode cX8_laid 51 = .ok (.aload_n 0, 1) := dk_42 (dk_at dksX8_laid_2 3 rfl rfl)
theorem dX8_laid_52 : decode cX8_laid 52 = .ok (.getfield 9, 3) := dk_180 0 9 (dk_at dksX8_laid_2 4 rfl rfl)
theorem dX8_laid_55 : decode cX8_laid 55 = .ok (.iconst 2, 1) := dk_5 (dk_at dksX8_laid_2 7 rfl rfl)
theorem dX8_laid_56 : decode cX8_laid 56 = .ok (.iload_n 2, 1) := dk_28 (dk_at dksX8_laid_2 8 rfl rfl)
theorem dX8_laid_57 : decode cX8_laid 57 = .ok (.imul, 1) := dk_104 (dk_at dksX8_laid_2 9 rfl rfl)
theorem dX8_laid_58 : decode cX8_laid 58 = .ok (.iaload, 1) := dk_46 (dk_at dksX8_laid_2 10 rfl rfl)
theorem dX8_laid_59 : decode cX8_laid 59 = .ok (.isub, 1) := dk_100 (dk_at dksX8_laid_2 11 rfl rfl)
theorem dX8_laid_60 : decode cX8_laid 60 = .ok (.istore_n 3, 1) := dk_62 (dk_at dksX8_laid_2 12 rfl rfl)
theorem dX8_laid_61 : decode cX8_laid 61 = .ok (.aload_n 0, 1) := dk_42 (dk_at dksX8_laid_2 13 rfl rfl)
theorem dX8_laid_62 : decode cX8_laid 62 = .ok (.getfield 9, 3) := dk_180 0 9 (dk_at dksX8_laid_2 14 rfl rfl)
theorem dX8_laid_65 : decode cX8_laid 65 = .ok (.iconst 2, 1) := dk_5 (dk_at dksX8_laid_2 17 rfl rfl)
theorem dX8_laid_66 : decode cX8_laid 66 = .ok (.iload_n 2, 1) := dk_28 (dk_at dksX8_laid_2 18 rfl rfl)
theorem dX8_laid_67 : decode cX8_laid 67 = .ok (.imul, 1) := dk_104 (dk_at dksX8_laid_2 19 rfl rfl)
theorem dX8_laid_68 : decode cX8_laid 68 = .ok (.iconst 3, 1) := dk_6 (dk_at dksX8_laid_2 20 rfl rfl)
theorem dX8_laid_69 : decode cX8_laid 69 = .ok (.iadd, 1) := dk_96 (dk_at dksX8_laid_2 21 rfl rfl)
theorem dX8_laid_70 : decode cX8_laid 70 = .ok (.iaload, 1) := dk_46 (dk_at dksX8_laid_2 22 rfl rfl)
theorem dX8_laid_71 : decode cX8_laid 71 = .ok (.aload_n 0, 1) := dk_42 (dk_at dksX8_laid_2 23 rfl rfl)
theorem dX8_laid_72 : decode cX8_laid 72 = .ok (.getfield 9, 3) := dk_180 0 9 (dk_at dksX8_laid_3 0 rfl rfl)
theorem dX8_laid_75 : decode cX8_laid 75 = .ok (.iconst 2, 1) := dk_5 (dk_at dksX8_laid_3 3 rfl rfl)
theorem dX8_laid_76 : decode cX8_laid 76 = .ok (.iload_n 2, 1) := dk_28 (dk_at dksX8_laid_3 4 rfl rfl)
theorem dX8_laid_77 : decode cX8_laid 77 = .ok (.imul, 1) := dk_104 (dk_at dksX8_laid_3 5 rfl rfl)
theorem dX8_laid_78 : decode cX8_laid 78 = .ok (.iconst 1, 1) := dk_4 (dk_at dksX8_laid_3 6 rfl rfl)
theorem dX8_laid_79 : decode cX8_laid 79 = .ok (.iadd, 1) := dk_96 (dk_at dksX8_laid_3 7 rfl rfl)
theorem dX8_laid_80 : decode cX8_laid 80 = .ok (.iaload, 1) := dk_46 (dk_at dksX8_laid_3 8 rfl rfl)
theorem dX8_laid_81 : decode cX8_laid 81 = .ok (.isub, 1) := dk_100 (dk_at dksX8_laid_3 9 rfl rfl)
theorem dX8_laid_82 : decode cX8_laid 82 = .ok (.istore 4, 2) := dk_54 4 (dk_at dksX8_laid_3 10 rfl rfl)
theorem dX8_laid_84 : decode cX8_laid 84 = .ok (.aload_n 0, 1) := dk_42 (dk_at dksX8_laid_3 12 rfl rfl)
theorem dX8_laid_85 : decode cX8_laid 85 = .ok (.getfield 15, 3) := dk_180 0 15 (dk_at dksX8_laid_3 13 rfl rfl)
theorem dX8_laid_88 : decode cX8_laid 88 = .ok (.iload_n 2, 1) := dk_28 (dk_at dksX8_laid_3 16 rfl rfl)
theorem dX8_laid_89 : decode cX8_laid 89 = .ok (.iload_n 3, 1) := dk_29 (dk_at dksX8_laid_3 17 rfl rfl)
theorem dX8_laid_90 : decode cX8_laid 90 = .ok (.ifCond .ne 27, 3) := dk_154 0 27 (dk_at dksX8_laid_3 18 rfl rfl)
theorem dX8_laid_93 : decode cX8_laid 93 = .ok (.iload 4, 2) := dk_21 4 (dk_at dksX8_laid_3 21 rfl rfl)
theorem dX8_laid_95 : decode cX8_laid 95 = .ok (.ifCond .ne 22, 3) := dk_154 0 22 (dk_at dksX8_laid_4 0 rfl rfl)
theorem dX8_laid_98 : decode cX8_laid 98 = .ok (.iload_n 2, 1) := dk_28 (dk_at dksX8_laid_4 3 rfl rfl)
theorem dX8_laid_99 : decode cX8_laid 99 = .ok (.ifCond .ne 7, 3) := dk_154 0 7 (dk_at dksX8_laid_4 4 rfl rfl)
theorem dX8_laid_102 : decode cX8_laid 102 = .ok (.iconst 0, 1) := dk_3 (dk_at dksX8_laid_4 7 rfl rfl)
theorem dX8_laid_103 : decode cX8_laid 103 = .ok (.goto 20, 3) := dk_167 0 20 (dk_at dksX8_laid_4 8 rfl rfl)
theorem dX8_laid_106 : decode cX8_laid 106 = .ok (.aload_n 0, 1) := dk_42 (dk_at dksX8_laid_4 11 rfl rfl)
theorem dX8_laid_107 : decode cX8_laid 107 = .ok (.getfield 15, 3) := dk_180 0 15 (dk_at dksX8_laid_4 12 rfl rfl)
theorem dX8_laid_110 : decode cX8_laid 110 = .ok (.iload_n 2, 1) := dk_28 (dk_at dksX8_laid_4 15 rfl rfl)
theorem dX8_laid_111 : decode cX8_laid 111 = .ok (.iconst 1, 1) := dk_4 (dk_at dksX8_laid_4 16 rfl rfl)
theorem dX8_laid_112 : decode cX8_laid 112 = .ok (.isub, 1) := dk_100 (dk_at dksX8_laid_4 17 rfl rfl)
theorem dX8_laid_113 : decode cX8_laid 113 = .ok (.iaload, 1) := dk_46 (dk_at dksX8_laid_4 18 rfl rfl)
theorem dX8_laid_114 : decode cX8_laid 114 = .ok (.goto 9, 3) := dk_167 0 9 (dk_at dksX8_laid_4 19 rfl rfl)
theorem dX8_laid_117 : decode cX8_laid 117 = .ok (.iload_n 3, 1) := dk_29 (dk_at dksX8_laid_4 22 rfl rfl)
theorem dX8_laid_118 : decode cX8_laid 118 = .ok (.iload 4, 2) := dk_21 4 (dk_at dksX8_laid_5 0 rfl rfl)
theorem dX8_laid_120 : decode cX8_laid 120 = .ok (.invokestatic 62, 3) := dk_184 0 62 (dk_at dksX8_laid_5 2 rfl rfl)
theorem dX8_laid_123 : decode cX8_laid 123 = .ok (.iastore, 1) := dk_79 (dk_at dksX8_laid_5 5 rfl rfl)
theorem dX8_laid_124 : decode cX8_laid 124 = .ok (.iinc 2 1, 3) := dk_132 2 1 (dk_at dksX8_laid_5 6 rfl rfl)
theorem dX8_laid_127 : decode cX8_laid 127 = .ok (.goto (-91), 3) := dk_167 255 165 (dk_at dksX8_laid_5 9 rfl rfl)
theorem dX8_laid_130 : decode cX8_laid 130 = .ok (.iconst 0, 1) := dk_3 (dk_at dksX8_laid_5 12 rfl rfl)
theorem dX8_laid_131 : decode cX8_laid 131 = .ok (.istore_n 2, 1) := dk_61 (dk_at dksX8_laid_5 13 rfl rfl)
theorem dX8_laid_132 : decode cX8_laid 132 = .ok (.iload_n 2, 1) := dk_28 (dk_at dksX8_laid_5 14 rfl rfl)
theorem dX8_laid_133 : decode cX8_laid 133 = .ok (.iload_n 1, 1) := dk_27 (dk_at dksX8_laid_5 15 rfl rfl)
theorem dX8_laid_134 : decode cX8_laid 134 = .ok (.if_icmp .ge 30, 3) := dk_162 0 30 (dk_at dksX8_laid_5 16 rfl rfl)
theorem dX8_laid_137 : decode cX8_laid 137 = .ok (.aload_n 0, 1) := dk_42 (dk_at dksX8_laid_5 19 rfl rfl)
theorem dX8_laid_138 : decode cX8_laid 138 = .ok (.getfield 18, 3) := dk_180 0 18 (dk_at dksX8_laid_5 20 rfl rfl)
theorem dX8_laid_141 : decode cX8_laid 141 = .ok (.iload_n 2, 1) := dk_28 (dk_at dksX8_laid_5 23 rfl rfl)
theorem dX8_laid_142 : decode cX8_laid 142 = .ok (.aload_n 0, 1) := dk_42 (dk_at dksX8_laid_6 0 rfl rfl)
theorem dX8_laid_143 : decode cX8_laid 143 = .ok (.getfield 15, 3) := dk_180 0 15 (dk_at dksX8_laid_6 1 rfl rfl)
theorem dX8_laid_146 : decode cX8_laid 146 = .ok (.iload_n 1, 1) := dk_27 (dk_at dksX8_laid_6 4 rfl rfl)
theorem dX8_laid_147 : decode cX8_laid 147 = .ok (.iconst 1, 1) := dk_4 (dk_at dksX8_laid_6 5 rfl rfl)
theorem dX8_laid_148 : decode cX8_laid 148 = .ok (.isub, 1) := dk_100 (dk_at dksX8_laid_6 6 rfl rfl)
theorem dX8_laid_149 : decode cX8_laid 149 = .ok (.iload_n 2, 1) := dk_28 (dk_at dksX8_laid_6 7 rfl rfl)
theorem dX8_laid_150 : decode cX8_laid 150 = .ok (.isub, 1) := dk_100 (dk_at dksX8_laid_6 8 rfl rfl)
theorem dX8_laid_151 : decode cX8_laid 151 = .ok (.iaload, 1) := dk_46 (dk_at dksX8_laid_6 9 rfl rfl)
theorem dX8_laid_152 : decode cX8_laid 152 = .ok (.iconst 4, 1) := dk_7 (dk_at dksX8_laid_6 10 rfl rfl)
theorem dX8_laid_153 : decode cX8_laid 153 = .ok (.iadd, 1) := dk_96 (dk_at dksX8_laid_6 11 rfl rfl)
theorem dX8_laid_154 : decode cX8_laid 154 = .ok (.bipush 8, 2) := dk_16 8 (dk_at dksX8_laid_6 12 rfl rfl)
theorem dX8_laid_156 : decode cX8_laid 156 = .ok (.irem, 1) := dk_112 (dk_at dksX8_laid_6 14 rfl rfl)
theorem dX8_laid_157 : decode cX8_laid 157 = .ok (.iastore, 1) := dk_79 (dk_at dksX8_laid_6 15 rfl rfl)
theorem dX8_laid_158 : decode cX8_laid 158 = .ok (.iinc 2 1, 3) := dk_132 2 1 (dk_at dksX8_laid_6 16 rfl rfl)
theorem dX8_laid_161 : decode cX8_laid 161 = .ok (.goto (-29), 3) := dk_167 255 227 (dk_at dksX8_laid_6 19 rfl rfl)
theorem dX8_laid_164 : decode cX8_laid 164 = .ok (.aload_n 0, 1) := dk_42 (dk_at dksX8_laid_6 22 rfl rfl)
theorem dX8_laid_165 : decode cX8_laid 165 = .ok (.areturn, 1) := dk_176 (dk_at dksX8_laid_6 23 rfl rfl)
abbrev cX8_laysSample : ByteArray := prog_10_method_5_code
def yX8_laysSample : MethodName := ⟨RX8, "laysSample", "(II)V"⟩
def dkwX8_laysSample_7 : List UInt8 := [79, 132, 8, 1, 167, 255, 172, 177]
abbrev dktX8_laysSample_7 : List UInt8 := dkwX8_laysSample_7 ++ []
def dkwX8_laysSample_6 : List UInt8 := [154, 0, 7, 3, 167, 0, 19, 20, 0, 48, 21, 10, 133, 105, 21, 7, 133, 105, 21, 6, 133, 109, 136, 96]
abbrev dktX8_laysSample_6 : List UInt8 := dkwX8_laysSample_6 ++ dktX8_laysSample_7
def dkwX8_laysSample_5 : List UInt8 := [21, 9, 100, 54, 10, 42, 180, 0, 9, 5, 27, 104, 21, 8, 96, 16, 100, 21, 9, 104, 21, 6]
abbrev dktX8_laysSample_5 : List UInt8 := dkwX8_laysSample_5 ++ dktX8_laysSample_6
def dkwX8_laysSample_4 : List UInt8 := [21, 4, 104, 21, 8, 96, 46, 54, 9, 42, 180, 0, 21, 5, 21, 4, 104, 5, 96, 21, 8, 96, 46]
abbrev dktX8_laysSample_4 : List UInt8 := dkwX8_laysSample_4 ++ dktX8_laysSample_5
def dkwX8_laysSample_3 : List UInt8 := [46, 54, 6, 29, 21, 5, 100, 54, 7, 3, 54, 8, 21, 8, 5, 162, 0, 84, 42, 180, 0, 21, 5]
abbrev dktX8_laysSample_3 : List UInt8 := dkwX8_laysSample_3 ++ dktX8_laysSample_4
def dkwX8_laysSample_2 : List UInt8 := [21, 5, 42, 180, 0, 24, 21, 4, 46, 96, 54, 5, 132, 4, 1, 167, 255, 215, 42, 180, 0, 24, 21, 4]
abbrev dktX8_laysSample_2 : List UInt8 := dkwX8_laysSample_2 ++ dktX8_laysSample_3
def dkwX8_laysSample_1 : List UInt8 := [180, 0, 24, 190, 4, 100, 162, 0, 35, 21, 5, 42, 180, 0, 24, 21, 4, 46, 96, 29, 162, 0, 21]
abbrev dktX8_laysSample_1 : List UInt8 := dkwX8_laysSample_1 ++ dktX8_laysSample_2
def dkwX8_laysSample_0 : List UInt8 := [27, 133, 42, 180, 0, 31, 133, 105, 28, 133, 109, 136, 62, 3, 54, 4, 3, 54, 5, 21, 4, 42]
abbrev dktX8_laysSample_0 : List UInt8 := dkwX8_laysSample_0 ++ dktX8_laysSample_1
theorem dksX8_laysSample_0 : cX8_laysSample.data.toList.drop 0 = dktX8_laysSample_0 := by decide +kernel
theorem dksX8_laysSample_1 : cX8_laysSample.data.toList.drop 22 = dktX8_laysSample_1 := dk_seg dksX8_laysSample_0 22 rfl rfl
theorem dksX8_laysSample_2 : cX8_laysSample.data.toList.drop 45 = dktX8_laysSample_2 := dk_seg dksX8_laysSample_1 23 rfl rfl
theorem dksX8_laysSample_3 : cX8_laysSample.data.toList.drop 69 = dktX8_laysSample_3 := dk_seg dksX8_laysSample_2 24 rfl rfl
theorem dksX8_laysSample_4 : cX8_laysSample.data.toList.drop 92 = dktX8_laysSample_4 := dk_seg dksX8_laysSample_3 23 rfl rfl
theorem dksX8_laysSample_5 : cX8_laysSample.data.toList.drop 115 = dktX8_laysSample_5 := dk_seg dksX8_laysSample_4 23 rfl rfl
theorem dksX8_laysSample_6 : cX8_laysSample.data.toList.drop 137 = dktX8_laysSample_6 := dk_seg dksX8_laysSample_5 22 rfl rfl
theorem dksX8_laysSample_7 : cX8_laysSample.data.toList.drop 161 = dktX8_laysSample_7 := dk_seg dksX8_laysSample_6 24 rfl rfl
theorem dX8_laysSample_0 : decode cX8_laysSample 0 = .ok (.iload_n 1, 1) := dk_27 (dk_at dksX8_laysSample_0 0 rfl rfl)
theorem dX8_laysSample_1 : decode cX8_laysSample 1 = .ok (.i2l, 1) := dk_133 (dk_at dksX8_laysSample_0 1 rfl rfl)
theorem dX8_laysSample_2 : decode cX8_laysSample 2 = .ok (.aload_n 0, 1) := dk_42 (dk_at dksX8_laysSample_0 2 rfl rfl)
theorem dX8_laysSample_3 : decode cX8_laysSample 3 = .ok (.getfield 31, 3) := dk_180 0 31 (dk_at dksX8_laysSample_0 3 rfl rfl)
theorem dX8_laysSample_6 : decode cX8_laysSample 6 = .ok (.i2l, 1) := dk_133 (dk_at dksX8_laysSample_0 6 rfl rfl)
theorem dX8_laysSample_7 : decode cX8_laysSample 7 = .ok (.lmul, 1) := dk_105 (dk_at dksX8_laysSample_0 7 rfl rfl)
theorem dX8_laysSample_8 : decode cX8_laysSample 8 = .ok (.iload_n 2, 1) := dk_28 (dk_at dksX8_laysSample_0 8 rfl rfl)
theorem dX8_laysSample_9 : decode cX8_laysSample 9 = .ok (.i2l, 1) := dk_133 (dk_at dksX8_laysSample_0 9 rfl rfl)
theorem dX8_laysSample_10 : decode cX8_laysSample 10 = .ok (.ldiv, 1) := dk_109 (dk_at dksX8_laysSample_0 10 rfl rfl)
theorem dX8_laysSample_11 : decode cX8_laysSample 11 = .ok (.l2i, 1) := dk_136 (dk_at dksX8_laysSample_0 11 rfl rfl)
theorem dX8_laysSample_12 : decode cX8_laysSample 12 = .ok (.istore_n 3, 1) := dk_62 (dk_at dksX8_laysSample_0 12 rfl rfl)
theorem dX8_laysSample_13 : decode cX8_laysSample 13 = .ok (.iconst 0, 1) := dk_3 (dk_at dksX8_laysSample_0 13 rfl rfl)
theorem dX8_laysSample_14 : decode cX8_laysSample 14 = .ok (.istore 4, 2) := dk_54 4 (dk_at dksX8_laysSample_0 14 rfl rfl)
theorem dX8_laysSample_16 : decode cX8_laysSample 16 = .ok (.iconst 0, 1) := dk_3 (dk_at dksX8_laysSample_0 16 rfl rfl)
theorem dX8_laysSample_17 : decode cX8_laysSample 17 = .ok (.istore 5, 2) := dk_54 5 (dk_at dksX8_laysSample_0 17 rfl rfl)
theorem dX8_laysSample_19 : decode cX8_laysSample 19 = .ok (.iload 4, 2) := dk_21 4 (dk_at dksX8_laysSample_0 19 rfl rfl)
theorem dX8_laysSample_21 : decode cX8_laysSample 21 = .ok (.aload_n 0, 1) := dk_42 (dk_at dksX8_laysSample_0 21 rfl rfl)
theorem dX8_laysSample_22 : decode cX8_laysSample 22 = .ok (.getfield 24, 3) := dk_180 0 24 (dk_at dksX8_laysSample_1 0 rfl rfl)
theorem dX8_laysSample_25 : decode cX8_laysSample 25 = .ok (.arraylength, 1) := dk_190 (dk_at dksX8_laysSample_1 3 rfl rfl)
theorem dX8_laysSample_26 : decode cX8_laysSample 26 = .ok (.iconst 1, 1) := dk_4 (dk_at dksX8_laysSample_1 4 rfl rfl)
theorem dX8_laysSample_27 : decode cX8_laysSample 27 = .ok (.isub, 1) := dk_100 (dk_at dksX8_laysSample_1 5 rfl rfl)
theorem dX8_laysSample_28 : decode cX8_laysSample 28 = .ok (.if_icmp .ge 35, 3) := dk_162 0 35 (dk_at dksX8_laysSample_1 6 rfl rfl)
theorem dX8_laysSample_31 : decode cX8_laysSample 31 = .ok (.iload 5, 2) := dk_21 5 (dk_at dksX8_laysSample_1 9 rfl rfl)
theorem dX8_laysSample_33 : decode cX8_laysSample 33 = .ok (.aload_n 0, 1) := dk_42 (dk_at dksX8_laysSample_1 11 rfl rfl)
theorem dX8_laysSample_34 : decode cX8_laysSample 34 = .ok (.getfield 24, 3) := dk_180 0 24 (dk_at dksX8_laysSample_1 12 rfl rfl)
theorem dX8_laysSample_37 : decode cX8_laysSample 37 = .ok (.iload 4, 2) := dk_21 4 (dk_at dksX8_laysSample_1 15 rfl rfl)
theorem dX8_laysSample_39 : decode cX8_laysSample 39 = .ok (.iaload, 1) := dk_46 (dk_at dksX8_laysSample_1 17 rfl rfl)
theorem dX8_laysSample_40 : decode cX8_laysSample 40 = .ok (.iadd, 1) := dk_96 (dk_at dksX8_laysSample_1 18 rfl rfl)
theorem dX8_laysSample_41 : decode cX8_laysSample 41 = .ok (.iload_n 3, 1) := dk_29 (dk_at dksX8_laysSample_1 19 rfl rfl)
theorem dX8_laysSample_42 : decode cX8_laysSample 42 = .ok (.if_icmp .ge 21, 3) := dk_162 0 21 (dk_at dksX8_laysSample_1 20 rfl rfl)
theorem dX8_laysSample_45 : decode cX8_laysSample 45 = .ok (.iload 5, 2) := dk_21 5 (dk_at dksX8_laysSample_2 0 rfl rfl)
theorem dX8_laysSample_47 : decode cX8_laysSample 47 = .ok (.aload_n 0, 1) := dk_42 (dk_at dksX8_laysSample_2 2 rfl rfl)
theorem dX8_laysSample_48 : decode cX8_laysSample 48 = .ok (.getfield 24, 3) := dk_180 0 24 (dk_at dksX8_laysSample_2 3 rfl rfl)
theorem dX8_laysSample_51 : decode cX8_laysSample 51 = .ok (.iload 4, 2) := dk_21 4 (dk_at dksX8_laysSample_2 6 rfl rfl)
theorem dX8_laysSample_53 : decode cX8_laysSample 53 = .ok (.iaload, 1) := dk_46 (dk_at dksX8_laysSample_2 8 rfl rfl)
theorem dX8_laysSample_54 : decode cX8_laysSample 54 = .ok (.iadd, 1) := dk_96 (dk_at dksX8_laysSample_2 9 rfl rfl)
theorem dX8_laysSample_55 : decode cX8_laysSample 55 = .ok (.istore 5, 2) := dk_54 5 (dk_at dksX8_laysSample_2 10 rfl rfl)
theorem dX8_laysSample_57 : decode cX8_laysSample 57 = .ok (.iinc 4 1, 3) := dk_132 4 1 (dk_at dksX8_laysSample_2 12 rfl rfl)
theorem dX8_laysSample_60 : decode cX8_laysSample 60 = .ok (.goto (-41), 3) := dk_167 255 215 (dk_at dksX8_laysSample_2 15 rfl rfl)
theorem dX8_laysSample_63 : decode cX8_laysSample 63 = .ok (.aload_n 0, 1) := dk_42 (dk_at dksX8_laysSample_2 18 rfl rfl)
theorem dX8_laysSample_64 : decode cX8_laysSample 64 = .ok (.getfield 24, 3) := dk_180 0 24 (dk_at dksX8_laysSample_2 19 rfl rfl)
theorem dX8_laysSample_67 : decode cX8_laysSample 67 = .ok (.iload 4, 2) := dk_21 4 (dk_at dksX8_laysSample_2 22 rfl rfl)
theorem dX8_laysSample_69 : decode cX8_laysSample 69 = .ok (.iaload, 1) := dk_46 (dk_at dksX8_laysSample_3 0 rfl rfl)
theorem dX8_laysSample_70 : decode cX8_laysSample 70 = .ok (.istore 6, 2) := dk_54 6 (dk_at dksX8_laysSample_3 1 rfl rfl)
theorem dX8_laysSample_72 : decode cX8_laysSample 72 = .ok (.iload_n 3, 1) := dk_29 (dk_at dksX8_laysSample_3 3 rfl rfl)
theorem dX8_laysSample_73 : decode cX8_laysSample 73 = .ok (.iload 5, 2) := dk_21 5 (dk_at dksX8_laysSample_3 4 rfl rfl)
theorem dX8_laysSample_75 : decode cX8_laysSample 75 = .ok (.isub, 1) := dk_100 (dk_at dksX8_laysSample_3 6 rfl rfl)
theorem dX8_laysSample_76 : decode cX8_laysSample 76 = .ok (.istore 7, 2) := dk_54 7 (dk_at dksX8_laysSample_3 7 rfl rfl)
theorem dX8_laysSample_78 : decode cX8_laysSample 78 = .ok (.iconst 0, 1) := dk_3 (dk_at dksX8_laysSample_3 9 rfl rfl)
theorem dX8_laysSample_79 : decode cX8_laysSample 79 = .ok (.istore 8, 2) := dk_54 8 (dk_at dksX8_laysSample_3 10 rfl rfl)
theorem dX8_laysSample_81 : decode cX8_laysSample 81 = .ok (.iload 8, 2) := dk_21 8 (dk_at dksX8_laysSample_3 12 rfl rfl)
theorem dX8_laysSample_83 : decode cX8_laysSample 83 = .ok (.iconst 2, 1) := dk_5 (dk_at dksX8_laysSample_3 14 rfl rfl)
theorem dX8_laysSample_84 : decode cX8_laysSample 84 = .ok (.if_icmp .ge 84, 3) := dk_162 0 84 (dk_at dksX8_laysSample_3 15 rfl rfl)
theorem dX8_laysSample_87 : decode cX8_laysSample 87 = .ok (.aload_n 0, 1) := dk_42 (dk_at dksX8_laysSample_3 18 rfl rfl)
theorem dX8_laysSample_88 : decode cX8_laysSample 88 = .ok (.getfield 21, 3) := dk_180 0 21 (dk_at dksX8_laysSample_3 19 rfl rfl)
theorem dX8_laysSample_91 : decode cX8_laysSample 91 = .ok (.iconst 2, 1) := dk_5 (dk_at dksX8_laysSample_3 22 rfl rfl)
theorem dX8_laysSample_92 : decode cX8_laysSample 92 = .ok (.iload 4, 2) := dk_21 4 (dk_at dksX8_laysSample_4 0 rfl rfl)
theorem dX8_laysSample_94 : decode cX8_laysSample 94 = .ok (.imul, 1) := dk_104 (dk_at dksX8_laysSample_4 2 rfl rfl)
theorem dX8_laysSample_95 : decode cX8_laysSample 95 = .ok (.iload 8, 2) := dk_21 8 (dk_at dksX8_laysSample_4 3 rfl rfl)
theorem dX8_laysSample_97 : decode cX8_laysSample 97 = .ok (.iadd, 1) := dk_96 (dk_at dksX8_laysSample_4 5 rfl rfl)
theorem dX8_laysSample_98 : decode cX8_laysSample 98 = .ok (.iaload, 1) := dk_46 (dk_at dksX8_laysSample_4 6 rfl rfl)
theorem dX8_laysSample_99 : decode cX8_laysSample 99 = .ok (.istore 9, 2) := dk_54 9 (dk_at dksX8_laysSample_4 7 rfl rfl)
theorem dX8_laysSample_101 : decode cX8_laysSample 101 = .ok (.aload_n 0, 1) := dk_42 (dk_at dksX8_laysSample_4 9 rfl rfl)
theorem dX8_laysSample_102 : decode cX8_laysSample 102 = .ok (.getfield 21, 3) := dk_180 0 21 (dk_at dksX8_laysSample_4 10 rfl rfl)
theorem dX8_laysSample_105 : decode cX8_laysSample 105 = .ok (.iconst 2, 1) := dk_5 (dk_at dksX8_laysSample_4 13 rfl rfl)
theorem dX8_laysSample_106 : decode cX8_laysSample 106 = .ok (.iload 4, 2) := dk_21 4 (dk_at dksX8_laysSample_4 14 rfl rfl)
theorem dX8_laysSample_108 : decode cX8_laysSample 108 = .ok (.imul, 1) := dk_104 (dk_at dksX8_laysSample_4 16 rfl rfl)
theorem dX8_laysSample_109 : decode cX8_laysSample 109 = .ok (.iconst 2, 1) := dk_5 (dk_at dksX8_laysSample_4 17 rfl rfl)
theorem dX8_laysSample_110 : decode cX8_laysSample 110 = .ok (.iadd, 1) := dk_96 (dk_at dksX8_laysSample_4 18 rfl rfl)
theorem dX8_laysSample_111 : decode cX8_laysSample 111 = .ok (.iload 8, 2) := dk_21 8 (dk_at dksX8_laysSample_4 19 rfl rfl)
theorem dX8_laysSample_113 : decode cX8_laysSample 113 = .ok (.iadd, 1) := dk_96 (dk_at dksX8_laysSample_4 21 rfl rfl)
theorem dX8_laysSample_114 : decode cX8_laysSample 114 = .ok (.iaload, 1) := dk_46 (dk_at dksX8_laysSample_4 22 rfl rfl)
theorem dX8_laysSample_115 : decode cX8_laysSample 115 = .ok (.iload 9, 2) := dk_21 9 (dk_at dksX8_laysSample_5 0 rfl rfl)
theorem dX8_laysSample_117 : decode cX8_laysSample 117 = .ok (.isub, 1) := dk_100 (dk_at dksX8_laysSample_5 2 rfl rfl)
theorem dX8_laysSample_118 : decode cX8_laysSample 118 = .ok (.istore 10, 2) := dk_54 10 (dk_at dksX8_laysSample_5 3 rfl rfl)
theorem dX8_laysSample_120 : decode cX8_laysSample 120 = .ok (.aload_n 0, 1) := dk_42 (dk_at dksX8_laysSample_5 5 rfl rfl)
theorem dX8_laysSample_121 : decode cX8_laysSample 121 = .ok (.getfield 9, 3) := dk_180 0 9 (dk_at dksX8_laysSample_5 6 rfl rfl)
theorem dX8_laysSample_124 : decode cX8_laysSample 124 = .ok (.iconst 2, 1) := dk_5 (dk_at dksX8_laysSample_5 9 rfl rfl)
theorem dX8_laysSample_125 : decode cX8_laysSample 125 = .ok (.iload_n 1, 1) := dk_27 (dk_at dksX8_laysSample_5 10 rfl rfl)
theorem dX8_laysSample_126 : decode cX8_laysSample 126 = .ok (.imul, 1) := dk_104 (dk_at dksX8_laysSample_5 11 rfl rfl)
theorem dX8_laysSample_127 : decode cX8_laysSample 127 = .ok (.iload 8, 2) := dk_21 8 (dk_at dksX8_laysSample_5 12 rfl rfl)
theorem dX8_laysSample_129 : decode cX8_laysSample 129 = .ok (.iadd, 1) := dk_96 (dk_at dksX8_laysSample_5 14 rfl rfl)
theorem dX8_laysSample_130 : decode cX8_laysSample 130 = .ok (.bipush 100, 2) := dk_16 100 (dk_at dksX8_laysSample_5 15 rfl rfl)
theorem dX8_laysSample_132 : decode cX8_laysSample 132 = .ok (.iload 9, 2) := dk_21 9 (dk_at dksX8_laysSample_5 17 rfl rfl)
theorem dX8_laysSample_134 : decode cX8_laysSample 134 = .ok (.imul, 1) := dk_104 (dk_at dksX8_laysSample_5 19 rfl rfl)
theorem dX8_laysSample_135 : decode cX8_laysSample 135 = .ok (.iload 6, 2) := dk_21 6 (dk_at dksX8_laysSample_5 20 rfl rfl)
theorem dX8_laysSample_137 : decode cX8_laysSample 137 = .ok (.ifCond .ne 7, 3) := dk_154 0 7 (dk_at dksX8_laysSample_6 0 rfl rfl)
theorem dX8_laysSample_140 : decode cX8_laysSample 140 = .ok (.iconst 0, 1) := dk_3 (dk_at dksX8_laysSample_6 3 rfl rfl)
theorem dX8_laysSample_141 : decode cX8_laysSample 141 = .ok (.goto 19, 3) := dk_167 0 19 (dk_at dksX8_laysSample_6 4 rfl rfl)
theorem dX8_laysSample_144 : decode cX8_laysSample 144 = .ok (.ldc2_w 48, 3) := dk_20 0 48 (dk_at dksX8_laysSample_6 7 rfl rfl)
theorem dX8_laysSample_147 : decode cX8_laysSample 147 = .ok (.iload 10, 2) := dk_21 10 (dk_at dksX8_laysSample_6 10 rfl rfl)
theorem dX8_laysSample_149 : decode cX8_laysSample 149 = .ok (.i2l, 1) := dk_133 (dk_at dksX8_laysSample_6 12 rfl rfl)
theorem dX8_laysSample_150 : decode cX8_laysSample 150 = .ok (.lmul, 1) := dk_105 (dk_at dksX8_laysSample_6 13 rfl rfl)
theorem dX8_laysSample_151 : decode cX8_laysSample 151 = .ok (.iload 7, 2) := dk_21 7 (dk_at dksX8_laysSample_6 14 rfl rfl)
theorem dX8_laysSample_153 : decode cX8_laysSample 153 = .ok (.i2l, 1) := dk_133 (dk_at dksX8_laysSample_6 16 rfl rfl)
theorem dX8_laysSample_154 : decode cX8_laysSample 154 = .ok (.lmul, 1) := dk_105 (dk_at dksX8_laysSample_6 17 rfl rfl)
theorem dX8_laysSample_155 : decode cX8_laysSample 155 = .ok (.iload 6, 2) := dk_21 6 (dk_at dksX8_laysSample_6 18 rfl rfl)
theorem dX8_laysSample_157 : decode cX8_laysSample 157 = .ok (.i2l, 1) := dk_133 (dk_at dksX8_laysSample_6 20 rfl rfl)
theorem dX8_laysSample_158 : decode cX8_laysSample 158 = .ok (.ldiv, 1) := dk_109 (dk_at dksX8_laysSample_6 21 rfl rfl)
theorem dX8_laysSample_159 : decode cX8_laysSample 159 = .ok (.l2i, 1) := dk_136 (dk_at dksX8_laysSample_6 22 rfl rfl)
theorem dX8_laysSample_160 : decode cX8_laysSample 160 = .ok (.iadd, 1) := dk_96 (dk_at dksX8_laysSample_6 23 rfl rfl)
theorem dX8_laysSample_161 : decode cX8_laysSample 161 = .ok (.iastore, 1) := dk_79 (dk_at dksX8_laysSample_7 0 rfl rfl)
theorem dX8_laysSample_162 : decode cX8_laysSample 162 = .ok (.iinc 8 1, 3) := dk_132 8 1 (dk_at dksX8_laysSample_7 1 rfl rfl)
theorem dX8_laysSample_165 : decode cX8_laysSample 165 = .ok (.goto (-84), 3) := dk_167 255 172 (dk_at dksX8_laysSample_7 4 rfl rfl)
theorem dX8_laysSample_168 : decode cX8_laysSample 168 = .ok (.return_, 1) := dk_177 (dk_at dksX8_laysSample_7 7 rfl rfl)
abbrev cX8_codeOf : ByteArray := prog_10_method_6_code
def yX8_codeOf : MethodName := ⟨RX8, "codeOf", "(II)I"⟩
def dkwX8_codeOf_3 : List UInt8 := [158, 0, 8, 16, 7, 167, 0, 4, 8, 172]
abbrev dktX8_codeOf_3 : List UInt8 := dkwX8_codeOf_3 ++ []
def dkwX8_codeOf_2 : List UInt8 := [5, 167, 0, 5, 16, 6, 172, 27, 158, 0, 15, 26, 158, 0, 7, 4, 167, 0, 17, 6, 167, 0, 13, 26]
abbrev dktX8_codeOf_2 : List UInt8 := dkwX8_codeOf_2 ++ dktX8_codeOf_3
def dkwX8_codeOf_1 : List UInt8 := [158, 0, 7, 3, 167, 0, 4, 7, 172, 16, 70, 28, 104, 16, 29, 29, 104, 163, 0, 14, 27, 158, 0, 7]
abbrev dktX8_codeOf_1 : List UInt8 := dkwX8_codeOf_1 ++ dktX8_codeOf_2
def dkwX8_codeOf_0 : List UInt8 := [26, 184, 0, 50, 61, 27, 184, 0, 50, 62, 16, 70, 29, 104, 16, 29, 28, 104, 163, 0, 13, 26]
abbrev dktX8_codeOf_0 : List UInt8 := dkwX8_codeOf_0 ++ dktX8_codeOf_1
theorem dksX8_codeOf_0 : cX8_codeOf.data.toList.drop 0 = dktX8_codeOf_0 := by decide +kernel
theorem dksX8_codeOf_1 : cX8_codeOf.data.toList.drop 22 = dktX8_codeOf_1 := dk_seg dksX8_codeOf_0 22 rfl rfl
theorem dksX8_codeOf_2 : cX8_codeOf.data.toList.drop 46 = dktX8_codeOf_2 := dk_seg dksX8_codeOf_1 24 rfl rfl
theorem dksX8_codeOf_3 : cX8_codeOf.data.toList.drop 70 = dktX8_codeOf_3 := dk_seg dksX8_codeOf_2 24 rfl rfl
theorem dX8_codeOf_0 : decode cX8_codeOf 0 = .ok (.iload_n 0, 1) := dk_26 (dk_at dksX8_codeOf_0 0 rfl rfl)
theorem dX8_codeOf_1 : decode cX8_codeOf 1 = .ok (.invokestatic 50, 3) := dk_184 0 50 (dk_at dksX8_codeOf_0 1 rfl rfl)
theorem dX8_codeOf_4 : decode cX8_codeOf 4 = .ok (.istore_n 2, 1) := dk_61 (dk_at dksX8_codeOf_0 4 rfl rfl)
theorem dX8_codeOf_5 : decode cX8_codeOf 5 = .ok (.iload_n 1, 1) := dk_27 (dk_at dksX8_codeOf_0 5 rfl rfl)
theorem dX8_codeOf_6 : decode cX8_codeOf 6 = .ok (.invokestatic 50, 3) := dk_184 0 50 (dk_at dksX8_codeOf_0 6 rfl rfl)
theorem dX8_codeOf_9 : decode cX8_codeOf 9 = .ok (.istore_n 3, 1) := dk_62 (dk_at dksX8_codeOf_0 9 rfl rfl)
theorem dX8_codeOf_10 : decode cX8_codeOf 10 = .ok (.bipush 70, 2) := dk_16 70 (dk_at dksX8_codeOf_0 10 rfl rfl)
theorem dX8_codeOf_12 : decode cX8_codeOf 12 = .ok (.iload_n 3, 1) := dk_29 (dk_at dksX8_codeOf_0 12 rfl rfl)
theorem dX8_codeOf_13 : decode cX8_codeOf 13 = .ok (.imul, 1) := dk_104 (dk_at dksX8_codeOf_0 13 rfl rfl)
theorem dX8_codeOf_14 : decode cX8_codeOf 14 = .ok (.bipush 29, 2) := dk_16 29 (dk_at dksX8_codeOf_0 14 rfl rfl)
theorem dX8_codeOf_16 : decode cX8_codeOf 16 = .ok (.iload_n 2, 1) := dk_28 (dk_at dksX8_codeOf_0 16 rfl rfl)
theorem dX8_codeOf_17 : decode cX8_codeOf 17 = .ok (.imul, 1) := dk_104 (dk_at dksX8_codeOf_0 17 rfl rfl)
theorem dX8_codeOf_18 : decode cX8_codeOf 18 = .ok (.if_icmp .gt 13, 3) := dk_163 0 13 (dk_at dksX8_codeOf_0 18 rfl rfl)
theorem dX8_codeOf_21 : decode cX8_codeOf 21 = .ok (.iload_n 0, 1) := dk_26 (dk_at dksX8_codeOf_0 21 rfl rfl)
theorem dX8_codeOf_22 : decode cX8_codeOf 22 = .ok (.ifCond .le 7, 3) := dk_158 0 7 (dk_at dksX8_codeOf_1 0 rfl rfl)
theorem dX8_codeOf_25 : decode cX8_codeOf 25 = .ok (.iconst 0, 1) := dk_3 (dk_at dksX8_codeOf_1 3 rfl rfl)
theorem dX8_codeOf_26 : decode cX8_codeOf 26 = .ok (.goto 4, 3) := dk_167 0 4 (dk_at dksX8_codeOf_1 4 rfl rfl)
theorem dX8_codeOf_29 : decode cX8_codeOf 29 = .ok (.iconst 4, 1) := dk_7 (dk_at dksX8_codeOf_1 7 rfl rfl)
theorem dX8_codeOf_30 : decode cX8_codeOf 30 = .ok (.ireturn, 1) := dk_172 (dk_at dksX8_codeOf_1 8 rfl rfl)
theorem dX8_codeOf_31 : decode cX8_codeOf 31 = .ok (.bipush 70, 2) := dk_16 70 (dk_at dksX8_codeOf_1 9 rfl rfl)
theorem dX8_codeOf_33 : decode cX8_codeOf 33 = .ok (.iload_n 2, 1) := dk_28 (dk_at dksX8_codeOf_1 11 rfl rfl)
theorem dX8_codeOf_34 : decode cX8_codeOf 34 = .ok (.imul, 1) := dk_104 (dk_at dksX8_codeOf_1 12 rfl rfl)
theorem dX8_codeOf_35 : decode cX8_codeOf 35 = .ok (.bipush 29, 2) := dk_16 29 (dk_at dksX8_codeOf_1 13 rfl rfl)
theorem dX8_codeOf_37 : decode cX8_codeOf 37 = .ok (.iload_n 3, 1) := dk_29 (dk_at dksX8_codeOf_1 15 rfl rfl)
theorem dX8_codeOf_38 : decode cX8_codeOf 38 = .ok (.imul, 1) := dk_104 (dk_at dksX8_codeOf_1 16 rfl rfl)
theorem dX8_codeOf_39 : decode cX8_codeOf 39 = .ok (.if_icmp .gt 14, 3) := dk_163 0 14 (dk_at dksX8_codeOf_1 17 rfl rfl)
theorem dX8_codeOf_42 : decode cX8_codeOf 42 = .ok (.iload_n 1, 1) := dk_27 (dk_at dksX8_codeOf_1 20 rfl rfl)
theorem dX8_codeOf_43 : decode cX8_codeOf 43 = .ok (.ifCond .le 7, 3) := dk_158 0 7 (dk_at dksX8_codeOf_1 21 rfl rfl)
theorem dX8_codeOf_46 : decode cX8_codeOf 46 = .ok (.iconst 2, 1) := dk_5 (dk_at dksX8_codeOf_2 0 rfl rfl)
theorem dX8_codeOf_47 : decode cX8_codeOf 47 = .ok (.goto 5, 3) := dk_167 0 5 (dk_at dksX8_codeOf_2 1 rfl rfl)
theorem dX8_codeOf_50 : decode cX8_codeOf 50 = .ok (.bipush 6, 2) := dk_16 6 (dk_at dksX8_codeOf_2 4 rfl rfl)
theorem dX8_codeOf_52 : decode cX8_codeOf 52 = .ok (.ireturn, 1) := dk_172 (dk_at dksX8_codeOf_2 6 rfl rfl)
theorem dX8_codeOf_53 : decode cX8_codeOf 53 = .ok (.iload_n 1, 1) := dk_27 (dk_at dksX8_codeOf_2 7 rfl rfl)
theorem dX8_codeOf_54 : decode cX8_codeOf 54 = .ok (.ifCond .le 15, 3) := dk_158 0 15 (dk_at dksX8_codeOf_2 8 rfl rfl)
theorem dX8_codeOf_57 : decode cX8_codeOf 57 = .ok (.iload_n 0, 1) := dk_26 (dk_at dksX8_codeOf_2 11 rfl rfl)
theorem dX8_codeOf_58 : decode cX8_codeOf 58 = .ok (.ifCond .le 7, 3) := dk_158 0 7 (dk_at dksX8_codeOf_2 12 rfl rfl)
theorem dX8_codeOf_61 : decode cX8_codeOf 61 = .ok (.iconst 1, 1) := dk_4 (dk_at dksX8_codeOf_2 15 rfl rfl)
theorem dX8_codeOf_62 : decode cX8_codeOf 62 = .ok (.goto 17, 3) := dk_167 0 17 (dk_at dksX8_codeOf_2 16 rfl rfl)
theorem dX8_codeOf_65 : decode cX8_codeOf 65 = .ok (.iconst 3, 1) := dk_6 (dk_at dksX8_codeOf_2 19 rfl rfl)
theorem dX8_codeOf_66 : decode cX8_codeOf 66 = .ok (.goto 13, 3) := dk_167 0 13 (dk_at dksX8_codeOf_2 20 rfl rfl)
theorem dX8_codeOf_69 : decode cX8_codeOf 69 = .ok (.iload_n 0, 1) := dk_26 (dk_at dksX8_codeOf_2 23 rfl rfl)
theorem dX8_codeOf_70 : decode cX8_codeOf 70 = .ok (.ifCond .le 8, 3) := dk_158 0 8 (dk_at dksX8_codeOf_3 0 rfl rfl)
theorem dX8_codeOf_73 : decode cX8_codeOf 73 = .ok (.bipush 7, 2) := dk_16 7 (dk_at dksX8_codeOf_3 3 rfl rfl)
theorem dX8_codeOf_75 : decode cX8_codeOf 75 = .ok (.goto 4, 3) := dk_167 0 4 (dk_at dksX8_codeOf_3 5 rfl rfl)
theorem dX8_codeOf_78 : decode cX8_codeOf 78 = .ok (.iconst 5, 1) := dk_8 (dk_at dksX8_codeOf_3 8 rfl rfl)
theorem dX8_codeOf_79 : decode cX8_codeOf 79 = .ok (.ireturn, 1) := dk_172 (dk_at dksX8_codeOf_3 9 rfl rfl)
abbrev cX8_many : ByteArray := prog_10_method_4_code
def yX8_many : MethodName := ⟨RX8, "many", "()I"⟩
def dkwX8_many_0 : List UInt8 := [42, 180, 0, 21, 190, 5, 108, 172]
abbrev dktX8_many_0 : List UInt8 := dkwX8_many_0 ++ []
theorem dksX8_many_0 : cX8_many.data.toList.drop 0 = dktX8_many_0 := by decide +kernel
theorem dX8_many_0 : decode cX8_many 0 = .ok (.aload_n 0, 1) := dk_42 (dk_at dksX8_many_0 0 rfl rfl)
theorem dX8_many_1 : decode cX8_many 1 = .ok (.getfield 21, 3) := dk_180 0 21 (dk_at dksX8_many_0 1 rfl rfl)
theorem dX8_many_4 : decode cX8_many 4 = .ok (.arraylength, 1) := dk_190 (dk_at dksX8_many_0 4 rfl rfl)
theorem dX8_many_5 : decode cX8_many 5 = .ok (.iconst 2, 1) := dk_5 (dk_at dksX8_many_0 5 rfl rfl)
theorem dX8_many_6 : decode cX8_many 6 = .ok (.idiv, 1) := dk_108 (dk_at dksX8_many_0 6 rfl rfl)
theorem dX8_many_7 : decode cX8_many 7 = .ok (.ireturn, 1) := dk_172 (dk_at dksX8_many_0 7 rfl rfl)
abbrev cX8_end : ByteArray := prog_10_method_8_code
def yX8_end : MethodName := ⟨RX8, "end", "(IZ)I"⟩
def dkwX8_end_2 : List UInt8 := [184, 0, 69, 62, 132, 4, 2, 167, 255, 213, 29, 172]
abbrev dktX8_end_2 : List UInt8 := dkwX8_end_2 ++ []
def dkwX8_end_1 : List UInt8 := [29, 42, 180, 0, 21, 21, 4, 46, 184, 0, 66, 167, 0, 14, 29, 42, 180, 0, 21, 21, 4, 46]
abbrev dktX8_end_1 : List UInt8 := dkwX8_end_1 ++ dktX8_end_2
def dkwX8_end_0 : List UInt8 := [42, 180, 0, 21, 27, 46, 62, 27, 54, 4, 21, 4, 42, 180, 0, 21, 190, 162, 0, 39, 28, 153, 0, 17]
abbrev dktX8_end_0 : List UInt8 := dkwX8_end_0 ++ dktX8_end_1
theorem dksX8_end_0 : cX8_end.data.toList.drop 0 = dktX8_end_0 := by decide +kernel
theorem dksX8_end_1 : cX8_end.data.toList.drop 24 = dktX8_end_1 := dk_seg dksX8_end_0 24 rfl rfl
theorem dksX8_end_2 : cX8_end.data.toList.drop 46 = dktX8_end_2 := dk_seg dksX8_end_1 22 rfl rfl
theorem dX8_end_0 : decode cX8_end 0 = .ok (.aload_n 0, 1) := dk_42 (dk_at dksX8_end_0 0 rfl rfl)
theorem dX8_end_1 : decode cX8_end 1 = .ok (.getfield 21, 3) := dk_180 0 21 (dk_at dksX8_end_0 1 rfl rfl)
theorem dX8_end_4 : decode cX8_end 4 = .ok (.iload_n 1, 1) := dk_27 (dk_at dksX8_end_0 4 rfl rfl)
theorem dX8_end_5 : decode cX8_end 5 = .ok (.iaload, 1) := dk_46 (dk_at dksX8_end_0 5 rfl rfl)
theorem dX8_end_6 : decode cX8_end 6 = .ok (.istore_n 3, 1) := dk_62 (dk_at dksX8_end_0 6 rfl rfl)
theorem dX8_end_7 : decode cX8_end 7 = .ok (.iload_n 1, 1) := dk_27 (dk_at dksX8_end_0 7 rfl rfl)
theorem dX8_end_8 : decode cX8_end 8 = .ok (.istore 4, 2) := dk_54 4 (dk_at dksX8_end_0 8 rfl rfl)
theorem dX8_end_10 : decode cX8_end 10 = .ok (.iload 4, 2) := dk_21 4 (dk_at dksX8_end_0 10 rfl rfl)
theorem dX8_end_12 : decode cX8_end 12 = .ok (.aload_n 0, 1) := dk_42 (dk_at dksX8_end_0 12 rfl rfl)
theorem dX8_end_13 : decode cX8_end 13 = .ok (.getfield 21, 3) := dk_180 0 21 (dk_at dksX8_end_0 13 rfl rfl)
theorem dX8_end_16 : decode cX8_end 16 = .ok (.arraylength, 1) := dk_190 (dk_at dksX8_end_0 16 rfl rfl)
theorem dX8_end_17 : decode cX8_end 17 = .ok (.if_icmp .ge 39, 3) := dk_162 0 39 (dk_at dksX8_end_0 17 rfl rfl)
theorem dX8_end_20 : decode cX8_end 20 = .ok (.iload_n 2, 1) := dk_28 (dk_at dksX8_end_0 20 rfl rfl)
theorem dX8_end_21 : decode cX8_end 21 = .ok (.ifCond .eq 17, 3) := dk_153 0 17 (dk_at dksX8_end_0 21 rfl rfl)
theorem dX8_end_24 : decode cX8_end 24 = .ok (.iload_n 3, 1) := dk_29 (dk_at dksX8_end_1 0 rfl rfl)
theorem dX8_end_25 : decode cX8_end 25 = .ok (.aload_n 0, 1) := dk_42 (dk_at dksX8_end_1 1 rfl rfl)
theorem dX8_end_26 : decode cX8_end 26 = .ok (.getfield 21, 3) := dk_180 0 21 (dk_at dksX8_end_1 2 rfl rfl)
theorem dX8_end_29 : decode cX8_end 29 = .ok (.iload 4, 2) := dk_21 4 (dk_at dksX8_end_1 5 rfl rfl)
theorem dX8_end_31 : decode cX8_end 31 = .ok (.iaload, 1) := dk_46 (dk_at dksX8_end_1 7 rfl rfl)
theorem dX8_end_32 : decode cX8_end 32 = .ok (.invokestatic 66, 3) := dk_184 0 66 (dk_at dksX8_end_1 8 rfl rfl)
theorem dX8_end_35 : decode cX8_end 35 = .ok (.goto 14, 3) := dk_167 0 14 (dk_at dksX8_end_1 11 rfl rfl)
theorem dX8_end_38 : decode cX8_end 38 = .ok (.iload_n 3, 1) := dk_29 (dk_at dksX8_end_1 14 rfl rfl)
theorem dX8_end_39 : decode cX8_end 39 = .ok (.aload_n 0, 1) := dk_42 (dk_at dksX8_end_1 15 rfl rfl)
theorem dX8_end_40 : decode cX8_end 40 = .ok (.getfield 21, 3) := dk_180 0 21 (dk_at dksX8_end_1 16 rfl rfl)
theorem dX8_end_43 : decode cX8_end 43 = .ok (.iload 4, 2) := dk_21 4 (dk_at dksX8_end_1 19 rfl rfl)
theorem dX8_end_45 : decode cX8_end 45 = .ok (.iaload, 1) := dk_46 (dk_at dksX8_end_1 21 rfl rfl)
theorem dX8_end_46 : decode cX8_end 46 = .ok (.invokestatic 69, 3) := dk_184 0 69 (dk_at dksX8_end_2 0 rfl rfl)
theorem dX8_end_49 : decode cX8_end 49 = .ok (.istore_n 3, 1) := dk_62 (dk_at dksX8_end_2 3 rfl rfl)
theorem dX8_end_50 : decode cX8_end 50 = .ok (.iinc 4 2, 3) := dk_132 4 2 (dk_at dksX8_end_2 4 rfl rfl)
theorem dX8_end_53 : decode cX8_end 53 = .ok (.goto (-43), 3) := dk_167 255 213 (dk_at dksX8_end_2 7 rfl rfl)
theorem dX8_end_56 : decode cX8_end 56 = .ok (.iload_n 3, 1) := dk_29 (dk_at dksX8_end_2 10 rfl rfl)
theorem dX8_end_57 : decode cX8_end 57 = .ok (.ireturn, 1) := dk_172 (dk_at dksX8_end_2 11 rfl rfl)
abbrev cX8_turns : ByteArray := prog_10_method_9_code
def yX8_turns : MethodName := ⟨RX8, "turns", "(I)I"⟩
def dkwX8_turns_1 : List UInt8 := [42, 180, 0, 15, 29, 46, 184, 0, 76, 96, 61, 132, 3, 1, 167, 255, 228, 28, 172]
abbrev dktX8_turns_1 : List UInt8 := dkwX8_turns_1 ++ []
def dkwX8_turns_0 : List UInt8 := [42, 27, 182, 0, 72, 87, 3, 61, 4, 62, 29, 27, 162, 0, 29, 28, 42, 180, 0, 15, 29, 4, 100, 46]
abbrev dktX8_turns_0 : List UInt8 := dkwX8_turns_0 ++ dktX8_turns_1
theorem dksX8_turns_0 : cX8_turns.data.toList.drop 0 = dktX8_turns_0 := by decide +kernel
theorem dksX8_turns_1 : cX8_turns.data.toList.drop 24 = dktX8_turns_1 := dk_seg dksX8_turns_0 24 rfl rfl
theorem dX8_turns_0 : decode cX8_turns 0 = .ok (.aload_n 0, 1) := dk_42 (dk_at dksX8_turns_0 0 rfl rfl)
theorem dX8_turns_1 : decode cX8_turns 1 = .ok (.iload_n 1, 1) := dk_27 (dk_at dksX8_turns_0 1 rfl rfl)
theorem dX8_turns_2 : decode cX8_turns 2 = .ok (.invokevirtual 72, 3) := dk_182 0 72 (dk_at dksX8_turns_0 2 rfl rfl)
theorem dX8_turns_5 : decode cX8_turns 5 = .ok (.pop, 1) := dk_87 (dk_at dksX8_turns_0 5 rfl rfl)
theorem dX8_turns_6 : decode cX8_turns 6 = .ok (.iconst 0, 1) := dk_3 (dk_at dksX8_turns_0 6 rfl rfl)
theorem dX8_turns_7 : decode cX8_turns 7 = .ok (.istore_n 2, 1) := dk_61 (dk_at dksX8_turns_0 7 rfl rfl)
theorem dX8_turns_8 : decode cX8_turns 8 = .ok (.iconst 1, 1) := dk_4 (dk_at dksX8_turns_0 8 rfl rfl)
theorem dX8_turns_9 : decode cX8_turns 9 = .ok (.istore_n 3, 1) := dk_62 (dk_at dksX8_turns_0 9 rfl rfl)
theorem dX8_turns_10 : decode cX8_turns 10 = .ok (.iload_n 3, 1) := dk_29 (dk_at dksX8_turns_0 10 rfl rfl)
theorem dX8_turns_11 : decode cX8_turns 11 = .ok (.iload_n 1, 1) := dk_27 (dk_at dksX8_turns_0 11 rfl rfl)
theorem dX8_turns_12 : decode cX8_turns 12 = .ok (.if_icmp .ge 29, 3) := dk_162 0 29 (dk_at dksX8_turns_0 12 rfl rfl)
theorem dX8_turns_15 : decode cX8_turns 15 = .ok (.iload_n 2, 1) := dk_28 (dk_at dksX8_turns_0 15 rfl rfl)
theorem dX8_turns_16 : decode cX8_turns 16 = .ok (.aload_n 0, 1) := dk_42 (dk_at dksX8_turns_0 16 rfl rfl)
theorem dX8_turns_17 : decode cX8_turns 17 = .ok (.getfield 15, 3) := dk_180 0 15 (dk_at dksX8_turns_0 17 rfl rfl)
theorem dX8_turns_20 : decode cX8_turns 20 = .ok (.iload_n 3, 1) := dk_29 (dk_at dksX8_turns_0 20 rfl rfl)
theorem dX8_turns_21 : decode cX8_turns 21 = .ok (.iconst 1, 1) := dk_4 (dk_at dksX8_turns_0 21 rfl rfl)
theorem dX8_turns_22 : decode cX8_turns 22 = .ok (.isub, 1) := dk_100 (dk_at dksX8_turns_0 22 rfl rfl)
theorem dX8_turns_23 : decode cX8_turns 23 = .ok (.iaload, 1) := dk_46 (dk_at dksX8_turns_0 23 rfl rfl)
theorem dX8_turns_24 : decode cX8_turns 24 = .ok (.aload_n 0, 1) := dk_42 (dk_at dksX8_turns_1 0 rfl rfl)
theorem dX8_turns_25 : decode cX8_turns 25 = .ok (.getfield 15, 3) := dk_180 0 15 (dk_at dksX8_turns_1 1 rfl rfl)
theorem dX8_turns_28 : decode cX8_turns 28 = .ok (.iload_n 3, 1) := dk_29 (dk_at dksX8_turns_1 4 rfl rfl)
theorem dX8_turns_29 : decode cX8_turns 29 = .ok (.iaload, 1) := dk_46 (dk_at dksX8_turns_1 5 rfl rfl)
theorem dX8_turns_30 : decode cX8_turns 30 = .ok (.invokestatic 76, 3) := dk_184 0 76 (dk_at dksX8_turns_1 6 rfl rfl)
theorem dX8_turns_33 : decode cX8_turns 33 = .ok (.iadd, 1) := dk_96 (dk_at dksX8_turns_1 9 rfl rfl)
theorem dX8_turns_34 : decode cX8_turns 34 = .ok (.istore_n 2, 1) := dk_61 (dk_at dksX8_turns_1 10 rfl rfl)
theorem dX8_turns_35 : decode cX8_turns 35 = .ok (.iinc 3 1, 3) := dk_132 3 1 (dk_at dksX8_turns_1 11 rfl rfl)
theorem dX8_turns_38 : decode cX8_turns 38 = .ok (.goto (-28), 3) := dk_167 255 228 (dk_at dksX8_turns_1 14 rfl rfl)
theorem dX8_turns_41 : decode cX8_turns 41 = .ok (.iload_n 2, 1) := dk_28 (dk_at dksX8_turns_1 17 rfl rfl)
theorem dX8_turns_42 : decode cX8_turns 42 = .ok (.ireturn, 1) := dk_172 (dk_at dksX8_turns_1 18 rfl rfl)
theorem q144 : (Jvm.Cond.initialized "LetterPen$Stroke") ∈ lw_all := lw_g (lw_at lw_m1 22 rfl) rfl
theorem q698 : (Jvm.Cond.selects "LetterPen$Stroke" ({ cls := "java/lang/Object", name := "equals", desc := "(Ljava/lang/Object;)Z" } : Jvm.MethodName) ({ cls := "java/lang/Object", name := "equals", desc := "(Ljava/lang/Object;)Z" } : Jvm.MethodName)) ∈ lw_all := lw_g (lw_at lw_m3 96 rfl) rfl
theorem q742 : (Jvm.Cond.selects "LetterPen$Stroke" ({ cls := "java/lang/Object", name := "getClass", desc := "()Ljava/lang/Class;" } : Jvm.MethodName) ({ cls := "java/lang/Object", name := "getClass", desc := "()Ljava/lang/Class;" } : Jvm.MethodName)) ∈ lw_all := lw_g (lw_at lw_m3 140 rfl) rfl
theorem q786 : (Jvm.Cond.instantiable "LetterPen$Stroke" (7 : Nat)) ∈ lw_all := lw_g (lw_at lw_m3 184 rfl) rfl
theorem q788 : (Jvm.Cond.instanceMethod ({ cls := "LetterPen$Stroke", name := "<init>", desc := "([II)V" } : Jvm.MethodName)) ∈ lw_all := lw_g (lw_at lw_m3 186 rfl) rfl
theorem q789 : (Jvm.Cond.code ({ cls := "LetterPen$Stroke", name := "<init>", desc := "([II)V" } : Jvm.MethodName) prog_10_method_2_code (3 : Nat) (Option.none : Option Jvm.ClassFile.FieldType)) ∈ lw_all := lw_g (lw_at lw_m3 187 rfl) rfl
theorem q790 : (Jvm.Cond.methodLink "LetterPen$Stroke" (35 : Nat) ({ cls := "LetterPen$Stroke", name := "cut", desc := "([II)[I" } : Jvm.MethodName)) ∈ lw_all := lw_g (lw_at lw_m3 188 rfl) rfl
theorem q791 : (Jvm.Cond.static ({ cls := "LetterPen$Stroke", name := "cut", desc := "([II)[I" } : Jvm.MethodName)) ∈ lw_all := lw_g (lw_at lw_m3 189 rfl) rfl
theorem q792 : (Jvm.Cond.code ({ cls := "LetterPen$Stroke", name := "cut", desc := "([II)[I" } : Jvm.MethodName) prog_10_method_3_code (3 : Nat) (Option.some (Jvm.ClassFile.FieldType.array Jvm.ClassFile.FieldType.int))) ∈ lw_all := lw_g (lw_at lw_m3 190 rfl) rfl
theorem q793 : (Jvm.Cond.methodLink "LetterPen$Stroke" (42 : Nat) ({ cls := "java/lang/System", name := "arraycopy", desc := "(Ljava/lang/Object;ILjava/lang/Object;II)V" } : Jvm.MethodName)) ∈ lw_all := lw_g (lw_at lw_m3 191 rfl) rfl
theorem q794 : (Jvm.Cond.methodLink "LetterPen$Stroke" (39 : Nat) ({ cls := "LetterPen$Stroke", name := "<init>", desc := "([I)V" } : Jvm.MethodName)) ∈ lw_all := lw_g (lw_at lw_m3 192 rfl) rfl
theorem q795 : (Jvm.Cond.instanceMethod ({ cls := "LetterPen$Stroke", name := "<init>", desc := "([I)V" } : Jvm.MethodName)) ∈ lw_all := lw_g (lw_at lw_m3 193 rfl) rfl
theorem q796 : (Jvm.Cond.code ({ cls := "LetterPen$Stroke", name := "<init>", desc := "([I)V" } : Jvm.MethodName) prog_10_method_1_code (6 : Nat) (Option.none : Option Jvm.ClassFile.FieldType)) ∈ lw_all := lw_g (lw_at lw_m3 194 rfl) rfl
theorem q797 : (Jvm.Cond.methodLink "LetterPen$Stroke" (3 : Nat) ({ cls := "java/lang/Object", name := "<init>", desc := "()V" } : Jvm.MethodName)) ∈ lw_all := lw_g (lw_at lw_m3 195 rfl) rfl
theorem q798 : (Jvm.Cond.methodLinkNest "LetterPen$Stroke" (27 : Nat) ({ cls := "LetterPen", name := "root", desc := "(I)I" } : Jvm.MethodName) "LetterPen") ∈ lw_tbl := lw_at lw_m3 196 rfl
theorem q802 : (Jvm.Cond.fieldLink "LetterPen$Stroke" (21 : Nat) "LetterPen$Stroke" "points" "[I") ∈ lw_all := lw_g (lw_at lw_m3 200 rfl) rfl
theorem q804 : (Jvm.Cond.fieldLink "LetterPen$Stroke" (24 : Nat) "LetterPen$Stroke" "pieces" "[I") ∈ lw_all := lw_g (lw_at lw_m3 202 rfl) rfl
theorem q805 : (Jvm.Cond.fieldLink "LetterPen$Stroke" (31 : Nat) "LetterPen$Stroke" "length" "I") ∈ lw_all := lw_g (lw_at lw_m3 203 rfl) rfl
theorem q807 : (Jvm.Cond.fieldLink "LetterPen$Stroke" (55 : Nat) "LetterPen$Stroke" "laidFor" "I") ∈ lw_all := lw_g (lw_at lw_m3 205 rfl) rfl
theorem q808 : (Jvm.Cond.fieldLink "LetterPen$Stroke" (9 : Nat) "LetterPen$Stroke" "samples" "[I") ∈ lw_all := lw_g (lw_at lw_m3 206 rfl) rfl
theorem q810 : (Jvm.Cond.fieldLink "LetterPen$Stroke" (15 : Nat) "LetterPen$Stroke" "codes" "[I") ∈ lw_all := lw_g (lw_at lw_m3 208 rfl) rfl
theorem q812 : (Jvm.Cond.fieldLink "LetterPen$Stroke" (18 : Nat) "LetterPen$Stroke" "backwards" "[I") ∈ lw_all := lw_g (lw_at lw_m3 210 rfl) rfl
theorem q814 : (Jvm.Cond.laysFinal "LetterPen$Stroke" "LetterPen$Stroke" "points" "[I") ∈ lw_all := lw_g (lw_at lw_m3 212 rfl) rfl
theorem q815 : (Jvm.Cond.soleField "LetterPen$Stroke" "points") ∈ lw_all := lw_g (lw_at lw_m3 213 rfl) rfl
theorem q816 : (Jvm.Cond.laysFinal "LetterPen$Stroke" "LetterPen$Stroke" "pieces" "[I") ∈ lw_all := lw_g (lw_at lw_m3 214 rfl) rfl
theorem q817 : (Jvm.Cond.soleField "LetterPen$Stroke" "pieces") ∈ lw_all := lw_g (lw_at lw_m3 215 rfl) rfl
theorem q818 : (Jvm.Cond.laysFinal "LetterPen$Stroke" "LetterPen$Stroke" "length" "I") ∈ lw_all := lw_g (lw_at lw_m3 216 rfl) rfl
theorem q819 : (Jvm.Cond.soleField "LetterPen$Stroke" "length") ∈ lw_all := lw_g (lw_at lw_m3 217 rfl) rfl
theorem q820 : (Jvm.Cond.lays "LetterPen$Stroke" "LetterPen$Stroke" "laidFor" "I") ∈ lw_all := lw_g (lw_at lw_m3 218 rfl) rfl
theorem q821 : (Jvm.Cond.soleField "LetterPen$Stroke" "laidFor") ∈ lw_all := lw_g (lw_at lw_m3 219 rfl) rfl
theorem q822 : (Jvm.Cond.laysFinal "LetterPen$Stroke" "LetterPen$Stroke" "samples" "[I") ∈ lw_all := lw_g (lw_at lw_m3 220 rfl) rfl
theorem q823 : (Jvm.Cond.soleField "LetterPen$Stroke" "samples") ∈ lw_all := lw_g (lw_at lw_m3 221 rfl) rfl
theorem q824 : (Jvm.Cond.laysFinal "LetterPen$Stroke" "LetterPen$Stroke" "codes" "[I") ∈ lw_all := lw_g (lw_at lw_m3 222 rfl) rfl
theorem q825 : (Jvm.Cond.soleField "LetterPen$Stroke" "codes") ∈ lw_all := lw_g (lw_at lw_m3 223 rfl) rfl
theorem q826 : (Jvm.Cond.laysFinal "LetterPen$Stroke" "LetterPen$Stroke" "backwards" "[I") ∈ lw_all := lw_g (lw_at lw_m3 224 rfl) rfl
theorem q827 : (Jvm.Cond.soleField "LetterPen$Stroke" "backwards") ∈ lw_all := lw_g (lw_at lw_m3 225 rfl) rfl
theorem q828 : (Jvm.Cond.superclass "LetterPen$Stroke" "java/lang/Object") ∈ lw_all := lw_g (lw_at lw_m3 226 rfl) rfl
theorem q917 : (Jvm.Cond.instanceMethod ({ cls := "LetterPen$Stroke", name := "laid", desc := "(I)LLetterPen$Stroke;" } : Jvm.MethodName)) ∈ lw_all := lw_g (lw_at lw_m4 75 rfl) rfl
theorem q918 : (Jvm.Cond.selects "LetterPen$Stroke" ({ cls := "LetterPen$Stroke", name := "laid", desc := "(I)LLetterPen$Stroke;" } : Jvm.MethodName) ({ cls := "LetterPen$Stroke", name := "laid", desc := "(I)LLetterPen$Stroke;" } : Jvm.MethodName)) ∈ lw_all := lw_g (lw_at lw_m4 76 rfl) rfl
theorem q919 : (Jvm.Cond.code ({ cls := "LetterPen$Stroke", name := "laid", desc := "(I)LLetterPen$Stroke;" } : Jvm.MethodName) prog_10_method_7_code (5 : Nat) (Option.some (Jvm.ClassFile.FieldType.object "LetterPen$Stroke"))) ∈ lw_all := lw_g (lw_at lw_m4 77 rfl) rfl
theorem q920 : (Jvm.Cond.methodLink "LetterPen$Stroke" (58 : Nat) ({ cls := "LetterPen$Stroke", name := "laysSample", desc := "(II)V" } : Jvm.MethodName)) ∈ lw_all := lw_g (lw_at lw_m4 78 rfl) rfl
theorem q921 : (Jvm.Cond.privateMethod ({ cls := "LetterPen$Stroke", name := "laysSample", desc := "(II)V" } : Jvm.MethodName)) ∈ lw_tbl := lw_at lw_m4 79 rfl
theorem q922 : (Jvm.Cond.instanceMethod ({ cls := "LetterPen$Stroke", name := "laysSample", desc := "(II)V" } : Jvm.MethodName)) ∈ lw_all := lw_g (lw_at lw_m4 80 rfl) rfl
theorem q923 : (Jvm.Cond.code ({ cls := "LetterPen$Stroke", name := "laysSample", desc := "(II)V" } : Jvm.MethodName) prog_10_method_5_code (11 : Nat) (Option.none : Option Jvm.ClassFile.FieldType)) ∈ lw_all := lw_g (lw_at lw_m4 81 rfl) rfl
theorem q924 : (Jvm.Cond.constantLong "LetterPen$Stroke" (48 : Nat) (100 : Int64)) ∈ lw_all := lw_g (lw_at lw_m4 82 rfl) rfl
theorem q925 : (Jvm.Cond.methodLink "LetterPen$Stroke" (62 : Nat) ({ cls := "LetterPen$Stroke", name := "codeOf", desc := "(II)I" } : Jvm.MethodName)) ∈ lw_all := lw_g (lw_at lw_m4 83 rfl) rfl
theorem q926 : (Jvm.Cond.static ({ cls := "LetterPen$Stroke", name := "codeOf", desc := "(II)I" } : Jvm.MethodName)) ∈ lw_all := lw_g (lw_at lw_m4 84 rfl) rfl
theorem q927 : (Jvm.Cond.code ({ cls := "LetterPen$Stroke", name := "codeOf", desc := "(II)I" } : Jvm.MethodName) prog_10_method_6_code (4 : Nat) (Option.some Jvm.ClassFile.FieldType.int)) ∈ lw_all := lw_g (lw_at lw_m4 85 rfl) rfl
theorem q928 : (Jvm.Cond.methodLink "LetterPen$Stroke" (50 : Nat) ({ cls := "java/lang/Math", name := "abs", desc := "(I)I" } : Jvm.MethodName)) ∈ lw_all := lw_g (lw_at lw_m4 86 rfl) rfl
theorem q930 : (Jvm.Cond.instanceMethod ({ cls := "LetterPen$Stroke", name := "many", desc := "()I" } : Jvm.MethodName)) ∈ lw_all := lw_g (lw_at lw_m4 88 rfl) rfl
theorem q931 : (Jvm.Cond.selects "LetterPen$Stroke" ({ cls := "LetterPen$Stroke", name := "many", desc := "()I" } : Jvm.MethodName) ({ cls := "LetterPen$Stroke", name := "many", desc := "()I" } : Jvm.MethodName)) ∈ lw_all := lw_g (lw_at lw_m4 89 rfl) rfl
theorem q932 : (Jvm.Cond.code ({ cls := "LetterPen$Stroke", name := "many", desc := "()I" } : Jvm.MethodName) prog_10_method_4_code (1 : Nat) (Option.some Jvm.ClassFile.FieldType.int)) ∈ lw_all := lw_g (lw_at lw_m4 90 rfl) rfl
theorem q965 : (Jvm.Cond.instanceMethod ({ cls := "LetterPen$Stroke", name := "end", desc := "(IZ)I" } : Jvm.MethodName)) ∈ lw_all := lw_g (lw_at lw_m4 123 rfl) rfl
theorem q966 : (Jvm.Cond.selects "LetterPen$Stroke" ({ cls := "LetterPen$Stroke", name := "end", desc := "(IZ)I" } : Jvm.MethodName) ({ cls := "LetterPen$Stroke", name := "end", desc := "(IZ)I" } : Jvm.MethodName)) ∈ lw_all := lw_g (lw_at lw_m4 124 rfl) rfl
theorem q967 : (Jvm.Cond.code ({ cls := "LetterPen$Stroke", name := "end", desc := "(IZ)I" } : Jvm.MethodName) prog_10_method_8_code (5 : Nat) (Option.some Jvm.ClassFile.FieldType.int)) ∈ lw_all := lw_g (lw_at lw_m4 125 rfl) rfl
theorem q968 : (Jvm.Cond.methodLink "LetterPen$Stroke" (66 : Nat) ({ cls := "java/lang/Math", name := "max", desc := "(II)I" } : Jvm.MethodName)) ∈ lw_all := lw_g (lw_at lw_m4 126 rfl) rfl
theorem q969 : (Jvm.Cond.methodLink "LetterPen$Stroke" (69 : Nat) ({ cls := "java/lang/Math", name := "min", desc := "(II)I" } : Jvm.MethodName)) ∈ lw_all := lw_g (lw_at lw_m4 127 rfl) rfl
theorem q981 : (Jvm.Cond.instanceMethod ({ cls := "LetterPen$Stroke", name := "turns", desc := "(I)I" } : Jvm.MethodName)) ∈ lw_all := lw_g (lw_at lw_m4 139 rfl) rfl
theorem q982 : (Jvm.Cond.selects "LetterPen$Stroke" ({ cls := "LetterPen$Stroke", name := "turns", desc := "(I)I" } : Jvm.MethodName) ({ cls := "LetterPen$Stroke", name := "turns", desc := "(I)I" } : Jvm.MethodName)) ∈ lw_all := lw_g (lw_at lw_m4 140 rfl) rfl
theorem q983 : (Jvm.Cond.code ({ cls := "LetterPen$Stroke", name := "turns", desc := "(I)I" } : Jvm.MethodName) prog_10_method_9_code (4 : Nat) (Option.some Jvm.ClassFile.FieldType.int)) ∈ lw_all := lw_g (lw_at lw_m4 141 rfl) rfl
theorem q984 : (Jvm.Cond.methodLink "LetterPen$Stroke" (72 : Nat) ({ cls := "LetterPen$Stroke", name := "laid", desc := "(I)LLetterPen$Stroke;" } : Jvm.MethodName)) ∈ lw_all := lw_g (lw_at lw_m4 142 rfl) rfl
theorem q985 : (Jvm.Cond.methodLinkNest "LetterPen$Stroke" (76 : Nat) ({ cls := "LetterPen", name := "apart", desc := "(II)I" } : Jvm.MethodName) "LetterPen") ∈ lw_tbl := lw_at lw_m4 143 rfl
theorem q2005 : (Jvm.Cond.castable "LetterPen$Stroke" "java/lang/Object") ∈ lw_tbl := lw_at lw_m8 203 rfl
theorem in_X8 : ∀ w ∈ wsX80, w ∈ lw_all := lw_in wsX80 [814, 816, 818, 820, 822, 824, 826] (by decide +kernel) (by decide +kernel)

/-! LetterPen$Sample -/
set_option maxRecDepth 100000
def RX9 : String := "LetterPen$Sample"
def TX9 : u_T := fun k => match k with
  | 0 => ("LetterPen$Sample", "model", "I", true)
  | _ => ("LetterPen$Sample", "letter", "LLetterPen$Letter;", true)
def tyX9 : Nat → FieldType := fun k => match k with
  | 0 => .int
  | _ => .object "LetterPen$Letter"
abbrev wsX90 : List Cond := u_ws RX9 TX9 2
theorem nmX9 : ∀ a, a < 2 → ∀ b, b < 2 → a ≠ b → (TX9 a).2.1 ≠ (TX9 b).2.1 := by decide +kernel
theorem tyX9_ok : ∀ k, k < 2 → parseFieldDescriptor (TX9 k).2.2.1 = some (tyX9 k) := by decide +kernel
abbrev cX9_init : ByteArray := prog_7_method_1_code
def yX9_init : MethodName := ⟨RX9, "<init>", "(ILjava/util/ArrayList;)V"⟩
def dkwX9_init_0 : List UInt8 := [42, 183, 0, 1, 42, 27, 181, 0, 7, 42, 187, 0, 13, 89, 44, 183, 0, 15, 181, 0, 18, 177]
abbrev dktX9_init_0 : List UInt8 := dkwX9_init_0 ++ []
theorem dksX9_init_0 : cX9_init.data.toList.drop 0 = dktX9_init_0 := by decide +kernel
theorem dX9_init_0 : decode cX9_init 0 = .ok (.aload_n 0, 1) := dk_42 (dk_at dksX9_init_0 0 rfl rfl)
theorem dX9_init_1 : decode cX9_init 1 = .ok (.invokespecial 1, 3) := dk_183 0 1 (dk_at dksX9_init_0 1 rfl rfl)
theorem dX9_init_4 : decode cX9_init 4 = .ok (.aload_n 0, 1) := dk_42 (dk_at dksX9_init_0 4 rfl rfl)
theorem dX9_init_5 : decode cX9_init 5 = .ok (.iload_n 1, 1) := dk_27 (dk_at dksX9_init_0 5 rfl rfl)
theorem dX9_init_6 : decode cX9_init 6 = .ok (.putfield 7, 3) := dk_181 0 7 (dk_at dksX9_init_0 6 rfl rfl)
theorem dX9_init_9 : decode cX9_init 9 = .ok (.aload_n 0, 1) := dk_42 (dk_at dksX9_init_0 9 rfl rfl)
theorem dX9_init_10 : decode cX9_init 10 = .ok (.new 13, 3) := dk_187 0 13 (dk_at dksX9_init_0 10 rfl rfl)
theorem dX9_init_13 : decode cX9_init 13 = .ok (.dup, 1) := dk_89 (dk_at dksX9_init_0 13 rfl rfl)
theorem dX9_init_14 : decode cX9_init 14 = .ok (.aload_n 2, 1) := dk_44 (dk_at dksX9_init_0 14 rfl rfl)
theorem dX9_init_15 : decode cX9_init 15 = .ok (.invokespecial 15, 3) := dk_183 0 15 (dk_at dksX9_init_0 15 rfl rfl)
theorem dX9_init_18 : decode cX9_init 18 = .ok (.putfield 18, 3) := dk_181 0 18 (dk_at dksX9_init_0 18 rfl rfl)
theorem dX9_init_21 : decode cX9_init 21 = .ok (.return_, 1) := dk_177 (dk_at dksX9_init_0 21 rfl rfl)
theorem q147 : (Jvm.Cond.initialized "LetterPen$Sample") ∈ lw_all := lw_g (lw_at lw_m1 25 rfl) rfl
theorem q695 : (Jvm.Cond.selects "LetterPen$Sample" ({ cls := "java/lang/Object", name := "equals", desc := "(Ljava/lang/Object;)Z" } : Jvm.MethodName) ({ cls := "java/lang/Object", name := "equals", desc := "(Ljava/lang/Object;)Z" } : Jvm.MethodName)) ∈ lw_all := lw_g (lw_at lw_m3 93 rfl) rfl
theorem q739 : (Jvm.Cond.selects "LetterPen$Sample" ({ cls := "java/lang/Object", name := "getClass", desc := "()Ljava/lang/Class;" } : Jvm.MethodName) ({ cls := "java/lang/Object", name := "getClass", desc := "()Ljava/lang/Class;" } : Jvm.MethodName)) ∈ lw_all := lw_g (lw_at lw_m3 137 rfl) rfl
theorem q1168 : (Jvm.Cond.instantiable "LetterPen$Sample" (2 : Nat)) ∈ lw_all := lw_g (lw_at lw_m5 86 rfl) rfl
theorem q1170 : (Jvm.Cond.instanceMethod ({ cls := "LetterPen$Sample", name := "<init>", desc := "(ILjava/util/ArrayList;)V" } : Jvm.MethodName)) ∈ lw_all := lw_g (lw_at lw_m5 88 rfl) rfl
theorem q1171 : (Jvm.Cond.code ({ cls := "LetterPen$Sample", name := "<init>", desc := "(ILjava/util/ArrayList;)V" } : Jvm.MethodName) prog_7_method_1_code (3 : Nat) (Option.none : Option Jvm.ClassFile.FieldType)) ∈ lw_all := lw_g (lw_at lw_m5 89 rfl) rfl
theorem q1172 : (Jvm.Cond.methodLink "LetterPen$Sample" (1 : Nat) ({ cls := "java/lang/Object", name := "<init>", desc := "()V" } : Jvm.MethodName)) ∈ lw_all := lw_g (lw_at lw_m5 90 rfl) rfl
theorem q1173 : (Jvm.Cond.classLink "LetterPen$Sample" (13 : Nat) "LetterPen$Letter") ∈ lw_all := lw_g (lw_at lw_m5 91 rfl) rfl
theorem q1174 : (Jvm.Cond.methodLink "LetterPen$Sample" (15 : Nat) ({ cls := "LetterPen$Letter", name := "<init>", desc := "(Ljava/util/ArrayList;)V" } : Jvm.MethodName)) ∈ lw_all := lw_g (lw_at lw_m5 92 rfl) rfl
theorem q1197 : (Jvm.Cond.fieldLink "LetterPen$Sample" (7 : Nat) "LetterPen$Sample" "model" "I") ∈ lw_all := lw_g (lw_at lw_m5 115 rfl) rfl
theorem q1199 : (Jvm.Cond.fieldLink "LetterPen$Sample" (18 : Nat) "LetterPen$Sample" "letter" "LLetterPen$Letter;") ∈ lw_all := lw_g (lw_at lw_m5 117 rfl) rfl
theorem q1201 : (Jvm.Cond.laysFinal "LetterPen$Sample" "LetterPen$Sample" "model" "I") ∈ lw_all := lw_g (lw_at lw_m5 119 rfl) rfl
theorem q1202 : (Jvm.Cond.soleField "LetterPen$Sample" "model") ∈ lw_all := lw_g (lw_at lw_m5 120 rfl) rfl
theorem q1203 : (Jvm.Cond.laysFinal "LetterPen$Sample" "LetterPen$Sample" "letter" "LLetterPen$Letter;") ∈ lw_all := lw_g (lw_at lw_m5 121 rfl) rfl
theorem q1204 : (Jvm.Cond.soleField "LetterPen$Sample" "letter") ∈ lw_all := lw_g (lw_at lw_m5 122 rfl) rfl
theorem q1205 : (Jvm.Cond.superclass "LetterPen$Sample" "java/lang/Object") ∈ lw_all := lw_g (lw_at lw_m5 123 rfl) rfl
theorem q2006 : (Jvm.Cond.castable "LetterPen$Sample" "java/lang/Object") ∈ lw_tbl := lw_at lw_m8 204 rfl
theorem in_X9 : ∀ w ∈ wsX90, w ∈ lw_all := lw_in wsX90 [1201, 1203] (by decide +kernel) (by decide +kernel)
