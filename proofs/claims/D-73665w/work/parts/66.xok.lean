set_option maxRecDepth 100000
/-! WHAT THE COMPONENT ASKS OF THE STATE -/
def xF (E : gE) (Z : Nat → Nat) (Y : Nat → Option Nat) (U : State) : Prop := (∀ q, U.heap.size ≤ q → E.2.2 q) ∧ (va_Nw (.fieldLinkNest "LetterPen" (264 : Nat) "LetterPen$Stroke" "points" "[I" "LetterPen") U) ∧ (va_Nw (.fieldLinkNest "LetterPen" (267 : Nat) "LetterPen$Stroke" "length" "I" "LetterPen") U) ∧ (va_Nw (.fieldLinkNest "LetterPen" (269 : Nat) "LetterPen$Stroke" "samples" "[I" "LetterPen") U) ∧ (va_Nw (.fieldLinkNest "LetterPen" (271 : Nat) "LetterPen$Stroke" "codes" "[I" "LetterPen") U) ∧ (va_Nw (.fieldLinkNest "LetterPen" (296 : Nat) "LetterPen$Stroke" "backwards" "[I" "LetterPen") U) ∧ (va_Nw (.fieldLinkNest "LetterPen$State" (25 : Nat) "LetterPen" "BEGUN" "[I" "LetterPen") U) ∧ (va_Nw (.fieldLinkNest "LetterPen$Scan" (29 : Nat) "LetterPen" "tape" "[C" "LetterPen") U) ∧ (va_Nw (.fieldLinkNest "LetterPen$Scan" (148 : Nat) "LetterPen" "read" "[I" "LetterPen") U) ∧ (va_Nw (.fieldLinkNest "LetterPen$Scan" (78 : Nat) "LetterPen" "OWN" "[Ljava/lang/String;" "LetterPen") U) ∧ (va_Nw (.fieldLinkNest "LetterPen$Scan" (96 : Nat) "LetterPen" "LEAST" "[I" "LetterPen") U) ∧ (va_Nw (.fieldLinkNest "LetterPen$Scan" (99 : Nat) "LetterPen" "GREATEST" "[I" "LetterPen") U) ∧ (va_Nw (.methodLinkNest "LetterPen" (22 : Nat) ⟨"LetterPen$State", "<init>", "()V"⟩ "LetterPen") U) ∧ (va_Nw (.methodLinkNest "LetterPen" (77 : Nat) ⟨"LetterPen$Box", "<init>", "()V"⟩ "LetterPen") U) ∧ (va_Nw (.methodLinkNest "LetterPen$Scan" (17 : Nat) ⟨"LetterPen$Plan", "<init>", "()V"⟩ "LetterPen") U) ∧ (va_Nw (.methodLinkNest "LetterPen$Scan" (74 : Nat) ⟨"LetterPen", "isIn", "(JJJ)Z"⟩ "LetterPen") U) ∧ (va_Nw (.methodLinkNest "LetterPen$Scan" (118 : Nat) ⟨"LetterPen", "isOwn", "(Ljava/lang/String;)Z"⟩ "LetterPen") U) ∧ (va_Nw (.methodLinkNest "LetterPen$Plan" (9 : Nat) ⟨"LetterPen$State", "<init>", "()V"⟩ "LetterPen") U) ∧ (va_Nw (.methodLinkNest "LetterPen$Stroke" (27 : Nat) ⟨"LetterPen", "root", "(I)I"⟩ "LetterPen") U) ∧ (va_Nw (.methodLinkNest "LetterPen$Stroke" (76 : Nat) ⟨"LetterPen", "apart", "(II)I"⟩ "LetterPen") U) ∧ (va_Nw (.castable "LetterPen$State" "java/lang/Object") U) ∧ (va_Nw (.castable "LetterPen$Letter" "java/lang/Object") U) ∧ (va_Nw (.castable "LetterPen$Stroke" "java/lang/Object") U) ∧ (va_Nw (.castable "LetterPen$Sample" "java/lang/Object") U) ∧ (va_Nw (.castable "java/util/ArrayList" "java/lang/Object") U) ∧ (va_Nw (.castable "java/lang/String" "java/lang/Object") U) ∧ (va_AO "java/lang/Object" U) ∧ (va_Z "java/util/ArrayList" "DEFAULTCAPACITY_EMPTY_ELEMENTDATA" "[Ljava/lang/Object;" (.ref (Z 0)) E.2.2 U U.heap) ∧ (va_Z "LetterPen" "BEGUN" "[I" (.ref (Z 1)) E.2.2 U U.heap) ∧ (va_Z "LetterPen" "OWN" "[Ljava/lang/String;" (.ref (Z 2)) E.2.2 U U.heap) ∧ (va_Z "LetterPen" "LEAST" "[I" (.ref (Z 3)) E.2.2 U U.heap) ∧ (va_Z "LetterPen" "GREATEST" "[I" (.ref (Z 4)) E.2.2 U U.heap) ∧ (va_Z "java/lang/String" "COMPACT_STRINGS" "Z" (.int 1) E.2.2 U U.heap) ∧ (va_Z "jdk/internal/util/Preconditions" "SIOOBE_FORMATTER" "Ljava/util/function/BiFunction;" (va_rf (Y 0)) E.2.2 U U.heap) ∧ (va_Z "java/lang/Throwable" "UNASSIGNED_STACK" "[Ljava/lang/StackTraceElement;" (va_rf (Y 1)) E.2.2 U U.heap) ∧ (va_Z "java/lang/Throwable" "SUPPRESSED_SENTINEL" "Ljava/util/List;" (va_rf (Y 2)) E.2.2 U U.heap) ∧ (vk_R "LetterPen$Scan" 159 "set" (Z 30) U) ∧ (vk_R "LetterPen$Scan" 49 "" (Z 31) U) ∧ (vk_R "LetterPen$Scan" 164 "letter" (Z 32) U) ∧ (vk_R "LetterPen$Scan" 170 "ink" (Z 33) U) ∧ (vk_R "LetterPen$Scan" 174 "stroke" (Z 34) U) ∧ (vk_R "LetterPen$Letter" 20 "" (Z 35) U) ∧ (vk_R "java/lang/String" 7 "" (Z 36) U) ∧ (va_Mi "[Ljava/lang/Object;" (Z 6) U) ∧ (va_Dc U) ∧ (va_Fw "java/util/ArrayList" ⟨"java/util/Collection", "toArray", "()[Ljava/lang/Object;"⟩ ⟨"java/util/ArrayList", "toArray", "()[Ljava/lang/Object;"⟩ U)
/-- a call of the cost that the component has made: its body is called on the component -/
def xLam (l : Launch) (E : gE) (X : State → Prop) (lam x : Nat) : Prop := ∀ (Γ : gC) (y : MethodName) (cc : ByteArray) (nL : Nat) (ret : Option FieldType) (d mc ms : Nat) (post : Option Value → wM → Prop) (M : wM) (cells slots pc : Nat) (lv : List (Option Value)) (rest : List Value) (i j : Int32) (d' : Nat) (post' : Option Value → wM → Prop), gOK l Γ E X y cc nL ret d mc ms post → y.cls = "LetterPen" → Ct l E X yX0_lambda_new_0 cX0_lambda_new_0 3 (some .int) d' 0 0 [.ref x, .int i, .int j] M post' → d' + 3 ≤ d → lv.length = nL → (rest.map fun v => v.category).sum ≤ 8 → decode cc pc = .ok (.invokeinterface 289 3, 5) → (∀ (v : Option Value) (M' : wM), post' v M' → gW Γ E M' cells slots (pc + 5) lv (v.toList ++ rest)) → gW Γ E M cells slots pc lv (.int j :: .int i :: .ref lam :: rest)
def xOK (_l : Launch) (E : gE) (X : State → Prop) (Z : Nat → Nat) (Y : Nat → Option Nat) : Prop := gXK E.2.2 X ∧ (∀ U, X U → xF E Z Y U)
section XN
variable {l : Launch} {E : gE} {X : State → Prop} {Z : Nat → Nat} {Y : Nat → Option Nat}
theorem xn_new (hX : xOK l E X Z Y) : ∀ U, X U → (∀ q, U.heap.size ≤ q → E.2.2 q) := fun U hU => (hX.2 U hU).1
theorem xn_803 (hX : xOK l E X Z Y) : ∀ U, X U → (va_Nw (.fieldLinkNest "LetterPen" (264 : Nat) "LetterPen$Stroke" "points" "[I" "LetterPen") U) := fun U hU => (hX.2 U hU).2.1
theorem xn_806 (hX : xOK l E X Z Y) : ∀ U, X U → (va_Nw (.fieldLinkNest "LetterPen" (267 : Nat) "LetterPen$Stroke" "length" "I" "LetterPen") U) := fun U hU => (hX.2 U hU).2.2.1
theorem xn_809 (hX : xOK l E X Z Y) : ∀ U, X U → (va_Nw (.fieldLinkNest "LetterPen" (269 : Nat) "LetterPen$Stroke" "samples" "[I" "LetterPen") U) := fun U hU => (hX.2 U hU).2.2.2.1
theorem xn_811 (hX : xOK l E X Z Y) : ∀ U, X U → (va_Nw (.fieldLinkNest "LetterPen" (271 : Nat) "LetterPen$Stroke" "codes" "[I" "LetterPen") U) := fun U hU => (hX.2 U hU).2.2.2.2.1
theorem xn_813 (hX : xOK l E X Z Y) : ∀ U, X U → (va_Nw (.fieldLinkNest "LetterPen" (296 : Nat) "LetterPen$Stroke" "backwards" "[I" "LetterPen") U) := fun U hU => (hX.2 U hU).2.2.2.2.2.1
theorem xn_190 (hX : xOK l E X Z Y) : ∀ U, X U → (va_Nw (.fieldLinkNest "LetterPen$State" (25 : Nat) "LetterPen" "BEGUN" "[I" "LetterPen") U) := fun U hU => (hX.2 U hU).2.2.2.2.2.2.1
theorem xn_245 (hX : xOK l E X Z Y) : ∀ U, X U → (va_Nw (.fieldLinkNest "LetterPen$Scan" (29 : Nat) "LetterPen" "tape" "[C" "LetterPen") U) := fun U hU => (hX.2 U hU).2.2.2.2.2.2.2.1
theorem xn_249 (hX : xOK l E X Z Y) : ∀ U, X U → (va_Nw (.fieldLinkNest "LetterPen$Scan" (148 : Nat) "LetterPen" "read" "[I" "LetterPen") U) := fun U hU => (hX.2 U hU).2.2.2.2.2.2.2.2.1
theorem xn_637 (hX : xOK l E X Z Y) : ∀ U, X U → (va_Nw (.fieldLinkNest "LetterPen$Scan" (78 : Nat) "LetterPen" "OWN" "[Ljava/lang/String;" "LetterPen") U) := fun U hU => (hX.2 U hU).2.2.2.2.2.2.2.2.2.1
theorem xn_639 (hX : xOK l E X Z Y) : ∀ U, X U → (va_Nw (.fieldLinkNest "LetterPen$Scan" (96 : Nat) "LetterPen" "LEAST" "[I" "LetterPen") U) := fun U hU => (hX.2 U hU).2.2.2.2.2.2.2.2.2.2.1
theorem xn_641 (hX : xOK l E X Z Y) : ∀ U, X U → (va_Nw (.fieldLinkNest "LetterPen$Scan" (99 : Nat) "LetterPen" "GREATEST" "[I" "LetterPen") U) := fun U hU => (hX.2 U hU).2.2.2.2.2.2.2.2.2.2.2.1
theorem xn_158 (hX : xOK l E X Z Y) : ∀ U, X U → (va_Nw (.methodLinkNest "LetterPen" (22 : Nat) ⟨"LetterPen$State", "<init>", "()V"⟩ "LetterPen") U) := fun U hU => (hX.2 U hU).2.2.2.2.2.2.2.2.2.2.2.2.1
theorem xn_229 (hX : xOK l E X Z Y) : ∀ U, X U → (va_Nw (.methodLinkNest "LetterPen" (77 : Nat) ⟨"LetterPen$Box", "<init>", "()V"⟩ "LetterPen") U) := fun U hU => (hX.2 U hU).2.2.2.2.2.2.2.2.2.2.2.2.2.1
theorem xn_403 (hX : xOK l E X Z Y) : ∀ U, X U → (va_Nw (.methodLinkNest "LetterPen$Scan" (17 : Nat) ⟨"LetterPen$Plan", "<init>", "()V"⟩ "LetterPen") U) := fun U hU => (hX.2 U hU).2.2.2.2.2.2.2.2.2.2.2.2.2.2.1
theorem xn_655 (hX : xOK l E X Z Y) : ∀ U, X U → (va_Nw (.methodLinkNest "LetterPen$Scan" (74 : Nat) ⟨"LetterPen", "isIn", "(JJJ)Z"⟩ "LetterPen") U) := fun U hU => (hX.2 U hU).2.2.2.2.2.2.2.2.2.2.2.2.2.2.2.1
theorem xn_669 (hX : xOK l E X Z Y) : ∀ U, X U → (va_Nw (.methodLinkNest "LetterPen$Scan" (118 : Nat) ⟨"LetterPen", "isOwn", "(Ljava/lang/String;)Z"⟩ "LetterPen") U) := fun U hU => (hX.2 U hU).2.2.2.2.2.2.2.2.2.2.2.2.2.2.2.2.1
theorem xn_408 (hX : xOK l E X Z Y) : ∀ U, X U → (va_Nw (.methodLinkNest "LetterPen$Plan" (9 : Nat) ⟨"LetterPen$State", "<init>", "()V"⟩ "LetterPen") U) := fun U hU => (hX.2 U hU).2.2.2.2.2.2.2.2.2.2.2.2.2.2.2.2.2.1
theorem xn_798 (hX : xOK l E X Z Y) : ∀ U, X U → (va_Nw (.methodLinkNest "LetterPen$Stroke" (27 : Nat) ⟨"LetterPen", "root", "(I)I"⟩ "LetterPen") U) := fun U hU => (hX.2 U hU).2.2.2.2.2.2.2.2.2.2.2.2.2.2.2.2.2.2.1
theorem xn_985 (hX : xOK l E X Z Y) : ∀ U, X U → (va_Nw (.methodLinkNest "LetterPen$Stroke" (76 : Nat) ⟨"LetterPen", "apart", "(II)I"⟩ "LetterPen") U) := fun U hU => (hX.2 U hU).2.2.2.2.2.2.2.2.2.2.2.2.2.2.2.2.2.2.2.1
theorem xn_cast1 (hX : xOK l E X Z Y) : ∀ U, X U → (va_Nw (.castable "LetterPen$State" "java/lang/Object") U) := fun U hU => (hX.2 U hU).2.2.2.2.2.2.2.2.2.2.2.2.2.2.2.2.2.2.2.2.1
theorem xn_cast7 (hX : xOK l E X Z Y) : ∀ U, X U → (va_Nw (.castable "LetterPen$Letter" "java/lang/Object") U) := fun U hU => (hX.2 U hU).2.2.2.2.2.2.2.2.2.2.2.2.2.2.2.2.2.2.2.2.2.1
theorem xn_cast8 (hX : xOK l E X Z Y) : ∀ U, X U → (va_Nw (.castable "LetterPen$Stroke" "java/lang/Object") U) := fun U hU => (hX.2 U hU).2.2.2.2.2.2.2.2.2.2.2.2.2.2.2.2.2.2.2.2.2.2.1
theorem xn_cast9 (hX : xOK l E X Z Y) : ∀ U, X U → (va_Nw (.castable "LetterPen$Sample" "java/lang/Object") U) := fun U hU => (hX.2 U hU).2.2.2.2.2.2.2.2.2.2.2.2.2.2.2.2.2.2.2.2.2.2.2.1
theorem xn_cast10 (hX : xOK l E X Z Y) : ∀ U, X U → (va_Nw (.castable "java/util/ArrayList" "java/lang/Object") U) := fun U hU => (hX.2 U hU).2.2.2.2.2.2.2.2.2.2.2.2.2.2.2.2.2.2.2.2.2.2.2.2.1
theorem xn_cast11 (hX : xOK l E X Z Y) : ∀ U, X U → (va_Nw (.castable "java/lang/String" "java/lang/Object") U) := fun U hU => (hX.2 U hU).2.2.2.2.2.2.2.2.2.2.2.2.2.2.2.2.2.2.2.2.2.2.2.2.2.1
theorem xn_AO (hX : xOK l E X Z Y) : ∀ U, X U → (va_AO "java/lang/Object" U) := fun U hU => (hX.2 U hU).2.2.2.2.2.2.2.2.2.2.2.2.2.2.2.2.2.2.2.2.2.2.2.2.2.2.1
theorem xn_s_dflt (hX : xOK l E X Z Y) : ∀ U, X U → (va_Z "java/util/ArrayList" "DEFAULTCAPACITY_EMPTY_ELEMENTDATA" "[Ljava/lang/Object;" (.ref (Z 0)) E.2.2 U U.heap) := fun U hU => (hX.2 U hU).2.2.2.2.2.2.2.2.2.2.2.2.2.2.2.2.2.2.2.2.2.2.2.2.2.2.2.1
theorem xn_s_begun (hX : xOK l E X Z Y) : ∀ U, X U → (va_Z "LetterPen" "BEGUN" "[I" (.ref (Z 1)) E.2.2 U U.heap) := fun U hU => (hX.2 U hU).2.2.2.2.2.2.2.2.2.2.2.2.2.2.2.2.2.2.2.2.2.2.2.2.2.2.2.2.1
theorem xn_s_own (hX : xOK l E X Z Y) : ∀ U, X U → (va_Z "LetterPen" "OWN" "[Ljava/lang/String;" (.ref (Z 2)) E.2.2 U U.heap) := fun U hU => (hX.2 U hU).2.2.2.2.2.2.2.2.2.2.2.2.2.2.2.2.2.2.2.2.2.2.2.2.2.2.2.2.2.1
theorem xn_s_least (hX : xOK l E X Z Y) : ∀ U, X U → (va_Z "LetterPen" "LEAST" "[I" (.ref (Z 3)) E.2.2 U U.heap) := fun U hU => (hX.2 U hU).2.2.2.2.2.2.2.2.2.2.2.2.2.2.2.2.2.2.2.2.2.2.2.2.2.2.2.2.2.2.1
theorem xn_s_greatest (hX : xOK l E X Z Y) : ∀ U, X U → (va_Z "LetterPen" "GREATEST" "[I" (.ref (Z 4)) E.2.2 U U.heap) := fun U hU => (hX.2 U hU).2.2.2.2.2.2.2.2.2.2.2.2.2.2.2.2.2.2.2.2.2.2.2.2.2.2.2.2.2.2.2.1
theorem xn_s_compact (hX : xOK l E X Z Y) : ∀ U, X U → (va_Z "java/lang/String" "COMPACT_STRINGS" "Z" (.int 1) E.2.2 U U.heap) := fun U hU => (hX.2 U hU).2.2.2.2.2.2.2.2.2.2.2.2.2.2.2.2.2.2.2.2.2.2.2.2.2.2.2.2.2.2.2.2.1
theorem xn_s_fmt (hX : xOK l E X Z Y) : ∀ U, X U → (va_Z "jdk/internal/util/Preconditions" "SIOOBE_FORMATTER" "Ljava/util/function/BiFunction;" (va_rf (Y 0)) E.2.2 U U.heap) := fun U hU => (hX.2 U hU).2.2.2.2.2.2.2.2.2.2.2.2.2.2.2.2.2.2.2.2.2.2.2.2.2.2.2.2.2.2.2.2.2.1
theorem xn_s_unas (hX : xOK l E X Z Y) : ∀ U, X U → (va_Z "java/lang/Throwable" "UNASSIGNED_STACK" "[Ljava/lang/StackTraceElement;" (va_rf (Y 1)) E.2.2 U U.heap) := fun U hU => (hX.2 U hU).2.2.2.2.2.2.2.2.2.2.2.2.2.2.2.2.2.2.2.2.2.2.2.2.2.2.2.2.2.2.2.2.2.2.1
theorem xn_s_supp (hX : xOK l E X Z Y) : ∀ U, X U → (va_Z "java/lang/Throwable" "SUPPRESSED_SENTINEL" "Ljava/util/List;" (va_rf (Y 2)) E.2.2 U U.heap) := fun U hU => (hX.2 U hU).2.2.2.2.2.2.2.2.2.2.2.2.2.2.2.2.2.2.2.2.2.2.2.2.2.2.2.2.2.2.2.2.2.2.2.1
theorem xn_t_set (hX : xOK l E X Z Y) : ∀ U, X U → (vk_R "LetterPen$Scan" 159 "set" (Z 30) U) := fun U hU => (hX.2 U hU).2.2.2.2.2.2.2.2.2.2.2.2.2.2.2.2.2.2.2.2.2.2.2.2.2.2.2.2.2.2.2.2.2.2.2.2.1
theorem xn_t_nil (hX : xOK l E X Z Y) : ∀ U, X U → (vk_R "LetterPen$Scan" 49 "" (Z 31) U) := fun U hU => (hX.2 U hU).2.2.2.2.2.2.2.2.2.2.2.2.2.2.2.2.2.2.2.2.2.2.2.2.2.2.2.2.2.2.2.2.2.2.2.2.2.1
theorem xn_t_letter (hX : xOK l E X Z Y) : ∀ U, X U → (vk_R "LetterPen$Scan" 164 "letter" (Z 32) U) := fun U hU => (hX.2 U hU).2.2.2.2.2.2.2.2.2.2.2.2.2.2.2.2.2.2.2.2.2.2.2.2.2.2.2.2.2.2.2.2.2.2.2.2.2.2.1
theorem xn_t_ink (hX : xOK l E X Z Y) : ∀ U, X U → (vk_R "LetterPen$Scan" 170 "ink" (Z 33) U) := fun U hU => (hX.2 U hU).2.2.2.2.2.2.2.2.2.2.2.2.2.2.2.2.2.2.2.2.2.2.2.2.2.2.2.2.2.2.2.2.2.2.2.2.2.2.2.1
theorem xn_t_stroke (hX : xOK l E X Z Y) : ∀ U, X U → (vk_R "LetterPen$Scan" 174 "stroke" (Z 34) U) := fun U hU => (hX.2 U hU).2.2.2.2.2.2.2.2.2.2.2.2.2.2.2.2.2.2.2.2.2.2.2.2.2.2.2.2.2.2.2.2.2.2.2.2.2.2.2.2.1
theorem xn_t_nilL (hX : xOK l E X Z Y) : ∀ U, X U → (vk_R "LetterPen$Letter" 20 "" (Z 35) U) := fun U hU => (hX.2 U hU).2.2.2.2.2.2.2.2.2.2.2.2.2.2.2.2.2.2.2.2.2.2.2.2.2.2.2.2.2.2.2.2.2.2.2.2.2.2.2.2.2.1
theorem xn_t_nilS (hX : xOK l E X Z Y) : ∀ U, X U → (vk_R "java/lang/String" 7 "" (Z 36) U) := fun U hU => (hX.2 U hU).2.2.2.2.2.2.2.2.2.2.2.2.2.2.2.2.2.2.2.2.2.2.2.2.2.2.2.2.2.2.2.2.2.2.2.2.2.2.2.2.2.2.1
theorem xn_mi (hX : xOK l E X Z Y) : ∀ U, X U → (va_Mi "[Ljava/lang/Object;" (Z 6) U) := fun U hU => (hX.2 U hU).2.2.2.2.2.2.2.2.2.2.2.2.2.2.2.2.2.2.2.2.2.2.2.2.2.2.2.2.2.2.2.2.2.2.2.2.2.2.2.2.2.2.2.1
theorem xn_dc (hX : xOK l E X Z Y) : ∀ U, X U → (va_Dc U) := fun U hU => (hX.2 U hU).2.2.2.2.2.2.2.2.2.2.2.2.2.2.2.2.2.2.2.2.2.2.2.2.2.2.2.2.2.2.2.2.2.2.2.2.2.2.2.2.2.2.2.2.1
theorem xn_fw (hX : xOK l E X Z Y) : ∀ U, X U → (va_Fw "java/util/ArrayList" ⟨"java/util/Collection", "toArray", "()[Ljava/lang/Object;"⟩ ⟨"java/util/ArrayList", "toArray", "()[Ljava/lang/Object;"⟩ U) := fun U hU => (hX.2 U hU).2.2.2.2.2.2.2.2.2.2.2.2.2.2.2.2.2.2.2.2.2.2.2.2.2.2.2.2.2.2.2.2.2.2.2.2.2.2.2.2.2.2.2.2.2
end XN
theorem fs0_0 : ∀ j, j < 38 → defaultValue (tyX0 j) = vp_V (xfs 0 (fun _ => 0) (fun _ => none)) j := by
  intro j hj
  have h : ∀ i : Fin 38, defaultValue (tyX0 i.1) = vp_V (xfs 0 (fun _ => 0) (fun _ => none)) i.1 := by decide +kernel
  exact h ⟨j, hj⟩
theorem fs0_1 : ∀ j, j < 3 → defaultValue (tyX1 j) = vp_V (xfs 1 (fun _ => 0) (fun _ => none)) j := by
  intro j hj
  have h : ∀ i : Fin 3, defaultValue (tyX1 i.1) = vp_V (xfs 1 (fun _ => 0) (fun _ => none)) i.1 := by decide +kernel
  exact h ⟨j, hj⟩
theorem fs0_2 : ∀ j, j < 2 → defaultValue (tyX2 j) = vp_V (xfs 2 (fun _ => 0) (fun _ => none)) j := by
  intro j hj
  have h : ∀ i : Fin 2, defaultValue (tyX2 i.1) = vp_V (xfs 2 (fun _ => 0) (fun _ => none)) i.1 := by decide +kernel
  exact h ⟨j, hj⟩
theorem fs0_4 : ∀ j, j < 6 → defaultValue (tyX4 j) = vp_V (xfs 4 (fun _ => 0) (fun _ => none)) j := by
  intro j hj
  have h : ∀ i : Fin 6, defaultValue (tyX4 i.1) = vp_V (xfs 4 (fun _ => 0) (fun _ => none)) i.1 := by decide +kernel
  exact h ⟨j, hj⟩
theorem fs0_5 : ∀ j, j < 4 → defaultValue (tyX5 j) = vp_V (xfs 5 (fun _ => 0) (fun _ => none)) j := by
  intro j hj
  have h : ∀ i : Fin 4, defaultValue (tyX5 i.1) = vp_V (xfs 5 (fun _ => 0) (fun _ => none)) i.1 := by decide +kernel
  exact h ⟨j, hj⟩
theorem fs0_6 : ∀ j, j < 8 → defaultValue (tyX6 j) = vp_V (xfs 6 (fun _ => 0) (fun _ => none)) j := by
  intro j hj
  have h : ∀ i : Fin 8, defaultValue (tyX6 i.1) = vp_V (xfs 6 (fun _ => 0) (fun _ => none)) i.1 := by decide +kernel
  exact h ⟨j, hj⟩
theorem fs0_7 : ∀ j, j < 2 → defaultValue (tyX7 j) = vp_V (xfs 7 (fun _ => 0) (fun _ => none)) j := by
  intro j hj
  have h : ∀ i : Fin 2, defaultValue (tyX7 i.1) = vp_V (xfs 7 (fun _ => 0) (fun _ => none)) i.1 := by decide +kernel
  exact h ⟨j, hj⟩
theorem fs0_8 : ∀ j, j < 7 → defaultValue (tyX8 j) = vp_V (xfs 8 (fun _ => 0) (fun _ => none)) j := by
  intro j hj
  have h : ∀ i : Fin 7, defaultValue (tyX8 i.1) = vp_V (xfs 8 (fun _ => 0) (fun _ => none)) i.1 := by decide +kernel
  exact h ⟨j, hj⟩
theorem fs0_9 : ∀ j, j < 2 → defaultValue (tyX9 j) = vp_V (xfs 9 (fun _ => 0) (fun _ => none)) j := by
  intro j hj
  have h : ∀ i : Fin 2, defaultValue (tyX9 i.1) = vp_V (xfs 9 (fun _ => 0) (fun _ => none)) i.1 := by decide +kernel
  exact h ⟨j, hj⟩
theorem fs0_10 : ∀ j, j < 3 → defaultValue (tyJ2 j) = vp_V (xfs 10 (fun _ => 0) (fun _ => none)) j := by
  intro j hj
  have h : ∀ i : Fin 3, defaultValue (tyJ2 i.1) = vp_V (xfs 10 (fun _ => 0) (fun _ => none)) i.1 := by decide +kernel
  exact h ⟨j, hj⟩
theorem fs0_11 : ∀ j, j < 4 → defaultValue (tyJ6 j) = vp_V (xfs 11 (fun _ => 0) (fun _ => none)) j := by
  intro j hj
  have h : ∀ i : Fin 4, defaultValue (tyJ6 i.1) = vp_V (xfs 11 (fun _ => 0) (fun _ => none)) i.1 := by decide +kernel
  exact h ⟨j, hj⟩
theorem uS_s (S : xS) (q k n o : Nat) : uS S q k n o q = (k, n, o) := by simp [uS]
theorem uS_n {S : xS} {q p k n o : Nat} (h : p ≠ q) : uS S q k n o p = S p := by simp [uS, h]
theorem uN_s {α : Type} (D : Nat → Int → α) (q : Nat) (f : Int → α) : uN D q f q = f := by simp [uN]
theorem uN_n {α : Type} {D : Nat → Int → α} {q p : Nat} {f : Int → α} (h : p ≠ q) : uN D q f p = D p := by simp [uN, h]
theorem Ct.ofF {l : Launch} {E : gE} {X : State → Prop} {y : MethodName} {cc : ByteArray} {nL : Nat} {ret : Option FieldType} {d mc ms : Nat} {av : List Value} {M : wM} {post : Option Value → wM → Prop} (hXK : gXK E.2.2 X) (hy : plainFor y = true) (lv : List (Option Value)) (h0 : (lg_sl av).length ≤ nL) (h1 : lvp 0 lv = lv_args 0 av) (h2 : lv.length = nL) (body : ∀ Γ, gOK l Γ E X y cc nL ret d mc ms post → gW Γ E M 0 0 0 lv []) : Ct l E X y cc nL ret d mc ms av M post := by
  refine va_MetF (cc := cc) (maxL := nL) (ret := ret) hy rfl ?_
  intro p e s m args below meth c s₁ B hml hv
  obtain ⟨rfl, hK, hX, hP⟩ := hv
  have hts := atoms_spec (ws := ws_ y cc nL ret) B.pre
  have hts : ∀ w ∈ lw_all, w.before _ s = true := fun w h => hts w (List.mem_cons_of_mem _ h)
  have hb := body (p, l, e, rmd d mc ms, s, m, av.toArray, below, meth, c, MQ below (gQ E post) av.toArray s mc ms E.2.2) ⟨B.exec, B.bytes, B.returns, B.notSynchronized, hml, findClass_of_methodNamed B.named, hts, hK, ⟨hXK, hX⟩, rfl, fun t h => h, rfl, (name_of_methodNamed B.named B.method).1⟩
  have hl := lv_entry av h0
  rw [lg_entry_eq]
  exact hb s.heap [] _ hP va_S.rf (by rw [h1, h2]; exact hl)
theorem xC.ofF {l : Launch} {E : gE} {X : State → Prop} {y : MethodName} {cc : ByteArray} {nL : Nat} {ret : Option FieldType} {d mc ms : Nat} {av : List Value} {S : xS} {D : xD} {R : xR} {post : Option Value → xS → xD → xR → Prop} (hXK : gXK E.2.2 X) (hy : plainFor y = true) (lv : List (Option Value)) (h0 : (lg_sl av).length ≤ nL) (h1 : lvp 0 lv = lv_args 0 av) (h2 : lv.length = nL) (body : ∀ Γ, gOK l Γ E X y cc nL ret d mc ms (xP E post) → gW Γ E (xM E S D R) 0 0 0 lv []) : xC l E X y cc nL ret d mc ms av S D R post := Ct.ofF hXK hy lv h0 h1 h2 body
theorem ks_10_17 {k : Nat} (h : 10 ≤ k ∧ k ≤ 17) : k ≠ 0 ∧ kty k = 10 + 10 := by
  have h2 : ∀ i : Fin 8, kty (10 + i.1) = 10 + 10 := by decide
  have := h2 ⟨k - 10, by omega⟩
  exact ⟨by omega, by rw [← this]; congr 1; simp; omega⟩
theorem ks_20_28 {k : Nat} (h : 20 ≤ k ∧ k ≤ 28) : k ≠ 0 ∧ kty k = 5 := by
  have h2 : ∀ i : Fin 9, kty (20 + i.1) = 5 := by decide
  have := h2 ⟨k - 20, by omega⟩
  exact ⟨by omega, by rw [← this]; congr 1; simp; omega⟩
theorem ks_20_27 {k : Nat} (h : 20 ≤ k ∧ k ≤ 27) : k ≠ 0 ∧ kty k = 5 := ks_20_28 ⟨h.1, by omega⟩
theorem wk_10_17 {k : Nat} (h : 10 ≤ k ∧ k ≤ 17) : wk k = true := by
  have h2 : ∀ i : Fin 8, wk (10 + i.1) = true := by decide
  have := h2 ⟨k - 10, by omega⟩
  rw [← this]; congr 1; simp; omega
theorem wk_20_27 {k : Nat} (h : 20 ≤ k ∧ k ≤ 27) : wk k = true := by
  have h2 : ∀ i : Fin 8, wk (20 + i.1) = true := by decide
  have := h2 ⟨k - 20, by omega⟩
  rw [← this]; congr 1; simp; omega
theorem ksl {k t : Nat} (h : k ≠ 0 ∧ kty k = t) (ht : t < 4 ∨ t = 4 ∨ t = 5 ∨ t = 6 := by decide) : k ≠ 0 ∧ (kty k < 4 ∨ kty k = 4 ∨ kty k = 5 ∨ kty k = 6) := ⟨h.1, by rw [h.2]; exact ht⟩
theorem g_topl {Γ : gC} {E : gE} {M : wM} {cells slots pc : Nat} {lv : List (Option Value)} {st : List Value} {a b : Int} (h : a = b) (k : gW Γ E M cells slots pc lv (.long (lI b) :: st)) : gW Γ E M cells slots pc lv (.long (lI a) :: st) := by rw [h]; exact k
