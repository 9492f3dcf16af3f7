set_option maxRecDepth 100000
/-! java/lang/Math -/
set_option maxRecDepth 100000
def RJ0 : String := "java/lang/Math"
abbrev cJ0_max : ByteArray := prog_13_method_65_code
def yJ0_max : MethodName := ⟨RJ0, "max", "(II)I"⟩
abbrev cJ0_min : ByteArray := prog_13_method_69_code
def yJ0_min : MethodName := ⟨RJ0, "min", "(II)I"⟩
theorem q91 : (Jvm.Cond.initialized "java/lang/Math") ∈ lw_all := lw_g (lw_at lw_m1 9 rfl) rfl
theorem q295 : (Jvm.Cond.static ({ cls := "java/lang/Math", name := "max", desc := "(II)I" } : Jvm.MethodName)) ∈ lw_all := lw_g (lw_at lw_m1 213 rfl) rfl
theorem q296 : (Jvm.Cond.code ({ cls := "java/lang/Math", name := "max", desc := "(II)I" } : Jvm.MethodName) prog_13_method_65_code (2 : Nat) (Option.some Jvm.ClassFile.FieldType.int)) ∈ lw_all := lw_g (lw_at lw_m1 214 rfl) rfl
theorem q298 : (Jvm.Cond.static ({ cls := "java/lang/Math", name := "min", desc := "(II)I" } : Jvm.MethodName)) ∈ lw_all := lw_g (lw_at lw_m1 216 rfl) rfl
theorem q299 : (Jvm.Cond.code ({ cls := "java/lang/Math", name := "min", desc := "(II)I" } : Jvm.MethodName) prog_13_method_69_code (2 : Nat) (Option.some Jvm.ClassFile.FieldType.int)) ∈ lw_all := lw_g (lw_at lw_m1 217 rfl) rfl

/-! java/lang/Throwable -/
set_option maxRecDepth 100000
def RJ1 : String := "java/lang/Throwable"
def TJ1 : u_T := fun k => match k with
  | 0 => ("java/lang/Throwable", "cause", "Ljava/lang/Throwable;", false)
  | 1 => ("java/lang/Throwable", "stackTrace", "[Ljava/lang/StackTraceElement;", false)
  | 2 => ("java/lang/Throwable", "suppressedExceptions", "Ljava/util/List;", false)
  | 3 => ("java/lang/Throwable", "detailMessage", "Ljava/lang/String;", false)
  | _ => ("java/lang/Throwable", "backtrace", "Ljava/lang/Object;", false)
def tyJ1 : Nat → FieldType := fun k => match k with
  | 0 => .object "java/lang/Throwable"
  | 1 => .array (.object "java/lang/StackTraceElement")
  | 2 => .object "java/util/List"
  | 3 => .object "java/lang/String"
  | _ => .object "java/lang/Object"
abbrev wsJ10 : List Cond := u_ws RJ1 TJ1 5
theorem nmJ1 : ∀ a, a < 5 → ∀ b, b < 5 → a ≠ b → (TJ1 a).2.1 ≠ (TJ1 b).2.1 := by decide +kernel
theorem tyJ1_ok : ∀ k, k < 5 → parseFieldDescriptor (TJ1 k).2.2.1 = some (tyJ1 k) := by decide +kernel
abbrev cJ1_init : ByteArray := prog_19_method_2_code
def yJ1_init : MethodName := ⟨RJ1, "<init>", "(Ljava/lang/String;)V"⟩
abbrev cJ1_init_2 : ByteArray := prog_19_method_1_code
def yJ1_init_2 : MethodName := ⟨RJ1, "<init>", "()V"⟩
theorem q92 : (Jvm.Cond.initialized "java/lang/Throwable") ∈ lw_all := lw_g (lw_at lw_m1 10 rfl) rfl
theorem q633 : (Jvm.Cond.instanceMethod ({ cls := "java/lang/Throwable", name := "<init>", desc := "(Ljava/lang/String;)V" } : Jvm.MethodName)) ∈ lw_all := lw_g (lw_at lw_m3 71 rfl) rfl
theorem q634 : (Jvm.Cond.code ({ cls := "java/lang/Throwable", name := "<init>", desc := "(Ljava/lang/String;)V" } : Jvm.MethodName) prog_19_method_2_code (2 : Nat) (Option.none : Option Jvm.ClassFile.FieldType)) ∈ lw_all := lw_g (lw_at lw_m3 72 rfl) rfl
theorem q635 : (Jvm.Cond.methodLink "java/lang/Throwable" (1 : Nat) ({ cls := "java/lang/Object", name := "<init>", desc := "()V" } : Jvm.MethodName)) ∈ lw_all := lw_g (lw_at lw_m3 73 rfl) rfl
theorem q636 : (Jvm.Cond.fieldLink "java/lang/Throwable" (13 : Nat) "java/lang/Throwable" "UNASSIGNED_STACK" "[Ljava/lang/StackTraceElement;") ∈ lw_all := lw_g (lw_at lw_m3 74 rfl) rfl
theorem q637 : (Jvm.Cond.laysStatic "java/lang/Throwable" "UNASSIGNED_STACK" "[Ljava/lang/StackTraceElement;") ∈ lw_tbl := lw_at lw_m3 75 rfl
theorem q638 : (Jvm.Cond.fieldLink "java/lang/Throwable" (20 : Nat) "java/lang/Throwable" "SUPPRESSED_SENTINEL" "Ljava/util/List;") ∈ lw_all := lw_g (lw_at lw_m3 76 rfl) rfl
theorem q639 : (Jvm.Cond.laysStatic "java/lang/Throwable" "SUPPRESSED_SENTINEL" "Ljava/util/List;") ∈ lw_tbl := lw_at lw_m3 77 rfl
theorem q640 : (Jvm.Cond.methodLink "java/lang/Throwable" (27 : Nat) ({ cls := "java/lang/Throwable", name := "fillInStackTrace", desc := "()Ljava/lang/Throwable;" } : Jvm.MethodName)) ∈ lw_all := lw_g (lw_at lw_m3 78 rfl) rfl
theorem q641 : (Jvm.Cond.instanceMethod ({ cls := "java/lang/Throwable", name := "fillInStackTrace", desc := "()Ljava/lang/Throwable;" } : Jvm.MethodName)) ∈ lw_all := lw_g (lw_at lw_m3 79 rfl) rfl
theorem q642 : (Jvm.Cond.sameMethod "java/lang/Throwable" "java/lang/Throwable" "fillInStackTrace" "()Ljava/lang/Throwable;") ∈ lw_all := lw_g (lw_at lw_m3 80 rfl) rfl
theorem q656 : (Jvm.Cond.declares ({ cls := "java/lang/Throwable", name := "fillInStackTrace", desc := "()Ljava/lang/Throwable;" } : Jvm.MethodName)) ∈ lw_tbl := lw_at lw_m3 94 rfl
theorem q660 : (Jvm.Cond.codeSync ({ cls := "java/lang/Throwable", name := "fillInStackTrace", desc := "()Ljava/lang/Throwable;" } : Jvm.MethodName) prog_19_method_18_code (1 : Nat) (Option.some (Jvm.ClassFile.FieldType.object "java/lang/Throwable"))) ∈ lw_all := lw_g (lw_at lw_m3 98 rfl) rfl
theorem q661 : (Jvm.Cond.methodLink "java/lang/Throwable" (202 : Nat) ({ cls := "java/lang/Throwable", name := "fillInStackTrace", desc := "(I)Ljava/lang/Throwable;" } : Jvm.MethodName)) ∈ lw_all := lw_g (lw_at lw_m3 99 rfl) rfl
theorem q662 : (Jvm.Cond.privateMethod ({ cls := "java/lang/Throwable", name := "fillInStackTrace", desc := "(I)Ljava/lang/Throwable;" } : Jvm.MethodName)) ∈ lw_tbl := lw_at lw_m3 100 rfl
theorem q663 : (Jvm.Cond.instanceMethod ({ cls := "java/lang/Throwable", name := "fillInStackTrace", desc := "(I)Ljava/lang/Throwable;" } : Jvm.MethodName)) ∈ lw_all := lw_g (lw_at lw_m3 101 rfl) rfl
theorem q664 : (Jvm.Cond.instantiable "java/lang/Throwable" (6 : Nat)) ∈ lw_all := lw_g (lw_at lw_m3 102 rfl) rfl
theorem q665 : (Jvm.Cond.native ({ cls := "java/lang/Throwable", name := "fillInStackTrace", desc := "(I)Ljava/lang/Throwable;" } : Jvm.MethodName)) ∈ lw_all := lw_g (lw_at lw_m3 103 rfl) rfl
theorem q666 : (Jvm.Cond.fieldLink "java/lang/Throwable" (198 : Nat) "java/lang/Throwable" "backtrace" "Ljava/lang/Object;") ∈ lw_all := lw_g (lw_at lw_m3 104 rfl) rfl
theorem q667 : (Jvm.Cond.fieldLink "java/lang/Throwable" (31 : Nat) "java/lang/Throwable" "detailMessage" "Ljava/lang/String;") ∈ lw_all := lw_g (lw_at lw_m3 105 rfl) rfl
theorem q668 : (Jvm.Cond.fieldLink "java/lang/Throwable" (7 : Nat) "java/lang/Throwable" "cause" "Ljava/lang/Throwable;") ∈ lw_all := lw_g (lw_at lw_m3 106 rfl) rfl
theorem q669 : (Jvm.Cond.fieldLink "java/lang/Throwable" (17 : Nat) "java/lang/Throwable" "stackTrace" "[Ljava/lang/StackTraceElement;") ∈ lw_all := lw_g (lw_at lw_m3 107 rfl) rfl
theorem q670 : (Jvm.Cond.fieldLink "java/lang/Throwable" (24 : Nat) "java/lang/Throwable" "suppressedExceptions" "Ljava/util/List;") ∈ lw_all := lw_g (lw_at lw_m3 108 rfl) rfl
theorem q672 : (Jvm.Cond.soleField "java/lang/Throwable" "backtrace") ∈ lw_all := lw_g (lw_at lw_m3 110 rfl) rfl
theorem q674 : (Jvm.Cond.soleField "java/lang/Throwable" "detailMessage") ∈ lw_all := lw_g (lw_at lw_m3 112 rfl) rfl
theorem q676 : (Jvm.Cond.soleField "java/lang/Throwable" "cause") ∈ lw_all := lw_g (lw_at lw_m3 114 rfl) rfl
theorem q678 : (Jvm.Cond.soleField "java/lang/Throwable" "stackTrace") ∈ lw_all := lw_g (lw_at lw_m3 116 rfl) rfl
theorem q680 : (Jvm.Cond.soleField "java/lang/Throwable" "depth") ∈ lw_all := lw_g (lw_at lw_m3 118 rfl) rfl
theorem q682 : (Jvm.Cond.soleField "java/lang/Throwable" "suppressedExceptions") ∈ lw_all := lw_g (lw_at lw_m3 120 rfl) rfl
theorem q689 : (Jvm.Cond.declares ({ cls := "java/lang/Throwable", name := "<init>", desc := "()V" } : Jvm.MethodName)) ∈ lw_tbl := lw_at lw_m3 127 rfl
theorem q690 : (Jvm.Cond.declares ({ cls := "java/lang/Throwable", name := "<init>", desc := "(Ljava/lang/String;)V" } : Jvm.MethodName)) ∈ lw_tbl := lw_at lw_m3 128 rfl
theorem q692 : (Jvm.Cond.lays "java/lang/Throwable" "java/lang/Throwable" "cause" "Ljava/lang/Throwable;") ∈ lw_all := lw_g (lw_at lw_m3 130 rfl) rfl
theorem q693 : (Jvm.Cond.lays "java/lang/Throwable" "java/lang/Throwable" "stackTrace" "[Ljava/lang/StackTraceElement;") ∈ lw_all := lw_g (lw_at lw_m3 131 rfl) rfl
theorem q694 : (Jvm.Cond.lays "java/lang/Throwable" "java/lang/Throwable" "suppressedExceptions" "Ljava/util/List;") ∈ lw_all := lw_g (lw_at lw_m3 132 rfl) rfl
theorem q695 : (Jvm.Cond.lays "java/lang/Throwable" "java/lang/Throwable" "detailMessage" "Ljava/lang/String;") ∈ lw_all := lw_g (lw_at lw_m3 133 rfl) rfl
theorem q696 : (Jvm.Cond.lays "java/lang/Throwable" "java/lang/Throwable" "backtrace" "Ljava/lang/Object;") ∈ lw_all := lw_g (lw_at lw_m3 134 rfl) rfl
theorem q697 : (Jvm.Cond.fieldLink "java/lang/Throwable" (198 : Nat) "java/lang/Throwable" "backtrace" "Ljava/lang/Object;") ∈ lw_all := lw_g (lw_at lw_m3 135 rfl) rfl
theorem q698 : (Jvm.Cond.superclass "java/lang/Throwable" "java/lang/Object") ∈ lw_all := lw_g (lw_at lw_m3 136 rfl) rfl
theorem q699 : (Jvm.Cond.instanceMethod ({ cls := "java/lang/Throwable", name := "<init>", desc := "()V" } : Jvm.MethodName)) ∈ lw_all := lw_g (lw_at lw_m3 137 rfl) rfl
theorem q700 : (Jvm.Cond.code ({ cls := "java/lang/Throwable", name := "<init>", desc := "()V" } : Jvm.MethodName) prog_19_method_1_code (1 : Nat) (Option.none : Option Jvm.ClassFile.FieldType)) ∈ lw_all := lw_g (lw_at lw_m3 138 rfl) rfl
theorem q1269 : (Jvm.Cond.sameMethod "java/lang/Throwable" "java/lang/Throwable" "fillInStackTrace" "(I)Ljava/lang/Throwable;") ∈ lw_all := lw_g (lw_at lw_m5 227 rfl) rfl
theorem in_J1 : ∀ w ∈ wsJ10, w ∈ lw_all := lw_in wsJ10 [692, 693, 694, 695, 696] (by decide +kernel) (by decide +kernel)

/-! java/lang/Exception -/
set_option maxRecDepth 100000
def RJ2 : String := "java/lang/Exception"
abbrev cJ2_init : ByteArray := prog_11_method_2_code
def yJ2_init : MethodName := ⟨RJ2, "<init>", "(Ljava/lang/String;)V"⟩
abbrev cJ2_init_2 : ByteArray := prog_11_method_1_code
def yJ2_init_2 : MethodName := ⟨RJ2, "<init>", "()V"⟩
theorem q93 : (Jvm.Cond.initialized "java/lang/Exception") ∈ lw_all := lw_g (lw_at lw_m1 11 rfl) rfl
theorem q630 : (Jvm.Cond.instanceMethod ({ cls := "java/lang/Exception", name := "<init>", desc := "(Ljava/lang/String;)V" } : Jvm.MethodName)) ∈ lw_all := lw_g (lw_at lw_m3 68 rfl) rfl
theorem q631 : (Jvm.Cond.code ({ cls := "java/lang/Exception", name := "<init>", desc := "(Ljava/lang/String;)V" } : Jvm.MethodName) prog_11_method_2_code (2 : Nat) (Option.none : Option Jvm.ClassFile.FieldType)) ∈ lw_all := lw_g (lw_at lw_m3 69 rfl) rfl
theorem q632 : (Jvm.Cond.methodLink "java/lang/Exception" (7 : Nat) ({ cls := "java/lang/Throwable", name := "<init>", desc := "(Ljava/lang/String;)V" } : Jvm.MethodName)) ∈ lw_all := lw_g (lw_at lw_m3 70 rfl) rfl
theorem q659 : (Jvm.Cond.superclass "java/lang/Exception" "java/lang/Throwable") ∈ lw_all := lw_g (lw_at lw_m3 97 rfl) rfl
theorem q687 : (Jvm.Cond.declares ({ cls := "java/lang/Exception", name := "<init>", desc := "()V" } : Jvm.MethodName)) ∈ lw_tbl := lw_at lw_m3 125 rfl
theorem q688 : (Jvm.Cond.declares ({ cls := "java/lang/Exception", name := "<init>", desc := "(Ljava/lang/String;)V" } : Jvm.MethodName)) ∈ lw_tbl := lw_at lw_m3 126 rfl
theorem q726 : (Jvm.Cond.instanceMethod ({ cls := "java/lang/Exception", name := "<init>", desc := "()V" } : Jvm.MethodName)) ∈ lw_all := lw_g (lw_at lw_m3 164 rfl) rfl
theorem q727 : (Jvm.Cond.code ({ cls := "java/lang/Exception", name := "<init>", desc := "()V" } : Jvm.MethodName) prog_11_method_1_code (1 : Nat) (Option.none : Option Jvm.ClassFile.FieldType)) ∈ lw_all := lw_g (lw_at lw_m3 165 rfl) rfl
theorem q728 : (Jvm.Cond.methodLink "java/lang/Exception" (1 : Nat) ({ cls := "java/lang/Throwable", name := "<init>", desc := "()V" } : Jvm.MethodName)) ∈ lw_all := lw_g (lw_at lw_m3 166 rfl) rfl

/-! java/lang/RuntimeException -/
set_option maxRecDepth 100000
def RJ3 : String := "java/lang/RuntimeException"
abbrev cJ3_init : ByteArray := prog_16_method_2_code
def yJ3_init : MethodName := ⟨RJ3, "<init>", "(Ljava/lang/String;)V"⟩
abbrev cJ3_init_2 : ByteArray := prog_16_method_1_code
def yJ3_init_2 : MethodName := ⟨RJ3, "<init>", "()V"⟩
theorem q94 : (Jvm.Cond.initialized "java/lang/RuntimeException") ∈ lw_all := lw_g (lw_at lw_m1 12 rfl) rfl
theorem q627 : (Jvm.Cond.instanceMethod ({ cls := "java/lang/RuntimeException", name := "<init>", desc := "(Ljava/lang/String;)V" } : Jvm.MethodName)) ∈ lw_all := lw_g (lw_at lw_m3 65 rfl) rfl
theorem q628 : (Jvm.Cond.code ({ cls := "java/lang/RuntimeException", name := "<init>", desc := "(Ljava/lang/String;)V" } : Jvm.MethodName) prog_16_method_2_code (2 : Nat) (Option.none : Option Jvm.ClassFile.FieldType)) ∈ lw_all := lw_g (lw_at lw_m3 66 rfl) rfl
theorem q629 : (Jvm.Cond.methodLink "java/lang/RuntimeException" (7 : Nat) ({ cls := "java/lang/Exception", name := "<init>", desc := "(Ljava/lang/String;)V" } : Jvm.MethodName)) ∈ lw_all := lw_g (lw_at lw_m3 67 rfl) rfl
theorem q655 : (Jvm.Cond.sameMethod "java/lang/RuntimeException" "java/lang/Throwable" "fillInStackTrace" "()Ljava/lang/Throwable;") ∈ lw_all := lw_g (lw_at lw_m3 93 rfl) rfl
theorem q658 : (Jvm.Cond.superclass "java/lang/RuntimeException" "java/lang/Exception") ∈ lw_all := lw_g (lw_at lw_m3 96 rfl) rfl
theorem q685 : (Jvm.Cond.declares ({ cls := "java/lang/RuntimeException", name := "<init>", desc := "()V" } : Jvm.MethodName)) ∈ lw_tbl := lw_at lw_m3 123 rfl
theorem q686 : (Jvm.Cond.declares ({ cls := "java/lang/RuntimeException", name := "<init>", desc := "(Ljava/lang/String;)V" } : Jvm.MethodName)) ∈ lw_tbl := lw_at lw_m3 124 rfl
theorem q723 : (Jvm.Cond.instanceMethod ({ cls := "java/lang/RuntimeException", name := "<init>", desc := "()V" } : Jvm.MethodName)) ∈ lw_all := lw_g (lw_at lw_m3 161 rfl) rfl
theorem q724 : (Jvm.Cond.code ({ cls := "java/lang/RuntimeException", name := "<init>", desc := "()V" } : Jvm.MethodName) prog_16_method_1_code (1 : Nat) (Option.none : Option Jvm.ClassFile.FieldType)) ∈ lw_all := lw_g (lw_at lw_m3 162 rfl) rfl
theorem q725 : (Jvm.Cond.methodLink "java/lang/RuntimeException" (1 : Nat) ({ cls := "java/lang/Exception", name := "<init>", desc := "()V" } : Jvm.MethodName)) ∈ lw_all := lw_g (lw_at lw_m3 163 rfl) rfl
theorem q743 : (Jvm.Cond.castable "java/lang/RuntimeException" "java/lang/Throwable") ∈ lw_tbl := lw_at lw_m3 181 rfl

/-! java/lang/NegativeArraySizeException -/
set_option maxRecDepth 100000
def RJ4 : String := "java/lang/NegativeArraySizeException"
def TJ4 : u_T := fun k => match k with
  | 0 => ("java/lang/Throwable", "backtrace", "Ljava/lang/Object;", false)
  | 1 => ("java/lang/Throwable", "detailMessage", "Ljava/lang/String;", false)
  | 2 => ("java/lang/Throwable", "cause", "Ljava/lang/Throwable;", false)
  | 3 => ("java/lang/Throwable", "stackTrace", "[Ljava/lang/StackTraceElement;", false)
  | 4 => ("java/lang/Throwable", "depth", "I", false)
  | _ => ("java/lang/Throwable", "suppressedExceptions", "Ljava/util/List;", false)
def tyJ4 : Nat → FieldType := fun k => match k with
  | 0 => .object "java/lang/Object"
  | 1 => .object "java/lang/String"
  | 2 => .object "java/lang/Throwable"
  | 3 => .array (.object "java/lang/StackTraceElement")
  | 4 => .int
  | _ => .object "java/util/List"
abbrev wsJ40 : List Cond := u_ws RJ4 TJ4 6
theorem nmJ4 : ∀ a, a < 6 → ∀ b, b < 6 → a ≠ b → (TJ4 a).2.1 ≠ (TJ4 b).2.1 := by decide +kernel
theorem tyJ4_ok : ∀ k, k < 6 → parseFieldDescriptor (TJ4 k).2.2.1 = some (tyJ4 k) := by decide +kernel
abbrev cJ4_init : ByteArray := prog_14_method_2_code
def yJ4_init : MethodName := ⟨RJ4, "<init>", "(Ljava/lang/String;)V"⟩
theorem q95 : (Jvm.Cond.initialized "java/lang/NegativeArraySizeException") ∈ lw_all := lw_g (lw_at lw_m1 13 rfl) rfl
theorem q623 : (Jvm.Cond.instantiable "java/lang/NegativeArraySizeException" (6 : Nat)) ∈ lw_all := lw_g (lw_at lw_m3 61 rfl) rfl
theorem q624 : (Jvm.Cond.instanceMethod ({ cls := "java/lang/NegativeArraySizeException", name := "<init>", desc := "(Ljava/lang/String;)V" } : Jvm.MethodName)) ∈ lw_all := lw_g (lw_at lw_m3 62 rfl) rfl
theorem q625 : (Jvm.Cond.code ({ cls := "java/lang/NegativeArraySizeException", name := "<init>", desc := "(Ljava/lang/String;)V" } : Jvm.MethodName) prog_14_method_2_code (2 : Nat) (Option.none : Option Jvm.ClassFile.FieldType)) ∈ lw_all := lw_g (lw_at lw_m3 63 rfl) rfl
theorem q626 : (Jvm.Cond.methodLink "java/lang/NegativeArraySizeException" (7 : Nat) ({ cls := "java/lang/RuntimeException", name := "<init>", desc := "(Ljava/lang/String;)V" } : Jvm.MethodName)) ∈ lw_all := lw_g (lw_at lw_m3 64 rfl) rfl
theorem q645 : (Jvm.Cond.selects "java/lang/NegativeArraySizeException" ({ cls := "java/lang/Throwable", name := "fillInStackTrace", desc := "()Ljava/lang/Throwable;" } : Jvm.MethodName) ({ cls := "java/lang/Throwable", name := "fillInStackTrace", desc := "()Ljava/lang/Throwable;" } : Jvm.MethodName)) ∈ lw_all := lw_g (lw_at lw_m3 83 rfl) rfl
theorem q671 : (Jvm.Cond.lays "java/lang/NegativeArraySizeException" "java/lang/Throwable" "backtrace" "Ljava/lang/Object;") ∈ lw_all := lw_g (lw_at lw_m3 109 rfl) rfl
theorem q673 : (Jvm.Cond.lays "java/lang/NegativeArraySizeException" "java/lang/Throwable" "detailMessage" "Ljava/lang/String;") ∈ lw_all := lw_g (lw_at lw_m3 111 rfl) rfl
theorem q675 : (Jvm.Cond.lays "java/lang/NegativeArraySizeException" "java/lang/Throwable" "cause" "Ljava/lang/Throwable;") ∈ lw_all := lw_g (lw_at lw_m3 113 rfl) rfl
theorem q677 : (Jvm.Cond.lays "java/lang/NegativeArraySizeException" "java/lang/Throwable" "stackTrace" "[Ljava/lang/StackTraceElement;") ∈ lw_all := lw_g (lw_at lw_m3 115 rfl) rfl
theorem q679 : (Jvm.Cond.lays "java/lang/NegativeArraySizeException" "java/lang/Throwable" "depth" "I") ∈ lw_all := lw_g (lw_at lw_m3 117 rfl) rfl
theorem q681 : (Jvm.Cond.lays "java/lang/NegativeArraySizeException" "java/lang/Throwable" "suppressedExceptions" "Ljava/util/List;") ∈ lw_all := lw_g (lw_at lw_m3 119 rfl) rfl
theorem q683 : (Jvm.Cond.superclass "java/lang/NegativeArraySizeException" "java/lang/RuntimeException") ∈ lw_all := lw_g (lw_at lw_m3 121 rfl) rfl
theorem q684 : (Jvm.Cond.castable "java/lang/NegativeArraySizeException" "java/lang/NegativeArraySizeException") ∈ lw_tbl := lw_at lw_m3 122 rfl
theorem q691 : (Jvm.Cond.selects "java/lang/NegativeArraySizeException" ({ cls := "java/lang/Throwable", name := "fillInStackTrace", desc := "(I)Ljava/lang/Throwable;" } : Jvm.MethodName) ({ cls := "java/lang/Throwable", name := "fillInStackTrace", desc := "(I)Ljava/lang/Throwable;" } : Jvm.MethodName)) ∈ lw_all := lw_g (lw_at lw_m3 129 rfl) rfl
theorem in_J4 : ∀ w ∈ wsJ40, w ∈ lw_all := lw_in wsJ40 [671, 673, 675, 677, 679, 681] (by decide +kernel) (by decide +kernel)

/-! java/lang/String -/
set_option maxRecDepth 100000
def RJ5 : String := "java/lang/String"
def TJ5 : u_T := fun k => match k with
  | 0 => ("java/lang/String", "value", "[B", true)
  | _ => ("java/lang/String", "coder", "B", true)
def tyJ5 : Nat → FieldType := fun k => match k with
  | 0 => .array .byte
  | _ => .byte
abbrev wsJ50 : List Cond := u_ws RJ5 TJ5 2
theorem nmJ5 : ∀ a, a < 2 → ∀ b, b < 2 → a ≠ b → (TJ5 a).2.1 ≠ (TJ5 b).2.1 := by decide +kernel
theorem tyJ5_ok : ∀ k, k < 2 → parseFieldDescriptor (TJ5 k).2.2.1 = some (tyJ5 k) := by decide +kernel
theorem q96 : (Jvm.Cond.initialized "java/lang/String") ∈ lw_all := lw_g (lw_at lw_m1 14 rfl) rfl
theorem q701 : (Jvm.Cond.instantiable "java/lang/String" (4 : Nat)) ∈ lw_all := lw_g (lw_at lw_m3 139 rfl) rfl
theorem q703 : (Jvm.Cond.laysFinal "java/lang/String" "java/lang/String" "value" "[B") ∈ lw_all := lw_g (lw_at lw_m3 141 rfl) rfl
theorem q704 : (Jvm.Cond.soleField "java/lang/String" "value") ∈ lw_all := lw_g (lw_at lw_m3 142 rfl) rfl
theorem q705 : (Jvm.Cond.laysFinal "java/lang/String" "java/lang/String" "coder" "B") ∈ lw_all := lw_g (lw_at lw_m3 143 rfl) rfl
theorem q706 : (Jvm.Cond.soleField "java/lang/String" "coder") ∈ lw_all := lw_g (lw_at lw_m3 144 rfl) rfl
theorem in_J5 : ∀ w ∈ wsJ50, w ∈ lw_all := lw_in wsJ50 [703, 705] (by decide +kernel) (by decide +kernel)

/-! java/lang/NullPointerException -/
set_option maxRecDepth 100000
def RJ6 : String := "java/lang/NullPointerException"
def TJ6 : u_T := fun k => match k with
  | 0 => ("java/lang/Throwable", "backtrace", "Ljava/lang/Object;", false)
  | 1 => ("java/lang/Throwable", "detailMessage", "Ljava/lang/String;", false)
  | 2 => ("java/lang/Throwable", "cause", "Ljava/lang/Throwable;", false)
  | 3 => ("java/lang/Throwable", "stackTrace", "[Ljava/lang/StackTraceElement;", false)
  | 4 => ("java/lang/Throwable", "depth", "I", false)
  | 5 => ("java/lang/Throwable", "suppressedExceptions", "Ljava/util/List;", false)
  | 6 => ("java/lang/NullPointerException", "extendedMessageState", "I", false)
  | _ => ("java/lang/NullPointerException", "extendedMessage", "Ljava/lang/String;", false)
def tyJ6 : Nat → FieldType := fun k => match k with
  | 0 => .object "java/lang/Object"
  | 1 => .object "java/lang/String"
  | 2 => .object "java/lang/Throwable"
  | 3 => .array (.object "java/lang/StackTraceElement")
  | 4 => .int
  | 5 => .object "java/util/List"
  | 6 => .int
  | _ => .object "java/lang/String"
abbrev wsJ60 : List Cond := u_ws RJ6 TJ6 8
theorem nmJ6 : ∀ a, a < 8 → ∀ b, b < 8 → a ≠ b → (TJ6 a).2.1 ≠ (TJ6 b).2.1 := by decide +kernel
theorem tyJ6_ok : ∀ k, k < 8 → parseFieldDescriptor (TJ6 k).2.2.1 = some (tyJ6 k) := by decide +kernel
abbrev cJ6_init : ByteArray := prog_15_method_1_code
def yJ6_init : MethodName := ⟨RJ6, "<init>", "()V"⟩
theorem q97 : (Jvm.Cond.initialized "java/lang/NullPointerException") ∈ lw_all := lw_g (lw_at lw_m1 15 rfl) rfl
theorem q646 : (Jvm.Cond.selects "java/lang/NullPointerException" ({ cls := "java/lang/Throwable", name := "fillInStackTrace", desc := "()Ljava/lang/Throwable;" } : Jvm.MethodName) ({ cls := "java/lang/NullPointerException", name := "fillInStackTrace", desc := "()Ljava/lang/Throwable;" } : Jvm.MethodName)) ∈ lw_all := lw_g (lw_at lw_m3 84 rfl) rfl
theorem q647 : (Jvm.Cond.instanceMethod ({ cls := "java/lang/NullPointerException", name := "fillInStackTrace", desc := "()Ljava/lang/Throwable;" } : Jvm.MethodName)) ∈ lw_all := lw_g (lw_at lw_m3 85 rfl) rfl
theorem q648 : (Jvm.Cond.codeSync ({ cls := "java/lang/NullPointerException", name := "fillInStackTrace", desc := "()Ljava/lang/Throwable;" } : Jvm.MethodName) prog_15_method_3_code (1 : Nat) (Option.some (Jvm.ClassFile.FieldType.object "java/lang/Throwable"))) ∈ lw_all := lw_g (lw_at lw_m3 86 rfl) rfl
theorem q649 : (Jvm.Cond.methodLink "java/lang/NullPointerException" (16 : Nat) ({ cls := "java/lang/NullPointerException", name := "getExtendedNPEMessage", desc := "()Ljava/lang/String;" } : Jvm.MethodName)) ∈ lw_all := lw_g (lw_at lw_m3 87 rfl) rfl
theorem q650 : (Jvm.Cond.privateMethod ({ cls := "java/lang/NullPointerException", name := "getExtendedNPEMessage", desc := "()Ljava/lang/String;" } : Jvm.MethodName)) ∈ lw_tbl := lw_at lw_m3 88 rfl
theorem q651 : (Jvm.Cond.instanceMethod ({ cls := "java/lang/NullPointerException", name := "getExtendedNPEMessage", desc := "()Ljava/lang/String;" } : Jvm.MethodName)) ∈ lw_all := lw_g (lw_at lw_m3 89 rfl) rfl
theorem q652 : (Jvm.Cond.instantiable "java/lang/NullPointerException" (8 : Nat)) ∈ lw_all := lw_g (lw_at lw_m3 90 rfl) rfl
theorem q653 : (Jvm.Cond.native ({ cls := "java/lang/NullPointerException", name := "getExtendedNPEMessage", desc := "()Ljava/lang/String;" } : Jvm.MethodName)) ∈ lw_all := lw_g (lw_at lw_m3 91 rfl) rfl
theorem q654 : (Jvm.Cond.methodLink "java/lang/NullPointerException" (24 : Nat) ({ cls := "java/lang/RuntimeException", name := "fillInStackTrace", desc := "()Ljava/lang/Throwable;" } : Jvm.MethodName)) ∈ lw_all := lw_g (lw_at lw_m3 92 rfl) rfl
theorem q657 : (Jvm.Cond.superclass "java/lang/NullPointerException" "java/lang/RuntimeException") ∈ lw_all := lw_g (lw_at lw_m3 95 rfl) rfl
theorem q720 : (Jvm.Cond.instanceMethod ({ cls := "java/lang/NullPointerException", name := "<init>", desc := "()V" } : Jvm.MethodName)) ∈ lw_all := lw_g (lw_at lw_m3 158 rfl) rfl
theorem q721 : (Jvm.Cond.code ({ cls := "java/lang/NullPointerException", name := "<init>", desc := "()V" } : Jvm.MethodName) prog_15_method_1_code (1 : Nat) (Option.none : Option Jvm.ClassFile.FieldType)) ∈ lw_all := lw_g (lw_at lw_m3 159 rfl) rfl
theorem q722 : (Jvm.Cond.methodLink "java/lang/NullPointerException" (1 : Nat) ({ cls := "java/lang/RuntimeException", name := "<init>", desc := "()V" } : Jvm.MethodName)) ∈ lw_all := lw_g (lw_at lw_m3 160 rfl) rfl
theorem q729 : (Jvm.Cond.fieldLink "java/lang/NullPointerException" (10 : Nat) "java/lang/NullPointerException" "extendedMessageState" "I") ∈ lw_all := lw_g (lw_at lw_m3 167 rfl) rfl
theorem q730 : (Jvm.Cond.fieldLink "java/lang/NullPointerException" (20 : Nat) "java/lang/NullPointerException" "extendedMessage" "Ljava/lang/String;") ∈ lw_all := lw_g (lw_at lw_m3 168 rfl) rfl
theorem q731 : (Jvm.Cond.lays "java/lang/NullPointerException" "java/lang/NullPointerException" "extendedMessageState" "I") ∈ lw_all := lw_g (lw_at lw_m3 169 rfl) rfl
theorem q732 : (Jvm.Cond.soleField "java/lang/NullPointerException" "extendedMessageState") ∈ lw_all := lw_g (lw_at lw_m3 170 rfl) rfl
theorem q733 : (Jvm.Cond.lays "java/lang/NullPointerException" "java/lang/NullPointerException" "extendedMessage" "Ljava/lang/String;") ∈ lw_all := lw_g (lw_at lw_m3 171 rfl) rfl
theorem q734 : (Jvm.Cond.soleField "java/lang/NullPointerException" "extendedMessage") ∈ lw_all := lw_g (lw_at lw_m3 172 rfl) rfl
theorem q735 : (Jvm.Cond.lays "java/lang/NullPointerException" "java/lang/Throwable" "backtrace" "Ljava/lang/Object;") ∈ lw_all := lw_g (lw_at lw_m3 173 rfl) rfl
theorem q736 : (Jvm.Cond.lays "java/lang/NullPointerException" "java/lang/Throwable" "detailMessage" "Ljava/lang/String;") ∈ lw_all := lw_g (lw_at lw_m3 174 rfl) rfl
theorem q737 : (Jvm.Cond.lays "java/lang/NullPointerException" "java/lang/Throwable" "cause" "Ljava/lang/Throwable;") ∈ lw_all := lw_g (lw_at lw_m3 175 rfl) rfl
theorem q738 : (Jvm.Cond.lays "java/lang/NullPointerException" "java/lang/Throwable" "stackTrace" "[Ljava/lang/StackTraceElement;") ∈ lw_all := lw_g (lw_at lw_m3 176 rfl) rfl
theorem q739 : (Jvm.Cond.lays "java/lang/NullPointerException" "java/lang/Throwable" "depth" "I") ∈ lw_all := lw_g (lw_at lw_m3 177 rfl) rfl
theorem q740 : (Jvm.Cond.lays "java/lang/NullPointerException" "java/lang/Throwable" "suppressedExceptions" "Ljava/util/List;") ∈ lw_all := lw_g (lw_at lw_m3 178 rfl) rfl
theorem q741 : (Jvm.Cond.castable "java/lang/NullPointerException" "java/lang/NullPointerException") ∈ lw_tbl := lw_at lw_m3 179 rfl
theorem q742 : (Jvm.Cond.selects "java/lang/NullPointerException" ({ cls := "java/lang/Throwable", name := "fillInStackTrace", desc := "(I)Ljava/lang/Throwable;" } : Jvm.MethodName) ({ cls := "java/lang/Throwable", name := "fillInStackTrace", desc := "(I)Ljava/lang/Throwable;" } : Jvm.MethodName)) ∈ lw_all := lw_g (lw_at lw_m3 180 rfl) rfl
theorem in_J6 : ∀ w ∈ wsJ60, w ∈ lw_all := lw_in wsJ60 [735, 736, 737, 738, 739, 740, 731, 733] (by decide +kernel) (by decide +kernel)

/-! java/lang/ClassCastException -/
set_option maxRecDepth 100000
def RJ7 : String := "java/lang/ClassCastException"
def TJ7 : u_T := fun k => match k with
  | 0 => ("java/lang/Throwable", "backtrace", "Ljava/lang/Object;", false)
  | 1 => ("java/lang/Throwable", "detailMessage", "Ljava/lang/String;", false)
  | 2 => ("java/lang/Throwable", "cause", "Ljava/lang/Throwable;", false)
  | 3 => ("java/lang/Throwable", "stackTrace", "[Ljava/lang/StackTraceElement;", false)
  | 4 => ("java/lang/Throwable", "depth", "I", false)
  | _ => ("java/lang/Throwable", "suppressedExceptions", "Ljava/util/List;", false)
def tyJ7 : Nat → FieldType := fun k => match k with
  | 0 => .object "java/lang/Object"
  | 1 => .object "java/lang/String"
  | 2 => .object "java/lang/Throwable"
  | 3 => .array (.object "java/lang/StackTraceElement")
  | 4 => .int
  | _ => .object "java/util/List"
abbrev wsJ70 : List Cond := u_ws RJ7 TJ7 6
theorem nmJ7 : ∀ a, a < 6 → ∀ b, b < 6 → a ≠ b → (TJ7 a).2.1 ≠ (TJ7 b).2.1 := by decide +kernel
theorem tyJ7_ok : ∀ k, k < 6 → parseFieldDescriptor (TJ7 k).2.2.1 = some (tyJ7 k) := by decide +kernel
abbrev cJ7_init : ByteArray := prog_10_method_2_code
def yJ7_init : MethodName := ⟨RJ7, "<init>", "(Ljava/lang/String;)V"⟩
theorem q98 : (Jvm.Cond.initialized "java/lang/ClassCastException") ∈ lw_all := lw_g (lw_at lw_m1 16 rfl) rfl
theorem q644 : (Jvm.Cond.selects "java/lang/ClassCastException" ({ cls := "java/lang/Throwable", name := "fillInStackTrace", desc := "()Ljava/lang/Throwable;" } : Jvm.MethodName) ({ cls := "java/lang/Throwable", name := "fillInStackTrace", desc := "()Ljava/lang/Throwable;" } : Jvm.MethodName)) ∈ lw_all := lw_g (lw_at lw_m3 82 rfl) rfl
theorem q745 : (Jvm.Cond.instantiable "java/lang/ClassCastException" (6 : Nat)) ∈ lw_all := lw_g (lw_at lw_m3 183 rfl) rfl
theorem q746 : (Jvm.Cond.instanceMethod ({ cls := "java/lang/ClassCastException", name := "<init>", desc := "(Ljava/lang/String;)V" } : Jvm.MethodName)) ∈ lw_all := lw_g (lw_at lw_m3 184 rfl) rfl
theorem q747 : (Jvm.Cond.code ({ cls := "java/lang/ClassCastException", name := "<init>", desc := "(Ljava/lang/String;)V" } : Jvm.MethodName) prog_10_method_2_code (2 : Nat) (Option.none : Option Jvm.ClassFile.FieldType)) ∈ lw_all := lw_g (lw_at lw_m3 185 rfl) rfl
theorem q748 : (Jvm.Cond.methodLink "java/lang/ClassCastException" (7 : Nat) ({ cls := "java/lang/RuntimeException", name := "<init>", desc := "(Ljava/lang/String;)V" } : Jvm.MethodName)) ∈ lw_all := lw_g (lw_at lw_m3 186 rfl) rfl
theorem q749 : (Jvm.Cond.lays "java/lang/ClassCastException" "java/lang/Throwable" "backtrace" "Ljava/lang/Object;") ∈ lw_all := lw_g (lw_at lw_m3 187 rfl) rfl
theorem q750 : (Jvm.Cond.lays "java/lang/ClassCastException" "java/lang/Throwable" "detailMessage" "Ljava/lang/String;") ∈ lw_all := lw_g (lw_at lw_m3 188 rfl) rfl
theorem q751 : (Jvm.Cond.lays "java/lang/ClassCastException" "java/lang/Throwable" "cause" "Ljava/lang/Throwable;") ∈ lw_all := lw_g (lw_at lw_m3 189 rfl) rfl
theorem q752 : (Jvm.Cond.lays "java/lang/ClassCastException" "java/lang/Throwable" "stackTrace" "[Ljava/lang/StackTraceElement;") ∈ lw_all := lw_g (lw_at lw_m3 190 rfl) rfl
theorem q753 : (Jvm.Cond.lays "java/lang/ClassCastException" "java/lang/Throwable" "depth" "I") ∈ lw_all := lw_g (lw_at lw_m3 191 rfl) rfl
theorem q754 : (Jvm.Cond.lays "java/lang/ClassCastException" "java/lang/Throwable" "suppressedExceptions" "Ljava/util/List;") ∈ lw_all := lw_g (lw_at lw_m3 192 rfl) rfl
theorem q755 : (Jvm.Cond.superclass "java/lang/ClassCastException" "java/lang/RuntimeException") ∈ lw_all := lw_g (lw_at lw_m3 193 rfl) rfl
theorem q756 : (Jvm.Cond.castable "java/lang/ClassCastException" "java/lang/ClassCastException") ∈ lw_tbl := lw_at lw_m3 194 rfl
theorem q757 : (Jvm.Cond.selects "java/lang/ClassCastException" ({ cls := "java/lang/Throwable", name := "fillInStackTrace", desc := "(I)Ljava/lang/Throwable;" } : Jvm.MethodName) ({ cls := "java/lang/Throwable", name := "fillInStackTrace", desc := "(I)Ljava/lang/Throwable;" } : Jvm.MethodName)) ∈ lw_all := lw_g (lw_at lw_m3 195 rfl) rfl
theorem in_J7 : ∀ w ∈ wsJ70, w ∈ lw_all := lw_in wsJ70 [749, 750, 751, 752, 753, 754] (by decide +kernel) (by decide +kernel)

/-! java/lang/IndexOutOfBoundsException -/
set_option maxRecDepth 100000
def RJ8 : String := "java/lang/IndexOutOfBoundsException"
abbrev cJ8_init : ByteArray := prog_12_method_2_code
def yJ8_init : MethodName := ⟨RJ8, "<init>", "(Ljava/lang/String;)V"⟩
theorem q99 : (Jvm.Cond.initialized "java/lang/IndexOutOfBoundsException") ∈ lw_all := lw_g (lw_at lw_m1 17 rfl) rfl
theorem q763 : (Jvm.Cond.instanceMethod ({ cls := "java/lang/IndexOutOfBoundsException", name := "<init>", desc := "(Ljava/lang/String;)V" } : Jvm.MethodName)) ∈ lw_all := lw_g (lw_at lw_m3 201 rfl) rfl
theorem q764 : (Jvm.Cond.code ({ cls := "java/lang/IndexOutOfBoundsException", name := "<init>", desc := "(Ljava/lang/String;)V" } : Jvm.MethodName) prog_12_method_2_code (2 : Nat) (Option.none : Option Jvm.ClassFile.FieldType)) ∈ lw_all := lw_g (lw_at lw_m3 202 rfl) rfl
theorem q765 : (Jvm.Cond.methodLink "java/lang/IndexOutOfBoundsException" (7 : Nat) ({ cls := "java/lang/RuntimeException", name := "<init>", desc := "(Ljava/lang/String;)V" } : Jvm.MethodName)) ∈ lw_all := lw_g (lw_at lw_m3 203 rfl) rfl
theorem q774 : (Jvm.Cond.declares ({ cls := "java/lang/IndexOutOfBoundsException", name := "<init>", desc := "()V" } : Jvm.MethodName)) ∈ lw_tbl := lw_at lw_m3 212 rfl
theorem q775 : (Jvm.Cond.declares ({ cls := "java/lang/IndexOutOfBoundsException", name := "<init>", desc := "(Ljava/lang/String;)V" } : Jvm.MethodName)) ∈ lw_tbl := lw_at lw_m3 213 rfl

/-! java/lang/ArrayIndexOutOfBoundsException -/
set_option maxRecDepth 100000
def RJ9 : String := "java/lang/ArrayIndexOutOfBoundsException"
def TJ9 : u_T := fun k => match k with
  | 0 => ("java/lang/Throwable", "backtrace", "Ljava/lang/Object;", false)
  | 1 => ("java/lang/Throwable", "detailMessage", "Ljava/lang/String;", false)
  | 2 => ("java/lang/Throwable", "cause", "Ljava/lang/Throwable;", false)
  | 3 => ("java/lang/Throwable", "stackTrace", "[Ljava/lang/StackTraceElement;", false)
  | 4 => ("java/lang/Throwable", "depth", "I", false)
  | _ => ("java/lang/Throwable", "suppressedExceptions", "Ljava/util/List;", false)
def tyJ9 : Nat → FieldType := fun k => match k with
  | 0 => .object "java/lang/Object"
  | 1 => .object "java/lang/String"
  | 2 => .object "java/lang/Throwable"
  | 3 => .array (.object "java/lang/StackTraceElement")
  | 4 => .int
  | _ => .object "java/util/List"
abbrev wsJ90 : List Cond := u_ws RJ9 TJ9 6
theorem nmJ9 : ∀ a, a < 6 → ∀ b, b < 6 → a ≠ b → (TJ9 a).2.1 ≠ (TJ9 b).2.1 := by decide +kernel
theorem tyJ9_ok : ∀ k, k < 6 → parseFieldDescriptor (TJ9 k).2.2.1 = some (tyJ9 k) := by decide +kernel
abbrev cJ9_init : ByteArray := prog_9_method_2_code
def yJ9_init : MethodName := ⟨RJ9, "<init>", "(Ljava/lang/String;)V"⟩
theorem q100 : (Jvm.Cond.initialized "java/lang/ArrayIndexOutOfBoundsException") ∈ lw_all := lw_g (lw_at lw_m1 18 rfl) rfl
theorem q643 : (Jvm.Cond.selects "java/lang/ArrayIndexOutOfBoundsException" ({ cls := "java/lang/Throwable", name := "fillInStackTrace", desc := "()Ljava/lang/Throwable;" } : Jvm.MethodName) ({ cls := "java/lang/Throwable", name := "fillInStackTrace", desc := "()Ljava/lang/Throwable;" } : Jvm.MethodName)) ∈ lw_all := lw_g (lw_at lw_m3 81 rfl) rfl
theorem q759 : (Jvm.Cond.instantiable "java/lang/ArrayIndexOutOfBoundsException" (6 : Nat)) ∈ lw_all := lw_g (lw_at lw_m3 197 rfl) rfl
theorem q760 : (Jvm.Cond.instanceMethod ({ cls := "java/lang/ArrayIndexOutOfBoundsException", name := "<init>", desc := "(Ljava/lang/String;)V" } : Jvm.MethodName)) ∈ lw_all := lw_g (lw_at lw_m3 198 rfl) rfl
theorem q761 : (Jvm.Cond.code ({ cls := "java/lang/ArrayIndexOutOfBoundsException", name := "<init>", desc := "(Ljava/lang/String;)V" } : Jvm.MethodName) prog_9_method_2_code (2 : Nat) (Option.none : Option Jvm.ClassFile.FieldType)) ∈ lw_all := lw_g (lw_at lw_m3 199 rfl) rfl
theorem q762 : (Jvm.Cond.methodLink "java/lang/ArrayIndexOutOfBoundsException" (7 : Nat) ({ cls := "java/lang/IndexOutOfBoundsException", name := "<init>", desc := "(Ljava/lang/String;)V" } : Jvm.MethodName)) ∈ lw_all := lw_g (lw_at lw_m3 200 rfl) rfl
theorem q766 : (Jvm.Cond.lays "java/lang/ArrayIndexOutOfBoundsException" "java/lang/Throwable" "backtrace" "Ljava/lang/Object;") ∈ lw_all := lw_g (lw_at lw_m3 204 rfl) rfl
theorem q767 : (Jvm.Cond.lays "java/lang/ArrayIndexOutOfBoundsException" "java/lang/Throwable" "detailMessage" "Ljava/lang/String;") ∈ lw_all := lw_g (lw_at lw_m3 205 rfl) rfl
theorem q768 : (Jvm.Cond.lays "java/lang/ArrayIndexOutOfBoundsException" "java/lang/Throwable" "cause" "Ljava/lang/Throwable;") ∈ lw_all := lw_g (lw_at lw_m3 206 rfl) rfl
theorem q769 : (Jvm.Cond.lays "java/lang/ArrayIndexOutOfBoundsException" "java/lang/Throwable" "stackTrace" "[Ljava/lang/StackTraceElement;") ∈ lw_all := lw_g (lw_at lw_m3 207 rfl) rfl
theorem q770 : (Jvm.Cond.lays "java/lang/ArrayIndexOutOfBoundsException" "java/lang/Throwable" "depth" "I") ∈ lw_all := lw_g (lw_at lw_m3 208 rfl) rfl
theorem q771 : (Jvm.Cond.lays "java/lang/ArrayIndexOutOfBoundsException" "java/lang/Throwable" "suppressedExceptions" "Ljava/util/List;") ∈ lw_all := lw_g (lw_at lw_m3 209 rfl) rfl
theorem q772 : (Jvm.Cond.superclass "java/lang/ArrayIndexOutOfBoundsException" "java/lang/IndexOutOfBoundsException") ∈ lw_all := lw_g (lw_at lw_m3 210 rfl) rfl
theorem q773 : (Jvm.Cond.castable "java/lang/ArrayIndexOutOfBoundsException" "java/lang/ArrayIndexOutOfBoundsException") ∈ lw_tbl := lw_at lw_m3 211 rfl
theorem q776 : (Jvm.Cond.selects "java/lang/ArrayIndexOutOfBoundsException" ({ cls := "java/lang/Throwable", name := "fillInStackTrace", desc := "(I)Ljava/lang/Throwable;" } : Jvm.MethodName) ({ cls := "java/lang/Throwable", name := "fillInStackTrace", desc := "(I)Ljava/lang/Throwable;" } : Jvm.MethodName)) ∈ lw_all := lw_g (lw_at lw_m3 214 rfl) rfl
theorem q1270 : (Jvm.Cond.castable "java/lang/ArrayIndexOutOfBoundsException" "java/lang/IndexOutOfBoundsException") ∈ lw_tbl := lw_at lw_m5 228 rfl
theorem in_J9 : ∀ w ∈ wsJ90, w ∈ lw_all := lw_in wsJ90 [766, 767, 768, 769, 770, 771] (by decide +kernel) (by decide +kernel)

/-! java/lang/Object -/
set_option maxRecDepth 100000
def RJ10 : String := "java/lang/Object"
abbrev cJ10_init : ByteArray := object_method_1_code
def yJ10_init : MethodName := ⟨RJ10, "<init>", "()V"⟩
theorem q471 : (Jvm.Cond.instanceMethod ({ cls := "java/lang/Object", name := "<init>", desc := "()V" } : Jvm.MethodName)) ∈ lw_all := lw_g (lw_at lw_m2 149 rfl) rfl
theorem q472 : (Jvm.Cond.code ({ cls := "java/lang/Object", name := "<init>", desc := "()V" } : Jvm.MethodName) object_method_1_code (1 : Nat) (Option.none : Option Jvm.ClassFile.FieldType)) ∈ lw_all := lw_g (lw_at lw_m2 150 rfl) rfl

theorem q473 : (Jvm.Cond.arrayOver (Jvm.ClassFile.FieldType.array Jvm.ClassFile.FieldType.int)) ∈ lw_tbl := lw_at lw_m2 151 rfl
set_option maxRecDepth 100000
theorem q475 : (Jvm.Cond.arrayOver (Jvm.ClassFile.FieldType.object "TuneLoans$Tune")) ∈ lw_tbl := lw_at lw_m2 153 rfl
theorem q477 : (Jvm.Cond.arrayOver (Jvm.ClassFile.FieldType.array (Jvm.ClassFile.FieldType.object "TuneLoans$Borrower"))) ∈ lw_tbl := lw_at lw_m2 155 rfl
theorem q478 : (Jvm.Cond.arrayOver (Jvm.ClassFile.FieldType.object "TuneLoans$Borrower")) ∈ lw_tbl := lw_at lw_m2 156 rfl
theorem q497 : (Jvm.Cond.arrayClass Jvm.ClassFile.FieldType.int) ∈ lw_all := lw_g (lw_at lw_m2 175 rfl) rfl
theorem q498 : (Jvm.Cond.arrayClass Jvm.ClassFile.FieldType.boolean) ∈ lw_all := lw_g (lw_at lw_m2 176 rfl) rfl
theorem q500 : (Jvm.Cond.arrayOver (Jvm.ClassFile.FieldType.object "TuneLoans$Sheet")) ∈ lw_tbl := lw_at lw_m2 178 rfl
theorem q702 : (Jvm.Cond.arrayClass Jvm.ClassFile.FieldType.byte) ∈ lw_all := lw_g (lw_at lw_m3 140 rfl) rfl
theorem q710 : (Jvm.Cond.arrayClass Jvm.ClassFile.FieldType.short) ∈ lw_all := lw_g (lw_at lw_m3 148 rfl) rfl

theorem q90 : (Jvm.Cond.initialized "java/lang/System") ∈ lw_all := lw_g (lw_at lw_m1 8 rfl) rfl
set_option maxRecDepth 100000
theorem q250 : (Jvm.Cond.static ({ cls := "java/lang/System", name := "arraycopy", desc := "(Ljava/lang/Object;ILjava/lang/Object;II)V" } : Jvm.MethodName)) ∈ lw_all := lw_g (lw_at lw_m1 168 rfl) rfl
theorem q251 : (Jvm.Cond.native ({ cls := "java/lang/System", name := "arraycopy", desc := "(Ljava/lang/Object;ILjava/lang/Object;II)V" } : Jvm.MethodName)) ∈ lw_all := lw_g (lw_at lw_m1 169 rfl) rfl

theorem q82 : (Jvm.Cond.initialized "TuneLoansLaw") ∈ lw_all := lw_g (lw_at lw_m1 0 rfl) rfl
set_option maxRecDepth 100000
theorem q101 : (Jvm.Cond.methodLink "TuneLoansLaw" (13 : Nat) ({ cls := "TuneLoans", name := "type", desc := "(II)I" } : Jvm.MethodName)) ∈ lw_all := lw_g (lw_at lw_m1 19 rfl) rfl
theorem q111 : (Jvm.Cond.methodLink "TuneLoansLaw" (18 : Nat) ({ cls := "TuneLoans", name := "wipe", desc := "(I)I" } : Jvm.MethodName)) ∈ lw_all := lw_g (lw_at lw_m1 29 rfl) rfl
theorem q115 : (Jvm.Cond.methodLink "TuneLoansLaw" (23 : Nat) ({ cls := "TuneLoans", name := "undo", desc := "(I)I" } : Jvm.MethodName)) ∈ lw_all := lw_g (lw_at lw_m1 33 rfl) rfl
theorem q119 : (Jvm.Cond.methodLink "TuneLoansLaw" (27 : Nat) ({ cls := "TuneLoans", name := "fault", desc := "(I)I" } : Jvm.MethodName)) ∈ lw_all := lw_g (lw_at lw_m1 37 rfl) rfl
theorem q148 : (Jvm.Cond.methodLink "TuneLoansLaw" (31 : Nat) ({ cls := "TuneLoans", name := "tune", desc := "(II)I" } : Jvm.MethodName)) ∈ lw_all := lw_g (lw_at lw_m1 66 rfl) rfl
theorem q159 : (Jvm.Cond.methodLink "TuneLoansLaw" (35 : Nat) ({ cls := "TuneLoans", name := "borrower", desc := "(II)I" } : Jvm.MethodName)) ∈ lw_all := lw_g (lw_at lw_m1 77 rfl) rfl
theorem q182 : (Jvm.Cond.methodLink "TuneLoansLaw" (39 : Nat) ({ cls := "TuneLoans", name := "loan", desc := "(IIII)I" } : Jvm.MethodName)) ∈ lw_all := lw_g (lw_at lw_m1 100 rfl) rfl
theorem q192 : (Jvm.Cond.methodLink "TuneLoansLaw" (44 : Nat) ({ cls := "TuneLoans", name := "back", desc := "()I" } : Jvm.MethodName)) ∈ lw_all := lw_g (lw_at lw_m1 110 rfl) rfl
theorem q196 : (Jvm.Cond.methodLink "TuneLoansLaw" (49 : Nat) ({ cls := "TuneLoans", name := "read", desc := "(I)I" } : Jvm.MethodName)) ∈ lw_all := lw_g (lw_at lw_m1 114 rfl) rfl
theorem q225 : (Jvm.Cond.methodLink "TuneLoansLaw" (53 : Nat) ({ cls := "TuneLoans", name := "ear", desc := "(I)I" } : Jvm.MethodName)) ∈ lw_all := lw_g (lw_at lw_m1 143 rfl) rfl
theorem q229 : (Jvm.Cond.methodLink "TuneLoansLaw" (57 : Nat) ({ cls := "TuneLoans", name := "notes", desc := "(III)I" } : Jvm.MethodName)) ∈ lw_all := lw_g (lw_at lw_m1 147 rfl) rfl
theorem q300 : (Jvm.Cond.methodLink "TuneLoansLaw" (62 : Nat) ({ cls := "TuneLoans", name := "has", desc := "(II)I" } : Jvm.MethodName)) ∈ lw_all := lw_g (lw_at lw_m1 218 rfl) rfl
theorem q308 : (Jvm.Cond.methodLink "TuneLoansLaw" (66 : Nat) ({ cls := "TuneLoans", name := "came", desc := "(II)I" } : Jvm.MethodName)) ∈ lw_all := lw_g (lw_at lw_m1 226 rfl) rfl
theorem q316 : (Jvm.Cond.methodLink "TuneLoansLaw" (70 : Nat) ({ cls := "TuneLoans", name := "interest", desc := "(I)I" } : Jvm.MethodName)) ∈ lw_all := lw_g (lw_at lw_m1 234 rfl) rfl
theorem q324 : (Jvm.Cond.methodLink "TuneLoansLaw" (74 : Nat) ({ cls := "TuneLoans", name := "home", desc := "(I)I" } : Jvm.MethodName)) ∈ lw_all := lw_g (lw_at lw_m2 2 rfl) rfl
theorem q332 : (Jvm.Cond.methodLink "TuneLoansLaw" (78 : Nat) ({ cls := "TuneLoans", name := "lend", desc := "(III)I" } : Jvm.MethodName)) ∈ lw_all := lw_g (lw_at lw_m2 10 rfl) rfl
theorem q356 : (Jvm.Cond.methodLink "TuneLoansLaw" (82 : Nat) ({ cls := "TuneLoans", name := "longest", desc := "(III)I" } : Jvm.MethodName)) ∈ lw_all := lw_g (lw_at lw_m2 34 rfl) rfl
theorem q364 : (Jvm.Cond.methodLink "TuneLoansLaw" (86 : Nat) ({ cls := "TuneLoans", name := "who", desc := "(III)I" } : Jvm.MethodName)) ∈ lw_all := lw_g (lw_at lw_m2 42 rfl) rfl
theorem q380 : (Jvm.Cond.methodLink "TuneLoansLaw" (90 : Nat) ({ cls := "TuneLoans", name := "common", desc := "(II)I" } : Jvm.MethodName)) ∈ lw_all := lw_g (lw_at lw_m2 58 rfl) rfl
theorem q384 : (Jvm.Cond.methodLink "TuneLoansLaw" (94 : Nat) ({ cls := "TuneLoans", name := "far", desc := "(II)I" } : Jvm.MethodName)) ∈ lw_all := lw_g (lw_at lw_m2 62 rfl) rfl
theorem q392 : (Jvm.Cond.methodLink "TuneLoansLaw" (98 : Nat) ({ cls := "TuneLoans", name := "nearest", desc := "(I)I" } : Jvm.MethodName)) ∈ lw_all := lw_g (lw_at lw_m2 70 rfl) rfl
theorem q400 : (Jvm.Cond.methodLink "TuneLoansLaw" (102 : Nat) ({ cls := "TuneLoans", name := "mothers", desc := "(I)I" } : Jvm.MethodName)) ∈ lw_all := lw_g (lw_at lw_m2 78 rfl) rfl
theorem q408 : (Jvm.Cond.methodLink "TuneLoansLaw" (106 : Nat) ({ cls := "TuneLoans", name := "tells", desc := "(II)I" } : Jvm.MethodName)) ∈ lw_all := lw_g (lw_at lw_m2 86 rfl) rfl
theorem q423 : (Jvm.Cond.methodLink "TuneLoansLaw" (110 : Nat) ({ cls := "TuneLoans", name := "loses", desc := "(I)I" } : Jvm.MethodName)) ∈ lw_all := lw_g (lw_at lw_m2 101 rfl) rfl
theorem q431 : (Jvm.Cond.methodLink "TuneLoansLaw" (114 : Nat) ({ cls := "TuneLoans", name := "best", desc := "(I)I" } : Jvm.MethodName)) ∈ lw_all := lw_g (lw_at lw_m2 109 rfl) rfl
theorem q439 : (Jvm.Cond.methodLink "TuneLoansLaw" (118 : Nat) ({ cls := "TuneLoans", name := "hums", desc := "(IIIIII)J" } : Jvm.MethodName)) ∈ lw_all := lw_g (lw_at lw_m2 117 rfl) rfl
theorem q457 : (Jvm.Cond.methodLink "TuneLoansLaw" (123 : Nat) ({ cls := "TuneLoans", name := "fair", desc := "(III)I" } : Jvm.MethodName)) ∈ lw_all := lw_g (lw_at lw_m2 135 rfl) rfl
theorem q466 : (Jvm.Cond.classLink "TuneLoansLaw" (7 : Nat) "TuneLoans") ∈ lw_all := lw_g (lw_at lw_m2 144 rfl) rfl
theorem q467 : (Jvm.Cond.methodLink "TuneLoansLaw" (9 : Nat) ({ cls := "TuneLoans", name := "<init>", desc := "()V" } : Jvm.MethodName)) ∈ lw_all := lw_g (lw_at lw_m2 145 rfl) rfl
theorem q618 : (Jvm.Cond.methodLink "TuneLoansLaw" (127 : Nat) ({ cls := "TuneLoans", name := "sheet", desc := "(III)I" } : Jvm.MethodName)) ∈ lw_all := lw_g (lw_at lw_m3 56 rfl) rfl
theorem q711 : (Jvm.Cond.methodLink "TuneLoansLaw" (131 : Nat) ({ cls := "TuneLoans", name := "lose", desc := "(I)I" } : Jvm.MethodName)) ∈ lw_all := lw_g (lw_at lw_m3 149 rfl) rfl
theorem q715 : (Jvm.Cond.methodLink "TuneLoansLaw" (135 : Nat) ({ cls := "TuneLoans", name := "lay", desc := "(IIII)I" } : Jvm.MethodName)) ∈ lw_all := lw_g (lw_at lw_m3 153 rfl) rfl
theorem q780 : (Jvm.Cond.methodLink "TuneLoansLaw" (139 : Nat) ({ cls := "TuneLoans", name := "get", desc := "(III)I" } : Jvm.MethodName)) ∈ lw_all := lw_g (lw_at lw_m3 218 rfl) rfl
theorem q786 : (Jvm.Cond.methodLink "TuneLoansLaw" (143 : Nat) ({ cls := "TuneLoans", name := "copy", desc := "(IIIII)I" } : Jvm.MethodName)) ∈ lw_all := lw_g (lw_at lw_m3 224 rfl) rfl
theorem q792 : (Jvm.Cond.methodLink "TuneLoansLaw" (148 : Nat) ({ cls := "TuneLoans", name := "write", desc := "(III)I" } : Jvm.MethodName)) ∈ lw_all := lw_g (lw_at lw_m3 230 rfl) rfl
theorem q796 : (Jvm.Cond.methodLink "TuneLoansLaw" (152 : Nat) ({ cls := "TuneLoans", name := "count", desc := "(I)I" } : Jvm.MethodName)) ∈ lw_all := lw_g (lw_at lw_m3 234 rfl) rfl
theorem q804 : (Jvm.Cond.methodLink "TuneLoansLaw" (156 : Nat) ({ cls := "TuneLoans", name := "digest", desc := "()J" } : Jvm.MethodName)) ∈ lw_all := lw_g (lw_at lw_m4 2 rfl) rfl
theorem q817 : (Jvm.Cond.classLink "TuneLoansLaw" (10 : Nat) "TuneLoansModel") ∈ lw_all := lw_g (lw_at lw_m4 15 rfl) rfl
theorem q819 : (Jvm.Cond.methodLink "TuneLoansLaw" (12 : Nat) ({ cls := "TuneLoansModel", name := "<init>", desc := "()V" } : Jvm.MethodName)) ∈ lw_all := lw_g (lw_at lw_m4 17 rfl) rfl
theorem q902 : (Jvm.Cond.methodLink "TuneLoansLaw" (130 : Nat) ({ cls := "TuneLoansModel", name := "sheet", desc := "(III)I" } : Jvm.MethodName)) ∈ lw_all := lw_g (lw_at lw_m4 100 rfl) rfl
theorem q918 : (Jvm.Cond.methodLink "TuneLoansLaw" (134 : Nat) ({ cls := "TuneLoansModel", name := "lose", desc := "(I)I" } : Jvm.MethodName)) ∈ lw_all := lw_g (lw_at lw_m4 116 rfl) rfl
theorem q922 : (Jvm.Cond.methodLink "TuneLoansLaw" (138 : Nat) ({ cls := "TuneLoansModel", name := "lay", desc := "(IIII)I" } : Jvm.MethodName)) ∈ lw_all := lw_g (lw_at lw_m4 120 rfl) rfl
theorem q933 : (Jvm.Cond.methodLink "TuneLoansLaw" (142 : Nat) ({ cls := "TuneLoansModel", name := "get", desc := "(III)I" } : Jvm.MethodName)) ∈ lw_all := lw_g (lw_at lw_m4 131 rfl) rfl
theorem q938 : (Jvm.Cond.methodLink "TuneLoansLaw" (147 : Nat) ({ cls := "TuneLoansModel", name := "copy", desc := "(IIIII)I" } : Jvm.MethodName)) ∈ lw_all := lw_g (lw_at lw_m4 136 rfl) rfl
theorem q942 : (Jvm.Cond.methodLink "TuneLoansLaw" (17 : Nat) ({ cls := "TuneLoansModel", name := "type", desc := "(II)I" } : Jvm.MethodName)) ∈ lw_all := lw_g (lw_at lw_m4 140 rfl) rfl
theorem q950 : (Jvm.Cond.methodLink "TuneLoansLaw" (22 : Nat) ({ cls := "TuneLoansModel", name := "wipe", desc := "(I)I" } : Jvm.MethodName)) ∈ lw_all := lw_g (lw_at lw_m4 148 rfl) rfl
theorem q954 : (Jvm.Cond.methodLink "TuneLoansLaw" (26 : Nat) ({ cls := "TuneLoansModel", name := "undo", desc := "(I)I" } : Jvm.MethodName)) ∈ lw_all := lw_g (lw_at lw_m4 152 rfl) rfl
theorem q958 : (Jvm.Cond.methodLink "TuneLoansLaw" (30 : Nat) ({ cls := "TuneLoansModel", name := "fault", desc := "(I)I" } : Jvm.MethodName)) ∈ lw_all := lw_g (lw_at lw_m4 156 rfl) rfl
theorem q979 : (Jvm.Cond.methodLink "TuneLoansLaw" (34 : Nat) ({ cls := "TuneLoansModel", name := "tune", desc := "(II)I" } : Jvm.MethodName)) ∈ lw_all := lw_g (lw_at lw_m4 177 rfl) rfl
theorem q993 : (Jvm.Cond.methodLink "TuneLoansLaw" (38 : Nat) ({ cls := "TuneLoansModel", name := "borrower", desc := "(II)I" } : Jvm.MethodName)) ∈ lw_all := lw_g (lw_at lw_m4 191 rfl) rfl
theorem q1001 : (Jvm.Cond.methodLink "TuneLoansLaw" (43 : Nat) ({ cls := "TuneLoansModel", name := "loan", desc := "(IIII)I" } : Jvm.MethodName)) ∈ lw_all := lw_g (lw_at lw_m4 199 rfl) rfl
theorem q1011 : (Jvm.Cond.methodLink "TuneLoansLaw" (48 : Nat) ({ cls := "TuneLoansModel", name := "back", desc := "()I" } : Jvm.MethodName)) ∈ lw_all := lw_g (lw_at lw_m4 209 rfl) rfl
theorem q1015 : (Jvm.Cond.methodLink "TuneLoansLaw" (52 : Nat) ({ cls := "TuneLoansModel", name := "read", desc := "(I)I" } : Jvm.MethodName)) ∈ lw_all := lw_g (lw_at lw_m4 213 rfl) rfl
theorem q1020 : (Jvm.Cond.methodLink "TuneLoansLaw" (56 : Nat) ({ cls := "TuneLoansModel", name := "ear", desc := "(I)I" } : Jvm.MethodName)) ∈ lw_all := lw_g (lw_at lw_m4 218 rfl) rfl
theorem q1025 : (Jvm.Cond.methodLink "TuneLoansLaw" (61 : Nat) ({ cls := "TuneLoansModel", name := "notes", desc := "(III)I" } : Jvm.MethodName)) ∈ lw_all := lw_g (lw_at lw_m4 223 rfl) rfl
theorem q1071 : (Jvm.Cond.methodLink "TuneLoansLaw" (65 : Nat) ({ cls := "TuneLoansModel", name := "has", desc := "(II)I" } : Jvm.MethodName)) ∈ lw_all := lw_g (lw_at lw_m5 29 rfl) rfl
theorem q1079 : (Jvm.Cond.methodLink "TuneLoansLaw" (69 : Nat) ({ cls := "TuneLoansModel", name := "came", desc := "(II)I" } : Jvm.MethodName)) ∈ lw_all := lw_g (lw_at lw_m5 37 rfl) rfl
theorem q1087 : (Jvm.Cond.methodLink "TuneLoansLaw" (73 : Nat) ({ cls := "TuneLoansModel", name := "interest", desc := "(I)I" } : Jvm.MethodName)) ∈ lw_all := lw_g (lw_at lw_m5 45 rfl) rfl
theorem q1095 : (Jvm.Cond.methodLink "TuneLoansLaw" (77 : Nat) ({ cls := "TuneLoansModel", name := "home", desc := "(I)I" } : Jvm.MethodName)) ∈ lw_all := lw_g (lw_at lw_m5 53 rfl) rfl
theorem q1103 : (Jvm.Cond.methodLink "TuneLoansLaw" (81 : Nat) ({ cls := "TuneLoansModel", name := "lend", desc := "(III)I" } : Jvm.MethodName)) ∈ lw_all := lw_g (lw_at lw_m5 61 rfl) rfl
theorem q1128 : (Jvm.Cond.methodLink "TuneLoansLaw" (85 : Nat) ({ cls := "TuneLoansModel", name := "longest", desc := "(III)I" } : Jvm.MethodName)) ∈ lw_all := lw_g (lw_at lw_m5 86 rfl) rfl
theorem q1136 : (Jvm.Cond.methodLink "TuneLoansLaw" (89 : Nat) ({ cls := "TuneLoansModel", name := "who", desc := "(III)I" } : Jvm.MethodName)) ∈ lw_all := lw_g (lw_at lw_m5 94 rfl) rfl
theorem q1152 : (Jvm.Cond.methodLink "TuneLoansLaw" (93 : Nat) ({ cls := "TuneLoansModel", name := "common", desc := "(II)I" } : Jvm.MethodName)) ∈ lw_all := lw_g (lw_at lw_m5 110 rfl) rfl
theorem q1160 : (Jvm.Cond.methodLink "TuneLoansLaw" (97 : Nat) ({ cls := "TuneLoansModel", name := "far", desc := "(II)I" } : Jvm.MethodName)) ∈ lw_all := lw_g (lw_at lw_m5 118 rfl) rfl
theorem q1168 : (Jvm.Cond.methodLink "TuneLoansLaw" (101 : Nat) ({ cls := "TuneLoansModel", name := "nearest", desc := "(I)I" } : Jvm.MethodName)) ∈ lw_all := lw_g (lw_at lw_m5 126 rfl) rfl
theorem q1176 : (Jvm.Cond.methodLink "TuneLoansLaw" (105 : Nat) ({ cls := "TuneLoansModel", name := "mothers", desc := "(I)I" } : Jvm.MethodName)) ∈ lw_all := lw_g (lw_at lw_m5 134 rfl) rfl
theorem q1184 : (Jvm.Cond.methodLink "TuneLoansLaw" (109 : Nat) ({ cls := "TuneLoansModel", name := "tells", desc := "(II)I" } : Jvm.MethodName)) ∈ lw_all := lw_g (lw_at lw_m5 142 rfl) rfl
theorem q1205 : (Jvm.Cond.methodLink "TuneLoansLaw" (113 : Nat) ({ cls := "TuneLoansModel", name := "loses", desc := "(I)I" } : Jvm.MethodName)) ∈ lw_all := lw_g (lw_at lw_m5 163 rfl) rfl
theorem q1213 : (Jvm.Cond.methodLink "TuneLoansLaw" (117 : Nat) ({ cls := "TuneLoansModel", name := "best", desc := "(I)I" } : Jvm.MethodName)) ∈ lw_all := lw_g (lw_at lw_m5 171 rfl) rfl
theorem q1222 : (Jvm.Cond.methodLink "TuneLoansLaw" (122 : Nat) ({ cls := "TuneLoansModel", name := "hums", desc := "(IIIIII)J" } : Jvm.MethodName)) ∈ lw_all := lw_g (lw_at lw_m5 180 rfl) rfl
theorem q1239 : (Jvm.Cond.methodLink "TuneLoansLaw" (126 : Nat) ({ cls := "TuneLoansModel", name := "fair", desc := "(III)I" } : Jvm.MethodName)) ∈ lw_all := lw_g (lw_at lw_m5 197 rfl) rfl
theorem q1248 : (Jvm.Cond.methodLink "TuneLoansLaw" (151 : Nat) ({ cls := "TuneLoansModel", name := "write", desc := "(III)I" } : Jvm.MethodName)) ∈ lw_all := lw_g (lw_at lw_m5 206 rfl) rfl
theorem q1252 : (Jvm.Cond.methodLink "TuneLoansLaw" (155 : Nat) ({ cls := "TuneLoansModel", name := "count", desc := "(I)I" } : Jvm.MethodName)) ∈ lw_all := lw_g (lw_at lw_m5 210 rfl) rfl
theorem q1256 : (Jvm.Cond.methodLink "TuneLoansLaw" (160 : Nat) ({ cls := "TuneLoansModel", name := "digest", desc := "()J" } : Jvm.MethodName)) ∈ lw_all := lw_g (lw_at lw_m5 214 rfl) rfl

/-! TuneLoans$Tune -/
set_option maxRecDepth 100000
def RX1 : String := "TuneLoans$Tune"
def TX1 : u_T := fun k => match k with
  | 0 => ("TuneLoans$Tune", "row", "[I", true)
  | _ => ("TuneLoans$Tune", "size", "I", false)
def tyX1 : Nat → FieldType := fun k => match k with
  | 0 => .array .int
  | _ => .int
abbrev wsX10 : List Cond := u_ws RX1 TX1 2
theorem nmX1 : ∀ a, a < 2 → ∀ b, b < 2 → a ≠ b → (TX1 a).2.1 ≠ (TX1 b).2.1 := by decide +kernel
theorem tyX1_ok : ∀ k, k < 2 → parseFieldDescriptor (TX1 k).2.2.1 = some (tyX1 k) := by decide +kernel
abbrev cX1_adds : ByteArray := prog_6_method_3_code
def yX1_adds : MethodName := ⟨RX1, "adds", "(I)V"⟩
abbrev cX1_is : ByteArray := prog_6_method_2_code
def yX1_is : MethodName := ⟨RX1, "is", "(LTuneLoans$Tune;)V"⟩
abbrev cX1_bits : ByteArray := prog_6_method_5_code
def yX1_bits : MethodName := ⟨RX1, "bits", "()I"⟩
abbrev cX1_isLike : ByteArray := prog_6_method_4_code
def yX1_isLike : MethodName := ⟨RX1, "isLike", "(LTuneLoans$Tune;)Z"⟩
abbrev cX1_init : ByteArray := prog_6_method_1_code
def yX1_init : MethodName := ⟨RX1, "<init>", "()V"⟩
theorem q84 : (Jvm.Cond.initialized "TuneLoans$Tune") ∈ lw_all := lw_g (lw_at lw_m1 2 rfl) rfl
theorem q141 : (Jvm.Cond.instanceMethod ({ cls := "TuneLoans$Tune", name := "adds", desc := "(I)V" } : Jvm.MethodName)) ∈ lw_all := lw_g (lw_at lw_m1 59 rfl) rfl
theorem q142 : (Jvm.Cond.selects "TuneLoans$Tune" ({ cls := "TuneLoans$Tune", name := "adds", desc := "(I)V" } : Jvm.MethodName) ({ cls := "TuneLoans$Tune", name := "adds", desc := "(I)V" } : Jvm.MethodName)) ∈ lw_all := lw_g (lw_at lw_m1 60 rfl) rfl
theorem q143 : (Jvm.Cond.code ({ cls := "TuneLoans$Tune", name := "adds", desc := "(I)V" } : Jvm.MethodName) prog_6_method_3_code (2 : Nat) (Option.none : Option Jvm.ClassFile.FieldType)) ∈ lw_all := lw_g (lw_at lw_m1 61 rfl) rfl
theorem q246 : (Jvm.Cond.instanceMethod ({ cls := "TuneLoans$Tune", name := "is", desc := "(LTuneLoans$Tune;)V" } : Jvm.MethodName)) ∈ lw_all := lw_g (lw_at lw_m1 164 rfl) rfl
theorem q247 : (Jvm.Cond.selects "TuneLoans$Tune" ({ cls := "TuneLoans$Tune", name := "is", desc := "(LTuneLoans$Tune;)V" } : Jvm.MethodName) ({ cls := "TuneLoans$Tune", name := "is", desc := "(LTuneLoans$Tune;)V" } : Jvm.MethodName)) ∈ lw_all := lw_g (lw_at lw_m1 165 rfl) rfl
theorem q248 : (Jvm.Cond.code ({ cls := "TuneLoans$Tune", name := "is", desc := "(LTuneLoans$Tune;)V" } : Jvm.MethodName) prog_6_method_2_code (2 : Nat) (Option.none : Option Jvm.ClassFile.FieldType)) ∈ lw_all := lw_g (lw_at lw_m1 166 rfl) rfl
theorem q249 : (Jvm.Cond.methodLink "TuneLoans$Tune" (15 : Nat) ({ cls := "java/lang/System", name := "arraycopy", desc := "(Ljava/lang/Object;ILjava/lang/Object;II)V" } : Jvm.MethodName)) ∈ lw_all := lw_g (lw_at lw_m1 167 rfl) rfl
theorem q349 : (Jvm.Cond.instanceMethod ({ cls := "TuneLoans$Tune", name := "bits", desc := "()I" } : Jvm.MethodName)) ∈ lw_all := lw_g (lw_at lw_m2 27 rfl) rfl
theorem q350 : (Jvm.Cond.selects "TuneLoans$Tune" ({ cls := "TuneLoans$Tune", name := "bits", desc := "()I" } : Jvm.MethodName) ({ cls := "TuneLoans$Tune", name := "bits", desc := "()I" } : Jvm.MethodName)) ∈ lw_all := lw_g (lw_at lw_m2 28 rfl) rfl
theorem q351 : (Jvm.Cond.code ({ cls := "TuneLoans$Tune", name := "bits", desc := "()I" } : Jvm.MethodName) prog_6_method_5_code (3 : Nat) (Option.some Jvm.ClassFile.FieldType.int)) ∈ lw_all := lw_g (lw_at lw_m2 29 rfl) rfl
theorem q373 : (Jvm.Cond.instanceMethod ({ cls := "TuneLoans$Tune", name := "isLike", desc := "(LTuneLoans$Tune;)Z" } : Jvm.MethodName)) ∈ lw_all := lw_g (lw_at lw_m2 51 rfl) rfl
theorem q374 : (Jvm.Cond.selects "TuneLoans$Tune" ({ cls := "TuneLoans$Tune", name := "isLike", desc := "(LTuneLoans$Tune;)Z" } : Jvm.MethodName) ({ cls := "TuneLoans$Tune", name := "isLike", desc := "(LTuneLoans$Tune;)Z" } : Jvm.MethodName)) ∈ lw_all := lw_g (lw_at lw_m2 52 rfl) rfl
theorem q375 : (Jvm.Cond.code ({ cls := "TuneLoans$Tune", name := "isLike", desc := "(LTuneLoans$Tune;)Z" } : Jvm.MethodName) prog_6_method_4_code (4 : Nat) (Option.some Jvm.ClassFile.FieldType.boolean)) ∈ lw_all := lw_g (lw_at lw_m2 53 rfl) rfl
theorem q481 : (Jvm.Cond.instantiable "TuneLoans$Tune" (2 : Nat)) ∈ lw_all := lw_g (lw_at lw_m2 159 rfl) rfl
theorem q483 : (Jvm.Cond.instanceMethod ({ cls := "TuneLoans$Tune", name := "<init>", desc := "()V" } : Jvm.MethodName)) ∈ lw_all := lw_g (lw_at lw_m2 161 rfl) rfl
theorem q484 : (Jvm.Cond.code ({ cls := "TuneLoans$Tune", name := "<init>", desc := "()V" } : Jvm.MethodName) prog_6_method_1_code (1 : Nat) (Option.none : Option Jvm.ClassFile.FieldType)) ∈ lw_all := lw_g (lw_at lw_m2 162 rfl) rfl
theorem q485 : (Jvm.Cond.methodLink "TuneLoans$Tune" (3 : Nat) ({ cls := "java/lang/Object", name := "<init>", desc := "()V" } : Jvm.MethodName)) ∈ lw_all := lw_g (lw_at lw_m2 163 rfl) rfl
theorem q486 : (Jvm.Cond.fieldLink "TuneLoans$Tune" (9 : Nat) "TuneLoans$Tune" "row" "[I") ∈ lw_all := lw_g (lw_at lw_m2 164 rfl) rfl
theorem q489 : (Jvm.Cond.fieldLink "TuneLoans$Tune" (21 : Nat) "TuneLoans$Tune" "size" "I") ∈ lw_all := lw_g (lw_at lw_m2 167 rfl) rfl
theorem q492 : (Jvm.Cond.laysFinal "TuneLoans$Tune" "TuneLoans$Tune" "row" "[I") ∈ lw_all := lw_g (lw_at lw_m2 170 rfl) rfl
theorem q493 : (Jvm.Cond.soleField "TuneLoans$Tune" "row") ∈ lw_all := lw_g (lw_at lw_m2 171 rfl) rfl
theorem q494 : (Jvm.Cond.lays "TuneLoans$Tune" "TuneLoans$Tune" "size" "I") ∈ lw_all := lw_g (lw_at lw_m2 172 rfl) rfl
theorem q495 : (Jvm.Cond.soleField "TuneLoans$Tune" "size") ∈ lw_all := lw_g (lw_at lw_m2 173 rfl) rfl
theorem q496 : (Jvm.Cond.superclass "TuneLoans$Tune" "java/lang/Object") ∈ lw_all := lw_g (lw_at lw_m2 174 rfl) rfl
theorem in_X1 : ∀ w ∈ wsX10, w ∈ lw_all := lw_in wsX10 [492, 494] (by decide +kernel) (by decide +kernel)

/-! TuneLoans$Sheet -/
set_option maxRecDepth 100000
def RX2 : String := "TuneLoans$Sheet"
def TX2 : u_T := fun k => match k with
  | 0 => ("TuneLoans$Sheet", "form", "I", false)
  | _ => ("TuneLoans$Sheet", "row", "Ljava/lang/Object;", false)
def tyX2 : Nat → FieldType := fun k => match k with
  | 0 => .int
  | _ => .object "java/lang/Object"
abbrev wsX20 : List Cond := u_ws RX2 TX2 2
theorem nmX2 : ∀ a, a < 2 → ∀ b, b < 2 → a ≠ b → (TX2 a).2.1 ≠ (TX2 b).2.1 := by decide +kernel
theorem tyX2_ok : ∀ k, k < 2 → parseFieldDescriptor (TX2 k).2.2.1 = some (tyX2 k) := by decide +kernel
abbrev cX2_size : ByteArray := prog_5_method_2_code
def yX2_size : MethodName := ⟨RX2, "size", "()I"⟩
abbrev cX2_item : ByteArray := prog_5_method_3_code
def yX2_item : MethodName := ⟨RX2, "item", "(I)I"⟩
abbrev cX2_init : ByteArray := prog_5_method_1_code
def yX2_init : MethodName := ⟨RX2, "<init>", "()V"⟩
theorem q85 : (Jvm.Cond.initialized "TuneLoans$Sheet") ∈ lw_all := lw_g (lw_at lw_m1 3 rfl) rfl
theorem q208 : (Jvm.Cond.instanceMethod ({ cls := "TuneLoans$Sheet", name := "size", desc := "()I" } : Jvm.MethodName)) ∈ lw_all := lw_g (lw_at lw_m1 126 rfl) rfl
theorem q209 : (Jvm.Cond.selects "TuneLoans$Sheet" ({ cls := "TuneLoans$Sheet", name := "size", desc := "()I" } : Jvm.MethodName) ({ cls := "TuneLoans$Sheet", name := "size", desc := "()I" } : Jvm.MethodName)) ∈ lw_all := lw_g (lw_at lw_m1 127 rfl) rfl
theorem q210 : (Jvm.Cond.code ({ cls := "TuneLoans$Sheet", name := "size", desc := "()I" } : Jvm.MethodName) prog_5_method_2_code (1 : Nat) (Option.some Jvm.ClassFile.FieldType.int)) ∈ lw_all := lw_g (lw_at lw_m1 128 rfl) rfl
theorem q211 : (Jvm.Cond.classLink "TuneLoans$Sheet" (17 : Nat) "[B") ∈ lw_all := lw_g (lw_at lw_m1 129 rfl) rfl
theorem q212 : (Jvm.Cond.classLink "TuneLoans$Sheet" (19 : Nat) "[S") ∈ lw_all := lw_g (lw_at lw_m1 130 rfl) rfl
theorem q213 : (Jvm.Cond.classLink "TuneLoans$Sheet" (21 : Nat) "[I") ∈ lw_all := lw_g (lw_at lw_m1 131 rfl) rfl
theorem q215 : (Jvm.Cond.instanceMethod ({ cls := "TuneLoans$Sheet", name := "item", desc := "(I)I" } : Jvm.MethodName)) ∈ lw_all := lw_g (lw_at lw_m1 133 rfl) rfl
theorem q216 : (Jvm.Cond.selects "TuneLoans$Sheet" ({ cls := "TuneLoans$Sheet", name := "item", desc := "(I)I" } : Jvm.MethodName) ({ cls := "TuneLoans$Sheet", name := "item", desc := "(I)I" } : Jvm.MethodName)) ∈ lw_all := lw_g (lw_at lw_m1 134 rfl) rfl
theorem q217 : (Jvm.Cond.code ({ cls := "TuneLoans$Sheet", name := "item", desc := "(I)I" } : Jvm.MethodName) prog_5_method_3_code (2 : Nat) (Option.some Jvm.ClassFile.FieldType.int)) ∈ lw_all := lw_g (lw_at lw_m1 135 rfl) rfl
theorem q218 : (Jvm.Cond.methodLinkNest "TuneLoans$Sheet" (23 : Nat) ({ cls := "TuneLoans", name := "taken", desc := "(Ljava/lang/Object;II)I" } : Jvm.MethodName) "TuneLoans") ∈ lw_tbl := lw_at lw_m1 136 rfl
theorem q501 : (Jvm.Cond.instantiable "TuneLoans$Sheet" (2 : Nat)) ∈ lw_all := lw_g (lw_at lw_m2 179 rfl) rfl
theorem q503 : (Jvm.Cond.instanceMethod ({ cls := "TuneLoans$Sheet", name := "<init>", desc := "()V" } : Jvm.MethodName)) ∈ lw_all := lw_g (lw_at lw_m2 181 rfl) rfl
theorem q504 : (Jvm.Cond.code ({ cls := "TuneLoans$Sheet", name := "<init>", desc := "()V" } : Jvm.MethodName) prog_5_method_1_code (1 : Nat) (Option.none : Option Jvm.ClassFile.FieldType)) ∈ lw_all := lw_g (lw_at lw_m2 182 rfl) rfl
theorem q505 : (Jvm.Cond.methodLink "TuneLoans$Sheet" (1 : Nat) ({ cls := "java/lang/Object", name := "<init>", desc := "()V" } : Jvm.MethodName)) ∈ lw_all := lw_g (lw_at lw_m2 183 rfl) rfl
theorem q506 : (Jvm.Cond.fieldLink "TuneLoans$Sheet" (7 : Nat) "TuneLoans$Sheet" "form" "I") ∈ lw_all := lw_g (lw_at lw_m2 184 rfl) rfl
theorem q508 : (Jvm.Cond.fieldLink "TuneLoans$Sheet" (13 : Nat) "TuneLoans$Sheet" "row" "Ljava/lang/Object;") ∈ lw_all := lw_g (lw_at lw_m2 186 rfl) rfl
theorem q510 : (Jvm.Cond.lays "TuneLoans$Sheet" "TuneLoans$Sheet" "form" "I") ∈ lw_all := lw_g (lw_at lw_m2 188 rfl) rfl
theorem q511 : (Jvm.Cond.soleField "TuneLoans$Sheet" "form") ∈ lw_all := lw_g (lw_at lw_m2 189 rfl) rfl
theorem q512 : (Jvm.Cond.lays "TuneLoans$Sheet" "TuneLoans$Sheet" "row" "Ljava/lang/Object;") ∈ lw_all := lw_g (lw_at lw_m2 190 rfl) rfl
theorem q513 : (Jvm.Cond.soleField "TuneLoans$Sheet" "row") ∈ lw_all := lw_g (lw_at lw_m2 191 rfl) rfl
theorem q514 : (Jvm.Cond.superclass "TuneLoans$Sheet" "java/lang/Object") ∈ lw_all := lw_g (lw_at lw_m2 192 rfl) rfl
theorem in_X2 : ∀ w ∈ wsX20, w ∈ lw_all := lw_in wsX20 [510, 512] (by decide +kernel) (by decide +kernel)

/-! TuneLoans$Borrower -/
set_option maxRecDepth 100000
def RX3 : String := "TuneLoans$Borrower"
def TX3 : u_T := fun k => match k with
  | 0 => ("TuneLoans$Borrower", "note", "I", false)
  | _ => ("TuneLoans$Borrower", "other", "I", false)
def tyX3 : Nat → FieldType := fun k => match k with
  | 0 => .int
  | _ => .int
abbrev wsX30 : List Cond := u_ws RX3 TX3 2
theorem nmX3 : ∀ a, a < 2 → ∀ b, b < 2 → a ≠ b → (TX3 a).2.1 ≠ (TX3 b).2.1 := by decide +kernel
theorem tyX3_ok : ∀ k, k < 2 → parseFieldDescriptor (TX3 k).2.2.1 = some (tyX3 k) := by decide +kernel
abbrev cX3_kind : ByteArray := prog_2_method_2_code
def yX3_kind : MethodName := ⟨RX3, "kind", "()I"⟩
abbrev cX3_sings : ByteArray := prog_2_method_4_code
def yX3_sings : MethodName := ⟨RX3, "sings", "(LTuneLoans$Tune;LTuneLoans$Tune;)V"⟩
abbrev cX3_hums : ByteArray := prog_2_method_3_code
def yX3_hums : MethodName := ⟨RX3, "hums", "(LTuneLoans$Tune;)V"⟩
abbrev cX3_init : ByteArray := prog_2_method_1_code
def yX3_init : MethodName := ⟨RX3, "<init>", "()V"⟩
theorem q86 : (Jvm.Cond.initialized "TuneLoans$Borrower") ∈ lw_all := lw_g (lw_at lw_m1 4 rfl) rfl
theorem q172 : (Jvm.Cond.instanceMethod ({ cls := "TuneLoans$Borrower", name := "kind", desc := "()I" } : Jvm.MethodName)) ∈ lw_all := lw_g (lw_at lw_m1 90 rfl) rfl
theorem q173 : (Jvm.Cond.selects "TuneLoans$Borrower" ({ cls := "TuneLoans$Borrower", name := "kind", desc := "()I" } : Jvm.MethodName) ({ cls := "TuneLoans$Borrower", name := "kind", desc := "()I" } : Jvm.MethodName)) ∈ lw_all := lw_g (lw_at lw_m1 91 rfl) rfl
theorem q174 : (Jvm.Cond.sameMethod "TuneLoans$Borrower" "TuneLoans$Borrower" "kind" "()I") ∈ lw_all := lw_g (lw_at lw_m1 92 rfl) rfl
theorem q181 : (Jvm.Cond.code ({ cls := "TuneLoans$Borrower", name := "kind", desc := "()I" } : Jvm.MethodName) prog_2_method_2_code (1 : Nat) (Option.some Jvm.ClassFile.FieldType.int)) ∈ lw_all := lw_g (lw_at lw_m1 99 rfl) rfl
theorem q265 : (Jvm.Cond.instanceMethod ({ cls := "TuneLoans$Borrower", name := "sings", desc := "(LTuneLoans$Tune;LTuneLoans$Tune;)V" } : Jvm.MethodName)) ∈ lw_all := lw_g (lw_at lw_m1 183 rfl) rfl
theorem q266 : (Jvm.Cond.selects "TuneLoans$Borrower" ({ cls := "TuneLoans$Borrower", name := "sings", desc := "(LTuneLoans$Tune;LTuneLoans$Tune;)V" } : Jvm.MethodName) ({ cls := "TuneLoans$Borrower", name := "sings", desc := "(LTuneLoans$Tune;LTuneLoans$Tune;)V" } : Jvm.MethodName)) ∈ lw_all := lw_g (lw_at lw_m1 184 rfl) rfl
theorem q267 : (Jvm.Cond.sameMethod "TuneLoans$Borrower" "TuneLoans$Borrower" "sings" "(LTuneLoans$Tune;LTuneLoans$Tune;)V") ∈ lw_all := lw_g (lw_at lw_m1 185 rfl) rfl
theorem q270 : (Jvm.Cond.code ({ cls := "TuneLoans$Borrower", name := "sings", desc := "(LTuneLoans$Tune;LTuneLoans$Tune;)V" } : Jvm.MethodName) prog_2_method_4_code (4 : Nat) (Option.none : Option Jvm.ClassFile.FieldType)) ∈ lw_all := lw_g (lw_at lw_m1 188 rfl) rfl
theorem q271 : (Jvm.Cond.methodLink "TuneLoans$Borrower" (29 : Nat) ({ cls := "TuneLoans$Borrower", name := "hums", desc := "(LTuneLoans$Tune;)V" } : Jvm.MethodName)) ∈ lw_all := lw_g (lw_at lw_m1 189 rfl) rfl
theorem q272 : (Jvm.Cond.instanceMethod ({ cls := "TuneLoans$Borrower", name := "hums", desc := "(LTuneLoans$Tune;)V" } : Jvm.MethodName)) ∈ lw_all := lw_g (lw_at lw_m1 190 rfl) rfl
theorem q273 : (Jvm.Cond.selects "TuneLoans$Borrower" ({ cls := "TuneLoans$Borrower", name := "hums", desc := "(LTuneLoans$Tune;)V" } : Jvm.MethodName) ({ cls := "TuneLoans$Borrower", name := "hums", desc := "(LTuneLoans$Tune;)V" } : Jvm.MethodName)) ∈ lw_all := lw_g (lw_at lw_m1 191 rfl) rfl
theorem q274 : (Jvm.Cond.sameMethod "TuneLoans$Borrower" "TuneLoans$Borrower" "hums" "(LTuneLoans$Tune;)V") ∈ lw_all := lw_g (lw_at lw_m1 192 rfl) rfl
theorem q284 : (Jvm.Cond.code ({ cls := "TuneLoans$Borrower", name := "hums", desc := "(LTuneLoans$Tune;)V" } : Jvm.MethodName) prog_2_method_3_code (2 : Nat) (Option.none : Option Jvm.ClassFile.FieldType)) ∈ lw_all := lw_g (lw_at lw_m1 202 rfl) rfl
theorem q285 : (Jvm.Cond.methodLink "TuneLoans$Borrower" (13 : Nat) ({ cls := "TuneLoans$Tune", name := "adds", desc := "(I)V" } : Jvm.MethodName)) ∈ lw_all := lw_g (lw_at lw_m1 203 rfl) rfl
theorem q487 : (Jvm.Cond.fieldLink "TuneLoans$Borrower" (25 : Nat) "TuneLoans$Tune" "row" "[I") ∈ lw_all := lw_g (lw_at lw_m2 165 rfl) rfl
theorem q490 : (Jvm.Cond.fieldLink "TuneLoans$Borrower" (22 : Nat) "TuneLoans$Tune" "size" "I") ∈ lw_all := lw_g (lw_at lw_m2 168 rfl) rfl
theorem q515 : (Jvm.Cond.instantiable "TuneLoans$Borrower" (2 : Nat)) ∈ lw_all := lw_g (lw_at lw_m2 193 rfl) rfl
theorem q517 : (Jvm.Cond.instanceMethod ({ cls := "TuneLoans$Borrower", name := "<init>", desc := "()V" } : Jvm.MethodName)) ∈ lw_all := lw_g (lw_at lw_m2 195 rfl) rfl
theorem q518 : (Jvm.Cond.code ({ cls := "TuneLoans$Borrower", name := "<init>", desc := "()V" } : Jvm.MethodName) prog_2_method_1_code (1 : Nat) (Option.none : Option Jvm.ClassFile.FieldType)) ∈ lw_all := lw_g (lw_at lw_m2 196 rfl) rfl
theorem q519 : (Jvm.Cond.methodLink "TuneLoans$Borrower" (1 : Nat) ({ cls := "java/lang/Object", name := "<init>", desc := "()V" } : Jvm.MethodName)) ∈ lw_all := lw_g (lw_at lw_m2 197 rfl) rfl
theorem q520 : (Jvm.Cond.fieldLink "TuneLoans$Borrower" (7 : Nat) "TuneLoans$Borrower" "note" "I") ∈ lw_all := lw_g (lw_at lw_m2 198 rfl) rfl
theorem q524 : (Jvm.Cond.fieldLink "TuneLoans$Borrower" (19 : Nat) "TuneLoans$Borrower" "other" "I") ∈ lw_all := lw_g (lw_at lw_m2 202 rfl) rfl
theorem q526 : (Jvm.Cond.lays "TuneLoans$Borrower" "TuneLoans$Borrower" "note" "I") ∈ lw_all := lw_g (lw_at lw_m2 204 rfl) rfl
theorem q527 : (Jvm.Cond.soleField "TuneLoans$Borrower" "note") ∈ lw_all := lw_g (lw_at lw_m2 205 rfl) rfl
theorem q528 : (Jvm.Cond.lays "TuneLoans$Borrower" "TuneLoans$Borrower" "other" "I") ∈ lw_all := lw_g (lw_at lw_m2 206 rfl) rfl
theorem q529 : (Jvm.Cond.soleField "TuneLoans$Borrower" "other") ∈ lw_all := lw_g (lw_at lw_m2 207 rfl) rfl
theorem q530 : (Jvm.Cond.superclass "TuneLoans$Borrower" "java/lang/Object") ∈ lw_all := lw_g (lw_at lw_m2 208 rfl) rfl
theorem in_X3 : ∀ w ∈ wsX30, w ∈ lw_all := lw_in wsX30 [526, 528] (by decide +kernel) (by decide +kernel)

/-! TuneLoans$Dropping -/
set_option maxRecDepth 100000
def RX4 : String := "TuneLoans$Dropping"
def TX4 : u_T := fun k => match k with
  | 0 => ("TuneLoans$Borrower", "note", "I", false)
  | _ => ("TuneLoans$Borrower", "other", "I", false)
def tyX4 : Nat → FieldType := fun k => match k with
  | 0 => .int
  | _ => .int
abbrev wsX40 : List Cond := u_ws RX4 TX4 2
theorem nmX4 : ∀ a, a < 2 → ∀ b, b < 2 → a ≠ b → (TX4 a).2.1 ≠ (TX4 b).2.1 := by decide +kernel
theorem tyX4_ok : ∀ k, k < 2 → parseFieldDescriptor (TX4 k).2.2.1 = some (tyX4 k) := by decide +kernel
abbrev cX4_kind : ByteArray := prog_4_method_2_code
def yX4_kind : MethodName := ⟨RX4, "kind", "()I"⟩
abbrev cX4_hums : ByteArray := prog_4_method_3_code
def yX4_hums : MethodName := ⟨RX4, "hums", "(LTuneLoans$Tune;)V"⟩
abbrev cX4_init : ByteArray := prog_4_method_1_code
def yX4_init : MethodName := ⟨RX4, "<init>", "()V"⟩
theorem q87 : (Jvm.Cond.initialized "TuneLoans$Dropping") ∈ lw_all := lw_g (lw_at lw_m1 5 rfl) rfl
theorem q178 : (Jvm.Cond.selects "TuneLoans$Dropping" ({ cls := "TuneLoans$Borrower", name := "kind", desc := "()I" } : Jvm.MethodName) ({ cls := "TuneLoans$Dropping", name := "kind", desc := "()I" } : Jvm.MethodName)) ∈ lw_all := lw_g (lw_at lw_m1 96 rfl) rfl
theorem q179 : (Jvm.Cond.instanceMethod ({ cls := "TuneLoans$Dropping", name := "kind", desc := "()I" } : Jvm.MethodName)) ∈ lw_all := lw_g (lw_at lw_m1 97 rfl) rfl
theorem q180 : (Jvm.Cond.code ({ cls := "TuneLoans$Dropping", name := "kind", desc := "()I" } : Jvm.MethodName) prog_4_method_2_code (1 : Nat) (Option.some Jvm.ClassFile.FieldType.int)) ∈ lw_all := lw_g (lw_at lw_m1 98 rfl) rfl
theorem q269 : (Jvm.Cond.selects "TuneLoans$Dropping" ({ cls := "TuneLoans$Borrower", name := "sings", desc := "(LTuneLoans$Tune;LTuneLoans$Tune;)V" } : Jvm.MethodName) ({ cls := "TuneLoans$Borrower", name := "sings", desc := "(LTuneLoans$Tune;LTuneLoans$Tune;)V" } : Jvm.MethodName)) ∈ lw_all := lw_g (lw_at lw_m1 187 rfl) rfl
theorem q280 : (Jvm.Cond.instanceMethod ({ cls := "TuneLoans$Dropping", name := "hums", desc := "(LTuneLoans$Tune;)V" } : Jvm.MethodName)) ∈ lw_all := lw_g (lw_at lw_m1 198 rfl) rfl
theorem q281 : (Jvm.Cond.code ({ cls := "TuneLoans$Dropping", name := "hums", desc := "(LTuneLoans$Tune;)V" } : Jvm.MethodName) prog_4_method_3_code (2 : Nat) (Option.none : Option Jvm.ClassFile.FieldType)) ∈ lw_all := lw_g (lw_at lw_m1 199 rfl) rfl
theorem q283 : (Jvm.Cond.selects "TuneLoans$Dropping" ({ cls := "TuneLoans$Borrower", name := "hums", desc := "(LTuneLoans$Tune;)V" } : Jvm.MethodName) ({ cls := "TuneLoans$Dropping", name := "hums", desc := "(LTuneLoans$Tune;)V" } : Jvm.MethodName)) ∈ lw_all := lw_g (lw_at lw_m1 201 rfl) rfl
theorem q532 : (Jvm.Cond.instantiable "TuneLoans$Dropping" (2 : Nat)) ∈ lw_all := lw_g (lw_at lw_m2 210 rfl) rfl
theorem q534 : (Jvm.Cond.instanceMethod ({ cls := "TuneLoans$Dropping", name := "<init>", desc := "()V" } : Jvm.MethodName)) ∈ lw_all := lw_g (lw_at lw_m2 212 rfl) rfl
theorem q535 : (Jvm.Cond.code ({ cls := "TuneLoans$Dropping", name := "<init>", desc := "()V" } : Jvm.MethodName) prog_4_method_1_code (1 : Nat) (Option.none : Option Jvm.ClassFile.FieldType)) ∈ lw_all := lw_g (lw_at lw_m2 213 rfl) rfl
theorem q536 : (Jvm.Cond.methodLinkNest "TuneLoans$Dropping" (1 : Nat) ({ cls := "TuneLoans$Borrower", name := "<init>", desc := "()V" } : Jvm.MethodName) "TuneLoans") ∈ lw_tbl := lw_at lw_m2 214 rfl
theorem q537 : (Jvm.Cond.lays "TuneLoans$Dropping" "TuneLoans$Borrower" "note" "I") ∈ lw_all := lw_g (lw_at lw_m2 215 rfl) rfl
theorem q538 : (Jvm.Cond.lays "TuneLoans$Dropping" "TuneLoans$Borrower" "other" "I") ∈ lw_all := lw_g (lw_at lw_m2 216 rfl) rfl
theorem q539 : (Jvm.Cond.superclass "TuneLoans$Dropping" "TuneLoans$Borrower") ∈ lw_all := lw_g (lw_at lw_m2 217 rfl) rfl
theorem q1268 : (Jvm.Cond.sameMethod "TuneLoans$Dropping" "TuneLoans$Dropping" "hums" "(LTuneLoans$Tune;)V") ∈ lw_all := lw_g (lw_at lw_m5 226 rfl) rfl
theorem q1271 : (Jvm.Cond.castable "TuneLoans$Dropping" "TuneLoans$Borrower") ∈ lw_tbl := lw_at lw_m5 229 rfl
theorem in_X4 : ∀ w ∈ wsX40, w ∈ lw_all := lw_in wsX40 [537, 538] (by decide +kernel) (by decide +kernel)

/-! TuneLoans$Changing -/
set_option maxRecDepth 100000
def RX5 : String := "TuneLoans$Changing"
def TX5 : u_T := fun k => match k with
  | 0 => ("TuneLoans$Borrower", "note", "I", false)
  | _ => ("TuneLoans$Borrower", "other", "I", false)
def tyX5 : Nat → FieldType := fun k => match k with
  | 0 => .int
  | _ => .int
abbrev wsX50 : List Cond := u_ws RX5 TX5 2
theorem nmX5 : ∀ a, a < 2 → ∀ b, b < 2 → a ≠ b → (TX5 a).2.1 ≠ (TX5 b).2.1 := by decide +kernel
theorem tyX5_ok : ∀ k, k < 2 → parseFieldDescriptor (TX5 k).2.2.1 = some (tyX5 k) := by decide +kernel
abbrev cX5_kind : ByteArray := prog_3_method_2_code
def yX5_kind : MethodName := ⟨RX5, "kind", "()I"⟩
abbrev cX5_hums : ByteArray := prog_3_method_3_code
def yX5_hums : MethodName := ⟨RX5, "hums", "(LTuneLoans$Tune;)V"⟩
abbrev cX5_init : ByteArray := prog_3_method_1_code
def yX5_init : MethodName := ⟨RX5, "<init>", "()V"⟩
theorem q88 : (Jvm.Cond.initialized "TuneLoans$Changing") ∈ lw_all := lw_g (lw_at lw_m1 6 rfl) rfl
theorem q175 : (Jvm.Cond.selects "TuneLoans$Changing" ({ cls := "TuneLoans$Borrower", name := "kind", desc := "()I" } : Jvm.MethodName) ({ cls := "TuneLoans$Changing", name := "kind", desc := "()I" } : Jvm.MethodName)) ∈ lw_all := lw_g (lw_at lw_m1 93 rfl) rfl
theorem q176 : (Jvm.Cond.instanceMethod ({ cls := "TuneLoans$Changing", name := "kind", desc := "()I" } : Jvm.MethodName)) ∈ lw_all := lw_g (lw_at lw_m1 94 rfl) rfl
theorem q177 : (Jvm.Cond.code ({ cls := "TuneLoans$Changing", name := "kind", desc := "()I" } : Jvm.MethodName) prog_3_method_2_code (1 : Nat) (Option.some Jvm.ClassFile.FieldType.int)) ∈ lw_all := lw_g (lw_at lw_m1 95 rfl) rfl
theorem q268 : (Jvm.Cond.selects "TuneLoans$Changing" ({ cls := "TuneLoans$Borrower", name := "sings", desc := "(LTuneLoans$Tune;LTuneLoans$Tune;)V" } : Jvm.MethodName) ({ cls := "TuneLoans$Borrower", name := "sings", desc := "(LTuneLoans$Tune;LTuneLoans$Tune;)V" } : Jvm.MethodName)) ∈ lw_all := lw_g (lw_at lw_m1 186 rfl) rfl
theorem q275 : (Jvm.Cond.selects "TuneLoans$Changing" ({ cls := "TuneLoans$Borrower", name := "hums", desc := "(LTuneLoans$Tune;)V" } : Jvm.MethodName) ({ cls := "TuneLoans$Changing", name := "hums", desc := "(LTuneLoans$Tune;)V" } : Jvm.MethodName)) ∈ lw_all := lw_g (lw_at lw_m1 193 rfl) rfl
theorem q276 : (Jvm.Cond.instanceMethod ({ cls := "TuneLoans$Changing", name := "hums", desc := "(LTuneLoans$Tune;)V" } : Jvm.MethodName)) ∈ lw_all := lw_g (lw_at lw_m1 194 rfl) rfl
theorem q277 : (Jvm.Cond.code ({ cls := "TuneLoans$Changing", name := "hums", desc := "(LTuneLoans$Tune;)V" } : Jvm.MethodName) prog_3_method_3_code (2 : Nat) (Option.none : Option Jvm.ClassFile.FieldType)) ∈ lw_all := lw_g (lw_at lw_m1 195 rfl) rfl
theorem q278 : (Jvm.Cond.methodLink "TuneLoans$Changing" (7 : Nat) ({ cls := "TuneLoans$Dropping", name := "hums", desc := "(LTuneLoans$Tune;)V" } : Jvm.MethodName)) ∈ lw_all := lw_g (lw_at lw_m1 196 rfl) rfl
theorem q279 : (Jvm.Cond.superclass "TuneLoans$Changing" "TuneLoans$Dropping") ∈ lw_all := lw_g (lw_at lw_m1 197 rfl) rfl
theorem q282 : (Jvm.Cond.methodLink "TuneLoans$Changing" (17 : Nat) ({ cls := "TuneLoans$Tune", name := "adds", desc := "(I)V" } : Jvm.MethodName)) ∈ lw_all := lw_g (lw_at lw_m1 200 rfl) rfl
theorem q522 : (Jvm.Cond.fieldLink "TuneLoans$Changing" (11 : Nat) "TuneLoans$Changing" "other" "I") ∈ lw_all := lw_g (lw_at lw_m2 200 rfl) rfl
theorem q523 : (Jvm.Cond.sameField "TuneLoans$Changing" "TuneLoans$Borrower" "other" "I") ∈ lw_all := lw_g (lw_at lw_m2 201 rfl) rfl
theorem q541 : (Jvm.Cond.instantiable "TuneLoans$Changing" (2 : Nat)) ∈ lw_all := lw_g (lw_at lw_m2 219 rfl) rfl
theorem q543 : (Jvm.Cond.instanceMethod ({ cls := "TuneLoans$Changing", name := "<init>", desc := "()V" } : Jvm.MethodName)) ∈ lw_all := lw_g (lw_at lw_m2 221 rfl) rfl
theorem q544 : (Jvm.Cond.code ({ cls := "TuneLoans$Changing", name := "<init>", desc := "()V" } : Jvm.MethodName) prog_3_method_1_code (1 : Nat) (Option.none : Option Jvm.ClassFile.FieldType)) ∈ lw_all := lw_g (lw_at lw_m2 222 rfl) rfl
theorem q545 : (Jvm.Cond.methodLinkNest "TuneLoans$Changing" (1 : Nat) ({ cls := "TuneLoans$Dropping", name := "<init>", desc := "()V" } : Jvm.MethodName) "TuneLoans") ∈ lw_tbl := lw_at lw_m2 223 rfl
theorem q546 : (Jvm.Cond.lays "TuneLoans$Changing" "TuneLoans$Borrower" "note" "I") ∈ lw_all := lw_g (lw_at lw_m2 224 rfl) rfl
theorem q547 : (Jvm.Cond.lays "TuneLoans$Changing" "TuneLoans$Borrower" "other" "I") ∈ lw_all := lw_g (lw_at lw_m2 225 rfl) rfl
theorem q1272 : (Jvm.Cond.castable "TuneLoans$Changing" "TuneLoans$Borrower") ∈ lw_tbl := lw_at lw_m5 230 rfl
theorem in_X5 : ∀ w ∈ wsX50, w ∈ lw_all := lw_in wsX50 [546, 547] (by decide +kernel) (by decide +kernel)

/-! TuneLoansModel -/
set_option maxRecDepth 100000
def RX6 : String := "TuneLoansModel"
def TX6 : u_T := fun k => match k with
  | 0 => ("TuneLoansModel", "forms", "[I", true)
  | 1 => ("TuneLoansModel", "sizes", "[I", true)
  | 2 => ("TuneLoansModel", "items", "[I", true)
  | 3 => ("TuneLoansModel", "moved", "[I", true)
  | 4 => ("TuneLoansModel", "latest", "I", false)
  | 5 => ("TuneLoansModel", "bytes", "[I", true)
  | 6 => ("TuneLoansModel", "typed", "[I", true)
  | 7 => ("TuneLoansModel", "tunes", "I", false)
  | 8 => ("TuneLoansModel", "told", "[I", true)
  | 9 => ("TuneLoansModel", "toldLong", "[I", true)
  | 10 => ("TuneLoansModel", "borrowers", "I", false)
  | 11 => ("TuneLoansModel", "hummer", "[I", true)
  | 12 => ("TuneLoansModel", "loans", "I", false)
  | 13 => ("TuneLoansModel", "loan", "[I", true)
  | 14 => ("TuneLoansModel", "hears", "I", false)
  | 15 => ("TuneLoansModel", "now", "[I", true)
  | 16 => ("TuneLoansModel", "nowLong", "[I", true)
  | 17 => ("TuneLoansModel", "lent", "[I", true)
  | 18 => ("TuneLoansModel", "lentLong", "[I", true)
  | 19 => ("TuneLoansModel", "holder", "[I", true)
  | 20 => ("TuneLoansModel", "heldBy", "[I", true)
  | 21 => ("TuneLoansModel", "counts", "[I", true)
  | 22 => ("TuneLoansModel", "bads", "[I", true)
  | 23 => ("TuneLoansModel", "mores", "[I", true)
  | 24 => ("TuneLoansModel", "changed", "[I", true)
  | _ => ("TuneLoansModel", "row", "[I", true)
def tyX6 : Nat → FieldType := fun k => match k with
  | 0 => .array .int
  | 1 => .array .int
  | 2 => .array .int
  | 3 => .array .int
  | 4 => .int
  | 5 => .array .int
  | 6 => .array .int
  | 7 => .int
  | 8 => .array .int
  | 9 => .array .int
  | 10 => .int
  | 11 => .array .int
  | 12 => .int
  | 13 => .array .int
  | 14 => .int
  | 15 => .array .int
  | 16 => .array .int
  | 17 => .array .int
  | 18 => .array .int
  | 19 => .array .int
  | 20 => .array .int
  | 21 => .array .int
  | 22 => .array .int
  | 23 => .array .int
  | 24 => .array .int
  | _ => .array .int
abbrev wsX60 : List Cond := u_ws RX6 TX6 26
set_option maxRecDepth 100000 in
theorem nmX6 : ∀ a, a < 26 → ∀ b, b < 26 → a ≠ b → (TX6 a).2.1 ≠ (TX6 b).2.1 := by decide +kernel
set_option maxRecDepth 100000 in
theorem tyX6_ok : ∀ k, k < 26 → parseFieldDescriptor (TX6 k).2.2.1 = some (tyX6 k) := by decide +kernel
abbrev cX6_init : ByteArray := prog_8_method_1_code
def yX6_init : MethodName := ⟨RX6, "<init>", "()V"⟩
abbrev cX6_sheet : ByteArray := prog_8_method_13_code
def yX6_sheet : MethodName := ⟨RX6, "sheet", "(III)I"⟩
abbrev cX6_isSheet : ByteArray := prog_8_method_12_code
def yX6_isSheet : MethodName := ⟨RX6, "isSheet", "(I)Z"⟩
abbrev cX6_in : ByteArray := prog_8_method_3_code
def yX6_in : MethodName := ⟨RX6, "in", "(JJJ)Z"⟩
abbrev cX6_finds : ByteArray := prog_8_method_11_code
def yX6_finds : MethodName := ⟨RX6, "finds", "(I)I"⟩
abbrev cX6_lose : ByteArray := prog_8_method_14_code
def yX6_lose : MethodName := ⟨RX6, "lose", "(I)I"⟩
abbrev cX6_lay : ByteArray := prog_8_method_17_code
def yX6_lay : MethodName := ⟨RX6, "lay", "(IIII)I"⟩
abbrev cX6_lacks : ByteArray := prog_8_method_15_code
def yX6_lacks : MethodName := ⟨RX6, "lacks", "(III)I"⟩
abbrev cX6_cut : ByteArray := prog_8_method_16_code
def yX6_cut : MethodName := ⟨RX6, "cut", "(II)I"⟩
abbrev cX6_get : ByteArray := prog_8_method_18_code
def yX6_get : MethodName := ⟨RX6, "get", "(III)I"⟩
abbrev cX6_copy : ByteArray := prog_8_method_19_code
def yX6_copy : MethodName := ⟨RX6, "copy", "(IIIII)I"⟩
abbrev cX6_type : ByteArray := prog_8_method_20_code
def yX6_type : MethodName := ⟨RX6, "type", "(II)I"⟩
abbrev cX6_isTwo : ByteArray := prog_8_method_5_code
def yX6_isTwo : MethodName := ⟨RX6, "isTwo", "(I)Z"⟩
abbrev cX6_wipe : ByteArray := prog_8_method_21_code
def yX6_wipe : MethodName := ⟨RX6, "wipe", "(I)I"⟩
abbrev cX6_undo : ByteArray := prog_8_method_22_code
def yX6_undo : MethodName := ⟨RX6, "undo", "(I)I"⟩
abbrev cX6_fault : ByteArray := prog_8_method_28_code
def yX6_fault : MethodName := ⟨RX6, "fault", "(I)I"⟩
abbrev cX6_readsTunes : ByteArray := prog_8_method_24_code
def yX6_readsTunes : MethodName := ⟨RX6, "readsTunes", "()I"⟩
abbrev cX6_tunesFault : ByteArray := prog_8_method_23_code
def yX6_tunesFault : MethodName := ⟨RX6, "tunesFault", "(I)I"⟩
abbrev cX6_readsBorrowers : ByteArray := prog_8_method_26_code
def yX6_readsBorrowers : MethodName := ⟨RX6, "readsBorrowers", "()I"⟩
abbrev cX6_howOf : ByteArray := prog_8_method_25_code
def yX6_howOf : MethodName := ⟨RX6, "howOf", "(I)I"⟩
abbrev cX6_tune : ByteArray := prog_8_method_32_code
def yX6_tune : MethodName := ⟨RX6, "tune", "(II)I"⟩
abbrev cX6_reads : ByteArray := prog_8_method_27_code
def yX6_reads : MethodName := ⟨RX6, "reads", "()V"⟩
abbrev cX6_isTune : ByteArray := prog_8_method_29_code
def yX6_isTune : MethodName := ⟨RX6, "isTune", "(I)Z"⟩
abbrev cX6_borrower : ByteArray := prog_8_method_33_code
def yX6_borrower : MethodName := ⟨RX6, "borrower", "(II)I"⟩
abbrev cX6_isBorrower : ByteArray := prog_8_method_30_code
def yX6_isBorrower : MethodName := ⟨RX6, "isBorrower", "(I)Z"⟩
abbrev cX6_loan : ByteArray := prog_8_method_34_code
def yX6_loan : MethodName := ⟨RX6, "loan", "(IIII)I"⟩
abbrev cX6_isYear : ByteArray := prog_8_method_31_code
def yX6_isYear : MethodName := ⟨RX6, "isYear", "(I)Z"⟩
abbrev cX6_back : ByteArray := prog_8_method_35_code
def yX6_back : MethodName := ⟨RX6, "back", "()I"⟩
abbrev cX6_read : ByteArray := prog_8_method_36_code
def yX6_read : MethodName := ⟨RX6, "read", "(I)I"⟩
abbrev cX6_ear : ByteArray := prog_8_method_37_code
def yX6_ear : MethodName := ⟨RX6, "ear", "(I)I"⟩
abbrev cX6_notes : ByteArray := prog_8_method_47_code
def yX6_notes : MethodName := ⟨RX6, "notes", "(III)I"⟩
abbrev cX6_notesOf : ByteArray := prog_8_method_46_code
def yX6_notesOf : MethodName := ⟨RX6, "notesOf", "(III)I"⟩
abbrev cX6_lives : ByteArray := prog_8_method_45_code
def yX6_lives : MethodName := ⟨RX6, "lives", "(II)V"⟩
abbrev cX6_startsAll : ByteArray := prog_8_method_41_code
def yX6_startsAll : MethodName := ⟨RX6, "startsAll", "()V"⟩
abbrev cX6_begins : ByteArray := prog_8_method_38_code
def yX6_begins : MethodName := ⟨RX6, "begins", "(II)V"⟩
abbrev cX6_goesOn : ByteArray := prog_8_method_44_code
def yX6_goesOn : MethodName := ⟨RX6, "goesOn", "(II)V"⟩
abbrev cX6_lends : ByteArray := prog_8_method_42_code
def yX6_lends : MethodName := ⟨RX6, "lends", "(I)V"⟩
abbrev cX6_hummed : ByteArray := prog_8_method_39_code
def yX6_hummed : MethodName := ⟨RX6, "hummed", "(II)V"⟩
abbrev cX6_lesser : ByteArray := prog_8_method_8_code
def yX6_lesser : MethodName := ⟨RX6, "lesser", "(II)I"⟩
abbrev cX6_returns : ByteArray := prog_8_method_43_code
def yX6_returns : MethodName := ⟨RX6, "returns", "(II)V"⟩
abbrev cX6_commonOf : ByteArray := prog_8_method_40_code
def yX6_commonOf : MethodName := ⟨RX6, "commonOf", "([III[III)I"⟩
abbrev cX6_greater : ByteArray := prog_8_method_9_code
def yX6_greater : MethodName := ⟨RX6, "greater", "(II)I"⟩
abbrev cX6_has : ByteArray := prog_8_method_49_code
def yX6_has : MethodName := ⟨RX6, "has", "(II)I"⟩
abbrev cX6_hasOf : ByteArray := prog_8_method_48_code
def yX6_hasOf : MethodName := ⟨RX6, "hasOf", "(II)I"⟩
abbrev cX6_came : ByteArray := prog_8_method_51_code
def yX6_came : MethodName := ⟨RX6, "came", "(II)I"⟩
abbrev cX6_cameOf : ByteArray := prog_8_method_50_code
def yX6_cameOf : MethodName := ⟨RX6, "cameOf", "(II)I"⟩
abbrev cX6_interest : ByteArray := prog_8_method_53_code
def yX6_interest : MethodName := ⟨RX6, "interest", "(I)I"⟩
abbrev cX6_interestBy : ByteArray := prog_8_method_52_code
def yX6_interestBy : MethodName := ⟨RX6, "interestBy", "(II)I"⟩
abbrev cX6_home : ByteArray := prog_8_method_55_code
def yX6_home : MethodName := ⟨RX6, "home", "(I)I"⟩
abbrev cX6_homeOf : ByteArray := prog_8_method_54_code
def yX6_homeOf : MethodName := ⟨RX6, "homeOf", "(I)I"⟩
abbrev cX6_lend : ByteArray := prog_8_method_61_code
def yX6_lend : MethodName := ⟨RX6, "lend", "(III)I"⟩
abbrev cX6_lendOf : ByteArray := prog_8_method_60_code
def yX6_lendOf : MethodName := ⟨RX6, "lendOf", "(III)I"⟩
abbrev cX6_codes : ByteArray := prog_8_method_56_code
def yX6_codes : MethodName := ⟨RX6, "codes", "(I)I"⟩
abbrev cX6_turns : ByteArray := prog_8_method_58_code
def yX6_turns : MethodName := ⟨RX6, "turns", "(III)V"⟩
abbrev cX6_figureOf : ByteArray := prog_8_method_57_code
def yX6_figureOf : MethodName := ⟨RX6, "figureOf", "(III)I"⟩
abbrev cX6_notesNow : ByteArray := prog_8_method_59_code
def yX6_notesNow : MethodName := ⟨RX6, "notesNow", "()I"⟩
abbrev cX6_longest : ByteArray := prog_8_method_63_code
def yX6_longest : MethodName := ⟨RX6, "longest", "(III)I"⟩
abbrev cX6_longestOf : ByteArray := prog_8_method_62_code
def yX6_longestOf : MethodName := ⟨RX6, "longestOf", "(III)I"⟩
abbrev cX6_who : ByteArray := prog_8_method_67_code
def yX6_who : MethodName := ⟨RX6, "who", "(III)I"⟩
abbrev cX6_whoOf : ByteArray := prog_8_method_66_code
def yX6_whoOf : MethodName := ⟨RX6, "whoOf", "(III)I"⟩
abbrev cX6_isNow : ByteArray := prog_8_method_64_code
def yX6_isNow : MethodName := ⟨RX6, "isNow", "(I)Z"⟩
abbrev cX6_rowOf : ByteArray := prog_8_method_65_code
def yX6_rowOf : MethodName := ⟨RX6, "rowOf", "(II)I"⟩
abbrev cX6_common : ByteArray := prog_8_method_69_code
def yX6_common : MethodName := ⟨RX6, "common", "(II)I"⟩
abbrev cX6_commonBoth : ByteArray := prog_8_method_68_code
def yX6_commonBoth : MethodName := ⟨RX6, "commonBoth", "(II)I"⟩
abbrev cX6_far : ByteArray := prog_8_method_71_code
def yX6_far : MethodName := ⟨RX6, "far", "(II)I"⟩
abbrev cX6_farOf : ByteArray := prog_8_method_70_code
def yX6_farOf : MethodName := ⟨RX6, "farOf", "(II)I"⟩
abbrev cX6_nearest : ByteArray := prog_8_method_73_code
def yX6_nearest : MethodName := ⟨RX6, "nearest", "(I)I"⟩
abbrev cX6_nearestOf : ByteArray := prog_8_method_72_code
def yX6_nearestOf : MethodName := ⟨RX6, "nearestOf", "(I)I"⟩
abbrev cX6_mothers : ByteArray := prog_8_method_75_code
def yX6_mothers : MethodName := ⟨RX6, "mothers", "(I)I"⟩
abbrev cX6_mothersOf : ByteArray := prog_8_method_74_code
def yX6_mothersOf : MethodName := ⟨RX6, "mothersOf", "(I)I"⟩
abbrev cX6_tells : ByteArray := prog_8_method_79_code
def yX6_tells : MethodName := ⟨RX6, "tells", "(II)I"⟩
abbrev cX6_tellsOf : ByteArray := prog_8_method_77_code
def yX6_tellsOf : MethodName := ⟨RX6, "tellsOf", "(I)I"⟩
abbrev cX6_ones : ByteArray := prog_8_method_7_code
def yX6_ones : MethodName := ⟨RX6, "ones", "(I)I"⟩
abbrev cX6_isIn : ByteArray := prog_8_method_6_code
def yX6_isIn : MethodName := ⟨RX6, "isIn", "(II)Z"⟩
abbrev cX6_noteAt : ByteArray := prog_8_method_76_code
def yX6_noteAt : MethodName := ⟨RX6, "noteAt", "(II)I"⟩
abbrev cX6_tellsBits : ByteArray := prog_8_method_78_code
def yX6_tellsBits : MethodName := ⟨RX6, "tellsBits", "(II)I"⟩
abbrev cX6_loses : ByteArray := prog_8_method_81_code
def yX6_loses : MethodName := ⟨RX6, "loses", "(I)I"⟩
abbrev cX6_losesOf : ByteArray := prog_8_method_80_code
def yX6_losesOf : MethodName := ⟨RX6, "losesOf", "(I)I"⟩
abbrev cX6_best : ByteArray := prog_8_method_83_code
def yX6_best : MethodName := ⟨RX6, "best", "(I)I"⟩
abbrev cX6_bestOf : ByteArray := prog_8_method_82_code
def yX6_bestOf : MethodName := ⟨RX6, "bestOf", "(I)I"⟩
abbrev cX6_hums : ByteArray := prog_8_method_85_code
def yX6_hums : MethodName := ⟨RX6, "hums", "(IIIIII)J"⟩
abbrev cX6_humsOf : ByteArray := prog_8_method_84_code
def yX6_humsOf : MethodName := ⟨RX6, "humsOf", "(IIIIII)J"⟩
abbrev cX6_part : ByteArray := prog_8_method_10_code
def yX6_part : MethodName := ⟨RX6, "part", "(JJI)J"⟩
abbrev cX6_no : ByteArray := prog_8_method_4_code
def yX6_no : MethodName := ⟨RX6, "no", "(I)J"⟩
abbrev cX6_fair : ByteArray := prog_8_method_87_code
def yX6_fair : MethodName := ⟨RX6, "fair", "(III)I"⟩
abbrev cX6_fairOf : ByteArray := prog_8_method_86_code
def yX6_fairOf : MethodName := ⟨RX6, "fairOf", "(III)I"⟩
abbrev cX6_write : ByteArray := prog_8_method_88_code
def yX6_write : MethodName := ⟨RX6, "write", "(III)I"⟩
abbrev cX6_count : ByteArray := prog_8_method_89_code
def yX6_count : MethodName := ⟨RX6, "count", "(I)I"⟩
abbrev cX6_digest : ByteArray := prog_8_method_91_code
def yX6_digest : MethodName := ⟨RX6, "digest", "()J"⟩
abbrev cX6_tellsTune : ByteArray := prog_8_method_90_code
def yX6_tellsTune : MethodName := ⟨RX6, "tellsTune", "(JI)J"⟩
theorem q89 : (Jvm.Cond.initialized "TuneLoansModel") ∈ lw_all := lw_g (lw_at lw_m1 7 rfl) rfl
theorem q818 : (Jvm.Cond.instantiable "TuneLoansModel" (26 : Nat)) ∈ lw_all := lw_g (lw_at lw_m4 16 rfl) rfl
theorem q820 : (Jvm.Cond.instanceMethod ({ cls := "TuneLoansModel", name := "<init>", desc := "()V" } : Jvm.MethodName)) ∈ lw_all := lw_g (lw_at lw_m4 18 rfl) rfl
theorem q821 : (Jvm.Cond.code ({ cls := "TuneLoansModel", name := "<init>", desc := "()V" } : Jvm.MethodName) prog_8_method_1_code (2 : Nat) (Option.none : Option Jvm.ClassFile.FieldType)) ∈ lw_all := lw_g (lw_at lw_m4 19 rfl) rfl
theorem q822 : (Jvm.Cond.methodLink "TuneLoansModel" (1 : Nat) ({ cls := "java/lang/Object", name := "<init>", desc := "()V" } : Jvm.MethodName)) ∈ lw_all := lw_g (lw_at lw_m4 20 rfl) rfl
theorem q823 : (Jvm.Cond.fieldLink "TuneLoansModel" (7 : Nat) "TuneLoansModel" "forms" "[I") ∈ lw_all := lw_g (lw_at lw_m4 21 rfl) rfl
theorem q824 : (Jvm.Cond.fieldLink "TuneLoansModel" (13 : Nat) "TuneLoansModel" "sizes" "[I") ∈ lw_all := lw_g (lw_at lw_m4 22 rfl) rfl
theorem q825 : (Jvm.Cond.fieldLink "TuneLoansModel" (16 : Nat) "TuneLoansModel" "items" "[I") ∈ lw_all := lw_g (lw_at lw_m4 23 rfl) rfl
theorem q826 : (Jvm.Cond.fieldLink "TuneLoansModel" (19 : Nat) "TuneLoansModel" "moved" "[I") ∈ lw_all := lw_g (lw_at lw_m4 24 rfl) rfl
theorem q827 : (Jvm.Cond.fieldLink "TuneLoansModel" (83 : Nat) "TuneLoansModel" "latest" "I") ∈ lw_all := lw_g (lw_at lw_m4 25 rfl) rfl
theorem q828 : (Jvm.Cond.fieldLink "TuneLoansModel" (22 : Nat) "TuneLoansModel" "bytes" "[I") ∈ lw_all := lw_g (lw_at lw_m4 26 rfl) rfl
theorem q829 : (Jvm.Cond.fieldLink "TuneLoansModel" (25 : Nat) "TuneLoansModel" "typed" "[I") ∈ lw_all := lw_g (lw_at lw_m4 27 rfl) rfl
theorem q830 : (Jvm.Cond.fieldLink "TuneLoansModel" (112 : Nat) "TuneLoansModel" "tunes" "I") ∈ lw_all := lw_g (lw_at lw_m4 28 rfl) rfl
theorem q831 : (Jvm.Cond.fieldLink "TuneLoansModel" (28 : Nat) "TuneLoansModel" "told" "[I") ∈ lw_all := lw_g (lw_at lw_m4 29 rfl) rfl
theorem q832 : (Jvm.Cond.fieldLink "TuneLoansModel" (31 : Nat) "TuneLoansModel" "toldLong" "[I") ∈ lw_all := lw_g (lw_at lw_m4 30 rfl) rfl
theorem q833 : (Jvm.Cond.fieldLink "TuneLoansModel" (122 : Nat) "TuneLoansModel" "borrowers" "I") ∈ lw_all := lw_g (lw_at lw_m4 31 rfl) rfl
theorem q834 : (Jvm.Cond.fieldLink "TuneLoansModel" (34 : Nat) "TuneLoansModel" "hummer" "[I") ∈ lw_all := lw_g (lw_at lw_m4 32 rfl) rfl
theorem q835 : (Jvm.Cond.fieldLink "TuneLoansModel" (157 : Nat) "TuneLoansModel" "loans" "I") ∈ lw_all := lw_g (lw_at lw_m4 33 rfl) rfl
theorem q836 : (Jvm.Cond.fieldLink "TuneLoansModel" (37 : Nat) "TuneLoansModel" "loan" "[I") ∈ lw_all := lw_g (lw_at lw_m4 34 rfl) rfl
theorem q837 : (Jvm.Cond.fieldLink "TuneLoansModel" (73 : Nat) "TuneLoansModel" "hears" "I") ∈ lw_all := lw_g (lw_at lw_m4 35 rfl) rfl
theorem q838 : (Jvm.Cond.fieldLink "TuneLoansModel" (40 : Nat) "TuneLoansModel" "now" "[I") ∈ lw_all := lw_g (lw_at lw_m4 36 rfl) rfl
theorem q839 : (Jvm.Cond.fieldLink "TuneLoansModel" (43 : Nat) "TuneLoansModel" "nowLong" "[I") ∈ lw_all := lw_g (lw_at lw_m4 37 rfl) rfl
theorem q840 : (Jvm.Cond.fieldLink "TuneLoansModel" (46 : Nat) "TuneLoansModel" "lent" "[I") ∈ lw_all := lw_g (lw_at lw_m4 38 rfl) rfl
theorem q841 : (Jvm.Cond.fieldLink "TuneLoansModel" (49 : Nat) "TuneLoansModel" "lentLong" "[I") ∈ lw_all := lw_g (lw_at lw_m4 39 rfl) rfl
theorem q842 : (Jvm.Cond.fieldLink "TuneLoansModel" (52 : Nat) "TuneLoansModel" "holder" "[I") ∈ lw_all := lw_g (lw_at lw_m4 40 rfl) rfl
theorem q843 : (Jvm.Cond.fieldLink "TuneLoansModel" (55 : Nat) "TuneLoansModel" "heldBy" "[I") ∈ lw_all := lw_g (lw_at lw_m4 41 rfl) rfl
theorem q844 : (Jvm.Cond.fieldLink "TuneLoansModel" (58 : Nat) "TuneLoansModel" "counts" "[I") ∈ lw_all := lw_g (lw_at lw_m4 42 rfl) rfl
theorem q845 : (Jvm.Cond.fieldLink "TuneLoansModel" (61 : Nat) "TuneLoansModel" "bads" "[I") ∈ lw_all := lw_g (lw_at lw_m4 43 rfl) rfl
theorem q846 : (Jvm.Cond.fieldLink "TuneLoansModel" (64 : Nat) "TuneLoansModel" "mores" "[I") ∈ lw_all := lw_g (lw_at lw_m4 44 rfl) rfl
theorem q847 : (Jvm.Cond.fieldLink "TuneLoansModel" (67 : Nat) "TuneLoansModel" "changed" "[I") ∈ lw_all := lw_g (lw_at lw_m4 45 rfl) rfl
theorem q848 : (Jvm.Cond.fieldLink "TuneLoansModel" (70 : Nat) "TuneLoansModel" "row" "[I") ∈ lw_all := lw_g (lw_at lw_m4 46 rfl) rfl
theorem q849 : (Jvm.Cond.laysFinal "TuneLoansModel" "TuneLoansModel" "forms" "[I") ∈ lw_all := lw_g (lw_at lw_m4 47 rfl) rfl
theorem q850 : (Jvm.Cond.soleField "TuneLoansModel" "forms") ∈ lw_all := lw_g (lw_at lw_m4 48 rfl) rfl
theorem q851 : (Jvm.Cond.laysFinal "TuneLoansModel" "TuneLoansModel" "sizes" "[I") ∈ lw_all := lw_g (lw_at lw_m4 49 rfl) rfl
theorem q852 : (Jvm.Cond.soleField "TuneLoansModel" "sizes") ∈ lw_all := lw_g (lw_at lw_m4 50 rfl) rfl
theorem q853 : (Jvm.Cond.laysFinal "TuneLoansModel" "TuneLoansModel" "items" "[I") ∈ lw_all := lw_g (lw_at lw_m4 51 rfl) rfl
theorem q854 : (Jvm.Cond.soleField "TuneLoansModel" "items") ∈ lw_all := lw_g (lw_at lw_m4 52 rfl) rfl
theorem q855 : (Jvm.Cond.laysFinal "TuneLoansModel" "TuneLoansModel" "moved" "[I") ∈ lw_all := lw_g (lw_at lw_m4 53 rfl) rfl
theorem q856 : (Jvm.Cond.soleField "TuneLoansModel" "moved") ∈ lw_all := lw_g (lw_at lw_m4 54 rfl) rfl
theorem q857 : (Jvm.Cond.lays "TuneLoansModel" "TuneLoansModel" "latest" "I") ∈ lw_all := lw_g (lw_at lw_m4 55 rfl) rfl
theorem q858 : (Jvm.Cond.soleField "TuneLoansModel" "latest") ∈ lw_all := lw_g (lw_at lw_m4 56 rfl) rfl
theorem q859 : (Jvm.Cond.laysFinal "TuneLoansModel" "TuneLoansModel" "bytes" "[I") ∈ lw_all := lw_g (lw_at lw_m4 57 rfl) rfl
theorem q860 : (Jvm.Cond.soleField "TuneLoansModel" "bytes") ∈ lw_all := lw_g (lw_at lw_m4 58 rfl) rfl
theorem q861 : (Jvm.Cond.laysFinal "TuneLoansModel" "TuneLoansModel" "typed" "[I") ∈ lw_all := lw_g (lw_at lw_m4 59 rfl) rfl
theorem q862 : (Jvm.Cond.soleField "TuneLoansModel" "typed") ∈ lw_all := lw_g (lw_at lw_m4 60 rfl) rfl
theorem q863 : (Jvm.Cond.lays "TuneLoansModel" "TuneLoansModel" "tunes" "I") ∈ lw_all := lw_g (lw_at lw_m4 61 rfl) rfl
theorem q864 : (Jvm.Cond.soleField "TuneLoansModel" "tunes") ∈ lw_all := lw_g (lw_at lw_m4 62 rfl) rfl
theorem q865 : (Jvm.Cond.laysFinal "TuneLoansModel" "TuneLoansModel" "told" "[I") ∈ lw_all := lw_g (lw_at lw_m4 63 rfl) rfl
theorem q866 : (Jvm.Cond.soleField "TuneLoansModel" "told") ∈ lw_all := lw_g (lw_at lw_m4 64 rfl) rfl
theorem q867 : (Jvm.Cond.laysFinal "TuneLoansModel" "TuneLoansModel" "toldLong" "[I") ∈ lw_all := lw_g (lw_at lw_m4 65 rfl) rfl
theorem q868 : (Jvm.Cond.soleField "TuneLoansModel" "toldLong") ∈ lw_all := lw_g (lw_at lw_m4 66 rfl) rfl
theorem q869 : (Jvm.Cond.lays "TuneLoansModel" "TuneLoansModel" "borrowers" "I") ∈ lw_all := lw_g (lw_at lw_m4 67 rfl) rfl
theorem q870 : (Jvm.Cond.soleField "TuneLoansModel" "borrowers") ∈ lw_all := lw_g (lw_at lw_m4 68 rfl) rfl
theorem q871 : (Jvm.Cond.laysFinal "TuneLoansModel" "TuneLoansModel" "hummer" "[I") ∈ lw_all := lw_g (lw_at lw_m4 69 rfl) rfl
theorem q872 : (Jvm.Cond.soleField "TuneLoansModel" "hummer") ∈ lw_all := lw_g (lw_at lw_m4 70 rfl) rfl
theorem q873 : (Jvm.Cond.lays "TuneLoansModel" "TuneLoansModel" "loans" "I") ∈ lw_all := lw_g (lw_at lw_m4 71 rfl) rfl
theorem q874 : (Jvm.Cond.soleField "TuneLoansModel" "loans") ∈ lw_all := lw_g (lw_at lw_m4 72 rfl) rfl
theorem q875 : (Jvm.Cond.laysFinal "TuneLoansModel" "TuneLoansModel" "loan" "[I") ∈ lw_all := lw_g (lw_at lw_m4 73 rfl) rfl
theorem q876 : (Jvm.Cond.soleField "TuneLoansModel" "loan") ∈ lw_all := lw_g (lw_at lw_m4 74 rfl) rfl
theorem q877 : (Jvm.Cond.lays "TuneLoansModel" "TuneLoansModel" "hears" "I") ∈ lw_all := lw_g (lw_at lw_m4 75 rfl) rfl
theorem q878 : (Jvm.Cond.soleField "TuneLoansModel" "hears") ∈ lw_all := lw_g (lw_at lw_m4 76 rfl) rfl
theorem q879 : (Jvm.Cond.laysFinal "TuneLoansModel" "TuneLoansModel" "now" "[I") ∈ lw_all := lw_g (lw_at lw_m4 77 rfl) rfl
theorem q880 : (Jvm.Cond.soleField "TuneLoansModel" "now") ∈ lw_all := lw_g (lw_at lw_m4 78 rfl) rfl
theorem q881 : (Jvm.Cond.laysFinal "TuneLoansModel" "TuneLoansModel" "nowLong" "[I") ∈ lw_all := lw_g (lw_at lw_m4 79 rfl) rfl
theorem q882 : (Jvm.Cond.soleField "TuneLoansModel" "nowLong") ∈ lw_all := lw_g (lw_at lw_m4 80 rfl) rfl
theorem q883 : (Jvm.Cond.laysFinal "TuneLoansModel" "TuneLoansModel" "lent" "[I") ∈ lw_all := lw_g (lw_at lw_m4 81 rfl) rfl
theorem q884 : (Jvm.Cond.soleField "TuneLoansModel" "lent") ∈ lw_all := lw_g (lw_at lw_m4 82 rfl) rfl
theorem q885 : (Jvm.Cond.laysFinal "TuneLoansModel" "TuneLoansModel" "lentLong" "[I") ∈ lw_all := lw_g (lw_at lw_m4 83 rfl) rfl
theorem q886 : (Jvm.Cond.soleField "TuneLoansModel" "lentLong") ∈ lw_all := lw_g (lw_at lw_m4 84 rfl) rfl
theorem q887 : (Jvm.Cond.laysFinal "TuneLoansModel" "TuneLoansModel" "holder" "[I") ∈ lw_all := lw_g (lw_at lw_m4 85 rfl) rfl
theorem q888 : (Jvm.Cond.soleField "TuneLoansModel" "holder") ∈ lw_all := lw_g (lw_at lw_m4 86 rfl) rfl
theorem q889 : (Jvm.Cond.laysFinal "TuneLoansModel" "TuneLoansModel" "heldBy" "[I") ∈ lw_all := lw_g (lw_at lw_m4 87 rfl) rfl
theorem q890 : (Jvm.Cond.soleField "TuneLoansModel" "heldBy") ∈ lw_all := lw_g (lw_at lw_m4 88 rfl) rfl
theorem q891 : (Jvm.Cond.laysFinal "TuneLoansModel" "TuneLoansModel" "counts" "[I") ∈ lw_all := lw_g (lw_at lw_m4 89 rfl) rfl
theorem q892 : (Jvm.Cond.soleField "TuneLoansModel" "counts") ∈ lw_all := lw_g (lw_at lw_m4 90 rfl) rfl
theorem q893 : (Jvm.Cond.laysFinal "TuneLoansModel" "TuneLoansModel" "bads" "[I") ∈ lw_all := lw_g (lw_at lw_m4 91 rfl) rfl
theorem q894 : (Jvm.Cond.soleField "TuneLoansModel" "bads") ∈ lw_all := lw_g (lw_at lw_m4 92 rfl) rfl
theorem q895 : (Jvm.Cond.laysFinal "TuneLoansModel" "TuneLoansModel" "mores" "[I") ∈ lw_all := lw_g (lw_at lw_m4 93 rfl) rfl
theorem q896 : (Jvm.Cond.soleField "TuneLoansModel" "mores") ∈ lw_all := lw_g (lw_at lw_m4 94 rfl) rfl
theorem q897 : (Jvm.Cond.laysFinal "TuneLoansModel" "TuneLoansModel" "changed" "[I") ∈ lw_all := lw_g (lw_at lw_m4 95 rfl) rfl
theorem q898 : (Jvm.Cond.soleField "TuneLoansModel" "changed") ∈ lw_all := lw_g (lw_at lw_m4 96 rfl) rfl
theorem q899 : (Jvm.Cond.laysFinal "TuneLoansModel" "TuneLoansModel" "row" "[I") ∈ lw_all := lw_g (lw_at lw_m4 97 rfl) rfl
theorem q900 : (Jvm.Cond.soleField "TuneLoansModel" "row") ∈ lw_all := lw_g (lw_at lw_m4 98 rfl) rfl
theorem q901 : (Jvm.Cond.superclass "TuneLoansModel" "java/lang/Object") ∈ lw_all := lw_g (lw_at lw_m4 99 rfl) rfl
theorem q903 : (Jvm.Cond.instanceMethod ({ cls := "TuneLoansModel", name := "sheet", desc := "(III)I" } : Jvm.MethodName)) ∈ lw_all := lw_g (lw_at lw_m4 101 rfl) rfl
theorem q904 : (Jvm.Cond.selects "TuneLoansModel" ({ cls := "TuneLoansModel", name := "sheet", desc := "(III)I" } : Jvm.MethodName) ({ cls := "TuneLoansModel", name := "sheet", desc := "(III)I" } : Jvm.MethodName)) ∈ lw_all := lw_g (lw_at lw_m4 102 rfl) rfl
theorem q905 : (Jvm.Cond.code ({ cls := "TuneLoansModel", name := "sheet", desc := "(III)I" } : Jvm.MethodName) prog_8_method_13_code (5 : Nat) (Option.some Jvm.ClassFile.FieldType.int)) ∈ lw_all := lw_g (lw_at lw_m4 103 rfl) rfl
theorem q906 : (Jvm.Cond.methodLink "TuneLoansModel" (88 : Nat) ({ cls := "TuneLoansModel", name := "isSheet", desc := "(I)Z" } : Jvm.MethodName)) ∈ lw_all := lw_g (lw_at lw_m4 104 rfl) rfl
theorem q907 : (Jvm.Cond.static ({ cls := "TuneLoansModel", name := "isSheet", desc := "(I)Z" } : Jvm.MethodName)) ∈ lw_all := lw_g (lw_at lw_m4 105 rfl) rfl
theorem q908 : (Jvm.Cond.code ({ cls := "TuneLoansModel", name := "isSheet", desc := "(I)Z" } : Jvm.MethodName) prog_8_method_12_code (1 : Nat) (Option.some Jvm.ClassFile.FieldType.boolean)) ∈ lw_all := lw_g (lw_at lw_m4 106 rfl) rfl
theorem q909 : (Jvm.Cond.constantLong "TuneLoansModel" (86 : Nat) (3 : Int64)) ∈ lw_all := lw_g (lw_at lw_m4 107 rfl) rfl
theorem q910 : (Jvm.Cond.methodLink "TuneLoansModel" (79 : Nat) ({ cls := "TuneLoansModel", name := "in", desc := "(JJJ)Z" } : Jvm.MethodName)) ∈ lw_all := lw_g (lw_at lw_m4 108 rfl) rfl
theorem q911 : (Jvm.Cond.static ({ cls := "TuneLoansModel", name := "in", desc := "(JJJ)Z" } : Jvm.MethodName)) ∈ lw_all := lw_g (lw_at lw_m4 109 rfl) rfl
theorem q912 : (Jvm.Cond.code ({ cls := "TuneLoansModel", name := "in", desc := "(JJJ)Z" } : Jvm.MethodName) prog_8_method_3_code (6 : Nat) (Option.some Jvm.ClassFile.FieldType.boolean)) ∈ lw_all := lw_g (lw_at lw_m4 110 rfl) rfl
theorem q913 : (Jvm.Cond.constantLong "TuneLoansModel" (92 : Nat) (2 : Int64)) ∈ lw_all := lw_g (lw_at lw_m4 111 rfl) rfl
theorem q914 : (Jvm.Cond.methodLink "TuneLoansModel" (94 : Nat) ({ cls := "TuneLoansModel", name := "finds", desc := "(I)I" } : Jvm.MethodName)) ∈ lw_all := lw_g (lw_at lw_m4 112 rfl) rfl
theorem q915 : (Jvm.Cond.privateMethod ({ cls := "TuneLoansModel", name := "finds", desc := "(I)I" } : Jvm.MethodName)) ∈ lw_tbl := lw_at lw_m4 113 rfl
theorem q916 : (Jvm.Cond.instanceMethod ({ cls := "TuneLoansModel", name := "finds", desc := "(I)I" } : Jvm.MethodName)) ∈ lw_all := lw_g (lw_at lw_m4 114 rfl) rfl
theorem q917 : (Jvm.Cond.code ({ cls := "TuneLoansModel", name := "finds", desc := "(I)I" } : Jvm.MethodName) prog_8_method_11_code (2 : Nat) (Option.some Jvm.ClassFile.FieldType.int)) ∈ lw_all := lw_g (lw_at lw_m4 115 rfl) rfl
theorem q919 : (Jvm.Cond.instanceMethod ({ cls := "TuneLoansModel", name := "lose", desc := "(I)I" } : Jvm.MethodName)) ∈ lw_all := lw_g (lw_at lw_m4 117 rfl) rfl
theorem q920 : (Jvm.Cond.selects "TuneLoansModel" ({ cls := "TuneLoansModel", name := "lose", desc := "(I)I" } : Jvm.MethodName) ({ cls := "TuneLoansModel", name := "lose", desc := "(I)I" } : Jvm.MethodName)) ∈ lw_all := lw_g (lw_at lw_m4 118 rfl) rfl
theorem q921 : (Jvm.Cond.code ({ cls := "TuneLoansModel", name := "lose", desc := "(I)I" } : Jvm.MethodName) prog_8_method_14_code (2 : Nat) (Option.some Jvm.ClassFile.FieldType.int)) ∈ lw_all := lw_g (lw_at lw_m4 119 rfl) rfl
theorem q923 : (Jvm.Cond.instanceMethod ({ cls := "TuneLoansModel", name := "lay", desc := "(IIII)I" } : Jvm.MethodName)) ∈ lw_all := lw_g (lw_at lw_m4 121 rfl) rfl
theorem q924 : (Jvm.Cond.selects "TuneLoansModel" ({ cls := "TuneLoansModel", name := "lay", desc := "(IIII)I" } : Jvm.MethodName) ({ cls := "TuneLoansModel", name := "lay", desc := "(IIII)I" } : Jvm.MethodName)) ∈ lw_all := lw_g (lw_at lw_m4 122 rfl) rfl
theorem q925 : (Jvm.Cond.code ({ cls := "TuneLoansModel", name := "lay", desc := "(IIII)I" } : Jvm.MethodName) prog_8_method_17_code (6 : Nat) (Option.some Jvm.ClassFile.FieldType.int)) ∈ lw_all := lw_g (lw_at lw_m4 123 rfl) rfl
theorem q926 : (Jvm.Cond.methodLink "TuneLoansModel" (98 : Nat) ({ cls := "TuneLoansModel", name := "lacks", desc := "(III)I" } : Jvm.MethodName)) ∈ lw_all := lw_g (lw_at lw_m4 124 rfl) rfl
theorem q927 : (Jvm.Cond.privateMethod ({ cls := "TuneLoansModel", name := "lacks", desc := "(III)I" } : Jvm.MethodName)) ∈ lw_tbl := lw_at lw_m4 125 rfl
theorem q928 : (Jvm.Cond.instanceMethod ({ cls := "TuneLoansModel", name := "lacks", desc := "(III)I" } : Jvm.MethodName)) ∈ lw_all := lw_g (lw_at lw_m4 126 rfl) rfl
theorem q929 : (Jvm.Cond.code ({ cls := "TuneLoansModel", name := "lacks", desc := "(III)I" } : Jvm.MethodName) prog_8_method_15_code (4 : Nat) (Option.some Jvm.ClassFile.FieldType.int)) ∈ lw_all := lw_g (lw_at lw_m4 127 rfl) rfl
theorem q930 : (Jvm.Cond.methodLink "TuneLoansModel" (102 : Nat) ({ cls := "TuneLoansModel", name := "cut", desc := "(II)I" } : Jvm.MethodName)) ∈ lw_all := lw_g (lw_at lw_m4 128 rfl) rfl
theorem q931 : (Jvm.Cond.static ({ cls := "TuneLoansModel", name := "cut", desc := "(II)I" } : Jvm.MethodName)) ∈ lw_all := lw_g (lw_at lw_m4 129 rfl) rfl
theorem q932 : (Jvm.Cond.code ({ cls := "TuneLoansModel", name := "cut", desc := "(II)I" } : Jvm.MethodName) prog_8_method_16_code (2 : Nat) (Option.some Jvm.ClassFile.FieldType.int)) ∈ lw_all := lw_g (lw_at lw_m4 130 rfl) rfl
theorem q934 : (Jvm.Cond.instanceMethod ({ cls := "TuneLoansModel", name := "get", desc := "(III)I" } : Jvm.MethodName)) ∈ lw_all := lw_g (lw_at lw_m4 132 rfl) rfl
theorem q935 : (Jvm.Cond.selects "TuneLoansModel" ({ cls := "TuneLoansModel", name := "get", desc := "(III)I" } : Jvm.MethodName) ({ cls := "TuneLoansModel", name := "get", desc := "(III)I" } : Jvm.MethodName)) ∈ lw_all := lw_g (lw_at lw_m4 133 rfl) rfl
theorem q936 : (Jvm.Cond.code ({ cls := "TuneLoansModel", name := "get", desc := "(III)I" } : Jvm.MethodName) prog_8_method_18_code (4 : Nat) (Option.some Jvm.ClassFile.FieldType.int)) ∈ lw_all := lw_g (lw_at lw_m4 134 rfl) rfl
theorem q937 : (Jvm.Cond.constant "TuneLoansModel" (106 : Nat) (-2147483648 : Int32)) ∈ lw_all := lw_g (lw_at lw_m4 135 rfl) rfl
theorem q939 : (Jvm.Cond.instanceMethod ({ cls := "TuneLoansModel", name := "copy", desc := "(IIIII)I" } : Jvm.MethodName)) ∈ lw_all := lw_g (lw_at lw_m4 137 rfl) rfl
theorem q940 : (Jvm.Cond.selects "TuneLoansModel" ({ cls := "TuneLoansModel", name := "copy", desc := "(IIIII)I" } : Jvm.MethodName) ({ cls := "TuneLoansModel", name := "copy", desc := "(IIIII)I" } : Jvm.MethodName)) ∈ lw_all := lw_g (lw_at lw_m4 138 rfl) rfl
theorem q941 : (Jvm.Cond.code ({ cls := "TuneLoansModel", name := "copy", desc := "(IIIII)I" } : Jvm.MethodName) prog_8_method_19_code (7 : Nat) (Option.some Jvm.ClassFile.FieldType.int)) ∈ lw_all := lw_g (lw_at lw_m4 139 rfl) rfl
theorem q943 : (Jvm.Cond.instanceMethod ({ cls := "TuneLoansModel", name := "type", desc := "(II)I" } : Jvm.MethodName)) ∈ lw_all := lw_g (lw_at lw_m4 141 rfl) rfl
theorem q944 : (Jvm.Cond.selects "TuneLoansModel" ({ cls := "TuneLoansModel", name := "type", desc := "(II)I" } : Jvm.MethodName) ({ cls := "TuneLoansModel", name := "type", desc := "(II)I" } : Jvm.MethodName)) ∈ lw_all := lw_g (lw_at lw_m4 142 rfl) rfl
theorem q945 : (Jvm.Cond.code ({ cls := "TuneLoansModel", name := "type", desc := "(II)I" } : Jvm.MethodName) prog_8_method_20_code (3 : Nat) (Option.some Jvm.ClassFile.FieldType.int)) ∈ lw_all := lw_g (lw_at lw_m4 143 rfl) rfl
theorem q946 : (Jvm.Cond.methodLink "TuneLoansModel" (107 : Nat) ({ cls := "TuneLoansModel", name := "isTwo", desc := "(I)Z" } : Jvm.MethodName)) ∈ lw_all := lw_g (lw_at lw_m4 144 rfl) rfl
theorem q947 : (Jvm.Cond.static ({ cls := "TuneLoansModel", name := "isTwo", desc := "(I)Z" } : Jvm.MethodName)) ∈ lw_all := lw_g (lw_at lw_m4 145 rfl) rfl
theorem q948 : (Jvm.Cond.code ({ cls := "TuneLoansModel", name := "isTwo", desc := "(I)Z" } : Jvm.MethodName) prog_8_method_5_code (1 : Nat) (Option.some Jvm.ClassFile.FieldType.boolean)) ∈ lw_all := lw_g (lw_at lw_m4 146 rfl) rfl
theorem q949 : (Jvm.Cond.constantLong "TuneLoansModel" (110 : Nat) (255 : Int64)) ∈ lw_all := lw_g (lw_at lw_m4 147 rfl) rfl
theorem q951 : (Jvm.Cond.instanceMethod ({ cls := "TuneLoansModel", name := "wipe", desc := "(I)I" } : Jvm.MethodName)) ∈ lw_all := lw_g (lw_at lw_m4 149 rfl) rfl
theorem q952 : (Jvm.Cond.selects "TuneLoansModel" ({ cls := "TuneLoansModel", name := "wipe", desc := "(I)I" } : Jvm.MethodName) ({ cls := "TuneLoansModel", name := "wipe", desc := "(I)I" } : Jvm.MethodName)) ∈ lw_all := lw_g (lw_at lw_m4 150 rfl) rfl
theorem q953 : (Jvm.Cond.code ({ cls := "TuneLoansModel", name := "wipe", desc := "(I)I" } : Jvm.MethodName) prog_8_method_21_code (3 : Nat) (Option.some Jvm.ClassFile.FieldType.int)) ∈ lw_all := lw_g (lw_at lw_m4 151 rfl) rfl
theorem q955 : (Jvm.Cond.instanceMethod ({ cls := "TuneLoansModel", name := "undo", desc := "(I)I" } : Jvm.MethodName)) ∈ lw_all := lw_g (lw_at lw_m4 153 rfl) rfl
theorem q956 : (Jvm.Cond.selects "TuneLoansModel" ({ cls := "TuneLoansModel", name := "undo", desc := "(I)I" } : Jvm.MethodName) ({ cls := "TuneLoansModel", name := "undo", desc := "(I)I" } : Jvm.MethodName)) ∈ lw_all := lw_g (lw_at lw_m4 154 rfl) rfl
theorem q957 : (Jvm.Cond.code ({ cls := "TuneLoansModel", name := "undo", desc := "(I)I" } : Jvm.MethodName) prog_8_method_22_code (2 : Nat) (Option.some Jvm.ClassFile.FieldType.int)) ∈ lw_all := lw_g (lw_at lw_m4 155 rfl) rfl
theorem q959 : (Jvm.Cond.instanceMethod ({ cls := "TuneLoansModel", name := "fault", desc := "(I)I" } : Jvm.MethodName)) ∈ lw_all := lw_g (lw_at lw_m4 157 rfl) rfl
theorem q960 : (Jvm.Cond.selects "TuneLoansModel" ({ cls := "TuneLoansModel", name := "fault", desc := "(I)I" } : Jvm.MethodName) ({ cls := "TuneLoansModel", name := "fault", desc := "(I)I" } : Jvm.MethodName)) ∈ lw_all := lw_g (lw_at lw_m4 158 rfl) rfl
theorem q961 : (Jvm.Cond.code ({ cls := "TuneLoansModel", name := "fault", desc := "(I)I" } : Jvm.MethodName) prog_8_method_28_code (2 : Nat) (Option.some Jvm.ClassFile.FieldType.int)) ∈ lw_all := lw_g (lw_at lw_m4 159 rfl) rfl
theorem q962 : (Jvm.Cond.methodLink "TuneLoansModel" (128 : Nat) ({ cls := "TuneLoansModel", name := "readsTunes", desc := "()I" } : Jvm.MethodName)) ∈ lw_all := lw_g (lw_at lw_m4 160 rfl) rfl
theorem q963 : (Jvm.Cond.privateMethod ({ cls := "TuneLoansModel", name := "readsTunes", desc := "()I" } : Jvm.MethodName)) ∈ lw_tbl := lw_at lw_m4 161 rfl
theorem q964 : (Jvm.Cond.instanceMethod ({ cls := "TuneLoansModel", name := "readsTunes", desc := "()I" } : Jvm.MethodName)) ∈ lw_all := lw_g (lw_at lw_m4 162 rfl) rfl
theorem q965 : (Jvm.Cond.code ({ cls := "TuneLoansModel", name := "readsTunes", desc := "()I" } : Jvm.MethodName) prog_8_method_24_code (4 : Nat) (Option.some Jvm.ClassFile.FieldType.int)) ∈ lw_all := lw_g (lw_at lw_m4 163 rfl) rfl
theorem q966 : (Jvm.Cond.methodLink "TuneLoansModel" (115 : Nat) ({ cls := "TuneLoansModel", name := "tunesFault", desc := "(I)I" } : Jvm.MethodName)) ∈ lw_all := lw_g (lw_at lw_m4 164 rfl) rfl
theorem q967 : (Jvm.Cond.privateMethod ({ cls := "TuneLoansModel", name := "tunesFault", desc := "(I)I" } : Jvm.MethodName)) ∈ lw_tbl := lw_at lw_m4 165 rfl
theorem q968 : (Jvm.Cond.instanceMethod ({ cls := "TuneLoansModel", name := "tunesFault", desc := "(I)I" } : Jvm.MethodName)) ∈ lw_all := lw_g (lw_at lw_m4 166 rfl) rfl
theorem q969 : (Jvm.Cond.code ({ cls := "TuneLoansModel", name := "tunesFault", desc := "(I)I" } : Jvm.MethodName) prog_8_method_23_code (2 : Nat) (Option.some Jvm.ClassFile.FieldType.int)) ∈ lw_all := lw_g (lw_at lw_m4 167 rfl) rfl
theorem q970 : (Jvm.Cond.constantLong "TuneLoansModel" (118 : Nat) (97 : Int64)) ∈ lw_all := lw_g (lw_at lw_m4 168 rfl) rfl
theorem q971 : (Jvm.Cond.constantLong "TuneLoansModel" (120 : Nat) (103 : Int64)) ∈ lw_all := lw_g (lw_at lw_m4 169 rfl) rfl
theorem q972 : (Jvm.Cond.methodLink "TuneLoansModel" (132 : Nat) ({ cls := "TuneLoansModel", name := "readsBorrowers", desc := "()I" } : Jvm.MethodName)) ∈ lw_all := lw_g (lw_at lw_m4 170 rfl) rfl
theorem q973 : (Jvm.Cond.privateMethod ({ cls := "TuneLoansModel", name := "readsBorrowers", desc := "()I" } : Jvm.MethodName)) ∈ lw_tbl := lw_at lw_m4 171 rfl
theorem q974 : (Jvm.Cond.instanceMethod ({ cls := "TuneLoansModel", name := "readsBorrowers", desc := "()I" } : Jvm.MethodName)) ∈ lw_all := lw_g (lw_at lw_m4 172 rfl) rfl
theorem q975 : (Jvm.Cond.code ({ cls := "TuneLoansModel", name := "readsBorrowers", desc := "()I" } : Jvm.MethodName) prog_8_method_26_code (6 : Nat) (Option.some Jvm.ClassFile.FieldType.int)) ∈ lw_all := lw_g (lw_at lw_m4 173 rfl) rfl
theorem q976 : (Jvm.Cond.methodLink "TuneLoansModel" (125 : Nat) ({ cls := "TuneLoansModel", name := "howOf", desc := "(I)I" } : Jvm.MethodName)) ∈ lw_all := lw_g (lw_at lw_m4 174 rfl) rfl
theorem q977 : (Jvm.Cond.static ({ cls := "TuneLoansModel", name := "howOf", desc := "(I)I" } : Jvm.MethodName)) ∈ lw_all := lw_g (lw_at lw_m4 175 rfl) rfl
theorem q978 : (Jvm.Cond.code ({ cls := "TuneLoansModel", name := "howOf", desc := "(I)I" } : Jvm.MethodName) prog_8_method_25_code (1 : Nat) (Option.some Jvm.ClassFile.FieldType.int)) ∈ lw_all := lw_g (lw_at lw_m4 176 rfl) rfl
theorem q980 : (Jvm.Cond.instanceMethod ({ cls := "TuneLoansModel", name := "tune", desc := "(II)I" } : Jvm.MethodName)) ∈ lw_all := lw_g (lw_at lw_m4 178 rfl) rfl
theorem q981 : (Jvm.Cond.selects "TuneLoansModel" ({ cls := "TuneLoansModel", name := "tune", desc := "(II)I" } : Jvm.MethodName) ({ cls := "TuneLoansModel", name := "tune", desc := "(II)I" } : Jvm.MethodName)) ∈ lw_all := lw_g (lw_at lw_m4 179 rfl) rfl
theorem q982 : (Jvm.Cond.code ({ cls := "TuneLoansModel", name := "tune", desc := "(II)I" } : Jvm.MethodName) prog_8_method_32_code (3 : Nat) (Option.some Jvm.ClassFile.FieldType.int)) ∈ lw_all := lw_g (lw_at lw_m4 180 rfl) rfl
theorem q983 : (Jvm.Cond.methodLink "TuneLoansModel" (137 : Nat) ({ cls := "TuneLoansModel", name := "reads", desc := "()V" } : Jvm.MethodName)) ∈ lw_all := lw_g (lw_at lw_m4 181 rfl) rfl
theorem q984 : (Jvm.Cond.privateMethod ({ cls := "TuneLoansModel", name := "reads", desc := "()V" } : Jvm.MethodName)) ∈ lw_tbl := lw_at lw_m4 182 rfl
theorem q985 : (Jvm.Cond.instanceMethod ({ cls := "TuneLoansModel", name := "reads", desc := "()V" } : Jvm.MethodName)) ∈ lw_all := lw_g (lw_at lw_m4 183 rfl) rfl
theorem q986 : (Jvm.Cond.code ({ cls := "TuneLoansModel", name := "reads", desc := "()V" } : Jvm.MethodName) prog_8_method_27_code (1 : Nat) (Option.none : Option Jvm.ClassFile.FieldType)) ∈ lw_all := lw_g (lw_at lw_m4 184 rfl) rfl
theorem q987 : (Jvm.Cond.methodLink "TuneLoansModel" (140 : Nat) ({ cls := "TuneLoansModel", name := "isTune", desc := "(I)Z" } : Jvm.MethodName)) ∈ lw_all := lw_g (lw_at lw_m4 185 rfl) rfl
theorem q988 : (Jvm.Cond.privateMethod ({ cls := "TuneLoansModel", name := "isTune", desc := "(I)Z" } : Jvm.MethodName)) ∈ lw_tbl := lw_at lw_m4 186 rfl
theorem q989 : (Jvm.Cond.instanceMethod ({ cls := "TuneLoansModel", name := "isTune", desc := "(I)Z" } : Jvm.MethodName)) ∈ lw_all := lw_g (lw_at lw_m4 187 rfl) rfl
theorem q990 : (Jvm.Cond.code ({ cls := "TuneLoansModel", name := "isTune", desc := "(I)Z" } : Jvm.MethodName) prog_8_method_29_code (2 : Nat) (Option.some Jvm.ClassFile.FieldType.boolean)) ∈ lw_all := lw_g (lw_at lw_m4 188 rfl) rfl
theorem q991 : (Jvm.Cond.constantLong "TuneLoansModel" (143 : Nat) (-1 : Int64)) ∈ lw_all := lw_g (lw_at lw_m4 189 rfl) rfl
theorem q992 : (Jvm.Cond.constantLong "TuneLoansModel" (145 : Nat) (11 : Int64)) ∈ lw_all := lw_g (lw_at lw_m4 190 rfl) rfl
theorem q994 : (Jvm.Cond.instanceMethod ({ cls := "TuneLoansModel", name := "borrower", desc := "(II)I" } : Jvm.MethodName)) ∈ lw_all := lw_g (lw_at lw_m4 192 rfl) rfl
theorem q995 : (Jvm.Cond.selects "TuneLoansModel" ({ cls := "TuneLoansModel", name := "borrower", desc := "(II)I" } : Jvm.MethodName) ({ cls := "TuneLoansModel", name := "borrower", desc := "(II)I" } : Jvm.MethodName)) ∈ lw_all := lw_g (lw_at lw_m4 193 rfl) rfl
theorem q996 : (Jvm.Cond.code ({ cls := "TuneLoansModel", name := "borrower", desc := "(II)I" } : Jvm.MethodName) prog_8_method_33_code (3 : Nat) (Option.some Jvm.ClassFile.FieldType.int)) ∈ lw_all := lw_g (lw_at lw_m4 194 rfl) rfl
theorem q997 : (Jvm.Cond.methodLink "TuneLoansModel" (147 : Nat) ({ cls := "TuneLoansModel", name := "isBorrower", desc := "(I)Z" } : Jvm.MethodName)) ∈ lw_all := lw_g (lw_at lw_m4 195 rfl) rfl
theorem q998 : (Jvm.Cond.privateMethod ({ cls := "TuneLoansModel", name := "isBorrower", desc := "(I)Z" } : Jvm.MethodName)) ∈ lw_tbl := lw_at lw_m4 196 rfl
theorem q999 : (Jvm.Cond.instanceMethod ({ cls := "TuneLoansModel", name := "isBorrower", desc := "(I)Z" } : Jvm.MethodName)) ∈ lw_all := lw_g (lw_at lw_m4 197 rfl) rfl
theorem q1000 : (Jvm.Cond.code ({ cls := "TuneLoansModel", name := "isBorrower", desc := "(I)Z" } : Jvm.MethodName) prog_8_method_30_code (2 : Nat) (Option.some Jvm.ClassFile.FieldType.boolean)) ∈ lw_all := lw_g (lw_at lw_m4 198 rfl) rfl
theorem q1002 : (Jvm.Cond.instanceMethod ({ cls := "TuneLoansModel", name := "loan", desc := "(IIII)I" } : Jvm.MethodName)) ∈ lw_all := lw_g (lw_at lw_m4 200 rfl) rfl
theorem q1003 : (Jvm.Cond.selects "TuneLoansModel" ({ cls := "TuneLoansModel", name := "loan", desc := "(IIII)I" } : Jvm.MethodName) ({ cls := "TuneLoansModel", name := "loan", desc := "(IIII)I" } : Jvm.MethodName)) ∈ lw_all := lw_g (lw_at lw_m4 201 rfl) rfl
theorem q1004 : (Jvm.Cond.code ({ cls := "TuneLoansModel", name := "loan", desc := "(IIII)I" } : Jvm.MethodName) prog_8_method_34_code (5 : Nat) (Option.some Jvm.ClassFile.FieldType.int)) ∈ lw_all := lw_g (lw_at lw_m4 202 rfl) rfl
theorem q1005 : (Jvm.Cond.methodLink "TuneLoansModel" (150 : Nat) ({ cls := "TuneLoansModel", name := "isYear", desc := "(I)Z" } : Jvm.MethodName)) ∈ lw_all := lw_g (lw_at lw_m4 203 rfl) rfl
theorem q1006 : (Jvm.Cond.static ({ cls := "TuneLoansModel", name := "isYear", desc := "(I)Z" } : Jvm.MethodName)) ∈ lw_all := lw_g (lw_at lw_m4 204 rfl) rfl
theorem q1007 : (Jvm.Cond.code ({ cls := "TuneLoansModel", name := "isYear", desc := "(I)Z" } : Jvm.MethodName) prog_8_method_31_code (1 : Nat) (Option.some Jvm.ClassFile.FieldType.boolean)) ∈ lw_all := lw_g (lw_at lw_m4 205 rfl) rfl
theorem q1008 : (Jvm.Cond.constantLong "TuneLoansModel" (135 : Nat) (39 : Int64)) ∈ lw_all := lw_g (lw_at lw_m4 206 rfl) rfl
theorem q1009 : (Jvm.Cond.constantLong "TuneLoansModel" (153 : Nat) (5 : Int64)) ∈ lw_all := lw_g (lw_at lw_m4 207 rfl) rfl
theorem q1010 : (Jvm.Cond.constantLong "TuneLoansModel" (155 : Nat) (9 : Int64)) ∈ lw_all := lw_g (lw_at lw_m4 208 rfl) rfl
theorem q1012 : (Jvm.Cond.instanceMethod ({ cls := "TuneLoansModel", name := "back", desc := "()I" } : Jvm.MethodName)) ∈ lw_all := lw_g (lw_at lw_m4 210 rfl) rfl
theorem q1013 : (Jvm.Cond.selects "TuneLoansModel" ({ cls := "TuneLoansModel", name := "back", desc := "()I" } : Jvm.MethodName) ({ cls := "TuneLoansModel", name := "back", desc := "()I" } : Jvm.MethodName)) ∈ lw_all := lw_g (lw_at lw_m4 211 rfl) rfl
theorem q1014 : (Jvm.Cond.code ({ cls := "TuneLoansModel", name := "back", desc := "()I" } : Jvm.MethodName) prog_8_method_35_code (1 : Nat) (Option.some Jvm.ClassFile.FieldType.int)) ∈ lw_all := lw_g (lw_at lw_m4 212 rfl) rfl
theorem q1016 : (Jvm.Cond.instanceMethod ({ cls := "TuneLoansModel", name := "read", desc := "(I)I" } : Jvm.MethodName)) ∈ lw_all := lw_g (lw_at lw_m4 214 rfl) rfl
theorem q1017 : (Jvm.Cond.selects "TuneLoansModel" ({ cls := "TuneLoansModel", name := "read", desc := "(I)I" } : Jvm.MethodName) ({ cls := "TuneLoansModel", name := "read", desc := "(I)I" } : Jvm.MethodName)) ∈ lw_all := lw_g (lw_at lw_m4 215 rfl) rfl
theorem q1018 : (Jvm.Cond.code ({ cls := "TuneLoansModel", name := "read", desc := "(I)I" } : Jvm.MethodName) prog_8_method_36_code (5 : Nat) (Option.some Jvm.ClassFile.FieldType.int)) ∈ lw_all := lw_g (lw_at lw_m4 216 rfl) rfl
theorem q1019 : (Jvm.Cond.methodLink "TuneLoansModel" (160 : Nat) ({ cls := "TuneLoansModel", name := "loan", desc := "(IIII)I" } : Jvm.MethodName)) ∈ lw_all := lw_g (lw_at lw_m4 217 rfl) rfl
theorem q1021 : (Jvm.Cond.instanceMethod ({ cls := "TuneLoansModel", name := "ear", desc := "(I)I" } : Jvm.MethodName)) ∈ lw_all := lw_g (lw_at lw_m4 219 rfl) rfl
theorem q1022 : (Jvm.Cond.selects "TuneLoansModel" ({ cls := "TuneLoansModel", name := "ear", desc := "(I)I" } : Jvm.MethodName) ({ cls := "TuneLoansModel", name := "ear", desc := "(I)I" } : Jvm.MethodName)) ∈ lw_all := lw_g (lw_at lw_m4 220 rfl) rfl
theorem q1023 : (Jvm.Cond.code ({ cls := "TuneLoansModel", name := "ear", desc := "(I)I" } : Jvm.MethodName) prog_8_method_37_code (3 : Nat) (Option.some Jvm.ClassFile.FieldType.int)) ∈ lw_all := lw_g (lw_at lw_m4 221 rfl) rfl
theorem q1024 : (Jvm.Cond.constantLong "TuneLoansModel" (163 : Nat) (12 : Int64)) ∈ lw_all := lw_g (lw_at lw_m4 222 rfl) rfl
theorem q1026 : (Jvm.Cond.instanceMethod ({ cls := "TuneLoansModel", name := "notes", desc := "(III)I" } : Jvm.MethodName)) ∈ lw_all := lw_g (lw_at lw_m4 224 rfl) rfl
theorem q1027 : (Jvm.Cond.selects "TuneLoansModel" ({ cls := "TuneLoansModel", name := "notes", desc := "(III)I" } : Jvm.MethodName) ({ cls := "TuneLoansModel", name := "notes", desc := "(III)I" } : Jvm.MethodName)) ∈ lw_all := lw_g (lw_at lw_m4 225 rfl) rfl
theorem q1028 : (Jvm.Cond.code ({ cls := "TuneLoansModel", name := "notes", desc := "(III)I" } : Jvm.MethodName) prog_8_method_47_code (4 : Nat) (Option.some Jvm.ClassFile.FieldType.int)) ∈ lw_all := lw_g (lw_at lw_m4 226 rfl) rfl
theorem q1029 : (Jvm.Cond.methodLink "TuneLoansModel" (198 : Nat) ({ cls := "TuneLoansModel", name := "notesOf", desc := "(III)I" } : Jvm.MethodName)) ∈ lw_all := lw_g (lw_at lw_m4 227 rfl) rfl
theorem q1030 : (Jvm.Cond.privateMethod ({ cls := "TuneLoansModel", name := "notesOf", desc := "(III)I" } : Jvm.MethodName)) ∈ lw_tbl := lw_at lw_m4 228 rfl
theorem q1031 : (Jvm.Cond.instanceMethod ({ cls := "TuneLoansModel", name := "notesOf", desc := "(III)I" } : Jvm.MethodName)) ∈ lw_all := lw_g (lw_at lw_m4 229 rfl) rfl
theorem q1032 : (Jvm.Cond.code ({ cls := "TuneLoansModel", name := "notesOf", desc := "(III)I" } : Jvm.MethodName) prog_8_method_46_code (4 : Nat) (Option.some Jvm.ClassFile.FieldType.int)) ∈ lw_all := lw_g (lw_at lw_m4 230 rfl) rfl
theorem q1033 : (Jvm.Cond.methodLink "TuneLoansModel" (195 : Nat) ({ cls := "TuneLoansModel", name := "lives", desc := "(II)V" } : Jvm.MethodName)) ∈ lw_all := lw_g (lw_at lw_m4 231 rfl) rfl
theorem q1034 : (Jvm.Cond.privateMethod ({ cls := "TuneLoansModel", name := "lives", desc := "(II)V" } : Jvm.MethodName)) ∈ lw_tbl := lw_at lw_m4 232 rfl
theorem q1035 : (Jvm.Cond.instanceMethod ({ cls := "TuneLoansModel", name := "lives", desc := "(II)V" } : Jvm.MethodName)) ∈ lw_all := lw_g (lw_at lw_m4 233 rfl) rfl
theorem q1036 : (Jvm.Cond.code ({ cls := "TuneLoansModel", name := "lives", desc := "(II)V" } : Jvm.MethodName) prog_8_method_45_code (4 : Nat) (Option.none : Option Jvm.ClassFile.FieldType)) ∈ lw_all := lw_g (lw_at lw_m4 234 rfl) rfl
theorem q1037 : (Jvm.Cond.methodLink "TuneLoansModel" (189 : Nat) ({ cls := "TuneLoansModel", name := "startsAll", desc := "()V" } : Jvm.MethodName)) ∈ lw_all := lw_g (lw_at lw_m4 235 rfl) rfl
theorem q1038 : (Jvm.Cond.privateMethod ({ cls := "TuneLoansModel", name := "startsAll", desc := "()V" } : Jvm.MethodName)) ∈ lw_tbl := lw_at lw_m4 236 rfl
theorem q1039 : (Jvm.Cond.instanceMethod ({ cls := "TuneLoansModel", name := "startsAll", desc := "()V" } : Jvm.MethodName)) ∈ lw_all := lw_g (lw_at lw_m4 237 rfl) rfl
theorem q1040 : (Jvm.Cond.code ({ cls := "TuneLoansModel", name := "startsAll", desc := "()V" } : Jvm.MethodName) prog_8_method_41_code (2 : Nat) (Option.none : Option Jvm.ClassFile.FieldType)) ∈ lw_all := lw_g (lw_at lw_m4 238 rfl) rfl
theorem q1041 : (Jvm.Cond.methodLink "TuneLoansModel" (171 : Nat) ({ cls := "TuneLoansModel", name := "begins", desc := "(II)V" } : Jvm.MethodName)) ∈ lw_all := lw_g (lw_at lw_m4 239 rfl) rfl
theorem q1042 : (Jvm.Cond.privateMethod ({ cls := "TuneLoansModel", name := "begins", desc := "(II)V" } : Jvm.MethodName)) ∈ lw_tbl := lw_at lw_m5 0 rfl
theorem q1043 : (Jvm.Cond.instanceMethod ({ cls := "TuneLoansModel", name := "begins", desc := "(II)V" } : Jvm.MethodName)) ∈ lw_all := lw_g (lw_at lw_m5 1 rfl) rfl
theorem q1044 : (Jvm.Cond.code ({ cls := "TuneLoansModel", name := "begins", desc := "(II)V" } : Jvm.MethodName) prog_8_method_38_code (4 : Nat) (Option.none : Option Jvm.ClassFile.FieldType)) ∈ lw_all := lw_g (lw_at lw_m5 2 rfl) rfl
theorem q1045 : (Jvm.Cond.methodLink "TuneLoansModel" (192 : Nat) ({ cls := "TuneLoansModel", name := "goesOn", desc := "(II)V" } : Jvm.MethodName)) ∈ lw_all := lw_g (lw_at lw_m5 3 rfl) rfl
theorem q1046 : (Jvm.Cond.privateMethod ({ cls := "TuneLoansModel", name := "goesOn", desc := "(II)V" } : Jvm.MethodName)) ∈ lw_tbl := lw_at lw_m5 4 rfl
theorem q1047 : (Jvm.Cond.instanceMethod ({ cls := "TuneLoansModel", name := "goesOn", desc := "(II)V" } : Jvm.MethodName)) ∈ lw_all := lw_g (lw_at lw_m5 5 rfl) rfl
theorem q1048 : (Jvm.Cond.code ({ cls := "TuneLoansModel", name := "goesOn", desc := "(II)V" } : Jvm.MethodName) prog_8_method_44_code (5 : Nat) (Option.none : Option Jvm.ClassFile.FieldType)) ∈ lw_all := lw_g (lw_at lw_m5 6 rfl) rfl
theorem q1049 : (Jvm.Cond.methodLink "TuneLoansModel" (179 : Nat) ({ cls := "TuneLoansModel", name := "lends", desc := "(I)V" } : Jvm.MethodName)) ∈ lw_all := lw_g (lw_at lw_m5 7 rfl) rfl
theorem q1050 : (Jvm.Cond.privateMethod ({ cls := "TuneLoansModel", name := "lends", desc := "(I)V" } : Jvm.MethodName)) ∈ lw_tbl := lw_at lw_m5 8 rfl
theorem q1051 : (Jvm.Cond.instanceMethod ({ cls := "TuneLoansModel", name := "lends", desc := "(I)V" } : Jvm.MethodName)) ∈ lw_all := lw_g (lw_at lw_m5 9 rfl) rfl
theorem q1052 : (Jvm.Cond.code ({ cls := "TuneLoansModel", name := "lends", desc := "(I)V" } : Jvm.MethodName) prog_8_method_42_code (4 : Nat) (Option.none : Option Jvm.ClassFile.FieldType)) ∈ lw_all := lw_g (lw_at lw_m5 10 rfl) rfl
theorem q1053 : (Jvm.Cond.methodLink "TuneLoansModel" (183 : Nat) ({ cls := "TuneLoansModel", name := "hummed", desc := "(II)V" } : Jvm.MethodName)) ∈ lw_all := lw_g (lw_at lw_m5 11 rfl) rfl
theorem q1054 : (Jvm.Cond.privateMethod ({ cls := "TuneLoansModel", name := "hummed", desc := "(II)V" } : Jvm.MethodName)) ∈ lw_tbl := lw_at lw_m5 12 rfl
theorem q1055 : (Jvm.Cond.instanceMethod ({ cls := "TuneLoansModel", name := "hummed", desc := "(II)V" } : Jvm.MethodName)) ∈ lw_all := lw_g (lw_at lw_m5 13 rfl) rfl
theorem q1056 : (Jvm.Cond.code ({ cls := "TuneLoansModel", name := "hummed", desc := "(II)V" } : Jvm.MethodName) prog_8_method_39_code (10 : Nat) (Option.none : Option Jvm.ClassFile.FieldType)) ∈ lw_all := lw_g (lw_at lw_m5 14 rfl) rfl
theorem q1057 : (Jvm.Cond.methodLink "TuneLoansModel" (165 : Nat) ({ cls := "TuneLoansModel", name := "lesser", desc := "(II)I" } : Jvm.MethodName)) ∈ lw_all := lw_g (lw_at lw_m5 15 rfl) rfl
theorem q1058 : (Jvm.Cond.static ({ cls := "TuneLoansModel", name := "lesser", desc := "(II)I" } : Jvm.MethodName)) ∈ lw_all := lw_g (lw_at lw_m5 16 rfl) rfl
theorem q1059 : (Jvm.Cond.code ({ cls := "TuneLoansModel", name := "lesser", desc := "(II)I" } : Jvm.MethodName) prog_8_method_8_code (2 : Nat) (Option.some Jvm.ClassFile.FieldType.int)) ∈ lw_all := lw_g (lw_at lw_m5 17 rfl) rfl
theorem q1060 : (Jvm.Cond.methodLink "TuneLoansModel" (186 : Nat) ({ cls := "TuneLoansModel", name := "returns", desc := "(II)V" } : Jvm.MethodName)) ∈ lw_all := lw_g (lw_at lw_m5 18 rfl) rfl
theorem q1061 : (Jvm.Cond.privateMethod ({ cls := "TuneLoansModel", name := "returns", desc := "(II)V" } : Jvm.MethodName)) ∈ lw_tbl := lw_at lw_m5 19 rfl
theorem q1062 : (Jvm.Cond.instanceMethod ({ cls := "TuneLoansModel", name := "returns", desc := "(II)V" } : Jvm.MethodName)) ∈ lw_all := lw_g (lw_at lw_m5 20 rfl) rfl
theorem q1063 : (Jvm.Cond.code ({ cls := "TuneLoansModel", name := "returns", desc := "(II)V" } : Jvm.MethodName) prog_8_method_43_code (6 : Nat) (Option.none : Option Jvm.ClassFile.FieldType)) ∈ lw_all := lw_g (lw_at lw_m5 21 rfl) rfl
theorem q1064 : (Jvm.Cond.methodLink "TuneLoansModel" (175 : Nat) ({ cls := "TuneLoansModel", name := "commonOf", desc := "([III[III)I" } : Jvm.MethodName)) ∈ lw_all := lw_g (lw_at lw_m5 22 rfl) rfl
theorem q1065 : (Jvm.Cond.privateMethod ({ cls := "TuneLoansModel", name := "commonOf", desc := "([III[III)I" } : Jvm.MethodName)) ∈ lw_tbl := lw_at lw_m5 23 rfl
theorem q1066 : (Jvm.Cond.instanceMethod ({ cls := "TuneLoansModel", name := "commonOf", desc := "([III[III)I" } : Jvm.MethodName)) ∈ lw_all := lw_g (lw_at lw_m5 24 rfl) rfl
theorem q1067 : (Jvm.Cond.code ({ cls := "TuneLoansModel", name := "commonOf", desc := "([III[III)I" } : Jvm.MethodName) prog_8_method_40_code (11 : Nat) (Option.some Jvm.ClassFile.FieldType.int)) ∈ lw_all := lw_g (lw_at lw_m5 25 rfl) rfl
theorem q1068 : (Jvm.Cond.methodLink "TuneLoansModel" (168 : Nat) ({ cls := "TuneLoansModel", name := "greater", desc := "(II)I" } : Jvm.MethodName)) ∈ lw_all := lw_g (lw_at lw_m5 26 rfl) rfl
theorem q1069 : (Jvm.Cond.static ({ cls := "TuneLoansModel", name := "greater", desc := "(II)I" } : Jvm.MethodName)) ∈ lw_all := lw_g (lw_at lw_m5 27 rfl) rfl
theorem q1070 : (Jvm.Cond.code ({ cls := "TuneLoansModel", name := "greater", desc := "(II)I" } : Jvm.MethodName) prog_8_method_9_code (2 : Nat) (Option.some Jvm.ClassFile.FieldType.int)) ∈ lw_all := lw_g (lw_at lw_m5 28 rfl) rfl
theorem q1072 : (Jvm.Cond.instanceMethod ({ cls := "TuneLoansModel", name := "has", desc := "(II)I" } : Jvm.MethodName)) ∈ lw_all := lw_g (lw_at lw_m5 30 rfl) rfl
theorem q1073 : (Jvm.Cond.selects "TuneLoansModel" ({ cls := "TuneLoansModel", name := "has", desc := "(II)I" } : Jvm.MethodName) ({ cls := "TuneLoansModel", name := "has", desc := "(II)I" } : Jvm.MethodName)) ∈ lw_all := lw_g (lw_at lw_m5 31 rfl) rfl
theorem q1074 : (Jvm.Cond.code ({ cls := "TuneLoansModel", name := "has", desc := "(II)I" } : Jvm.MethodName) prog_8_method_49_code (3 : Nat) (Option.some Jvm.ClassFile.FieldType.int)) ∈ lw_all := lw_g (lw_at lw_m5 32 rfl) rfl
theorem q1075 : (Jvm.Cond.methodLink "TuneLoansModel" (201 : Nat) ({ cls := "TuneLoansModel", name := "hasOf", desc := "(II)I" } : Jvm.MethodName)) ∈ lw_all := lw_g (lw_at lw_m5 33 rfl) rfl
theorem q1076 : (Jvm.Cond.privateMethod ({ cls := "TuneLoansModel", name := "hasOf", desc := "(II)I" } : Jvm.MethodName)) ∈ lw_tbl := lw_at lw_m5 34 rfl
theorem q1077 : (Jvm.Cond.instanceMethod ({ cls := "TuneLoansModel", name := "hasOf", desc := "(II)I" } : Jvm.MethodName)) ∈ lw_all := lw_g (lw_at lw_m5 35 rfl) rfl
theorem q1078 : (Jvm.Cond.code ({ cls := "TuneLoansModel", name := "hasOf", desc := "(II)I" } : Jvm.MethodName) prog_8_method_48_code (3 : Nat) (Option.some Jvm.ClassFile.FieldType.int)) ∈ lw_all := lw_g (lw_at lw_m5 36 rfl) rfl
theorem q1080 : (Jvm.Cond.instanceMethod ({ cls := "TuneLoansModel", name := "came", desc := "(II)I" } : Jvm.MethodName)) ∈ lw_all := lw_g (lw_at lw_m5 38 rfl) rfl
theorem q1081 : (Jvm.Cond.selects "TuneLoansModel" ({ cls := "TuneLoansModel", name := "came", desc := "(II)I" } : Jvm.MethodName) ({ cls := "TuneLoansModel", name := "came", desc := "(II)I" } : Jvm.MethodName)) ∈ lw_all := lw_g (lw_at lw_m5 39 rfl) rfl
theorem q1082 : (Jvm.Cond.code ({ cls := "TuneLoansModel", name := "came", desc := "(II)I" } : Jvm.MethodName) prog_8_method_51_code (3 : Nat) (Option.some Jvm.ClassFile.FieldType.int)) ∈ lw_all := lw_g (lw_at lw_m5 40 rfl) rfl
theorem q1083 : (Jvm.Cond.methodLink "TuneLoansModel" (204 : Nat) ({ cls := "TuneLoansModel", name := "cameOf", desc := "(II)I" } : Jvm.MethodName)) ∈ lw_all := lw_g (lw_at lw_m5 41 rfl) rfl
theorem q1084 : (Jvm.Cond.privateMethod ({ cls := "TuneLoansModel", name := "cameOf", desc := "(II)I" } : Jvm.MethodName)) ∈ lw_tbl := lw_at lw_m5 42 rfl
theorem q1085 : (Jvm.Cond.instanceMethod ({ cls := "TuneLoansModel", name := "cameOf", desc := "(II)I" } : Jvm.MethodName)) ∈ lw_all := lw_g (lw_at lw_m5 43 rfl) rfl
theorem q1086 : (Jvm.Cond.code ({ cls := "TuneLoansModel", name := "cameOf", desc := "(II)I" } : Jvm.MethodName) prog_8_method_50_code (3 : Nat) (Option.some Jvm.ClassFile.FieldType.int)) ∈ lw_all := lw_g (lw_at lw_m5 44 rfl) rfl
theorem q1088 : (Jvm.Cond.instanceMethod ({ cls := "TuneLoansModel", name := "interest", desc := "(I)I" } : Jvm.MethodName)) ∈ lw_all := lw_g (lw_at lw_m5 46 rfl) rfl
theorem q1089 : (Jvm.Cond.selects "TuneLoansModel" ({ cls := "TuneLoansModel", name := "interest", desc := "(I)I" } : Jvm.MethodName) ({ cls := "TuneLoansModel", name := "interest", desc := "(I)I" } : Jvm.MethodName)) ∈ lw_all := lw_g (lw_at lw_m5 47 rfl) rfl
theorem q1090 : (Jvm.Cond.code ({ cls := "TuneLoansModel", name := "interest", desc := "(I)I" } : Jvm.MethodName) prog_8_method_53_code (2 : Nat) (Option.some Jvm.ClassFile.FieldType.int)) ∈ lw_all := lw_g (lw_at lw_m5 48 rfl) rfl
theorem q1091 : (Jvm.Cond.methodLink "TuneLoansModel" (207 : Nat) ({ cls := "TuneLoansModel", name := "interestBy", desc := "(II)I" } : Jvm.MethodName)) ∈ lw_all := lw_g (lw_at lw_m5 49 rfl) rfl
theorem q1092 : (Jvm.Cond.privateMethod ({ cls := "TuneLoansModel", name := "interestBy", desc := "(II)I" } : Jvm.MethodName)) ∈ lw_tbl := lw_at lw_m5 50 rfl
theorem q1093 : (Jvm.Cond.instanceMethod ({ cls := "TuneLoansModel", name := "interestBy", desc := "(II)I" } : Jvm.MethodName)) ∈ lw_all := lw_g (lw_at lw_m5 51 rfl) rfl
theorem q1094 : (Jvm.Cond.code ({ cls := "TuneLoansModel", name := "interestBy", desc := "(II)I" } : Jvm.MethodName) prog_8_method_52_code (5 : Nat) (Option.some Jvm.ClassFile.FieldType.int)) ∈ lw_all := lw_g (lw_at lw_m5 52 rfl) rfl
theorem q1096 : (Jvm.Cond.instanceMethod ({ cls := "TuneLoansModel", name := "home", desc := "(I)I" } : Jvm.MethodName)) ∈ lw_all := lw_g (lw_at lw_m5 54 rfl) rfl
theorem q1097 : (Jvm.Cond.selects "TuneLoansModel" ({ cls := "TuneLoansModel", name := "home", desc := "(I)I" } : Jvm.MethodName) ({ cls := "TuneLoansModel", name := "home", desc := "(I)I" } : Jvm.MethodName)) ∈ lw_all := lw_g (lw_at lw_m5 55 rfl) rfl
theorem q1098 : (Jvm.Cond.code ({ cls := "TuneLoansModel", name := "home", desc := "(I)I" } : Jvm.MethodName) prog_8_method_55_code (2 : Nat) (Option.some Jvm.ClassFile.FieldType.int)) ∈ lw_all := lw_g (lw_at lw_m5 56 rfl) rfl
theorem q1099 : (Jvm.Cond.methodLink "TuneLoansModel" (210 : Nat) ({ cls := "TuneLoansModel", name := "homeOf", desc := "(I)I" } : Jvm.MethodName)) ∈ lw_all := lw_g (lw_at lw_m5 57 rfl) rfl
theorem q1100 : (Jvm.Cond.privateMethod ({ cls := "TuneLoansModel", name := "homeOf", desc := "(I)I" } : Jvm.MethodName)) ∈ lw_tbl := lw_at lw_m5 58 rfl
theorem q1101 : (Jvm.Cond.instanceMethod ({ cls := "TuneLoansModel", name := "homeOf", desc := "(I)I" } : Jvm.MethodName)) ∈ lw_all := lw_g (lw_at lw_m5 59 rfl) rfl
theorem q1102 : (Jvm.Cond.code ({ cls := "TuneLoansModel", name := "homeOf", desc := "(I)I" } : Jvm.MethodName) prog_8_method_54_code (5 : Nat) (Option.some Jvm.ClassFile.FieldType.int)) ∈ lw_all := lw_g (lw_at lw_m5 60 rfl) rfl
theorem q1104 : (Jvm.Cond.instanceMethod ({ cls := "TuneLoansModel", name := "lend", desc := "(III)I" } : Jvm.MethodName)) ∈ lw_all := lw_g (lw_at lw_m5 62 rfl) rfl
theorem q1105 : (Jvm.Cond.selects "TuneLoansModel" ({ cls := "TuneLoansModel", name := "lend", desc := "(III)I" } : Jvm.MethodName) ({ cls := "TuneLoansModel", name := "lend", desc := "(III)I" } : Jvm.MethodName)) ∈ lw_all := lw_g (lw_at lw_m5 63 rfl) rfl
theorem q1106 : (Jvm.Cond.code ({ cls := "TuneLoansModel", name := "lend", desc := "(III)I" } : Jvm.MethodName) prog_8_method_61_code (4 : Nat) (Option.some Jvm.ClassFile.FieldType.int)) ∈ lw_all := lw_g (lw_at lw_m5 64 rfl) rfl
theorem q1107 : (Jvm.Cond.constantLong "TuneLoansModel" (226 : Nat) (127 : Int64)) ∈ lw_all := lw_g (lw_at lw_m5 65 rfl) rfl
theorem q1108 : (Jvm.Cond.methodLink "TuneLoansModel" (228 : Nat) ({ cls := "TuneLoansModel", name := "lendOf", desc := "(III)I" } : Jvm.MethodName)) ∈ lw_all := lw_g (lw_at lw_m5 66 rfl) rfl
theorem q1109 : (Jvm.Cond.privateMethod ({ cls := "TuneLoansModel", name := "lendOf", desc := "(III)I" } : Jvm.MethodName)) ∈ lw_tbl := lw_at lw_m5 67 rfl
theorem q1110 : (Jvm.Cond.instanceMethod ({ cls := "TuneLoansModel", name := "lendOf", desc := "(III)I" } : Jvm.MethodName)) ∈ lw_all := lw_g (lw_at lw_m5 68 rfl) rfl
theorem q1111 : (Jvm.Cond.code ({ cls := "TuneLoansModel", name := "lendOf", desc := "(III)I" } : Jvm.MethodName) prog_8_method_60_code (6 : Nat) (Option.some Jvm.ClassFile.FieldType.int)) ∈ lw_all := lw_g (lw_at lw_m5 69 rfl) rfl
theorem q1112 : (Jvm.Cond.methodLink "TuneLoansModel" (216 : Nat) ({ cls := "TuneLoansModel", name := "codes", desc := "(I)I" } : Jvm.MethodName)) ∈ lw_all := lw_g (lw_at lw_m5 70 rfl) rfl
theorem q1113 : (Jvm.Cond.privateMethod ({ cls := "TuneLoansModel", name := "codes", desc := "(I)I" } : Jvm.MethodName)) ∈ lw_tbl := lw_at lw_m5 71 rfl
theorem q1114 : (Jvm.Cond.instanceMethod ({ cls := "TuneLoansModel", name := "codes", desc := "(I)I" } : Jvm.MethodName)) ∈ lw_all := lw_g (lw_at lw_m5 72 rfl) rfl
theorem q1115 : (Jvm.Cond.code ({ cls := "TuneLoansModel", name := "codes", desc := "(I)I" } : Jvm.MethodName) prog_8_method_56_code (4 : Nat) (Option.some Jvm.ClassFile.FieldType.int)) ∈ lw_all := lw_g (lw_at lw_m5 73 rfl) rfl
theorem q1116 : (Jvm.Cond.methodLink "TuneLoansModel" (219 : Nat) ({ cls := "TuneLoansModel", name := "turns", desc := "(III)V" } : Jvm.MethodName)) ∈ lw_all := lw_g (lw_at lw_m5 74 rfl) rfl
theorem q1117 : (Jvm.Cond.privateMethod ({ cls := "TuneLoansModel", name := "turns", desc := "(III)V" } : Jvm.MethodName)) ∈ lw_tbl := lw_at lw_m5 75 rfl
theorem q1118 : (Jvm.Cond.instanceMethod ({ cls := "TuneLoansModel", name := "turns", desc := "(III)V" } : Jvm.MethodName)) ∈ lw_all := lw_g (lw_at lw_m5 76 rfl) rfl
theorem q1119 : (Jvm.Cond.code ({ cls := "TuneLoansModel", name := "turns", desc := "(III)V" } : Jvm.MethodName) prog_8_method_58_code (5 : Nat) (Option.none : Option Jvm.ClassFile.FieldType)) ∈ lw_all := lw_g (lw_at lw_m5 77 rfl) rfl
theorem q1120 : (Jvm.Cond.methodLink "TuneLoansModel" (213 : Nat) ({ cls := "TuneLoansModel", name := "figureOf", desc := "(III)I" } : Jvm.MethodName)) ∈ lw_all := lw_g (lw_at lw_m5 78 rfl) rfl
theorem q1121 : (Jvm.Cond.privateMethod ({ cls := "TuneLoansModel", name := "figureOf", desc := "(III)I" } : Jvm.MethodName)) ∈ lw_tbl := lw_at lw_m5 79 rfl
theorem q1122 : (Jvm.Cond.instanceMethod ({ cls := "TuneLoansModel", name := "figureOf", desc := "(III)I" } : Jvm.MethodName)) ∈ lw_all := lw_g (lw_at lw_m5 80 rfl) rfl
theorem q1123 : (Jvm.Cond.code ({ cls := "TuneLoansModel", name := "figureOf", desc := "(III)I" } : Jvm.MethodName) prog_8_method_57_code (6 : Nat) (Option.some Jvm.ClassFile.FieldType.int)) ∈ lw_all := lw_g (lw_at lw_m5 81 rfl) rfl
theorem q1124 : (Jvm.Cond.methodLink "TuneLoansModel" (223 : Nat) ({ cls := "TuneLoansModel", name := "notesNow", desc := "()I" } : Jvm.MethodName)) ∈ lw_all := lw_g (lw_at lw_m5 82 rfl) rfl
theorem q1125 : (Jvm.Cond.privateMethod ({ cls := "TuneLoansModel", name := "notesNow", desc := "()I" } : Jvm.MethodName)) ∈ lw_tbl := lw_at lw_m5 83 rfl
theorem q1126 : (Jvm.Cond.instanceMethod ({ cls := "TuneLoansModel", name := "notesNow", desc := "()I" } : Jvm.MethodName)) ∈ lw_all := lw_g (lw_at lw_m5 84 rfl) rfl
theorem q1127 : (Jvm.Cond.code ({ cls := "TuneLoansModel", name := "notesNow", desc := "()I" } : Jvm.MethodName) prog_8_method_59_code (3 : Nat) (Option.some Jvm.ClassFile.FieldType.int)) ∈ lw_all := lw_g (lw_at lw_m5 85 rfl) rfl
theorem q1129 : (Jvm.Cond.instanceMethod ({ cls := "TuneLoansModel", name := "longest", desc := "(III)I" } : Jvm.MethodName)) ∈ lw_all := lw_g (lw_at lw_m5 87 rfl) rfl
theorem q1130 : (Jvm.Cond.selects "TuneLoansModel" ({ cls := "TuneLoansModel", name := "longest", desc := "(III)I" } : Jvm.MethodName) ({ cls := "TuneLoansModel", name := "longest", desc := "(III)I" } : Jvm.MethodName)) ∈ lw_all := lw_g (lw_at lw_m5 88 rfl) rfl
theorem q1131 : (Jvm.Cond.code ({ cls := "TuneLoansModel", name := "longest", desc := "(III)I" } : Jvm.MethodName) prog_8_method_63_code (4 : Nat) (Option.some Jvm.ClassFile.FieldType.int)) ∈ lw_all := lw_g (lw_at lw_m5 89 rfl) rfl
theorem q1132 : (Jvm.Cond.methodLink "TuneLoansModel" (231 : Nat) ({ cls := "TuneLoansModel", name := "longestOf", desc := "(III)I" } : Jvm.MethodName)) ∈ lw_all := lw_g (lw_at lw_m5 90 rfl) rfl
theorem q1133 : (Jvm.Cond.privateMethod ({ cls := "TuneLoansModel", name := "longestOf", desc := "(III)I" } : Jvm.MethodName)) ∈ lw_tbl := lw_at lw_m5 91 rfl
theorem q1134 : (Jvm.Cond.instanceMethod ({ cls := "TuneLoansModel", name := "longestOf", desc := "(III)I" } : Jvm.MethodName)) ∈ lw_all := lw_g (lw_at lw_m5 92 rfl) rfl
theorem q1135 : (Jvm.Cond.code ({ cls := "TuneLoansModel", name := "longestOf", desc := "(III)I" } : Jvm.MethodName) prog_8_method_62_code (7 : Nat) (Option.some Jvm.ClassFile.FieldType.int)) ∈ lw_all := lw_g (lw_at lw_m5 93 rfl) rfl
theorem q1137 : (Jvm.Cond.instanceMethod ({ cls := "TuneLoansModel", name := "who", desc := "(III)I" } : Jvm.MethodName)) ∈ lw_all := lw_g (lw_at lw_m5 95 rfl) rfl
theorem q1138 : (Jvm.Cond.selects "TuneLoansModel" ({ cls := "TuneLoansModel", name := "who", desc := "(III)I" } : Jvm.MethodName) ({ cls := "TuneLoansModel", name := "who", desc := "(III)I" } : Jvm.MethodName)) ∈ lw_all := lw_g (lw_at lw_m5 96 rfl) rfl
theorem q1139 : (Jvm.Cond.code ({ cls := "TuneLoansModel", name := "who", desc := "(III)I" } : Jvm.MethodName) prog_8_method_67_code (4 : Nat) (Option.some Jvm.ClassFile.FieldType.int)) ∈ lw_all := lw_g (lw_at lw_m5 97 rfl) rfl
theorem q1140 : (Jvm.Cond.methodLink "TuneLoansModel" (240 : Nat) ({ cls := "TuneLoansModel", name := "whoOf", desc := "(III)I" } : Jvm.MethodName)) ∈ lw_all := lw_g (lw_at lw_m5 98 rfl) rfl
theorem q1141 : (Jvm.Cond.privateMethod ({ cls := "TuneLoansModel", name := "whoOf", desc := "(III)I" } : Jvm.MethodName)) ∈ lw_tbl := lw_at lw_m5 99 rfl
theorem q1142 : (Jvm.Cond.instanceMethod ({ cls := "TuneLoansModel", name := "whoOf", desc := "(III)I" } : Jvm.MethodName)) ∈ lw_all := lw_g (lw_at lw_m5 100 rfl) rfl
theorem q1143 : (Jvm.Cond.code ({ cls := "TuneLoansModel", name := "whoOf", desc := "(III)I" } : Jvm.MethodName) prog_8_method_66_code (8 : Nat) (Option.some Jvm.ClassFile.FieldType.int)) ∈ lw_all := lw_g (lw_at lw_m5 101 rfl) rfl
theorem q1144 : (Jvm.Cond.methodLink "TuneLoansModel" (234 : Nat) ({ cls := "TuneLoansModel", name := "isNow", desc := "(I)Z" } : Jvm.MethodName)) ∈ lw_all := lw_g (lw_at lw_m5 102 rfl) rfl
theorem q1145 : (Jvm.Cond.privateMethod ({ cls := "TuneLoansModel", name := "isNow", desc := "(I)Z" } : Jvm.MethodName)) ∈ lw_tbl := lw_at lw_m5 103 rfl
theorem q1146 : (Jvm.Cond.instanceMethod ({ cls := "TuneLoansModel", name := "isNow", desc := "(I)Z" } : Jvm.MethodName)) ∈ lw_all := lw_g (lw_at lw_m5 104 rfl) rfl
theorem q1147 : (Jvm.Cond.code ({ cls := "TuneLoansModel", name := "isNow", desc := "(I)Z" } : Jvm.MethodName) prog_8_method_64_code (4 : Nat) (Option.some Jvm.ClassFile.FieldType.boolean)) ∈ lw_all := lw_g (lw_at lw_m5 105 rfl) rfl
theorem q1148 : (Jvm.Cond.methodLink "TuneLoansModel" (237 : Nat) ({ cls := "TuneLoansModel", name := "rowOf", desc := "(II)I" } : Jvm.MethodName)) ∈ lw_all := lw_g (lw_at lw_m5 106 rfl) rfl
theorem q1149 : (Jvm.Cond.privateMethod ({ cls := "TuneLoansModel", name := "rowOf", desc := "(II)I" } : Jvm.MethodName)) ∈ lw_tbl := lw_at lw_m5 107 rfl
theorem q1150 : (Jvm.Cond.instanceMethod ({ cls := "TuneLoansModel", name := "rowOf", desc := "(II)I" } : Jvm.MethodName)) ∈ lw_all := lw_g (lw_at lw_m5 108 rfl) rfl
theorem q1151 : (Jvm.Cond.code ({ cls := "TuneLoansModel", name := "rowOf", desc := "(II)I" } : Jvm.MethodName) prog_8_method_65_code (5 : Nat) (Option.some Jvm.ClassFile.FieldType.int)) ∈ lw_all := lw_g (lw_at lw_m5 109 rfl) rfl
theorem q1153 : (Jvm.Cond.instanceMethod ({ cls := "TuneLoansModel", name := "common", desc := "(II)I" } : Jvm.MethodName)) ∈ lw_all := lw_g (lw_at lw_m5 111 rfl) rfl
theorem q1154 : (Jvm.Cond.selects "TuneLoansModel" ({ cls := "TuneLoansModel", name := "common", desc := "(II)I" } : Jvm.MethodName) ({ cls := "TuneLoansModel", name := "common", desc := "(II)I" } : Jvm.MethodName)) ∈ lw_all := lw_g (lw_at lw_m5 112 rfl) rfl
theorem q1155 : (Jvm.Cond.code ({ cls := "TuneLoansModel", name := "common", desc := "(II)I" } : Jvm.MethodName) prog_8_method_69_code (3 : Nat) (Option.some Jvm.ClassFile.FieldType.int)) ∈ lw_all := lw_g (lw_at lw_m5 113 rfl) rfl
theorem q1156 : (Jvm.Cond.methodLink "TuneLoansModel" (243 : Nat) ({ cls := "TuneLoansModel", name := "commonBoth", desc := "(II)I" } : Jvm.MethodName)) ∈ lw_all := lw_g (lw_at lw_m5 114 rfl) rfl
theorem q1157 : (Jvm.Cond.privateMethod ({ cls := "TuneLoansModel", name := "commonBoth", desc := "(II)I" } : Jvm.MethodName)) ∈ lw_tbl := lw_at lw_m5 115 rfl
theorem q1158 : (Jvm.Cond.instanceMethod ({ cls := "TuneLoansModel", name := "commonBoth", desc := "(II)I" } : Jvm.MethodName)) ∈ lw_all := lw_g (lw_at lw_m5 116 rfl) rfl
theorem q1159 : (Jvm.Cond.code ({ cls := "TuneLoansModel", name := "commonBoth", desc := "(II)I" } : Jvm.MethodName) prog_8_method_68_code (3 : Nat) (Option.some Jvm.ClassFile.FieldType.int)) ∈ lw_all := lw_g (lw_at lw_m5 117 rfl) rfl
theorem q1161 : (Jvm.Cond.instanceMethod ({ cls := "TuneLoansModel", name := "far", desc := "(II)I" } : Jvm.MethodName)) ∈ lw_all := lw_g (lw_at lw_m5 119 rfl) rfl
theorem q1162 : (Jvm.Cond.selects "TuneLoansModel" ({ cls := "TuneLoansModel", name := "far", desc := "(II)I" } : Jvm.MethodName) ({ cls := "TuneLoansModel", name := "far", desc := "(II)I" } : Jvm.MethodName)) ∈ lw_all := lw_g (lw_at lw_m5 120 rfl) rfl
theorem q1163 : (Jvm.Cond.code ({ cls := "TuneLoansModel", name := "far", desc := "(II)I" } : Jvm.MethodName) prog_8_method_71_code (3 : Nat) (Option.some Jvm.ClassFile.FieldType.int)) ∈ lw_all := lw_g (lw_at lw_m5 121 rfl) rfl
theorem q1164 : (Jvm.Cond.methodLink "TuneLoansModel" (246 : Nat) ({ cls := "TuneLoansModel", name := "farOf", desc := "(II)I" } : Jvm.MethodName)) ∈ lw_all := lw_g (lw_at lw_m5 122 rfl) rfl
theorem q1165 : (Jvm.Cond.privateMethod ({ cls := "TuneLoansModel", name := "farOf", desc := "(II)I" } : Jvm.MethodName)) ∈ lw_tbl := lw_at lw_m5 123 rfl
theorem q1166 : (Jvm.Cond.instanceMethod ({ cls := "TuneLoansModel", name := "farOf", desc := "(II)I" } : Jvm.MethodName)) ∈ lw_all := lw_g (lw_at lw_m5 124 rfl) rfl
theorem q1167 : (Jvm.Cond.code ({ cls := "TuneLoansModel", name := "farOf", desc := "(II)I" } : Jvm.MethodName) prog_8_method_70_code (3 : Nat) (Option.some Jvm.ClassFile.FieldType.int)) ∈ lw_all := lw_g (lw_at lw_m5 125 rfl) rfl
theorem q1169 : (Jvm.Cond.instanceMethod ({ cls := "TuneLoansModel", name := "nearest", desc := "(I)I" } : Jvm.MethodName)) ∈ lw_all := lw_g (lw_at lw_m5 127 rfl) rfl
theorem q1170 : (Jvm.Cond.selects "TuneLoansModel" ({ cls := "TuneLoansModel", name := "nearest", desc := "(I)I" } : Jvm.MethodName) ({ cls := "TuneLoansModel", name := "nearest", desc := "(I)I" } : Jvm.MethodName)) ∈ lw_all := lw_g (lw_at lw_m5 128 rfl) rfl
theorem q1171 : (Jvm.Cond.code ({ cls := "TuneLoansModel", name := "nearest", desc := "(I)I" } : Jvm.MethodName) prog_8_method_73_code (2 : Nat) (Option.some Jvm.ClassFile.FieldType.int)) ∈ lw_all := lw_g (lw_at lw_m5 129 rfl) rfl
theorem q1172 : (Jvm.Cond.methodLink "TuneLoansModel" (249 : Nat) ({ cls := "TuneLoansModel", name := "nearestOf", desc := "(I)I" } : Jvm.MethodName)) ∈ lw_all := lw_g (lw_at lw_m5 130 rfl) rfl
theorem q1173 : (Jvm.Cond.privateMethod ({ cls := "TuneLoansModel", name := "nearestOf", desc := "(I)I" } : Jvm.MethodName)) ∈ lw_tbl := lw_at lw_m5 131 rfl
theorem q1174 : (Jvm.Cond.instanceMethod ({ cls := "TuneLoansModel", name := "nearestOf", desc := "(I)I" } : Jvm.MethodName)) ∈ lw_all := lw_g (lw_at lw_m5 132 rfl) rfl
theorem q1175 : (Jvm.Cond.code ({ cls := "TuneLoansModel", name := "nearestOf", desc := "(I)I" } : Jvm.MethodName) prog_8_method_72_code (4 : Nat) (Option.some Jvm.ClassFile.FieldType.int)) ∈ lw_all := lw_g (lw_at lw_m5 133 rfl) rfl
theorem q1177 : (Jvm.Cond.instanceMethod ({ cls := "TuneLoansModel", name := "mothers", desc := "(I)I" } : Jvm.MethodName)) ∈ lw_all := lw_g (lw_at lw_m5 135 rfl) rfl
theorem q1178 : (Jvm.Cond.selects "TuneLoansModel" ({ cls := "TuneLoansModel", name := "mothers", desc := "(I)I" } : Jvm.MethodName) ({ cls := "TuneLoansModel", name := "mothers", desc := "(I)I" } : Jvm.MethodName)) ∈ lw_all := lw_g (lw_at lw_m5 136 rfl) rfl
theorem q1179 : (Jvm.Cond.code ({ cls := "TuneLoansModel", name := "mothers", desc := "(I)I" } : Jvm.MethodName) prog_8_method_75_code (2 : Nat) (Option.some Jvm.ClassFile.FieldType.int)) ∈ lw_all := lw_g (lw_at lw_m5 137 rfl) rfl
theorem q1180 : (Jvm.Cond.methodLink "TuneLoansModel" (252 : Nat) ({ cls := "TuneLoansModel", name := "mothersOf", desc := "(I)I" } : Jvm.MethodName)) ∈ lw_all := lw_g (lw_at lw_m5 138 rfl) rfl
theorem q1181 : (Jvm.Cond.privateMethod ({ cls := "TuneLoansModel", name := "mothersOf", desc := "(I)I" } : Jvm.MethodName)) ∈ lw_tbl := lw_at lw_m5 139 rfl
theorem q1182 : (Jvm.Cond.instanceMethod ({ cls := "TuneLoansModel", name := "mothersOf", desc := "(I)I" } : Jvm.MethodName)) ∈ lw_all := lw_g (lw_at lw_m5 140 rfl) rfl
theorem q1183 : (Jvm.Cond.code ({ cls := "TuneLoansModel", name := "mothersOf", desc := "(I)I" } : Jvm.MethodName) prog_8_method_74_code (4 : Nat) (Option.some Jvm.ClassFile.FieldType.int)) ∈ lw_all := lw_g (lw_at lw_m5 141 rfl) rfl
theorem q1185 : (Jvm.Cond.instanceMethod ({ cls := "TuneLoansModel", name := "tells", desc := "(II)I" } : Jvm.MethodName)) ∈ lw_all := lw_g (lw_at lw_m5 143 rfl) rfl
theorem q1186 : (Jvm.Cond.selects "TuneLoansModel" ({ cls := "TuneLoansModel", name := "tells", desc := "(II)I" } : Jvm.MethodName) ({ cls := "TuneLoansModel", name := "tells", desc := "(II)I" } : Jvm.MethodName)) ∈ lw_all := lw_g (lw_at lw_m5 144 rfl) rfl
theorem q1187 : (Jvm.Cond.code ({ cls := "TuneLoansModel", name := "tells", desc := "(II)I" } : Jvm.MethodName) prog_8_method_79_code (3 : Nat) (Option.some Jvm.ClassFile.FieldType.int)) ∈ lw_all := lw_g (lw_at lw_m5 145 rfl) rfl
theorem q1188 : (Jvm.Cond.methodLink "TuneLoansModel" (265 : Nat) ({ cls := "TuneLoansModel", name := "tellsOf", desc := "(I)I" } : Jvm.MethodName)) ∈ lw_all := lw_g (lw_at lw_m5 146 rfl) rfl
theorem q1189 : (Jvm.Cond.privateMethod ({ cls := "TuneLoansModel", name := "tellsOf", desc := "(I)I" } : Jvm.MethodName)) ∈ lw_tbl := lw_at lw_m5 147 rfl
theorem q1190 : (Jvm.Cond.instanceMethod ({ cls := "TuneLoansModel", name := "tellsOf", desc := "(I)I" } : Jvm.MethodName)) ∈ lw_all := lw_g (lw_at lw_m5 148 rfl) rfl
theorem q1191 : (Jvm.Cond.code ({ cls := "TuneLoansModel", name := "tellsOf", desc := "(I)I" } : Jvm.MethodName) prog_8_method_77_code (8 : Nat) (Option.some Jvm.ClassFile.FieldType.int)) ∈ lw_all := lw_g (lw_at lw_m5 149 rfl) rfl
theorem q1192 : (Jvm.Cond.methodLink "TuneLoansModel" (255 : Nat) ({ cls := "TuneLoansModel", name := "ones", desc := "(I)I" } : Jvm.MethodName)) ∈ lw_all := lw_g (lw_at lw_m5 150 rfl) rfl
theorem q1193 : (Jvm.Cond.static ({ cls := "TuneLoansModel", name := "ones", desc := "(I)I" } : Jvm.MethodName)) ∈ lw_all := lw_g (lw_at lw_m5 151 rfl) rfl
theorem q1194 : (Jvm.Cond.code ({ cls := "TuneLoansModel", name := "ones", desc := "(I)I" } : Jvm.MethodName) prog_8_method_7_code (3 : Nat) (Option.some Jvm.ClassFile.FieldType.int)) ∈ lw_all := lw_g (lw_at lw_m5 152 rfl) rfl
theorem q1195 : (Jvm.Cond.methodLink "TuneLoansModel" (258 : Nat) ({ cls := "TuneLoansModel", name := "isIn", desc := "(II)Z" } : Jvm.MethodName)) ∈ lw_all := lw_g (lw_at lw_m5 153 rfl) rfl
theorem q1196 : (Jvm.Cond.static ({ cls := "TuneLoansModel", name := "isIn", desc := "(II)Z" } : Jvm.MethodName)) ∈ lw_all := lw_g (lw_at lw_m5 154 rfl) rfl
theorem q1197 : (Jvm.Cond.code ({ cls := "TuneLoansModel", name := "isIn", desc := "(II)Z" } : Jvm.MethodName) prog_8_method_6_code (2 : Nat) (Option.some Jvm.ClassFile.FieldType.boolean)) ∈ lw_all := lw_g (lw_at lw_m5 155 rfl) rfl
theorem q1198 : (Jvm.Cond.methodLink "TuneLoansModel" (262 : Nat) ({ cls := "TuneLoansModel", name := "noteAt", desc := "(II)I" } : Jvm.MethodName)) ∈ lw_all := lw_g (lw_at lw_m5 156 rfl) rfl
theorem q1199 : (Jvm.Cond.privateMethod ({ cls := "TuneLoansModel", name := "noteAt", desc := "(II)I" } : Jvm.MethodName)) ∈ lw_tbl := lw_at lw_m5 157 rfl
theorem q1200 : (Jvm.Cond.instanceMethod ({ cls := "TuneLoansModel", name := "noteAt", desc := "(II)I" } : Jvm.MethodName)) ∈ lw_all := lw_g (lw_at lw_m5 158 rfl) rfl
theorem q1201 : (Jvm.Cond.code ({ cls := "TuneLoansModel", name := "noteAt", desc := "(II)I" } : Jvm.MethodName) prog_8_method_76_code (3 : Nat) (Option.some Jvm.ClassFile.FieldType.int)) ∈ lw_all := lw_g (lw_at lw_m5 159 rfl) rfl
theorem q1202 : (Jvm.Cond.methodLink "TuneLoansModel" (268 : Nat) ({ cls := "TuneLoansModel", name := "tellsBits", desc := "(II)I" } : Jvm.MethodName)) ∈ lw_all := lw_g (lw_at lw_m5 160 rfl) rfl
theorem q1203 : (Jvm.Cond.static ({ cls := "TuneLoansModel", name := "tellsBits", desc := "(II)I" } : Jvm.MethodName)) ∈ lw_all := lw_g (lw_at lw_m5 161 rfl) rfl
theorem q1204 : (Jvm.Cond.code ({ cls := "TuneLoansModel", name := "tellsBits", desc := "(II)I" } : Jvm.MethodName) prog_8_method_78_code (2 : Nat) (Option.some Jvm.ClassFile.FieldType.int)) ∈ lw_all := lw_g (lw_at lw_m5 162 rfl) rfl
theorem q1206 : (Jvm.Cond.instanceMethod ({ cls := "TuneLoansModel", name := "loses", desc := "(I)I" } : Jvm.MethodName)) ∈ lw_all := lw_g (lw_at lw_m5 164 rfl) rfl
theorem q1207 : (Jvm.Cond.selects "TuneLoansModel" ({ cls := "TuneLoansModel", name := "loses", desc := "(I)I" } : Jvm.MethodName) ({ cls := "TuneLoansModel", name := "loses", desc := "(I)I" } : Jvm.MethodName)) ∈ lw_all := lw_g (lw_at lw_m5 165 rfl) rfl
theorem q1208 : (Jvm.Cond.code ({ cls := "TuneLoansModel", name := "loses", desc := "(I)I" } : Jvm.MethodName) prog_8_method_81_code (2 : Nat) (Option.some Jvm.ClassFile.FieldType.int)) ∈ lw_all := lw_g (lw_at lw_m5 166 rfl) rfl
theorem q1209 : (Jvm.Cond.methodLink "TuneLoansModel" (271 : Nat) ({ cls := "TuneLoansModel", name := "losesOf", desc := "(I)I" } : Jvm.MethodName)) ∈ lw_all := lw_g (lw_at lw_m5 167 rfl) rfl
theorem q1210 : (Jvm.Cond.privateMethod ({ cls := "TuneLoansModel", name := "losesOf", desc := "(I)I" } : Jvm.MethodName)) ∈ lw_tbl := lw_at lw_m5 168 rfl
theorem q1211 : (Jvm.Cond.instanceMethod ({ cls := "TuneLoansModel", name := "losesOf", desc := "(I)I" } : Jvm.MethodName)) ∈ lw_all := lw_g (lw_at lw_m5 169 rfl) rfl
theorem q1212 : (Jvm.Cond.code ({ cls := "TuneLoansModel", name := "losesOf", desc := "(I)I" } : Jvm.MethodName) prog_8_method_80_code (2 : Nat) (Option.some Jvm.ClassFile.FieldType.int)) ∈ lw_all := lw_g (lw_at lw_m5 170 rfl) rfl
theorem q1214 : (Jvm.Cond.instanceMethod ({ cls := "TuneLoansModel", name := "best", desc := "(I)I" } : Jvm.MethodName)) ∈ lw_all := lw_g (lw_at lw_m5 172 rfl) rfl
theorem q1215 : (Jvm.Cond.selects "TuneLoansModel" ({ cls := "TuneLoansModel", name := "best", desc := "(I)I" } : Jvm.MethodName) ({ cls := "TuneLoansModel", name := "best", desc := "(I)I" } : Jvm.MethodName)) ∈ lw_all := lw_g (lw_at lw_m5 173 rfl) rfl
theorem q1216 : (Jvm.Cond.code ({ cls := "TuneLoansModel", name := "best", desc := "(I)I" } : Jvm.MethodName) prog_8_method_83_code (2 : Nat) (Option.some Jvm.ClassFile.FieldType.int)) ∈ lw_all := lw_g (lw_at lw_m5 174 rfl) rfl
theorem q1217 : (Jvm.Cond.constantLong "TuneLoansModel" (274 : Nat) (240 : Int64)) ∈ lw_all := lw_g (lw_at lw_m5 175 rfl) rfl
theorem q1218 : (Jvm.Cond.methodLink "TuneLoansModel" (276 : Nat) ({ cls := "TuneLoansModel", name := "bestOf", desc := "(I)I" } : Jvm.MethodName)) ∈ lw_all := lw_g (lw_at lw_m5 176 rfl) rfl
theorem q1219 : (Jvm.Cond.privateMethod ({ cls := "TuneLoansModel", name := "bestOf", desc := "(I)I" } : Jvm.MethodName)) ∈ lw_tbl := lw_at lw_m5 177 rfl
theorem q1220 : (Jvm.Cond.instanceMethod ({ cls := "TuneLoansModel", name := "bestOf", desc := "(I)I" } : Jvm.MethodName)) ∈ lw_all := lw_g (lw_at lw_m5 178 rfl) rfl
theorem q1221 : (Jvm.Cond.code ({ cls := "TuneLoansModel", name := "bestOf", desc := "(I)I" } : Jvm.MethodName) prog_8_method_82_code (3 : Nat) (Option.some Jvm.ClassFile.FieldType.int)) ∈ lw_all := lw_g (lw_at lw_m5 179 rfl) rfl
theorem q1223 : (Jvm.Cond.instanceMethod ({ cls := "TuneLoansModel", name := "hums", desc := "(IIIIII)J" } : Jvm.MethodName)) ∈ lw_all := lw_g (lw_at lw_m5 181 rfl) rfl
theorem q1224 : (Jvm.Cond.selects "TuneLoansModel" ({ cls := "TuneLoansModel", name := "hums", desc := "(IIIIII)J" } : Jvm.MethodName) ({ cls := "TuneLoansModel", name := "hums", desc := "(IIIIII)J" } : Jvm.MethodName)) ∈ lw_all := lw_g (lw_at lw_m5 182 rfl) rfl
theorem q1225 : (Jvm.Cond.code ({ cls := "TuneLoansModel", name := "hums", desc := "(IIIIII)J" } : Jvm.MethodName) prog_8_method_85_code (8 : Nat) (Option.some Jvm.ClassFile.FieldType.long)) ∈ lw_all := lw_g (lw_at lw_m5 183 rfl) rfl
theorem q1226 : (Jvm.Cond.constantLong "TuneLoansModel" (279 : Nat) (16 : Int64)) ∈ lw_all := lw_g (lw_at lw_m5 184 rfl) rfl
theorem q1227 : (Jvm.Cond.constantLong "TuneLoansModel" (285 : Nat) (40 : Int64)) ∈ lw_all := lw_g (lw_at lw_m5 185 rfl) rfl
theorem q1228 : (Jvm.Cond.methodLink "TuneLoansModel" (287 : Nat) ({ cls := "TuneLoansModel", name := "humsOf", desc := "(IIIIII)J" } : Jvm.MethodName)) ∈ lw_all := lw_g (lw_at lw_m5 186 rfl) rfl
theorem q1229 : (Jvm.Cond.privateMethod ({ cls := "TuneLoansModel", name := "humsOf", desc := "(IIIIII)J" } : Jvm.MethodName)) ∈ lw_tbl := lw_at lw_m5 187 rfl
theorem q1230 : (Jvm.Cond.instanceMethod ({ cls := "TuneLoansModel", name := "humsOf", desc := "(IIIIII)J" } : Jvm.MethodName)) ∈ lw_all := lw_g (lw_at lw_m5 188 rfl) rfl
theorem q1231 : (Jvm.Cond.code ({ cls := "TuneLoansModel", name := "humsOf", desc := "(IIIIII)J" } : Jvm.MethodName) prog_8_method_84_code (17 : Nat) (Option.some Jvm.ClassFile.FieldType.long)) ∈ lw_all := lw_g (lw_at lw_m5 189 rfl) rfl
theorem q1232 : (Jvm.Cond.methodLink "TuneLoansModel" (281 : Nat) ({ cls := "TuneLoansModel", name := "part", desc := "(JJI)J" } : Jvm.MethodName)) ∈ lw_all := lw_g (lw_at lw_m5 190 rfl) rfl
theorem q1233 : (Jvm.Cond.static ({ cls := "TuneLoansModel", name := "part", desc := "(JJI)J" } : Jvm.MethodName)) ∈ lw_all := lw_g (lw_at lw_m5 191 rfl) rfl
theorem q1234 : (Jvm.Cond.code ({ cls := "TuneLoansModel", name := "part", desc := "(JJI)J" } : Jvm.MethodName) prog_8_method_10_code (11 : Nat) (Option.some Jvm.ClassFile.FieldType.long)) ∈ lw_all := lw_g (lw_at lw_m5 192 rfl) rfl
theorem q1235 : (Jvm.Cond.methodLink "TuneLoansModel" (291 : Nat) ({ cls := "TuneLoansModel", name := "no", desc := "(I)J" } : Jvm.MethodName)) ∈ lw_all := lw_g (lw_at lw_m5 193 rfl) rfl
theorem q1236 : (Jvm.Cond.static ({ cls := "TuneLoansModel", name := "no", desc := "(I)J" } : Jvm.MethodName)) ∈ lw_all := lw_g (lw_at lw_m5 194 rfl) rfl
theorem q1237 : (Jvm.Cond.code ({ cls := "TuneLoansModel", name := "no", desc := "(I)J" } : Jvm.MethodName) prog_8_method_4_code (1 : Nat) (Option.some Jvm.ClassFile.FieldType.long)) ∈ lw_all := lw_g (lw_at lw_m5 195 rfl) rfl
theorem q1238 : (Jvm.Cond.constantLong "TuneLoansModel" (77 : Nat) (-9223372036854775808 : Int64)) ∈ lw_all := lw_g (lw_at lw_m5 196 rfl) rfl
theorem q1240 : (Jvm.Cond.instanceMethod ({ cls := "TuneLoansModel", name := "fair", desc := "(III)I" } : Jvm.MethodName)) ∈ lw_all := lw_g (lw_at lw_m5 198 rfl) rfl
theorem q1241 : (Jvm.Cond.selects "TuneLoansModel" ({ cls := "TuneLoansModel", name := "fair", desc := "(III)I" } : Jvm.MethodName) ({ cls := "TuneLoansModel", name := "fair", desc := "(III)I" } : Jvm.MethodName)) ∈ lw_all := lw_g (lw_at lw_m5 199 rfl) rfl
theorem q1242 : (Jvm.Cond.code ({ cls := "TuneLoansModel", name := "fair", desc := "(III)I" } : Jvm.MethodName) prog_8_method_87_code (4 : Nat) (Option.some Jvm.ClassFile.FieldType.int)) ∈ lw_all := lw_g (lw_at lw_m5 200 rfl) rfl
theorem q1243 : (Jvm.Cond.methodLink "TuneLoansModel" (296 : Nat) ({ cls := "TuneLoansModel", name := "fairOf", desc := "(III)I" } : Jvm.MethodName)) ∈ lw_all := lw_g (lw_at lw_m5 201 rfl) rfl
theorem q1244 : (Jvm.Cond.privateMethod ({ cls := "TuneLoansModel", name := "fairOf", desc := "(III)I" } : Jvm.MethodName)) ∈ lw_tbl := lw_at lw_m5 202 rfl
theorem q1245 : (Jvm.Cond.instanceMethod ({ cls := "TuneLoansModel", name := "fairOf", desc := "(III)I" } : Jvm.MethodName)) ∈ lw_all := lw_g (lw_at lw_m5 203 rfl) rfl
theorem q1246 : (Jvm.Cond.code ({ cls := "TuneLoansModel", name := "fairOf", desc := "(III)I" } : Jvm.MethodName) prog_8_method_86_code (7 : Nat) (Option.some Jvm.ClassFile.FieldType.int)) ∈ lw_all := lw_g (lw_at lw_m5 204 rfl) rfl
theorem q1247 : (Jvm.Cond.constant "TuneLoansModel" (295 : Nat) (1103515245 : Int32)) ∈ lw_all := lw_g (lw_at lw_m5 205 rfl) rfl
theorem q1249 : (Jvm.Cond.instanceMethod ({ cls := "TuneLoansModel", name := "write", desc := "(III)I" } : Jvm.MethodName)) ∈ lw_all := lw_g (lw_at lw_m5 207 rfl) rfl
theorem q1250 : (Jvm.Cond.selects "TuneLoansModel" ({ cls := "TuneLoansModel", name := "write", desc := "(III)I" } : Jvm.MethodName) ({ cls := "TuneLoansModel", name := "write", desc := "(III)I" } : Jvm.MethodName)) ∈ lw_all := lw_g (lw_at lw_m5 208 rfl) rfl
theorem q1251 : (Jvm.Cond.code ({ cls := "TuneLoansModel", name := "write", desc := "(III)I" } : Jvm.MethodName) prog_8_method_88_code (6 : Nat) (Option.some Jvm.ClassFile.FieldType.int)) ∈ lw_all := lw_g (lw_at lw_m5 209 rfl) rfl
theorem q1253 : (Jvm.Cond.instanceMethod ({ cls := "TuneLoansModel", name := "count", desc := "(I)I" } : Jvm.MethodName)) ∈ lw_all := lw_g (lw_at lw_m5 211 rfl) rfl
theorem q1254 : (Jvm.Cond.selects "TuneLoansModel" ({ cls := "TuneLoansModel", name := "count", desc := "(I)I" } : Jvm.MethodName) ({ cls := "TuneLoansModel", name := "count", desc := "(I)I" } : Jvm.MethodName)) ∈ lw_all := lw_g (lw_at lw_m5 212 rfl) rfl
theorem q1255 : (Jvm.Cond.code ({ cls := "TuneLoansModel", name := "count", desc := "(I)I" } : Jvm.MethodName) prog_8_method_89_code (4 : Nat) (Option.some Jvm.ClassFile.FieldType.int)) ∈ lw_all := lw_g (lw_at lw_m5 213 rfl) rfl
theorem q1257 : (Jvm.Cond.instanceMethod ({ cls := "TuneLoansModel", name := "digest", desc := "()J" } : Jvm.MethodName)) ∈ lw_all := lw_g (lw_at lw_m5 215 rfl) rfl
theorem q1258 : (Jvm.Cond.selects "TuneLoansModel" ({ cls := "TuneLoansModel", name := "digest", desc := "()J" } : Jvm.MethodName) ({ cls := "TuneLoansModel", name := "digest", desc := "()J" } : Jvm.MethodName)) ∈ lw_all := lw_g (lw_at lw_m5 216 rfl) rfl
theorem q1259 : (Jvm.Cond.code ({ cls := "TuneLoansModel", name := "digest", desc := "()J" } : Jvm.MethodName) prog_8_method_91_code (5 : Nat) (Option.some Jvm.ClassFile.FieldType.long)) ∈ lw_all := lw_g (lw_at lw_m5 217 rfl) rfl
theorem q1260 : (Jvm.Cond.constantLong "TuneLoansModel" (304 : Nat) (17 : Int64)) ∈ lw_all := lw_g (lw_at lw_m5 218 rfl) rfl
theorem q1261 : (Jvm.Cond.constantLong "TuneLoansModel" (299 : Nat) (31 : Int64)) ∈ lw_all := lw_g (lw_at lw_m5 219 rfl) rfl
theorem q1262 : (Jvm.Cond.methodLink "TuneLoansModel" (306 : Nat) ({ cls := "TuneLoansModel", name := "count", desc := "(I)I" } : Jvm.MethodName)) ∈ lw_all := lw_g (lw_at lw_m5 220 rfl) rfl
theorem q1263 : (Jvm.Cond.methodLink "TuneLoansModel" (309 : Nat) ({ cls := "TuneLoansModel", name := "tellsTune", desc := "(JI)J" } : Jvm.MethodName)) ∈ lw_all := lw_g (lw_at lw_m5 221 rfl) rfl
theorem q1264 : (Jvm.Cond.privateMethod ({ cls := "TuneLoansModel", name := "tellsTune", desc := "(JI)J" } : Jvm.MethodName)) ∈ lw_tbl := lw_at lw_m5 222 rfl
theorem q1265 : (Jvm.Cond.instanceMethod ({ cls := "TuneLoansModel", name := "tellsTune", desc := "(JI)J" } : Jvm.MethodName)) ∈ lw_all := lw_g (lw_at lw_m5 223 rfl) rfl
theorem q1266 : (Jvm.Cond.code ({ cls := "TuneLoansModel", name := "tellsTune", desc := "(JI)J" } : Jvm.MethodName) prog_8_method_90_code (7 : Nat) (Option.some Jvm.ClassFile.FieldType.long)) ∈ lw_all := lw_g (lw_at lw_m5 224 rfl) rfl
theorem q1267 : (Jvm.Cond.methodLink "TuneLoansModel" (301 : Nat) ({ cls := "TuneLoansModel", name := "hums", desc := "(IIIIII)J" } : Jvm.MethodName)) ∈ lw_all := lw_g (lw_at lw_m5 225 rfl) rfl
theorem in_X6 : ∀ w ∈ wsX60, w ∈ lw_all := lw_in wsX60 [849, 851, 853, 855, 857, 859, 861, 863, 865, 867, 869, 871, 873, 875, 877, 879, 881, 883, 885, 887, 889, 891, 893, 895, 897, 899] (by decide +kernel) (by decide +kernel)

/-! TuneLoans -/
set_option maxRecDepth 100000
def RX0 : String := "TuneLoans"
def TX0 : u_T := fun k => match k with
  | 0 => ("TuneLoans", "texts", "[[I", true)
  | 1 => ("TuneLoans", "typed", "[I", true)
  | 2 => ("TuneLoans", "isRead", "Z", false)
  | 3 => ("TuneLoans", "faults", "[I", true)
  | 4 => ("TuneLoans", "tunes", "I", false)
  | 5 => ("TuneLoans", "told", "[LTuneLoans$Tune;", true)
  | 6 => ("TuneLoans", "borrowers", "I", false)
  | 7 => ("TuneLoans", "all", "[[LTuneLoans$Borrower;", true)
  | 8 => ("TuneLoans", "people", "[LTuneLoans$Borrower;", true)
  | 9 => ("TuneLoans", "loans", "I", false)
  | 10 => ("TuneLoans", "terms", "[[I", true)
  | 11 => ("TuneLoans", "earNow", "I", false)
  | 12 => ("TuneLoans", "now", "[LTuneLoans$Tune;", true)
  | 13 => ("TuneLoans", "lent", "[LTuneLoans$Tune;", true)
  | 14 => ("TuneLoans", "by", "[I", true)
  | 15 => ("TuneLoans", "counts", "[Z", true)
  | 16 => ("TuneLoans", "isBad", "[Z", true)
  | 17 => ("TuneLoans", "gains", "[I", true)
  | 18 => ("TuneLoans", "spare", "LTuneLoans$Tune;", true)
  | 19 => ("TuneLoans", "turned", "LTuneLoans$Tune;", true)
  | 20 => ("TuneLoans", "line", "[I", true)
  | 21 => ("TuneLoans", "sheets", "[LTuneLoans$Sheet;", true)
  | _ => ("TuneLoans", "finding", "I", false)
def tyX0 : Nat → FieldType := fun k => match k with
  | 0 => .array (.array .int)
  | 1 => .array .int
  | 2 => .boolean
  | 3 => .array .int
  | 4 => .int
  | 5 => .array (.object "TuneLoans$Tune")
  | 6 => .int
  | 7 => .array (.array (.object "TuneLoans$Borrower"))
  | 8 => .array (.object "TuneLoans$Borrower")
  | 9 => .int
  | 10 => .array (.array .int)
  | 11 => .int
  | 12 => .array (.object "TuneLoans$Tune")
  | 13 => .array (.object "TuneLoans$Tune")
  | 14 => .array .int
  | 15 => .array .boolean
  | 16 => .array .boolean
  | 17 => .array .int
  | 18 => .object "TuneLoans$Tune"
  | 19 => .object "TuneLoans$Tune"
  | 20 => .array .int
  | 21 => .array (.object "TuneLoans$Sheet")
  | _ => .int
abbrev wsX00 : List Cond := u_ws RX0 TX0 23
set_option maxRecDepth 100000 in
theorem nmX0 : ∀ a, a < 23 → ∀ b, b < 23 → a ≠ b → (TX0 a).2.1 ≠ (TX0 b).2.1 := by decide +kernel
set_option maxRecDepth 100000 in
theorem tyX0_ok : ∀ k, k < 23 → parseFieldDescriptor (TX0 k).2.2.1 = some (tyX0 k) := by decide +kernel
abbrev cX0_type : ByteArray := prog_1_method_8_code
def yX0_type : MethodName := ⟨RX0, "type", "(II)I"⟩
abbrev cX0_isTwo : ByteArray := prog_1_method_5_code
def yX0_isTwo : MethodName := ⟨RX0, "isTwo", "(I)Z"⟩
abbrev cX0_in : ByteArray := prog_1_method_1_code
def yX0_in : MethodName := ⟨RX0, "in", "(III)Z"⟩
abbrev cX0_wipe : ByteArray := prog_1_method_9_code
def yX0_wipe : MethodName := ⟨RX0, "wipe", "(I)I"⟩
abbrev cX0_undo : ByteArray := prog_1_method_10_code
def yX0_undo : MethodName := ⟨RX0, "undo", "(I)I"⟩
abbrev cX0_fault : ByteArray := prog_1_method_16_code
def yX0_fault : MethodName := ⟨RX0, "fault", "(I)I"⟩
abbrev cX0_faultOf : ByteArray := prog_1_method_15_code
def yX0_faultOf : MethodName := ⟨RX0, "faultOf", "(I)I"⟩
abbrev cX0_reads : ByteArray := prog_1_method_14_code
def yX0_reads : MethodName := ⟨RX0, "reads", "()V"⟩
abbrev cX0_readsTunes : ByteArray := prog_1_method_12_code
def yX0_readsTunes : MethodName := ⟨RX0, "readsTunes", "()I"⟩
abbrev cX0_noteAt : ByteArray := prog_1_method_11_code
def yX0_noteAt : MethodName := ⟨RX0, "noteAt", "(II)I"⟩
abbrev cX0_readsBorrowers : ByteArray := prog_1_method_13_code
def yX0_readsBorrowers : MethodName := ⟨RX0, "readsBorrowers", "()I"⟩
abbrev cX0_tune : ByteArray := prog_1_method_20_code
def yX0_tune : MethodName := ⟨RX0, "tune", "(II)I"⟩
abbrev cX0_isTune : ByteArray := prog_1_method_17_code
def yX0_isTune : MethodName := ⟨RX0, "isTune", "(I)Z"⟩
abbrev cX0_noteOf : ByteArray := prog_1_method_19_code
def yX0_noteOf : MethodName := ⟨RX0, "noteOf", "(LTuneLoans$Tune;I)I"⟩
abbrev cX0_borrower : ByteArray := prog_1_method_22_code
def yX0_borrower : MethodName := ⟨RX0, "borrower", "(II)I"⟩
abbrev cX0_isBorrower : ByteArray := prog_1_method_18_code
def yX0_isBorrower : MethodName := ⟨RX0, "isBorrower", "(I)Z"⟩
abbrev cX0_borrowerOf : ByteArray := prog_1_method_21_code
def yX0_borrowerOf : MethodName := ⟨RX0, "borrowerOf", "(II)I"⟩
abbrev cX0_loan : ByteArray := prog_1_method_23_code
def yX0_loan : MethodName := ⟨RX0, "loan", "(IIII)I"⟩
abbrev cX0_isYear : ByteArray := prog_1_method_7_code
def yX0_isYear : MethodName := ⟨RX0, "isYear", "(I)Z"⟩
abbrev cX0_isSix : ByteArray := prog_1_method_6_code
def yX0_isSix : MethodName := ⟨RX0, "isSix", "(I)Z"⟩
abbrev cX0_back : ByteArray := prog_1_method_24_code
def yX0_back : MethodName := ⟨RX0, "back", "()I"⟩
abbrev cX0_read : ByteArray := prog_1_method_25_code
def yX0_read : MethodName := ⟨RX0, "read", "(I)I"⟩
abbrev cX0_isSheet : ByteArray := prog_1_method_75_code
def yX0_isSheet : MethodName := ⟨RX0, "isSheet", "(I)Z"⟩
abbrev cX0_meets : ByteArray := prog_1_method_74_code
def yX0_meets : MethodName := ⟨RX0, "meets", "(I)I"⟩
abbrev cX0_taken : ByteArray := prog_1_method_80_code
def yX0_taken : MethodName := ⟨RX0, "taken", "(Ljava/lang/Object;II)I"⟩
abbrev cX0_ear : ByteArray := prog_1_method_26_code
def yX0_ear : MethodName := ⟨RX0, "ear", "(I)I"⟩
abbrev cX0_notes : ByteArray := prog_1_method_34_code
def yX0_notes : MethodName := ⟨RX0, "notes", "(III)I"⟩
abbrev cX0_notesOf : ByteArray := prog_1_method_33_code
def yX0_notesOf : MethodName := ⟨RX0, "notesOf", "(III)I"⟩
abbrev cX0_runs : ByteArray := prog_1_method_32_code
def yX0_runs : MethodName := ⟨RX0, "runs", "(I)V"⟩
abbrev cX0_begins : ByteArray := prog_1_method_27_code
def yX0_begins : MethodName := ⟨RX0, "begins", "()V"⟩
abbrev cX0_goesBy : ByteArray := prog_1_method_31_code
def yX0_goesBy : MethodName := ⟨RX0, "goesBy", "(I)V"⟩
abbrev cX0_lends : ByteArray := prog_1_method_29_code
def yX0_lends : MethodName := ⟨RX0, "lends", "(I)V"⟩
abbrev cX0_humsOnce : ByteArray := prog_1_method_28_code
def yX0_humsOnce : MethodName := ⟨RX0, "humsOnce", "(LTuneLoans$Borrower;LTuneLoans$Tune;)V"⟩
abbrev cX0_comesBack : ByteArray := prog_1_method_30_code
def yX0_comesBack : MethodName := ⟨RX0, "comesBack", "(I)V"⟩
abbrev cX0_commonOf : ByteArray := prog_1_method_53_code
def yX0_commonOf : MethodName := ⟨RX0, "commonOf", "(LTuneLoans$Tune;LTuneLoans$Tune;)I"⟩
abbrev cX0_has : ByteArray := prog_1_method_36_code
def yX0_has : MethodName := ⟨RX0, "has", "(II)I"⟩
abbrev cX0_hasOf : ByteArray := prog_1_method_35_code
def yX0_hasOf : MethodName := ⟨RX0, "hasOf", "(II)I"⟩
abbrev cX0_came : ByteArray := prog_1_method_38_code
def yX0_came : MethodName := ⟨RX0, "came", "(II)I"⟩
abbrev cX0_cameOf : ByteArray := prog_1_method_37_code
def yX0_cameOf : MethodName := ⟨RX0, "cameOf", "(II)I"⟩
abbrev cX0_interest : ByteArray := prog_1_method_40_code
def yX0_interest : MethodName := ⟨RX0, "interest", "(I)I"⟩
abbrev cX0_interestOf : ByteArray := prog_1_method_39_code
def yX0_interestOf : MethodName := ⟨RX0, "interestOf", "(I)I"⟩
abbrev cX0_home : ByteArray := prog_1_method_42_code
def yX0_home : MethodName := ⟨RX0, "home", "(I)I"⟩
abbrev cX0_homeOf : ByteArray := prog_1_method_41_code
def yX0_homeOf : MethodName := ⟨RX0, "homeOf", "(I)I"⟩
abbrev cX0_lend : ByteArray := prog_1_method_47_code
def yX0_lend : MethodName := ⟨RX0, "lend", "(III)I"⟩
abbrev cX0_lendOf : ByteArray := prog_1_method_46_code
def yX0_lendOf : MethodName := ⟨RX0, "lendOf", "(III)I"⟩
abbrev cX0_rowsOf : ByteArray := prog_1_method_44_code
def yX0_rowsOf : MethodName := ⟨RX0, "rowsOf", "(I)I"⟩
abbrev cX0_turns : ByteArray := prog_1_method_43_code
def yX0_turns : MethodName := ⟨RX0, "turns", "(LTuneLoans$Tune;II)V"⟩
abbrev cX0_figure : ByteArray := prog_1_method_45_code
def yX0_figure : MethodName := ⟨RX0, "figure", "(III)I"⟩
abbrev cX0_longest : ByteArray := prog_1_method_49_code
def yX0_longest : MethodName := ⟨RX0, "longest", "(III)I"⟩
abbrev cX0_longestOf : ByteArray := prog_1_method_48_code
def yX0_longestOf : MethodName := ⟨RX0, "longestOf", "(III)I"⟩
abbrev cX0_who : ByteArray := prog_1_method_52_code
def yX0_who : MethodName := ⟨RX0, "who", "(III)I"⟩
abbrev cX0_whoOf : ByteArray := prog_1_method_50_code
def yX0_whoOf : MethodName := ⟨RX0, "whoOf", "(III)I"⟩
abbrev cX0_codeOf : ByteArray := prog_1_method_51_code
def yX0_codeOf : MethodName := ⟨RX0, "codeOf", "(II)I"⟩
abbrev cX0_common : ByteArray := prog_1_method_54_code
def yX0_common : MethodName := ⟨RX0, "common", "(II)I"⟩
abbrev cX0_far : ByteArray := prog_1_method_56_code
def yX0_far : MethodName := ⟨RX0, "far", "(II)I"⟩
abbrev cX0_farOf : ByteArray := prog_1_method_55_code
def yX0_farOf : MethodName := ⟨RX0, "farOf", "(II)I"⟩
abbrev cX0_nearest : ByteArray := prog_1_method_58_code
def yX0_nearest : MethodName := ⟨RX0, "nearest", "(I)I"⟩
abbrev cX0_nearestOf : ByteArray := prog_1_method_57_code
def yX0_nearestOf : MethodName := ⟨RX0, "nearestOf", "(I)I"⟩
abbrev cX0_mothers : ByteArray := prog_1_method_60_code
def yX0_mothers : MethodName := ⟨RX0, "mothers", "(I)I"⟩
abbrev cX0_mothersOf : ByteArray := prog_1_method_59_code
def yX0_mothersOf : MethodName := ⟨RX0, "mothersOf", "(I)I"⟩
abbrev cX0_tells : ByteArray := prog_1_method_63_code
def yX0_tells : MethodName := ⟨RX0, "tells", "(II)I"⟩
abbrev cX0_tellsOf : ByteArray := prog_1_method_62_code
def yX0_tellsOf : MethodName := ⟨RX0, "tellsOf", "(II)I"⟩
abbrev cX0_many : ByteArray := prog_1_method_3_code
def yX0_many : MethodName := ⟨RX0, "many", "(I)I"⟩
abbrev cX0_unlike : ByteArray := prog_1_method_61_code
def yX0_unlike : MethodName := ⟨RX0, "unlike", "(LTuneLoans$Tune;LTuneLoans$Tune;)I"⟩
abbrev cX0_loses : ByteArray := prog_1_method_65_code
def yX0_loses : MethodName := ⟨RX0, "loses", "(I)I"⟩
abbrev cX0_interestBy : ByteArray := prog_1_method_64_code
def yX0_interestBy : MethodName := ⟨RX0, "interestBy", "(I)I"⟩
abbrev cX0_best : ByteArray := prog_1_method_67_code
def yX0_best : MethodName := ⟨RX0, "best", "(I)I"⟩
abbrev cX0_bestOf : ByteArray := prog_1_method_66_code
def yX0_bestOf : MethodName := ⟨RX0, "bestOf", "(I)I"⟩
abbrev cX0_hums : ByteArray := prog_1_method_70_code
def yX0_hums : MethodName := ⟨RX0, "hums", "(IIIIII)J"⟩
abbrev cX0_humsOf : ByteArray := prog_1_method_69_code
def yX0_humsOf : MethodName := ⟨RX0, "humsOf", "(IIIIII)J"⟩
abbrev cX0_ways : ByteArray := prog_1_method_68_code
def yX0_ways : MethodName := ⟨RX0, "ways", "(III)J"⟩
abbrev cX0_lowest : ByteArray := prog_1_method_4_code
def yX0_lowest : MethodName := ⟨RX0, "lowest", "(JJI)J"⟩
abbrev cX0_no : ByteArray := prog_1_method_2_code
def yX0_no : MethodName := ⟨RX0, "no", "(I)J"⟩
abbrev cX0_fair : ByteArray := prog_1_method_72_code
def yX0_fair : MethodName := ⟨RX0, "fair", "(III)I"⟩
abbrev cX0_fairOf : ByteArray := prog_1_method_71_code
def yX0_fairOf : MethodName := ⟨RX0, "fairOf", "(III)I"⟩
abbrev cX0_init : ByteArray := prog_1_method_73_code
def yX0_init : MethodName := ⟨RX0, "<init>", "()V"⟩
abbrev cX0_sheet : ByteArray := prog_1_method_77_code
def yX0_sheet : MethodName := ⟨RX0, "sheet", "(III)I"⟩
abbrev cX0_rowOf : ByteArray := prog_1_method_76_code
def yX0_rowOf : MethodName := ⟨RX0, "rowOf", "(II)Ljava/lang/Object;"⟩
abbrev cX0_lose : ByteArray := prog_1_method_78_code
def yX0_lose : MethodName := ⟨RX0, "lose", "(I)I"⟩
abbrev cX0_lay : ByteArray := prog_1_method_81_code
def yX0_lay : MethodName := ⟨RX0, "lay", "(IIII)I"⟩
abbrev cX0_laid : ByteArray := prog_1_method_79_code
def yX0_laid : MethodName := ⟨RX0, "laid", "(Ljava/lang/Object;III)V"⟩
abbrev cX0_get : ByteArray := prog_1_method_82_code
def yX0_get : MethodName := ⟨RX0, "get", "(III)I"⟩
abbrev cX0_copy : ByteArray := prog_1_method_83_code
def yX0_copy : MethodName := ⟨RX0, "copy", "(IIIII)I"⟩
abbrev cX0_write : ByteArray := prog_1_method_84_code
def yX0_write : MethodName := ⟨RX0, "write", "(III)I"⟩
abbrev cX0_count : ByteArray := prog_1_method_86_code
def yX0_count : MethodName := ⟨RX0, "count", "(I)I"⟩
abbrev cX0_sumOf : ByteArray := prog_1_method_85_code
def yX0_sumOf : MethodName := ⟨RX0, "sumOf", "(I)I"⟩
abbrev cX0_digest : ByteArray := prog_1_method_88_code
def yX0_digest : MethodName := ⟨RX0, "digest", "()J"⟩
abbrev cX0_tuneDigest : ByteArray := prog_1_method_87_code
def yX0_tuneDigest : MethodName := ⟨RX0, "tuneDigest", "(JI)J"⟩
theorem q83 : (Jvm.Cond.initialized "TuneLoans") ∈ lw_all := lw_g (lw_at lw_m1 1 rfl) rfl
theorem q102 : (Jvm.Cond.instanceMethod ({ cls := "TuneLoans", name := "type", desc := "(II)I" } : Jvm.MethodName)) ∈ lw_all := lw_g (lw_at lw_m1 20 rfl) rfl
theorem q103 : (Jvm.Cond.selects "TuneLoans" ({ cls := "TuneLoans", name := "type", desc := "(II)I" } : Jvm.MethodName) ({ cls := "TuneLoans", name := "type", desc := "(II)I" } : Jvm.MethodName)) ∈ lw_all := lw_g (lw_at lw_m1 21 rfl) rfl
theorem q104 : (Jvm.Cond.code ({ cls := "TuneLoans", name := "type", desc := "(II)I" } : Jvm.MethodName) prog_1_method_8_code (3 : Nat) (Option.some Jvm.ClassFile.FieldType.int)) ∈ lw_all := lw_g (lw_at lw_m1 22 rfl) rfl
theorem q105 : (Jvm.Cond.methodLink "TuneLoans" (9 : Nat) ({ cls := "TuneLoans", name := "isTwo", desc := "(I)Z" } : Jvm.MethodName)) ∈ lw_all := lw_g (lw_at lw_m1 23 rfl) rfl
theorem q106 : (Jvm.Cond.static ({ cls := "TuneLoans", name := "isTwo", desc := "(I)Z" } : Jvm.MethodName)) ∈ lw_all := lw_g (lw_at lw_m1 24 rfl) rfl
theorem q107 : (Jvm.Cond.code ({ cls := "TuneLoans", name := "isTwo", desc := "(I)Z" } : Jvm.MethodName) prog_1_method_5_code (1 : Nat) (Option.some Jvm.ClassFile.FieldType.boolean)) ∈ lw_all := lw_g (lw_at lw_m1 25 rfl) rfl
theorem q108 : (Jvm.Cond.methodLink "TuneLoans" (5 : Nat) ({ cls := "TuneLoans", name := "in", desc := "(III)Z" } : Jvm.MethodName)) ∈ lw_all := lw_g (lw_at lw_m1 26 rfl) rfl
theorem q109 : (Jvm.Cond.static ({ cls := "TuneLoans", name := "in", desc := "(III)Z" } : Jvm.MethodName)) ∈ lw_all := lw_g (lw_at lw_m1 27 rfl) rfl
theorem q110 : (Jvm.Cond.code ({ cls := "TuneLoans", name := "in", desc := "(III)Z" } : Jvm.MethodName) prog_1_method_1_code (3 : Nat) (Option.some Jvm.ClassFile.FieldType.boolean)) ∈ lw_all := lw_g (lw_at lw_m1 28 rfl) rfl
theorem q112 : (Jvm.Cond.instanceMethod ({ cls := "TuneLoans", name := "wipe", desc := "(I)I" } : Jvm.MethodName)) ∈ lw_all := lw_g (lw_at lw_m1 30 rfl) rfl
theorem q113 : (Jvm.Cond.selects "TuneLoans" ({ cls := "TuneLoans", name := "wipe", desc := "(I)I" } : Jvm.MethodName) ({ cls := "TuneLoans", name := "wipe", desc := "(I)I" } : Jvm.MethodName)) ∈ lw_all := lw_g (lw_at lw_m1 31 rfl) rfl
theorem q114 : (Jvm.Cond.code ({ cls := "TuneLoans", name := "wipe", desc := "(I)I" } : Jvm.MethodName) prog_1_method_9_code (3 : Nat) (Option.some Jvm.ClassFile.FieldType.int)) ∈ lw_all := lw_g (lw_at lw_m1 32 rfl) rfl
theorem q116 : (Jvm.Cond.instanceMethod ({ cls := "TuneLoans", name := "undo", desc := "(I)I" } : Jvm.MethodName)) ∈ lw_all := lw_g (lw_at lw_m1 34 rfl) rfl
theorem q117 : (Jvm.Cond.selects "TuneLoans" ({ cls := "TuneLoans", name := "undo", desc := "(I)I" } : Jvm.MethodName) ({ cls := "TuneLoans", name := "undo", desc := "(I)I" } : Jvm.MethodName)) ∈ lw_all := lw_g (lw_at lw_m1 35 rfl) rfl
theorem q118 : (Jvm.Cond.code ({ cls := "TuneLoans", name := "undo", desc := "(I)I" } : Jvm.MethodName) prog_1_method_10_code (2 : Nat) (Option.some Jvm.ClassFile.FieldType.int)) ∈ lw_all := lw_g (lw_at lw_m1 36 rfl) rfl
theorem q120 : (Jvm.Cond.instanceMethod ({ cls := "TuneLoans", name := "fault", desc := "(I)I" } : Jvm.MethodName)) ∈ lw_all := lw_g (lw_at lw_m1 38 rfl) rfl
theorem q121 : (Jvm.Cond.selects "TuneLoans" ({ cls := "TuneLoans", name := "fault", desc := "(I)I" } : Jvm.MethodName) ({ cls := "TuneLoans", name := "fault", desc := "(I)I" } : Jvm.MethodName)) ∈ lw_all := lw_g (lw_at lw_m1 39 rfl) rfl
theorem q122 : (Jvm.Cond.code ({ cls := "TuneLoans", name := "fault", desc := "(I)I" } : Jvm.MethodName) prog_1_method_16_code (2 : Nat) (Option.some Jvm.ClassFile.FieldType.int)) ∈ lw_all := lw_g (lw_at lw_m1 40 rfl) rfl
theorem q123 : (Jvm.Cond.methodLink "TuneLoans" (79 : Nat) ({ cls := "TuneLoans", name := "faultOf", desc := "(I)I" } : Jvm.MethodName)) ∈ lw_all := lw_g (lw_at lw_m1 41 rfl) rfl
theorem q124 : (Jvm.Cond.privateMethod ({ cls := "TuneLoans", name := "faultOf", desc := "(I)I" } : Jvm.MethodName)) ∈ lw_tbl := lw_at lw_m1 42 rfl
theorem q125 : (Jvm.Cond.instanceMethod ({ cls := "TuneLoans", name := "faultOf", desc := "(I)I" } : Jvm.MethodName)) ∈ lw_all := lw_g (lw_at lw_m1 43 rfl) rfl
theorem q126 : (Jvm.Cond.instantiable "TuneLoans" (23 : Nat)) ∈ lw_all := lw_g (lw_at lw_m1 44 rfl) rfl
theorem q127 : (Jvm.Cond.code ({ cls := "TuneLoans", name := "faultOf", desc := "(I)I" } : Jvm.MethodName) prog_1_method_15_code (2 : Nat) (Option.some Jvm.ClassFile.FieldType.int)) ∈ lw_all := lw_g (lw_at lw_m1 45 rfl) rfl
theorem q128 : (Jvm.Cond.methodLink "TuneLoans" (75 : Nat) ({ cls := "TuneLoans", name := "reads", desc := "()V" } : Jvm.MethodName)) ∈ lw_all := lw_g (lw_at lw_m1 46 rfl) rfl
theorem q129 : (Jvm.Cond.privateMethod ({ cls := "TuneLoans", name := "reads", desc := "()V" } : Jvm.MethodName)) ∈ lw_tbl := lw_at lw_m1 47 rfl
theorem q130 : (Jvm.Cond.instanceMethod ({ cls := "TuneLoans", name := "reads", desc := "()V" } : Jvm.MethodName)) ∈ lw_all := lw_g (lw_at lw_m1 48 rfl) rfl
theorem q131 : (Jvm.Cond.code ({ cls := "TuneLoans", name := "reads", desc := "()V" } : Jvm.MethodName) prog_1_method_14_code (1 : Nat) (Option.none : Option Jvm.ClassFile.FieldType)) ∈ lw_all := lw_g (lw_at lw_m1 49 rfl) rfl
theorem q132 : (Jvm.Cond.methodLink "TuneLoans" (68 : Nat) ({ cls := "TuneLoans", name := "readsTunes", desc := "()I" } : Jvm.MethodName)) ∈ lw_all := lw_g (lw_at lw_m1 50 rfl) rfl
theorem q133 : (Jvm.Cond.privateMethod ({ cls := "TuneLoans", name := "readsTunes", desc := "()I" } : Jvm.MethodName)) ∈ lw_tbl := lw_at lw_m1 51 rfl
theorem q134 : (Jvm.Cond.instanceMethod ({ cls := "TuneLoans", name := "readsTunes", desc := "()I" } : Jvm.MethodName)) ∈ lw_all := lw_g (lw_at lw_m1 52 rfl) rfl
theorem q135 : (Jvm.Cond.code ({ cls := "TuneLoans", name := "readsTunes", desc := "()I" } : Jvm.MethodName) prog_1_method_12_code (4 : Nat) (Option.some Jvm.ClassFile.FieldType.int)) ∈ lw_all := lw_g (lw_at lw_m1 53 rfl) rfl
theorem q136 : (Jvm.Cond.methodLink "TuneLoans" (29 : Nat) ({ cls := "TuneLoans", name := "noteAt", desc := "(II)I" } : Jvm.MethodName)) ∈ lw_all := lw_g (lw_at lw_m1 54 rfl) rfl
theorem q137 : (Jvm.Cond.privateMethod ({ cls := "TuneLoans", name := "noteAt", desc := "(II)I" } : Jvm.MethodName)) ∈ lw_tbl := lw_at lw_m1 55 rfl
theorem q138 : (Jvm.Cond.instanceMethod ({ cls := "TuneLoans", name := "noteAt", desc := "(II)I" } : Jvm.MethodName)) ∈ lw_all := lw_g (lw_at lw_m1 56 rfl) rfl
theorem q139 : (Jvm.Cond.code ({ cls := "TuneLoans", name := "noteAt", desc := "(II)I" } : Jvm.MethodName) prog_1_method_11_code (4 : Nat) (Option.some Jvm.ClassFile.FieldType.int)) ∈ lw_all := lw_g (lw_at lw_m1 57 rfl) rfl
theorem q140 : (Jvm.Cond.methodLink "TuneLoans" (42 : Nat) ({ cls := "TuneLoans$Tune", name := "adds", desc := "(I)V" } : Jvm.MethodName)) ∈ lw_all := lw_g (lw_at lw_m1 58 rfl) rfl
theorem q144 : (Jvm.Cond.methodLink "TuneLoans" (72 : Nat) ({ cls := "TuneLoans", name := "readsBorrowers", desc := "()I" } : Jvm.MethodName)) ∈ lw_all := lw_g (lw_at lw_m1 62 rfl) rfl
theorem q145 : (Jvm.Cond.privateMethod ({ cls := "TuneLoans", name := "readsBorrowers", desc := "()I" } : Jvm.MethodName)) ∈ lw_tbl := lw_at lw_m1 63 rfl
theorem q146 : (Jvm.Cond.instanceMethod ({ cls := "TuneLoans", name := "readsBorrowers", desc := "()I" } : Jvm.MethodName)) ∈ lw_all := lw_g (lw_at lw_m1 64 rfl) rfl
theorem q147 : (Jvm.Cond.code ({ cls := "TuneLoans", name := "readsBorrowers", desc := "()I" } : Jvm.MethodName) prog_1_method_13_code (7 : Nat) (Option.some Jvm.ClassFile.FieldType.int)) ∈ lw_all := lw_g (lw_at lw_m1 65 rfl) rfl
theorem q149 : (Jvm.Cond.instanceMethod ({ cls := "TuneLoans", name := "tune", desc := "(II)I" } : Jvm.MethodName)) ∈ lw_all := lw_g (lw_at lw_m1 67 rfl) rfl
theorem q150 : (Jvm.Cond.selects "TuneLoans" ({ cls := "TuneLoans", name := "tune", desc := "(II)I" } : Jvm.MethodName) ({ cls := "TuneLoans", name := "tune", desc := "(II)I" } : Jvm.MethodName)) ∈ lw_all := lw_g (lw_at lw_m1 68 rfl) rfl
theorem q151 : (Jvm.Cond.code ({ cls := "TuneLoans", name := "tune", desc := "(II)I" } : Jvm.MethodName) prog_1_method_20_code (3 : Nat) (Option.some Jvm.ClassFile.FieldType.int)) ∈ lw_all := lw_g (lw_at lw_m1 69 rfl) rfl
theorem q152 : (Jvm.Cond.methodLink "TuneLoans" (86 : Nat) ({ cls := "TuneLoans", name := "isTune", desc := "(I)Z" } : Jvm.MethodName)) ∈ lw_all := lw_g (lw_at lw_m1 70 rfl) rfl
theorem q153 : (Jvm.Cond.privateMethod ({ cls := "TuneLoans", name := "isTune", desc := "(I)Z" } : Jvm.MethodName)) ∈ lw_tbl := lw_at lw_m1 71 rfl
theorem q154 : (Jvm.Cond.instanceMethod ({ cls := "TuneLoans", name := "isTune", desc := "(I)Z" } : Jvm.MethodName)) ∈ lw_all := lw_g (lw_at lw_m1 72 rfl) rfl
theorem q155 : (Jvm.Cond.code ({ cls := "TuneLoans", name := "isTune", desc := "(I)Z" } : Jvm.MethodName) prog_1_method_17_code (2 : Nat) (Option.some Jvm.ClassFile.FieldType.boolean)) ∈ lw_all := lw_g (lw_at lw_m1 73 rfl) rfl
theorem q156 : (Jvm.Cond.methodLink "TuneLoans" (89 : Nat) ({ cls := "TuneLoans", name := "noteOf", desc := "(LTuneLoans$Tune;I)I" } : Jvm.MethodName)) ∈ lw_all := lw_g (lw_at lw_m1 74 rfl) rfl
theorem q157 : (Jvm.Cond.static ({ cls := "TuneLoans", name := "noteOf", desc := "(LTuneLoans$Tune;I)I" } : Jvm.MethodName)) ∈ lw_all := lw_g (lw_at lw_m1 75 rfl) rfl
theorem q158 : (Jvm.Cond.code ({ cls := "TuneLoans", name := "noteOf", desc := "(LTuneLoans$Tune;I)I" } : Jvm.MethodName) prog_1_method_19_code (2 : Nat) (Option.some Jvm.ClassFile.FieldType.int)) ∈ lw_all := lw_g (lw_at lw_m1 76 rfl) rfl
theorem q160 : (Jvm.Cond.instanceMethod ({ cls := "TuneLoans", name := "borrower", desc := "(II)I" } : Jvm.MethodName)) ∈ lw_all := lw_g (lw_at lw_m1 78 rfl) rfl
theorem q161 : (Jvm.Cond.selects "TuneLoans" ({ cls := "TuneLoans", name := "borrower", desc := "(II)I" } : Jvm.MethodName) ({ cls := "TuneLoans", name := "borrower", desc := "(II)I" } : Jvm.MethodName)) ∈ lw_all := lw_g (lw_at lw_m1 79 rfl) rfl
theorem q162 : (Jvm.Cond.code ({ cls := "TuneLoans", name := "borrower", desc := "(II)I" } : Jvm.MethodName) prog_1_method_22_code (3 : Nat) (Option.some Jvm.ClassFile.FieldType.int)) ∈ lw_all := lw_g (lw_at lw_m1 80 rfl) rfl
theorem q163 : (Jvm.Cond.methodLink "TuneLoans" (96 : Nat) ({ cls := "TuneLoans", name := "isBorrower", desc := "(I)Z" } : Jvm.MethodName)) ∈ lw_all := lw_g (lw_at lw_m1 81 rfl) rfl
theorem q164 : (Jvm.Cond.privateMethod ({ cls := "TuneLoans", name := "isBorrower", desc := "(I)Z" } : Jvm.MethodName)) ∈ lw_tbl := lw_at lw_m1 82 rfl
theorem q165 : (Jvm.Cond.instanceMethod ({ cls := "TuneLoans", name := "isBorrower", desc := "(I)Z" } : Jvm.MethodName)) ∈ lw_all := lw_g (lw_at lw_m1 83 rfl) rfl
theorem q166 : (Jvm.Cond.code ({ cls := "TuneLoans", name := "isBorrower", desc := "(I)Z" } : Jvm.MethodName) prog_1_method_18_code (2 : Nat) (Option.some Jvm.ClassFile.FieldType.boolean)) ∈ lw_all := lw_g (lw_at lw_m1 84 rfl) rfl
theorem q167 : (Jvm.Cond.methodLink "TuneLoans" (99 : Nat) ({ cls := "TuneLoans", name := "borrowerOf", desc := "(II)I" } : Jvm.MethodName)) ∈ lw_all := lw_g (lw_at lw_m1 85 rfl) rfl
theorem q168 : (Jvm.Cond.privateMethod ({ cls := "TuneLoans", name := "borrowerOf", desc := "(II)I" } : Jvm.MethodName)) ∈ lw_tbl := lw_at lw_m1 86 rfl
theorem q169 : (Jvm.Cond.instanceMethod ({ cls := "TuneLoans", name := "borrowerOf", desc := "(II)I" } : Jvm.MethodName)) ∈ lw_all := lw_g (lw_at lw_m1 87 rfl) rfl
theorem q170 : (Jvm.Cond.code ({ cls := "TuneLoans", name := "borrowerOf", desc := "(II)I" } : Jvm.MethodName) prog_1_method_21_code (3 : Nat) (Option.some Jvm.ClassFile.FieldType.int)) ∈ lw_all := lw_g (lw_at lw_m1 88 rfl) rfl
theorem q171 : (Jvm.Cond.methodLink "TuneLoans" (93 : Nat) ({ cls := "TuneLoans$Borrower", name := "kind", desc := "()I" } : Jvm.MethodName)) ∈ lw_all := lw_g (lw_at lw_m1 89 rfl) rfl
theorem q183 : (Jvm.Cond.instanceMethod ({ cls := "TuneLoans", name := "loan", desc := "(IIII)I" } : Jvm.MethodName)) ∈ lw_all := lw_g (lw_at lw_m1 101 rfl) rfl
theorem q184 : (Jvm.Cond.selects "TuneLoans" ({ cls := "TuneLoans", name := "loan", desc := "(IIII)I" } : Jvm.MethodName) ({ cls := "TuneLoans", name := "loan", desc := "(IIII)I" } : Jvm.MethodName)) ∈ lw_all := lw_g (lw_at lw_m1 102 rfl) rfl
theorem q185 : (Jvm.Cond.code ({ cls := "TuneLoans", name := "loan", desc := "(IIII)I" } : Jvm.MethodName) prog_1_method_23_code (5 : Nat) (Option.some Jvm.ClassFile.FieldType.int)) ∈ lw_all := lw_g (lw_at lw_m1 103 rfl) rfl
theorem q186 : (Jvm.Cond.methodLink "TuneLoans" (102 : Nat) ({ cls := "TuneLoans", name := "isYear", desc := "(I)Z" } : Jvm.MethodName)) ∈ lw_all := lw_g (lw_at lw_m1 104 rfl) rfl
theorem q187 : (Jvm.Cond.static ({ cls := "TuneLoans", name := "isYear", desc := "(I)Z" } : Jvm.MethodName)) ∈ lw_all := lw_g (lw_at lw_m1 105 rfl) rfl
theorem q188 : (Jvm.Cond.code ({ cls := "TuneLoans", name := "isYear", desc := "(I)Z" } : Jvm.MethodName) prog_1_method_7_code (1 : Nat) (Option.some Jvm.ClassFile.FieldType.boolean)) ∈ lw_all := lw_g (lw_at lw_m1 106 rfl) rfl
theorem q189 : (Jvm.Cond.methodLink "TuneLoans" (105 : Nat) ({ cls := "TuneLoans", name := "isSix", desc := "(I)Z" } : Jvm.MethodName)) ∈ lw_all := lw_g (lw_at lw_m1 107 rfl) rfl
theorem q190 : (Jvm.Cond.static ({ cls := "TuneLoans", name := "isSix", desc := "(I)Z" } : Jvm.MethodName)) ∈ lw_all := lw_g (lw_at lw_m1 108 rfl) rfl
theorem q191 : (Jvm.Cond.code ({ cls := "TuneLoans", name := "isSix", desc := "(I)Z" } : Jvm.MethodName) prog_1_method_6_code (1 : Nat) (Option.some Jvm.ClassFile.FieldType.boolean)) ∈ lw_all := lw_g (lw_at lw_m1 109 rfl) rfl
theorem q193 : (Jvm.Cond.instanceMethod ({ cls := "TuneLoans", name := "back", desc := "()I" } : Jvm.MethodName)) ∈ lw_all := lw_g (lw_at lw_m1 111 rfl) rfl
theorem q194 : (Jvm.Cond.selects "TuneLoans" ({ cls := "TuneLoans", name := "back", desc := "()I" } : Jvm.MethodName) ({ cls := "TuneLoans", name := "back", desc := "()I" } : Jvm.MethodName)) ∈ lw_all := lw_g (lw_at lw_m1 112 rfl) rfl
theorem q195 : (Jvm.Cond.code ({ cls := "TuneLoans", name := "back", desc := "()I" } : Jvm.MethodName) prog_1_method_24_code (1 : Nat) (Option.some Jvm.ClassFile.FieldType.int)) ∈ lw_all := lw_g (lw_at lw_m1 113 rfl) rfl
theorem q197 : (Jvm.Cond.instanceMethod ({ cls := "TuneLoans", name := "read", desc := "(I)I" } : Jvm.MethodName)) ∈ lw_all := lw_g (lw_at lw_m1 115 rfl) rfl
theorem q198 : (Jvm.Cond.selects "TuneLoans" ({ cls := "TuneLoans", name := "read", desc := "(I)I" } : Jvm.MethodName) ({ cls := "TuneLoans", name := "read", desc := "(I)I" } : Jvm.MethodName)) ∈ lw_all := lw_g (lw_at lw_m1 116 rfl) rfl
theorem q199 : (Jvm.Cond.code ({ cls := "TuneLoans", name := "read", desc := "(I)I" } : Jvm.MethodName) prog_1_method_25_code (4 : Nat) (Option.some Jvm.ClassFile.FieldType.int)) ∈ lw_all := lw_g (lw_at lw_m1 117 rfl) rfl
theorem q200 : (Jvm.Cond.methodLink "TuneLoans" (114 : Nat) ({ cls := "TuneLoans", name := "isSheet", desc := "(I)Z" } : Jvm.MethodName)) ∈ lw_all := lw_g (lw_at lw_m1 118 rfl) rfl
theorem q201 : (Jvm.Cond.static ({ cls := "TuneLoans", name := "isSheet", desc := "(I)Z" } : Jvm.MethodName)) ∈ lw_all := lw_g (lw_at lw_m1 119 rfl) rfl
theorem q202 : (Jvm.Cond.code ({ cls := "TuneLoans", name := "isSheet", desc := "(I)Z" } : Jvm.MethodName) prog_1_method_75_code (1 : Nat) (Option.some Jvm.ClassFile.FieldType.boolean)) ∈ lw_all := lw_g (lw_at lw_m1 120 rfl) rfl
theorem q203 : (Jvm.Cond.methodLink "TuneLoans" (126 : Nat) ({ cls := "TuneLoans", name := "meets", desc := "(I)I" } : Jvm.MethodName)) ∈ lw_all := lw_g (lw_at lw_m1 121 rfl) rfl
theorem q204 : (Jvm.Cond.privateMethod ({ cls := "TuneLoans", name := "meets", desc := "(I)I" } : Jvm.MethodName)) ∈ lw_tbl := lw_at lw_m1 122 rfl
theorem q205 : (Jvm.Cond.instanceMethod ({ cls := "TuneLoans", name := "meets", desc := "(I)I" } : Jvm.MethodName)) ∈ lw_all := lw_g (lw_at lw_m1 123 rfl) rfl
theorem q206 : (Jvm.Cond.code ({ cls := "TuneLoans", name := "meets", desc := "(I)I" } : Jvm.MethodName) prog_1_method_74_code (2 : Nat) (Option.some Jvm.ClassFile.FieldType.int)) ∈ lw_all := lw_g (lw_at lw_m1 124 rfl) rfl
theorem q207 : (Jvm.Cond.methodLink "TuneLoans" (129 : Nat) ({ cls := "TuneLoans$Sheet", name := "size", desc := "()I" } : Jvm.MethodName)) ∈ lw_all := lw_g (lw_at lw_m1 125 rfl) rfl
theorem q214 : (Jvm.Cond.methodLink "TuneLoans" (131 : Nat) ({ cls := "TuneLoans$Sheet", name := "item", desc := "(I)I" } : Jvm.MethodName)) ∈ lw_all := lw_g (lw_at lw_m1 132 rfl) rfl
theorem q219 : (Jvm.Cond.static ({ cls := "TuneLoans", name := "taken", desc := "(Ljava/lang/Object;II)I" } : Jvm.MethodName)) ∈ lw_all := lw_g (lw_at lw_m1 137 rfl) rfl
theorem q220 : (Jvm.Cond.code ({ cls := "TuneLoans", name := "taken", desc := "(Ljava/lang/Object;II)I" } : Jvm.MethodName) prog_1_method_80_code (3 : Nat) (Option.some Jvm.ClassFile.FieldType.int)) ∈ lw_all := lw_g (lw_at lw_m1 138 rfl) rfl
theorem q221 : (Jvm.Cond.classLink "TuneLoans" (327 : Nat) "[B") ∈ lw_all := lw_g (lw_at lw_m1 139 rfl) rfl
theorem q222 : (Jvm.Cond.classLink "TuneLoans" (329 : Nat) "[S") ∈ lw_all := lw_g (lw_at lw_m1 140 rfl) rfl
theorem q223 : (Jvm.Cond.classLink "TuneLoans" (303 : Nat) "[I") ∈ lw_all := lw_g (lw_at lw_m1 141 rfl) rfl
theorem q224 : (Jvm.Cond.methodLink "TuneLoans" (134 : Nat) ({ cls := "TuneLoans", name := "loan", desc := "(IIII)I" } : Jvm.MethodName)) ∈ lw_all := lw_g (lw_at lw_m1 142 rfl) rfl
theorem q226 : (Jvm.Cond.instanceMethod ({ cls := "TuneLoans", name := "ear", desc := "(I)I" } : Jvm.MethodName)) ∈ lw_all := lw_g (lw_at lw_m1 144 rfl) rfl
theorem q227 : (Jvm.Cond.selects "TuneLoans" ({ cls := "TuneLoans", name := "ear", desc := "(I)I" } : Jvm.MethodName) ({ cls := "TuneLoans", name := "ear", desc := "(I)I" } : Jvm.MethodName)) ∈ lw_all := lw_g (lw_at lw_m1 145 rfl) rfl
theorem q228 : (Jvm.Cond.code ({ cls := "TuneLoans", name := "ear", desc := "(I)I" } : Jvm.MethodName) prog_1_method_26_code (3 : Nat) (Option.some Jvm.ClassFile.FieldType.int)) ∈ lw_all := lw_g (lw_at lw_m1 146 rfl) rfl
theorem q230 : (Jvm.Cond.instanceMethod ({ cls := "TuneLoans", name := "notes", desc := "(III)I" } : Jvm.MethodName)) ∈ lw_all := lw_g (lw_at lw_m1 148 rfl) rfl
theorem q231 : (Jvm.Cond.selects "TuneLoans" ({ cls := "TuneLoans", name := "notes", desc := "(III)I" } : Jvm.MethodName) ({ cls := "TuneLoans", name := "notes", desc := "(III)I" } : Jvm.MethodName)) ∈ lw_all := lw_g (lw_at lw_m1 149 rfl) rfl
theorem q232 : (Jvm.Cond.code ({ cls := "TuneLoans", name := "notes", desc := "(III)I" } : Jvm.MethodName) prog_1_method_34_code (4 : Nat) (Option.some Jvm.ClassFile.FieldType.int)) ∈ lw_all := lw_g (lw_at lw_m1 150 rfl) rfl
theorem q233 : (Jvm.Cond.methodLink "TuneLoans" (200 : Nat) ({ cls := "TuneLoans", name := "notesOf", desc := "(III)I" } : Jvm.MethodName)) ∈ lw_all := lw_g (lw_at lw_m1 151 rfl) rfl
theorem q234 : (Jvm.Cond.privateMethod ({ cls := "TuneLoans", name := "notesOf", desc := "(III)I" } : Jvm.MethodName)) ∈ lw_tbl := lw_at lw_m1 152 rfl
theorem q235 : (Jvm.Cond.instanceMethod ({ cls := "TuneLoans", name := "notesOf", desc := "(III)I" } : Jvm.MethodName)) ∈ lw_all := lw_g (lw_at lw_m1 153 rfl) rfl
theorem q236 : (Jvm.Cond.code ({ cls := "TuneLoans", name := "notesOf", desc := "(III)I" } : Jvm.MethodName) prog_1_method_33_code (4 : Nat) (Option.some Jvm.ClassFile.FieldType.int)) ∈ lw_all := lw_g (lw_at lw_m1 154 rfl) rfl
theorem q237 : (Jvm.Cond.methodLink "TuneLoans" (197 : Nat) ({ cls := "TuneLoans", name := "runs", desc := "(I)V" } : Jvm.MethodName)) ∈ lw_all := lw_g (lw_at lw_m1 155 rfl) rfl
theorem q238 : (Jvm.Cond.privateMethod ({ cls := "TuneLoans", name := "runs", desc := "(I)V" } : Jvm.MethodName)) ∈ lw_tbl := lw_at lw_m1 156 rfl
theorem q239 : (Jvm.Cond.instanceMethod ({ cls := "TuneLoans", name := "runs", desc := "(I)V" } : Jvm.MethodName)) ∈ lw_all := lw_g (lw_at lw_m1 157 rfl) rfl
theorem q240 : (Jvm.Cond.code ({ cls := "TuneLoans", name := "runs", desc := "(I)V" } : Jvm.MethodName) prog_1_method_32_code (3 : Nat) (Option.none : Option Jvm.ClassFile.FieldType)) ∈ lw_all := lw_g (lw_at lw_m1 158 rfl) rfl
theorem q241 : (Jvm.Cond.methodLink "TuneLoans" (191 : Nat) ({ cls := "TuneLoans", name := "begins", desc := "()V" } : Jvm.MethodName)) ∈ lw_all := lw_g (lw_at lw_m1 159 rfl) rfl
theorem q242 : (Jvm.Cond.privateMethod ({ cls := "TuneLoans", name := "begins", desc := "()V" } : Jvm.MethodName)) ∈ lw_tbl := lw_at lw_m1 160 rfl
theorem q243 : (Jvm.Cond.instanceMethod ({ cls := "TuneLoans", name := "begins", desc := "()V" } : Jvm.MethodName)) ∈ lw_all := lw_g (lw_at lw_m1 161 rfl) rfl
theorem q244 : (Jvm.Cond.code ({ cls := "TuneLoans", name := "begins", desc := "()V" } : Jvm.MethodName) prog_1_method_27_code (2 : Nat) (Option.none : Option Jvm.ClassFile.FieldType)) ∈ lw_all := lw_g (lw_at lw_m1 162 rfl) rfl
theorem q245 : (Jvm.Cond.methodLink "TuneLoans" (144 : Nat) ({ cls := "TuneLoans$Tune", name := "is", desc := "(LTuneLoans$Tune;)V" } : Jvm.MethodName)) ∈ lw_all := lw_g (lw_at lw_m1 163 rfl) rfl
theorem q252 : (Jvm.Cond.methodLink "TuneLoans" (194 : Nat) ({ cls := "TuneLoans", name := "goesBy", desc := "(I)V" } : Jvm.MethodName)) ∈ lw_all := lw_g (lw_at lw_m1 170 rfl) rfl
theorem q253 : (Jvm.Cond.privateMethod ({ cls := "TuneLoans", name := "goesBy", desc := "(I)V" } : Jvm.MethodName)) ∈ lw_tbl := lw_at lw_m1 171 rfl
theorem q254 : (Jvm.Cond.instanceMethod ({ cls := "TuneLoans", name := "goesBy", desc := "(I)V" } : Jvm.MethodName)) ∈ lw_all := lw_g (lw_at lw_m1 172 rfl) rfl
theorem q255 : (Jvm.Cond.code ({ cls := "TuneLoans", name := "goesBy", desc := "(I)V" } : Jvm.MethodName) prog_1_method_31_code (3 : Nat) (Option.none : Option Jvm.ClassFile.FieldType)) ∈ lw_all := lw_g (lw_at lw_m1 173 rfl) rfl
theorem q256 : (Jvm.Cond.methodLink "TuneLoans" (181 : Nat) ({ cls := "TuneLoans", name := "lends", desc := "(I)V" } : Jvm.MethodName)) ∈ lw_all := lw_g (lw_at lw_m1 174 rfl) rfl
theorem q257 : (Jvm.Cond.privateMethod ({ cls := "TuneLoans", name := "lends", desc := "(I)V" } : Jvm.MethodName)) ∈ lw_tbl := lw_at lw_m1 175 rfl
theorem q258 : (Jvm.Cond.instanceMethod ({ cls := "TuneLoans", name := "lends", desc := "(I)V" } : Jvm.MethodName)) ∈ lw_all := lw_g (lw_at lw_m1 176 rfl) rfl
theorem q259 : (Jvm.Cond.code ({ cls := "TuneLoans", name := "lends", desc := "(I)V" } : Jvm.MethodName) prog_1_method_29_code (4 : Nat) (Option.none : Option Jvm.ClassFile.FieldType)) ∈ lw_all := lw_g (lw_at lw_m1 177 rfl) rfl
theorem q260 : (Jvm.Cond.methodLink "TuneLoans" (184 : Nat) ({ cls := "TuneLoans", name := "humsOnce", desc := "(LTuneLoans$Borrower;LTuneLoans$Tune;)V" } : Jvm.MethodName)) ∈ lw_all := lw_g (lw_at lw_m1 178 rfl) rfl
theorem q261 : (Jvm.Cond.privateMethod ({ cls := "TuneLoans", name := "humsOnce", desc := "(LTuneLoans$Borrower;LTuneLoans$Tune;)V" } : Jvm.MethodName)) ∈ lw_tbl := lw_at lw_m1 179 rfl
theorem q262 : (Jvm.Cond.instanceMethod ({ cls := "TuneLoans", name := "humsOnce", desc := "(LTuneLoans$Borrower;LTuneLoans$Tune;)V" } : Jvm.MethodName)) ∈ lw_all := lw_g (lw_at lw_m1 180 rfl) rfl
theorem q263 : (Jvm.Cond.code ({ cls := "TuneLoans", name := "humsOnce", desc := "(LTuneLoans$Borrower;LTuneLoans$Tune;)V" } : Jvm.MethodName) prog_1_method_28_code (3 : Nat) (Option.none : Option Jvm.ClassFile.FieldType)) ∈ lw_all := lw_g (lw_at lw_m1 181 rfl) rfl
theorem q264 : (Jvm.Cond.methodLink "TuneLoans" (165 : Nat) ({ cls := "TuneLoans$Borrower", name := "sings", desc := "(LTuneLoans$Tune;LTuneLoans$Tune;)V" } : Jvm.MethodName)) ∈ lw_all := lw_g (lw_at lw_m1 182 rfl) rfl
theorem q286 : (Jvm.Cond.methodLink "TuneLoans" (188 : Nat) ({ cls := "TuneLoans", name := "comesBack", desc := "(I)V" } : Jvm.MethodName)) ∈ lw_all := lw_g (lw_at lw_m1 204 rfl) rfl
theorem q287 : (Jvm.Cond.privateMethod ({ cls := "TuneLoans", name := "comesBack", desc := "(I)V" } : Jvm.MethodName)) ∈ lw_tbl := lw_at lw_m1 205 rfl
theorem q288 : (Jvm.Cond.instanceMethod ({ cls := "TuneLoans", name := "comesBack", desc := "(I)V" } : Jvm.MethodName)) ∈ lw_all := lw_g (lw_at lw_m1 206 rfl) rfl
theorem q289 : (Jvm.Cond.code ({ cls := "TuneLoans", name := "comesBack", desc := "(I)V" } : Jvm.MethodName) prog_1_method_30_code (4 : Nat) (Option.none : Option Jvm.ClassFile.FieldType)) ∈ lw_all := lw_g (lw_at lw_m1 207 rfl) rfl
theorem q290 : (Jvm.Cond.methodLink "TuneLoans" (172 : Nat) ({ cls := "TuneLoans", name := "commonOf", desc := "(LTuneLoans$Tune;LTuneLoans$Tune;)I" } : Jvm.MethodName)) ∈ lw_all := lw_g (lw_at lw_m1 208 rfl) rfl
theorem q291 : (Jvm.Cond.privateMethod ({ cls := "TuneLoans", name := "commonOf", desc := "(LTuneLoans$Tune;LTuneLoans$Tune;)I" } : Jvm.MethodName)) ∈ lw_tbl := lw_at lw_m1 209 rfl
theorem q292 : (Jvm.Cond.instanceMethod ({ cls := "TuneLoans", name := "commonOf", desc := "(LTuneLoans$Tune;LTuneLoans$Tune;)I" } : Jvm.MethodName)) ∈ lw_all := lw_g (lw_at lw_m1 210 rfl) rfl
theorem q293 : (Jvm.Cond.code ({ cls := "TuneLoans", name := "commonOf", desc := "(LTuneLoans$Tune;LTuneLoans$Tune;)I" } : Jvm.MethodName) prog_1_method_53_code (7 : Nat) (Option.some Jvm.ClassFile.FieldType.int)) ∈ lw_all := lw_g (lw_at lw_m1 211 rfl) rfl
theorem q294 : (Jvm.Cond.methodLink "TuneLoans" (219 : Nat) ({ cls := "java/lang/Math", name := "max", desc := "(II)I" } : Jvm.MethodName)) ∈ lw_all := lw_g (lw_at lw_m1 212 rfl) rfl
theorem q297 : (Jvm.Cond.methodLink "TuneLoans" (176 : Nat) ({ cls := "java/lang/Math", name := "min", desc := "(II)I" } : Jvm.MethodName)) ∈ lw_all := lw_g (lw_at lw_m1 215 rfl) rfl
theorem q301 : (Jvm.Cond.instanceMethod ({ cls := "TuneLoans", name := "has", desc := "(II)I" } : Jvm.MethodName)) ∈ lw_all := lw_g (lw_at lw_m1 219 rfl) rfl
theorem q302 : (Jvm.Cond.selects "TuneLoans" ({ cls := "TuneLoans", name := "has", desc := "(II)I" } : Jvm.MethodName) ({ cls := "TuneLoans", name := "has", desc := "(II)I" } : Jvm.MethodName)) ∈ lw_all := lw_g (lw_at lw_m1 220 rfl) rfl
theorem q303 : (Jvm.Cond.code ({ cls := "TuneLoans", name := "has", desc := "(II)I" } : Jvm.MethodName) prog_1_method_36_code (3 : Nat) (Option.some Jvm.ClassFile.FieldType.int)) ∈ lw_all := lw_g (lw_at lw_m1 221 rfl) rfl
theorem q304 : (Jvm.Cond.methodLink "TuneLoans" (204 : Nat) ({ cls := "TuneLoans", name := "hasOf", desc := "(II)I" } : Jvm.MethodName)) ∈ lw_all := lw_g (lw_at lw_m1 222 rfl) rfl
theorem q305 : (Jvm.Cond.privateMethod ({ cls := "TuneLoans", name := "hasOf", desc := "(II)I" } : Jvm.MethodName)) ∈ lw_tbl := lw_at lw_m1 223 rfl
theorem q306 : (Jvm.Cond.instanceMethod ({ cls := "TuneLoans", name := "hasOf", desc := "(II)I" } : Jvm.MethodName)) ∈ lw_all := lw_g (lw_at lw_m1 224 rfl) rfl
theorem q307 : (Jvm.Cond.code ({ cls := "TuneLoans", name := "hasOf", desc := "(II)I" } : Jvm.MethodName) prog_1_method_35_code (3 : Nat) (Option.some Jvm.ClassFile.FieldType.int)) ∈ lw_all := lw_g (lw_at lw_m1 225 rfl) rfl
theorem q309 : (Jvm.Cond.instanceMethod ({ cls := "TuneLoans", name := "came", desc := "(II)I" } : Jvm.MethodName)) ∈ lw_all := lw_g (lw_at lw_m1 227 rfl) rfl
theorem q310 : (Jvm.Cond.selects "TuneLoans" ({ cls := "TuneLoans", name := "came", desc := "(II)I" } : Jvm.MethodName) ({ cls := "TuneLoans", name := "came", desc := "(II)I" } : Jvm.MethodName)) ∈ lw_all := lw_g (lw_at lw_m1 228 rfl) rfl
theorem q311 : (Jvm.Cond.code ({ cls := "TuneLoans", name := "came", desc := "(II)I" } : Jvm.MethodName) prog_1_method_38_code (3 : Nat) (Option.some Jvm.ClassFile.FieldType.int)) ∈ lw_all := lw_g (lw_at lw_m1 229 rfl) rfl
theorem q312 : (Jvm.Cond.methodLink "TuneLoans" (207 : Nat) ({ cls := "TuneLoans", name := "cameOf", desc := "(II)I" } : Jvm.MethodName)) ∈ lw_all := lw_g (lw_at lw_m1 230 rfl) rfl
theorem q313 : (Jvm.Cond.privateMethod ({ cls := "TuneLoans", name := "cameOf", desc := "(II)I" } : Jvm.MethodName)) ∈ lw_tbl := lw_at lw_m1 231 rfl
theorem q314 : (Jvm.Cond.instanceMethod ({ cls := "TuneLoans", name := "cameOf", desc := "(II)I" } : Jvm.MethodName)) ∈ lw_all := lw_g (lw_at lw_m1 232 rfl) rfl
theorem q315 : (Jvm.Cond.code ({ cls := "TuneLoans", name := "cameOf", desc := "(II)I" } : Jvm.MethodName) prog_1_method_37_code (3 : Nat) (Option.some Jvm.ClassFile.FieldType.int)) ∈ lw_all := lw_g (lw_at lw_m1 233 rfl) rfl
theorem q317 : (Jvm.Cond.instanceMethod ({ cls := "TuneLoans", name := "interest", desc := "(I)I" } : Jvm.MethodName)) ∈ lw_all := lw_g (lw_at lw_m1 235 rfl) rfl
theorem q318 : (Jvm.Cond.selects "TuneLoans" ({ cls := "TuneLoans", name := "interest", desc := "(I)I" } : Jvm.MethodName) ({ cls := "TuneLoans", name := "interest", desc := "(I)I" } : Jvm.MethodName)) ∈ lw_all := lw_g (lw_at lw_m1 236 rfl) rfl
theorem q319 : (Jvm.Cond.code ({ cls := "TuneLoans", name := "interest", desc := "(I)I" } : Jvm.MethodName) prog_1_method_40_code (2 : Nat) (Option.some Jvm.ClassFile.FieldType.int)) ∈ lw_all := lw_g (lw_at lw_m1 237 rfl) rfl
theorem q320 : (Jvm.Cond.methodLink "TuneLoans" (210 : Nat) ({ cls := "TuneLoans", name := "interestOf", desc := "(I)I" } : Jvm.MethodName)) ∈ lw_all := lw_g (lw_at lw_m1 238 rfl) rfl
theorem q321 : (Jvm.Cond.privateMethod ({ cls := "TuneLoans", name := "interestOf", desc := "(I)I" } : Jvm.MethodName)) ∈ lw_tbl := lw_at lw_m1 239 rfl
theorem q322 : (Jvm.Cond.instanceMethod ({ cls := "TuneLoans", name := "interestOf", desc := "(I)I" } : Jvm.MethodName)) ∈ lw_all := lw_g (lw_at lw_m2 0 rfl) rfl
theorem q323 : (Jvm.Cond.code ({ cls := "TuneLoans", name := "interestOf", desc := "(I)I" } : Jvm.MethodName) prog_1_method_39_code (4 : Nat) (Option.some Jvm.ClassFile.FieldType.int)) ∈ lw_all := lw_g (lw_at lw_m2 1 rfl) rfl
theorem q325 : (Jvm.Cond.instanceMethod ({ cls := "TuneLoans", name := "home", desc := "(I)I" } : Jvm.MethodName)) ∈ lw_all := lw_g (lw_at lw_m2 3 rfl) rfl
theorem q326 : (Jvm.Cond.selects "TuneLoans" ({ cls := "TuneLoans", name := "home", desc := "(I)I" } : Jvm.MethodName) ({ cls := "TuneLoans", name := "home", desc := "(I)I" } : Jvm.MethodName)) ∈ lw_all := lw_g (lw_at lw_m2 4 rfl) rfl
theorem q327 : (Jvm.Cond.code ({ cls := "TuneLoans", name := "home", desc := "(I)I" } : Jvm.MethodName) prog_1_method_42_code (2 : Nat) (Option.some Jvm.ClassFile.FieldType.int)) ∈ lw_all := lw_g (lw_at lw_m2 5 rfl) rfl
theorem q328 : (Jvm.Cond.methodLink "TuneLoans" (213 : Nat) ({ cls := "TuneLoans", name := "homeOf", desc := "(I)I" } : Jvm.MethodName)) ∈ lw_all := lw_g (lw_at lw_m2 6 rfl) rfl
theorem q329 : (Jvm.Cond.privateMethod ({ cls := "TuneLoans", name := "homeOf", desc := "(I)I" } : Jvm.MethodName)) ∈ lw_tbl := lw_at lw_m2 7 rfl
theorem q330 : (Jvm.Cond.instanceMethod ({ cls := "TuneLoans", name := "homeOf", desc := "(I)I" } : Jvm.MethodName)) ∈ lw_all := lw_g (lw_at lw_m2 8 rfl) rfl
theorem q331 : (Jvm.Cond.code ({ cls := "TuneLoans", name := "homeOf", desc := "(I)I" } : Jvm.MethodName) prog_1_method_41_code (5 : Nat) (Option.some Jvm.ClassFile.FieldType.int)) ∈ lw_all := lw_g (lw_at lw_m2 9 rfl) rfl
theorem q333 : (Jvm.Cond.instanceMethod ({ cls := "TuneLoans", name := "lend", desc := "(III)I" } : Jvm.MethodName)) ∈ lw_all := lw_g (lw_at lw_m2 11 rfl) rfl
theorem q334 : (Jvm.Cond.selects "TuneLoans" ({ cls := "TuneLoans", name := "lend", desc := "(III)I" } : Jvm.MethodName) ({ cls := "TuneLoans", name := "lend", desc := "(III)I" } : Jvm.MethodName)) ∈ lw_all := lw_g (lw_at lw_m2 12 rfl) rfl
theorem q335 : (Jvm.Cond.code ({ cls := "TuneLoans", name := "lend", desc := "(III)I" } : Jvm.MethodName) prog_1_method_47_code (4 : Nat) (Option.some Jvm.ClassFile.FieldType.int)) ∈ lw_all := lw_g (lw_at lw_m2 13 rfl) rfl
theorem q336 : (Jvm.Cond.methodLink "TuneLoans" (235 : Nat) ({ cls := "TuneLoans", name := "lendOf", desc := "(III)I" } : Jvm.MethodName)) ∈ lw_all := lw_g (lw_at lw_m2 14 rfl) rfl
theorem q337 : (Jvm.Cond.privateMethod ({ cls := "TuneLoans", name := "lendOf", desc := "(III)I" } : Jvm.MethodName)) ∈ lw_tbl := lw_at lw_m2 15 rfl
theorem q338 : (Jvm.Cond.instanceMethod ({ cls := "TuneLoans", name := "lendOf", desc := "(III)I" } : Jvm.MethodName)) ∈ lw_all := lw_g (lw_at lw_m2 16 rfl) rfl
theorem q339 : (Jvm.Cond.code ({ cls := "TuneLoans", name := "lendOf", desc := "(III)I" } : Jvm.MethodName) prog_1_method_46_code (6 : Nat) (Option.some Jvm.ClassFile.FieldType.int)) ∈ lw_all := lw_g (lw_at lw_m2 17 rfl) rfl
theorem q340 : (Jvm.Cond.methodLink "TuneLoans" (222 : Nat) ({ cls := "TuneLoans", name := "rowsOf", desc := "(I)I" } : Jvm.MethodName)) ∈ lw_all := lw_g (lw_at lw_m2 18 rfl) rfl
theorem q341 : (Jvm.Cond.privateMethod ({ cls := "TuneLoans", name := "rowsOf", desc := "(I)I" } : Jvm.MethodName)) ∈ lw_tbl := lw_at lw_m2 19 rfl
theorem q342 : (Jvm.Cond.instanceMethod ({ cls := "TuneLoans", name := "rowsOf", desc := "(I)I" } : Jvm.MethodName)) ∈ lw_all := lw_g (lw_at lw_m2 20 rfl) rfl
theorem q343 : (Jvm.Cond.code ({ cls := "TuneLoans", name := "rowsOf", desc := "(I)I" } : Jvm.MethodName) prog_1_method_44_code (4 : Nat) (Option.some Jvm.ClassFile.FieldType.int)) ∈ lw_all := lw_g (lw_at lw_m2 21 rfl) rfl
theorem q344 : (Jvm.Cond.methodLink "TuneLoans" (225 : Nat) ({ cls := "TuneLoans", name := "turns", desc := "(LTuneLoans$Tune;II)V" } : Jvm.MethodName)) ∈ lw_all := lw_g (lw_at lw_m2 22 rfl) rfl
theorem q345 : (Jvm.Cond.privateMethod ({ cls := "TuneLoans", name := "turns", desc := "(LTuneLoans$Tune;II)V" } : Jvm.MethodName)) ∈ lw_tbl := lw_at lw_m2 23 rfl
theorem q346 : (Jvm.Cond.instanceMethod ({ cls := "TuneLoans", name := "turns", desc := "(LTuneLoans$Tune;II)V" } : Jvm.MethodName)) ∈ lw_all := lw_g (lw_at lw_m2 24 rfl) rfl
theorem q347 : (Jvm.Cond.code ({ cls := "TuneLoans", name := "turns", desc := "(LTuneLoans$Tune;II)V" } : Jvm.MethodName) prog_1_method_43_code (6 : Nat) (Option.none : Option Jvm.ClassFile.FieldType)) ∈ lw_all := lw_g (lw_at lw_m2 25 rfl) rfl
theorem q348 : (Jvm.Cond.methodLink "TuneLoans" (229 : Nat) ({ cls := "TuneLoans$Tune", name := "bits", desc := "()I" } : Jvm.MethodName)) ∈ lw_all := lw_g (lw_at lw_m2 26 rfl) rfl
theorem q352 : (Jvm.Cond.methodLink "TuneLoans" (232 : Nat) ({ cls := "TuneLoans", name := "figure", desc := "(III)I" } : Jvm.MethodName)) ∈ lw_all := lw_g (lw_at lw_m2 30 rfl) rfl
theorem q353 : (Jvm.Cond.privateMethod ({ cls := "TuneLoans", name := "figure", desc := "(III)I" } : Jvm.MethodName)) ∈ lw_tbl := lw_at lw_m2 31 rfl
theorem q354 : (Jvm.Cond.instanceMethod ({ cls := "TuneLoans", name := "figure", desc := "(III)I" } : Jvm.MethodName)) ∈ lw_all := lw_g (lw_at lw_m2 32 rfl) rfl
theorem q355 : (Jvm.Cond.code ({ cls := "TuneLoans", name := "figure", desc := "(III)I" } : Jvm.MethodName) prog_1_method_45_code (6 : Nat) (Option.some Jvm.ClassFile.FieldType.int)) ∈ lw_all := lw_g (lw_at lw_m2 33 rfl) rfl
theorem q357 : (Jvm.Cond.instanceMethod ({ cls := "TuneLoans", name := "longest", desc := "(III)I" } : Jvm.MethodName)) ∈ lw_all := lw_g (lw_at lw_m2 35 rfl) rfl
theorem q358 : (Jvm.Cond.selects "TuneLoans" ({ cls := "TuneLoans", name := "longest", desc := "(III)I" } : Jvm.MethodName) ({ cls := "TuneLoans", name := "longest", desc := "(III)I" } : Jvm.MethodName)) ∈ lw_all := lw_g (lw_at lw_m2 36 rfl) rfl
theorem q359 : (Jvm.Cond.code ({ cls := "TuneLoans", name := "longest", desc := "(III)I" } : Jvm.MethodName) prog_1_method_49_code (4 : Nat) (Option.some Jvm.ClassFile.FieldType.int)) ∈ lw_all := lw_g (lw_at lw_m2 37 rfl) rfl
theorem q360 : (Jvm.Cond.methodLink "TuneLoans" (238 : Nat) ({ cls := "TuneLoans", name := "longestOf", desc := "(III)I" } : Jvm.MethodName)) ∈ lw_all := lw_g (lw_at lw_m2 38 rfl) rfl
theorem q361 : (Jvm.Cond.privateMethod ({ cls := "TuneLoans", name := "longestOf", desc := "(III)I" } : Jvm.MethodName)) ∈ lw_tbl := lw_at lw_m2 39 rfl
theorem q362 : (Jvm.Cond.instanceMethod ({ cls := "TuneLoans", name := "longestOf", desc := "(III)I" } : Jvm.MethodName)) ∈ lw_all := lw_g (lw_at lw_m2 40 rfl) rfl
theorem q363 : (Jvm.Cond.code ({ cls := "TuneLoans", name := "longestOf", desc := "(III)I" } : Jvm.MethodName) prog_1_method_48_code (7 : Nat) (Option.some Jvm.ClassFile.FieldType.int)) ∈ lw_all := lw_g (lw_at lw_m2 41 rfl) rfl
theorem q365 : (Jvm.Cond.instanceMethod ({ cls := "TuneLoans", name := "who", desc := "(III)I" } : Jvm.MethodName)) ∈ lw_all := lw_g (lw_at lw_m2 43 rfl) rfl
theorem q366 : (Jvm.Cond.selects "TuneLoans" ({ cls := "TuneLoans", name := "who", desc := "(III)I" } : Jvm.MethodName) ({ cls := "TuneLoans", name := "who", desc := "(III)I" } : Jvm.MethodName)) ∈ lw_all := lw_g (lw_at lw_m2 44 rfl) rfl
theorem q367 : (Jvm.Cond.code ({ cls := "TuneLoans", name := "who", desc := "(III)I" } : Jvm.MethodName) prog_1_method_52_code (4 : Nat) (Option.some Jvm.ClassFile.FieldType.int)) ∈ lw_all := lw_g (lw_at lw_m2 45 rfl) rfl
theorem q368 : (Jvm.Cond.methodLink "TuneLoans" (248 : Nat) ({ cls := "TuneLoans", name := "whoOf", desc := "(III)I" } : Jvm.MethodName)) ∈ lw_all := lw_g (lw_at lw_m2 46 rfl) rfl
theorem q369 : (Jvm.Cond.privateMethod ({ cls := "TuneLoans", name := "whoOf", desc := "(III)I" } : Jvm.MethodName)) ∈ lw_tbl := lw_at lw_m2 47 rfl
theorem q370 : (Jvm.Cond.instanceMethod ({ cls := "TuneLoans", name := "whoOf", desc := "(III)I" } : Jvm.MethodName)) ∈ lw_all := lw_g (lw_at lw_m2 48 rfl) rfl
theorem q371 : (Jvm.Cond.code ({ cls := "TuneLoans", name := "whoOf", desc := "(III)I" } : Jvm.MethodName) prog_1_method_50_code (8 : Nat) (Option.some Jvm.ClassFile.FieldType.int)) ∈ lw_all := lw_g (lw_at lw_m2 49 rfl) rfl
theorem q372 : (Jvm.Cond.methodLink "TuneLoans" (241 : Nat) ({ cls := "TuneLoans$Tune", name := "isLike", desc := "(LTuneLoans$Tune;)Z" } : Jvm.MethodName)) ∈ lw_all := lw_g (lw_at lw_m2 50 rfl) rfl
theorem q376 : (Jvm.Cond.methodLink "TuneLoans" (245 : Nat) ({ cls := "TuneLoans", name := "codeOf", desc := "(II)I" } : Jvm.MethodName)) ∈ lw_all := lw_g (lw_at lw_m2 54 rfl) rfl
theorem q377 : (Jvm.Cond.privateMethod ({ cls := "TuneLoans", name := "codeOf", desc := "(II)I" } : Jvm.MethodName)) ∈ lw_tbl := lw_at lw_m2 55 rfl
theorem q378 : (Jvm.Cond.instanceMethod ({ cls := "TuneLoans", name := "codeOf", desc := "(II)I" } : Jvm.MethodName)) ∈ lw_all := lw_g (lw_at lw_m2 56 rfl) rfl
theorem q379 : (Jvm.Cond.code ({ cls := "TuneLoans", name := "codeOf", desc := "(II)I" } : Jvm.MethodName) prog_1_method_51_code (5 : Nat) (Option.some Jvm.ClassFile.FieldType.int)) ∈ lw_all := lw_g (lw_at lw_m2 57 rfl) rfl
theorem q381 : (Jvm.Cond.instanceMethod ({ cls := "TuneLoans", name := "common", desc := "(II)I" } : Jvm.MethodName)) ∈ lw_all := lw_g (lw_at lw_m2 59 rfl) rfl
theorem q382 : (Jvm.Cond.selects "TuneLoans" ({ cls := "TuneLoans", name := "common", desc := "(II)I" } : Jvm.MethodName) ({ cls := "TuneLoans", name := "common", desc := "(II)I" } : Jvm.MethodName)) ∈ lw_all := lw_g (lw_at lw_m2 60 rfl) rfl
theorem q383 : (Jvm.Cond.code ({ cls := "TuneLoans", name := "common", desc := "(II)I" } : Jvm.MethodName) prog_1_method_54_code (3 : Nat) (Option.some Jvm.ClassFile.FieldType.int)) ∈ lw_all := lw_g (lw_at lw_m2 61 rfl) rfl
theorem q385 : (Jvm.Cond.instanceMethod ({ cls := "TuneLoans", name := "far", desc := "(II)I" } : Jvm.MethodName)) ∈ lw_all := lw_g (lw_at lw_m2 63 rfl) rfl
theorem q386 : (Jvm.Cond.selects "TuneLoans" ({ cls := "TuneLoans", name := "far", desc := "(II)I" } : Jvm.MethodName) ({ cls := "TuneLoans", name := "far", desc := "(II)I" } : Jvm.MethodName)) ∈ lw_all := lw_g (lw_at lw_m2 64 rfl) rfl
theorem q387 : (Jvm.Cond.code ({ cls := "TuneLoans", name := "far", desc := "(II)I" } : Jvm.MethodName) prog_1_method_56_code (3 : Nat) (Option.some Jvm.ClassFile.FieldType.int)) ∈ lw_all := lw_g (lw_at lw_m2 65 rfl) rfl
theorem q388 : (Jvm.Cond.methodLink "TuneLoans" (254 : Nat) ({ cls := "TuneLoans", name := "farOf", desc := "(II)I" } : Jvm.MethodName)) ∈ lw_all := lw_g (lw_at lw_m2 66 rfl) rfl
theorem q389 : (Jvm.Cond.privateMethod ({ cls := "TuneLoans", name := "farOf", desc := "(II)I" } : Jvm.MethodName)) ∈ lw_tbl := lw_at lw_m2 67 rfl
theorem q390 : (Jvm.Cond.instanceMethod ({ cls := "TuneLoans", name := "farOf", desc := "(II)I" } : Jvm.MethodName)) ∈ lw_all := lw_g (lw_at lw_m2 68 rfl) rfl
theorem q391 : (Jvm.Cond.code ({ cls := "TuneLoans", name := "farOf", desc := "(II)I" } : Jvm.MethodName) prog_1_method_55_code (3 : Nat) (Option.some Jvm.ClassFile.FieldType.int)) ∈ lw_all := lw_g (lw_at lw_m2 69 rfl) rfl
theorem q393 : (Jvm.Cond.instanceMethod ({ cls := "TuneLoans", name := "nearest", desc := "(I)I" } : Jvm.MethodName)) ∈ lw_all := lw_g (lw_at lw_m2 71 rfl) rfl
theorem q394 : (Jvm.Cond.selects "TuneLoans" ({ cls := "TuneLoans", name := "nearest", desc := "(I)I" } : Jvm.MethodName) ({ cls := "TuneLoans", name := "nearest", desc := "(I)I" } : Jvm.MethodName)) ∈ lw_all := lw_g (lw_at lw_m2 72 rfl) rfl
theorem q395 : (Jvm.Cond.code ({ cls := "TuneLoans", name := "nearest", desc := "(I)I" } : Jvm.MethodName) prog_1_method_58_code (2 : Nat) (Option.some Jvm.ClassFile.FieldType.int)) ∈ lw_all := lw_g (lw_at lw_m2 73 rfl) rfl
theorem q396 : (Jvm.Cond.methodLink "TuneLoans" (257 : Nat) ({ cls := "TuneLoans", name := "nearestOf", desc := "(I)I" } : Jvm.MethodName)) ∈ lw_all := lw_g (lw_at lw_m2 74 rfl) rfl
theorem q397 : (Jvm.Cond.privateMethod ({ cls := "TuneLoans", name := "nearestOf", desc := "(I)I" } : Jvm.MethodName)) ∈ lw_tbl := lw_at lw_m2 75 rfl
theorem q398 : (Jvm.Cond.instanceMethod ({ cls := "TuneLoans", name := "nearestOf", desc := "(I)I" } : Jvm.MethodName)) ∈ lw_all := lw_g (lw_at lw_m2 76 rfl) rfl
theorem q399 : (Jvm.Cond.code ({ cls := "TuneLoans", name := "nearestOf", desc := "(I)I" } : Jvm.MethodName) prog_1_method_57_code (4 : Nat) (Option.some Jvm.ClassFile.FieldType.int)) ∈ lw_all := lw_g (lw_at lw_m2 77 rfl) rfl
theorem q401 : (Jvm.Cond.instanceMethod ({ cls := "TuneLoans", name := "mothers", desc := "(I)I" } : Jvm.MethodName)) ∈ lw_all := lw_g (lw_at lw_m2 79 rfl) rfl
theorem q402 : (Jvm.Cond.selects "TuneLoans" ({ cls := "TuneLoans", name := "mothers", desc := "(I)I" } : Jvm.MethodName) ({ cls := "TuneLoans", name := "mothers", desc := "(I)I" } : Jvm.MethodName)) ∈ lw_all := lw_g (lw_at lw_m2 80 rfl) rfl
theorem q403 : (Jvm.Cond.code ({ cls := "TuneLoans", name := "mothers", desc := "(I)I" } : Jvm.MethodName) prog_1_method_60_code (2 : Nat) (Option.some Jvm.ClassFile.FieldType.int)) ∈ lw_all := lw_g (lw_at lw_m2 81 rfl) rfl
theorem q404 : (Jvm.Cond.methodLink "TuneLoans" (260 : Nat) ({ cls := "TuneLoans", name := "mothersOf", desc := "(I)I" } : Jvm.MethodName)) ∈ lw_all := lw_g (lw_at lw_m2 82 rfl) rfl
theorem q405 : (Jvm.Cond.privateMethod ({ cls := "TuneLoans", name := "mothersOf", desc := "(I)I" } : Jvm.MethodName)) ∈ lw_tbl := lw_at lw_m2 83 rfl
theorem q406 : (Jvm.Cond.instanceMethod ({ cls := "TuneLoans", name := "mothersOf", desc := "(I)I" } : Jvm.MethodName)) ∈ lw_all := lw_g (lw_at lw_m2 84 rfl) rfl
theorem q407 : (Jvm.Cond.code ({ cls := "TuneLoans", name := "mothersOf", desc := "(I)I" } : Jvm.MethodName) prog_1_method_59_code (4 : Nat) (Option.some Jvm.ClassFile.FieldType.int)) ∈ lw_all := lw_g (lw_at lw_m2 85 rfl) rfl
theorem q409 : (Jvm.Cond.instanceMethod ({ cls := "TuneLoans", name := "tells", desc := "(II)I" } : Jvm.MethodName)) ∈ lw_all := lw_g (lw_at lw_m2 87 rfl) rfl
theorem q410 : (Jvm.Cond.selects "TuneLoans" ({ cls := "TuneLoans", name := "tells", desc := "(II)I" } : Jvm.MethodName) ({ cls := "TuneLoans", name := "tells", desc := "(II)I" } : Jvm.MethodName)) ∈ lw_all := lw_g (lw_at lw_m2 88 rfl) rfl
theorem q411 : (Jvm.Cond.code ({ cls := "TuneLoans", name := "tells", desc := "(II)I" } : Jvm.MethodName) prog_1_method_63_code (3 : Nat) (Option.some Jvm.ClassFile.FieldType.int)) ∈ lw_all := lw_g (lw_at lw_m2 89 rfl) rfl
theorem q412 : (Jvm.Cond.methodLink "TuneLoans" (269 : Nat) ({ cls := "TuneLoans", name := "tellsOf", desc := "(II)I" } : Jvm.MethodName)) ∈ lw_all := lw_g (lw_at lw_m2 90 rfl) rfl
theorem q413 : (Jvm.Cond.privateMethod ({ cls := "TuneLoans", name := "tellsOf", desc := "(II)I" } : Jvm.MethodName)) ∈ lw_tbl := lw_at lw_m2 91 rfl
theorem q414 : (Jvm.Cond.instanceMethod ({ cls := "TuneLoans", name := "tellsOf", desc := "(II)I" } : Jvm.MethodName)) ∈ lw_all := lw_g (lw_at lw_m2 92 rfl) rfl
theorem q415 : (Jvm.Cond.code ({ cls := "TuneLoans", name := "tellsOf", desc := "(II)I" } : Jvm.MethodName) prog_1_method_62_code (7 : Nat) (Option.some Jvm.ClassFile.FieldType.int)) ∈ lw_all := lw_g (lw_at lw_m2 93 rfl) rfl
theorem q416 : (Jvm.Cond.methodLink "TuneLoans" (263 : Nat) ({ cls := "TuneLoans", name := "many", desc := "(I)I" } : Jvm.MethodName)) ∈ lw_all := lw_g (lw_at lw_m2 94 rfl) rfl
theorem q417 : (Jvm.Cond.static ({ cls := "TuneLoans", name := "many", desc := "(I)I" } : Jvm.MethodName)) ∈ lw_all := lw_g (lw_at lw_m2 95 rfl) rfl
theorem q418 : (Jvm.Cond.code ({ cls := "TuneLoans", name := "many", desc := "(I)I" } : Jvm.MethodName) prog_1_method_3_code (3 : Nat) (Option.some Jvm.ClassFile.FieldType.int)) ∈ lw_all := lw_g (lw_at lw_m2 96 rfl) rfl
theorem q419 : (Jvm.Cond.methodLink "TuneLoans" (266 : Nat) ({ cls := "TuneLoans", name := "unlike", desc := "(LTuneLoans$Tune;LTuneLoans$Tune;)I" } : Jvm.MethodName)) ∈ lw_all := lw_g (lw_at lw_m2 97 rfl) rfl
theorem q420 : (Jvm.Cond.privateMethod ({ cls := "TuneLoans", name := "unlike", desc := "(LTuneLoans$Tune;LTuneLoans$Tune;)I" } : Jvm.MethodName)) ∈ lw_tbl := lw_at lw_m2 98 rfl
theorem q421 : (Jvm.Cond.instanceMethod ({ cls := "TuneLoans", name := "unlike", desc := "(LTuneLoans$Tune;LTuneLoans$Tune;)I" } : Jvm.MethodName)) ∈ lw_all := lw_g (lw_at lw_m2 99 rfl) rfl
theorem q422 : (Jvm.Cond.code ({ cls := "TuneLoans", name := "unlike", desc := "(LTuneLoans$Tune;LTuneLoans$Tune;)I" } : Jvm.MethodName) prog_1_method_61_code (5 : Nat) (Option.some Jvm.ClassFile.FieldType.int)) ∈ lw_all := lw_g (lw_at lw_m2 100 rfl) rfl
theorem q424 : (Jvm.Cond.instanceMethod ({ cls := "TuneLoans", name := "loses", desc := "(I)I" } : Jvm.MethodName)) ∈ lw_all := lw_g (lw_at lw_m2 102 rfl) rfl
theorem q425 : (Jvm.Cond.selects "TuneLoans" ({ cls := "TuneLoans", name := "loses", desc := "(I)I" } : Jvm.MethodName) ({ cls := "TuneLoans", name := "loses", desc := "(I)I" } : Jvm.MethodName)) ∈ lw_all := lw_g (lw_at lw_m2 103 rfl) rfl
theorem q426 : (Jvm.Cond.code ({ cls := "TuneLoans", name := "loses", desc := "(I)I" } : Jvm.MethodName) prog_1_method_65_code (2 : Nat) (Option.some Jvm.ClassFile.FieldType.int)) ∈ lw_all := lw_g (lw_at lw_m2 104 rfl) rfl
theorem q427 : (Jvm.Cond.methodLink "TuneLoans" (272 : Nat) ({ cls := "TuneLoans", name := "interestBy", desc := "(I)I" } : Jvm.MethodName)) ∈ lw_all := lw_g (lw_at lw_m2 105 rfl) rfl
theorem q428 : (Jvm.Cond.privateMethod ({ cls := "TuneLoans", name := "interestBy", desc := "(I)I" } : Jvm.MethodName)) ∈ lw_tbl := lw_at lw_m2 106 rfl
theorem q429 : (Jvm.Cond.instanceMethod ({ cls := "TuneLoans", name := "interestBy", desc := "(I)I" } : Jvm.MethodName)) ∈ lw_all := lw_g (lw_at lw_m2 107 rfl) rfl
theorem q430 : (Jvm.Cond.code ({ cls := "TuneLoans", name := "interestBy", desc := "(I)I" } : Jvm.MethodName) prog_1_method_64_code (4 : Nat) (Option.some Jvm.ClassFile.FieldType.int)) ∈ lw_all := lw_g (lw_at lw_m2 108 rfl) rfl
theorem q432 : (Jvm.Cond.instanceMethod ({ cls := "TuneLoans", name := "best", desc := "(I)I" } : Jvm.MethodName)) ∈ lw_all := lw_g (lw_at lw_m2 110 rfl) rfl
theorem q433 : (Jvm.Cond.selects "TuneLoans" ({ cls := "TuneLoans", name := "best", desc := "(I)I" } : Jvm.MethodName) ({ cls := "TuneLoans", name := "best", desc := "(I)I" } : Jvm.MethodName)) ∈ lw_all := lw_g (lw_at lw_m2 111 rfl) rfl
theorem q434 : (Jvm.Cond.code ({ cls := "TuneLoans", name := "best", desc := "(I)I" } : Jvm.MethodName) prog_1_method_67_code (2 : Nat) (Option.some Jvm.ClassFile.FieldType.int)) ∈ lw_all := lw_g (lw_at lw_m2 112 rfl) rfl
theorem q435 : (Jvm.Cond.methodLink "TuneLoans" (275 : Nat) ({ cls := "TuneLoans", name := "bestOf", desc := "(I)I" } : Jvm.MethodName)) ∈ lw_all := lw_g (lw_at lw_m2 113 rfl) rfl
theorem q436 : (Jvm.Cond.privateMethod ({ cls := "TuneLoans", name := "bestOf", desc := "(I)I" } : Jvm.MethodName)) ∈ lw_tbl := lw_at lw_m2 114 rfl
theorem q437 : (Jvm.Cond.instanceMethod ({ cls := "TuneLoans", name := "bestOf", desc := "(I)I" } : Jvm.MethodName)) ∈ lw_all := lw_g (lw_at lw_m2 115 rfl) rfl
theorem q438 : (Jvm.Cond.code ({ cls := "TuneLoans", name := "bestOf", desc := "(I)I" } : Jvm.MethodName) prog_1_method_66_code (3 : Nat) (Option.some Jvm.ClassFile.FieldType.int)) ∈ lw_all := lw_g (lw_at lw_m2 116 rfl) rfl
theorem q440 : (Jvm.Cond.instanceMethod ({ cls := "TuneLoans", name := "hums", desc := "(IIIIII)J" } : Jvm.MethodName)) ∈ lw_all := lw_g (lw_at lw_m2 118 rfl) rfl
theorem q441 : (Jvm.Cond.selects "TuneLoans" ({ cls := "TuneLoans", name := "hums", desc := "(IIIIII)J" } : Jvm.MethodName) ({ cls := "TuneLoans", name := "hums", desc := "(IIIIII)J" } : Jvm.MethodName)) ∈ lw_all := lw_g (lw_at lw_m2 119 rfl) rfl
theorem q442 : (Jvm.Cond.code ({ cls := "TuneLoans", name := "hums", desc := "(IIIIII)J" } : Jvm.MethodName) prog_1_method_70_code (8 : Nat) (Option.some Jvm.ClassFile.FieldType.long)) ∈ lw_all := lw_g (lw_at lw_m2 120 rfl) rfl
theorem q443 : (Jvm.Cond.methodLink "TuneLoans" (286 : Nat) ({ cls := "TuneLoans", name := "humsOf", desc := "(IIIIII)J" } : Jvm.MethodName)) ∈ lw_all := lw_g (lw_at lw_m2 121 rfl) rfl
theorem q444 : (Jvm.Cond.privateMethod ({ cls := "TuneLoans", name := "humsOf", desc := "(IIIIII)J" } : Jvm.MethodName)) ∈ lw_tbl := lw_at lw_m2 122 rfl
theorem q445 : (Jvm.Cond.instanceMethod ({ cls := "TuneLoans", name := "humsOf", desc := "(IIIIII)J" } : Jvm.MethodName)) ∈ lw_all := lw_g (lw_at lw_m2 123 rfl) rfl
theorem q446 : (Jvm.Cond.code ({ cls := "TuneLoans", name := "humsOf", desc := "(IIIIII)J" } : Jvm.MethodName) prog_1_method_69_code (10 : Nat) (Option.some Jvm.ClassFile.FieldType.long)) ∈ lw_all := lw_g (lw_at lw_m2 124 rfl) rfl
theorem q447 : (Jvm.Cond.methodLink "TuneLoans" (278 : Nat) ({ cls := "TuneLoans", name := "ways", desc := "(III)J" } : Jvm.MethodName)) ∈ lw_all := lw_g (lw_at lw_m2 125 rfl) rfl
theorem q448 : (Jvm.Cond.static ({ cls := "TuneLoans", name := "ways", desc := "(III)J" } : Jvm.MethodName)) ∈ lw_all := lw_g (lw_at lw_m2 126 rfl) rfl
theorem q449 : (Jvm.Cond.code ({ cls := "TuneLoans", name := "ways", desc := "(III)J" } : Jvm.MethodName) prog_1_method_68_code (3 : Nat) (Option.some Jvm.ClassFile.FieldType.long)) ∈ lw_all := lw_g (lw_at lw_m2 127 rfl) rfl
theorem q450 : (Jvm.Cond.methodLink "TuneLoans" (282 : Nat) ({ cls := "TuneLoans", name := "lowest", desc := "(JJI)J" } : Jvm.MethodName)) ∈ lw_all := lw_g (lw_at lw_m2 128 rfl) rfl
theorem q451 : (Jvm.Cond.static ({ cls := "TuneLoans", name := "lowest", desc := "(JJI)J" } : Jvm.MethodName)) ∈ lw_all := lw_g (lw_at lw_m2 129 rfl) rfl
theorem q452 : (Jvm.Cond.code ({ cls := "TuneLoans", name := "lowest", desc := "(JJI)J" } : Jvm.MethodName) prog_1_method_4_code (11 : Nat) (Option.some Jvm.ClassFile.FieldType.long)) ∈ lw_all := lw_g (lw_at lw_m2 130 rfl) rfl
theorem q453 : (Jvm.Cond.methodLink "TuneLoans" (290 : Nat) ({ cls := "TuneLoans", name := "no", desc := "(I)J" } : Jvm.MethodName)) ∈ lw_all := lw_g (lw_at lw_m2 131 rfl) rfl
theorem q454 : (Jvm.Cond.static ({ cls := "TuneLoans", name := "no", desc := "(I)J" } : Jvm.MethodName)) ∈ lw_all := lw_g (lw_at lw_m2 132 rfl) rfl
theorem q455 : (Jvm.Cond.code ({ cls := "TuneLoans", name := "no", desc := "(I)J" } : Jvm.MethodName) prog_1_method_2_code (1 : Nat) (Option.some Jvm.ClassFile.FieldType.long)) ∈ lw_all := lw_g (lw_at lw_m2 133 rfl) rfl
theorem q456 : (Jvm.Cond.constantLong "TuneLoans" (3 : Nat) (-9223372036854775808 : Int64)) ∈ lw_all := lw_g (lw_at lw_m2 134 rfl) rfl
theorem q458 : (Jvm.Cond.instanceMethod ({ cls := "TuneLoans", name := "fair", desc := "(III)I" } : Jvm.MethodName)) ∈ lw_all := lw_g (lw_at lw_m2 136 rfl) rfl
theorem q459 : (Jvm.Cond.selects "TuneLoans" ({ cls := "TuneLoans", name := "fair", desc := "(III)I" } : Jvm.MethodName) ({ cls := "TuneLoans", name := "fair", desc := "(III)I" } : Jvm.MethodName)) ∈ lw_all := lw_g (lw_at lw_m2 137 rfl) rfl
theorem q460 : (Jvm.Cond.code ({ cls := "TuneLoans", name := "fair", desc := "(III)I" } : Jvm.MethodName) prog_1_method_72_code (4 : Nat) (Option.some Jvm.ClassFile.FieldType.int)) ∈ lw_all := lw_g (lw_at lw_m2 138 rfl) rfl
theorem q461 : (Jvm.Cond.methodLink "TuneLoans" (295 : Nat) ({ cls := "TuneLoans", name := "fairOf", desc := "(III)I" } : Jvm.MethodName)) ∈ lw_all := lw_g (lw_at lw_m2 139 rfl) rfl
theorem q462 : (Jvm.Cond.privateMethod ({ cls := "TuneLoans", name := "fairOf", desc := "(III)I" } : Jvm.MethodName)) ∈ lw_tbl := lw_at lw_m2 140 rfl
theorem q463 : (Jvm.Cond.instanceMethod ({ cls := "TuneLoans", name := "fairOf", desc := "(III)I" } : Jvm.MethodName)) ∈ lw_all := lw_g (lw_at lw_m2 141 rfl) rfl
theorem q464 : (Jvm.Cond.code ({ cls := "TuneLoans", name := "fairOf", desc := "(III)I" } : Jvm.MethodName) prog_1_method_71_code (7 : Nat) (Option.some Jvm.ClassFile.FieldType.int)) ∈ lw_all := lw_g (lw_at lw_m2 142 rfl) rfl
theorem q465 : (Jvm.Cond.constant "TuneLoans" (294 : Nat) (1103515245 : Int32)) ∈ lw_all := lw_g (lw_at lw_m2 143 rfl) rfl
theorem q468 : (Jvm.Cond.instanceMethod ({ cls := "TuneLoans", name := "<init>", desc := "()V" } : Jvm.MethodName)) ∈ lw_all := lw_g (lw_at lw_m2 146 rfl) rfl
theorem q469 : (Jvm.Cond.code ({ cls := "TuneLoans", name := "<init>", desc := "()V" } : Jvm.MethodName) prog_1_method_73_code (2 : Nat) (Option.none : Option Jvm.ClassFile.FieldType)) ∈ lw_all := lw_g (lw_at lw_m2 147 rfl) rfl
theorem q470 : (Jvm.Cond.methodLink "TuneLoans" (298 : Nat) ({ cls := "java/lang/Object", name := "<init>", desc := "()V" } : Jvm.MethodName)) ∈ lw_all := lw_g (lw_at lw_m2 148 rfl) rfl
theorem q474 : (Jvm.Cond.classLink "TuneLoans" (38 : Nat) "TuneLoans$Tune") ∈ lw_all := lw_g (lw_at lw_m2 152 rfl) rfl
theorem q476 : (Jvm.Cond.classLink "TuneLoans" (304 : Nat) "[[LTuneLoans$Borrower;") ∈ lw_all := lw_g (lw_at lw_m2 154 rfl) rfl
theorem q479 : (Jvm.Cond.classLink "TuneLoans" (58 : Nat) "TuneLoans$Borrower") ∈ lw_all := lw_g (lw_at lw_m2 157 rfl) rfl
theorem q480 : (Jvm.Cond.classLink "TuneLoans" (305 : Nat) "[[I") ∈ lw_all := lw_g (lw_at lw_m2 158 rfl) rfl
theorem q482 : (Jvm.Cond.methodLinkNest "TuneLoans" (306 : Nat) ({ cls := "TuneLoans$Tune", name := "<init>", desc := "()V" } : Jvm.MethodName) "TuneLoans") ∈ lw_tbl := lw_at lw_m2 160 rfl
theorem q488 : (Jvm.Cond.fieldLink "TuneLoans" (83 : Nat) "TuneLoans$Tune" "row" "[I") ∈ lw_all := lw_g (lw_at lw_m2 166 rfl) rfl
theorem q491 : (Jvm.Cond.fieldLink "TuneLoans" (37 : Nat) "TuneLoans$Tune" "size" "I") ∈ lw_all := lw_g (lw_at lw_m2 169 rfl) rfl
theorem q499 : (Jvm.Cond.classLink "TuneLoans" (122 : Nat) "TuneLoans$Sheet") ∈ lw_all := lw_g (lw_at lw_m2 177 rfl) rfl
theorem q502 : (Jvm.Cond.methodLinkNest "TuneLoans" (307 : Nat) ({ cls := "TuneLoans$Sheet", name := "<init>", desc := "()V" } : Jvm.MethodName) "TuneLoans") ∈ lw_tbl := lw_at lw_m2 180 rfl
theorem q507 : (Jvm.Cond.fieldLinkNest "TuneLoans" (324 : Nat) "TuneLoans$Sheet" "form" "I" "TuneLoans") ∈ lw_tbl := lw_at lw_m2 185 rfl
theorem q509 : (Jvm.Cond.fieldLinkNest "TuneLoans" (121 : Nat) "TuneLoans$Sheet" "row" "Ljava/lang/Object;" "TuneLoans") ∈ lw_tbl := lw_at lw_m2 187 rfl
theorem q516 : (Jvm.Cond.methodLinkNest "TuneLoans" (308 : Nat) ({ cls := "TuneLoans$Borrower", name := "<init>", desc := "()V" } : Jvm.MethodName) "TuneLoans") ∈ lw_tbl := lw_at lw_m2 194 rfl
theorem q521 : (Jvm.Cond.fieldLink "TuneLoans" (57 : Nat) "TuneLoans$Borrower" "note" "I") ∈ lw_all := lw_g (lw_at lw_m2 199 rfl) rfl
theorem q525 : (Jvm.Cond.fieldLink "TuneLoans" (62 : Nat) "TuneLoans$Borrower" "other" "I") ∈ lw_all := lw_g (lw_at lw_m2 203 rfl) rfl
theorem q531 : (Jvm.Cond.classLink "TuneLoans" (309 : Nat) "TuneLoans$Dropping") ∈ lw_all := lw_g (lw_at lw_m2 209 rfl) rfl
theorem q533 : (Jvm.Cond.methodLinkNest "TuneLoans" (311 : Nat) ({ cls := "TuneLoans$Dropping", name := "<init>", desc := "()V" } : Jvm.MethodName) "TuneLoans") ∈ lw_tbl := lw_at lw_m2 211 rfl
theorem q540 : (Jvm.Cond.classLink "TuneLoans" (312 : Nat) "TuneLoans$Changing") ∈ lw_all := lw_g (lw_at lw_m2 218 rfl) rfl
theorem q542 : (Jvm.Cond.methodLinkNest "TuneLoans" (314 : Nat) ({ cls := "TuneLoans$Changing", name := "<init>", desc := "()V" } : Jvm.MethodName) "TuneLoans") ∈ lw_tbl := lw_at lw_m2 220 rfl
theorem q548 : (Jvm.Cond.fieldLink "TuneLoans" (17 : Nat) "TuneLoans" "texts" "[[I") ∈ lw_all := lw_g (lw_at lw_m2 226 rfl) rfl
theorem q549 : (Jvm.Cond.fieldLink "TuneLoans" (13 : Nat) "TuneLoans" "typed" "[I") ∈ lw_all := lw_g (lw_at lw_m2 227 rfl) rfl
theorem q550 : (Jvm.Cond.fieldLink "TuneLoans" (21 : Nat) "TuneLoans" "isRead" "Z") ∈ lw_all := lw_g (lw_at lw_m2 228 rfl) rfl
theorem q551 : (Jvm.Cond.fieldLink "TuneLoans" (65 : Nat) "TuneLoans" "faults" "[I") ∈ lw_all := lw_g (lw_at lw_m2 229 rfl) rfl
theorem q552 : (Jvm.Cond.fieldLink "TuneLoans" (25 : Nat) "TuneLoans" "tunes" "I") ∈ lw_all := lw_g (lw_at lw_m2 230 rfl) rfl
theorem q553 : (Jvm.Cond.fieldLink "TuneLoans" (33 : Nat) "TuneLoans" "told" "[LTuneLoans$Tune;") ∈ lw_all := lw_g (lw_at lw_m2 231 rfl) rfl
theorem q554 : (Jvm.Cond.fieldLink "TuneLoans" (46 : Nat) "TuneLoans" "borrowers" "I") ∈ lw_all := lw_g (lw_at lw_m2 232 rfl) rfl
theorem q555 : (Jvm.Cond.fieldLink "TuneLoans" (53 : Nat) "TuneLoans" "all" "[[LTuneLoans$Borrower;") ∈ lw_all := lw_g (lw_at lw_m2 233 rfl) rfl
theorem q556 : (Jvm.Cond.fieldLink "TuneLoans" (49 : Nat) "TuneLoans" "people" "[LTuneLoans$Borrower;") ∈ lw_all := lw_g (lw_at lw_m2 234 rfl) rfl
theorem q557 : (Jvm.Cond.fieldLink "TuneLoans" (108 : Nat) "TuneLoans" "loans" "I") ∈ lw_all := lw_g (lw_at lw_m2 235 rfl) rfl
theorem q558 : (Jvm.Cond.fieldLink "TuneLoans" (111 : Nat) "TuneLoans" "terms" "[[I") ∈ lw_all := lw_g (lw_at lw_m2 236 rfl) rfl
theorem q559 : (Jvm.Cond.fieldLink "TuneLoans" (138 : Nat) "TuneLoans" "earNow" "I") ∈ lw_all := lw_g (lw_at lw_m2 237 rfl) rfl
theorem q560 : (Jvm.Cond.fieldLink "TuneLoans" (141 : Nat) "TuneLoans" "now" "[LTuneLoans$Tune;") ∈ lw_all := lw_g (lw_at lw_m2 238 rfl) rfl
theorem q561 : (Jvm.Cond.fieldLink "TuneLoans" (169 : Nat) "TuneLoans" "lent" "[LTuneLoans$Tune;") ∈ lw_all := lw_g (lw_at lw_m2 239 rfl) rfl
theorem q562 : (Jvm.Cond.fieldLink "TuneLoans" (148 : Nat) "TuneLoans" "by" "[I") ∈ lw_all := lw_g (lw_at lw_m3 0 rfl) rfl
theorem q563 : (Jvm.Cond.fieldLink "TuneLoans" (151 : Nat) "TuneLoans" "counts" "[Z") ∈ lw_all := lw_g (lw_at lw_m3 1 rfl) rfl
theorem q564 : (Jvm.Cond.fieldLink "TuneLoans" (155 : Nat) "TuneLoans" "isBad" "[Z") ∈ lw_all := lw_g (lw_at lw_m3 2 rfl) rfl
theorem q565 : (Jvm.Cond.fieldLink "TuneLoans" (158 : Nat) "TuneLoans" "gains" "[I") ∈ lw_all := lw_g (lw_at lw_m3 3 rfl) rfl
theorem q566 : (Jvm.Cond.fieldLink "TuneLoans" (161 : Nat) "TuneLoans" "spare" "LTuneLoans$Tune;") ∈ lw_all := lw_g (lw_at lw_m3 4 rfl) rfl
theorem q567 : (Jvm.Cond.fieldLink "TuneLoans" (216 : Nat) "TuneLoans" "turned" "LTuneLoans$Tune;") ∈ lw_all := lw_g (lw_at lw_m3 5 rfl) rfl
theorem q568 : (Jvm.Cond.fieldLink "TuneLoans" (251 : Nat) "TuneLoans" "line" "[I") ∈ lw_all := lw_g (lw_at lw_m3 6 rfl) rfl
theorem q569 : (Jvm.Cond.fieldLink "TuneLoans" (117 : Nat) "TuneLoans" "sheets" "[LTuneLoans$Sheet;") ∈ lw_all := lw_g (lw_at lw_m3 7 rfl) rfl
theorem q570 : (Jvm.Cond.fieldLink "TuneLoans" (315 : Nat) "TuneLoans" "finding" "I") ∈ lw_all := lw_g (lw_at lw_m3 8 rfl) rfl
theorem q571 : (Jvm.Cond.laysFinal "TuneLoans" "TuneLoans" "texts" "[[I") ∈ lw_all := lw_g (lw_at lw_m3 9 rfl) rfl
theorem q572 : (Jvm.Cond.soleField "TuneLoans" "texts") ∈ lw_all := lw_g (lw_at lw_m3 10 rfl) rfl
theorem q573 : (Jvm.Cond.laysFinal "TuneLoans" "TuneLoans" "typed" "[I") ∈ lw_all := lw_g (lw_at lw_m3 11 rfl) rfl
theorem q574 : (Jvm.Cond.soleField "TuneLoans" "typed") ∈ lw_all := lw_g (lw_at lw_m3 12 rfl) rfl
theorem q575 : (Jvm.Cond.lays "TuneLoans" "TuneLoans" "isRead" "Z") ∈ lw_all := lw_g (lw_at lw_m3 13 rfl) rfl
theorem q576 : (Jvm.Cond.soleField "TuneLoans" "isRead") ∈ lw_all := lw_g (lw_at lw_m3 14 rfl) rfl
theorem q577 : (Jvm.Cond.laysFinal "TuneLoans" "TuneLoans" "faults" "[I") ∈ lw_all := lw_g (lw_at lw_m3 15 rfl) rfl
theorem q578 : (Jvm.Cond.soleField "TuneLoans" "faults") ∈ lw_all := lw_g (lw_at lw_m3 16 rfl) rfl
theorem q579 : (Jvm.Cond.lays "TuneLoans" "TuneLoans" "tunes" "I") ∈ lw_all := lw_g (lw_at lw_m3 17 rfl) rfl
theorem q580 : (Jvm.Cond.soleField "TuneLoans" "tunes") ∈ lw_all := lw_g (lw_at lw_m3 18 rfl) rfl
theorem q581 : (Jvm.Cond.laysFinal "TuneLoans" "TuneLoans" "told" "[LTuneLoans$Tune;") ∈ lw_all := lw_g (lw_at lw_m3 19 rfl) rfl
theorem q582 : (Jvm.Cond.soleField "TuneLoans" "told") ∈ lw_all := lw_g (lw_at lw_m3 20 rfl) rfl
theorem q583 : (Jvm.Cond.lays "TuneLoans" "TuneLoans" "borrowers" "I") ∈ lw_all := lw_g (lw_at lw_m3 21 rfl) rfl
theorem q584 : (Jvm.Cond.soleField "TuneLoans" "borrowers") ∈ lw_all := lw_g (lw_at lw_m3 22 rfl) rfl
theorem q585 : (Jvm.Cond.laysFinal "TuneLoans" "TuneLoans" "all" "[[LTuneLoans$Borrower;") ∈ lw_all := lw_g (lw_at lw_m3 23 rfl) rfl
theorem q586 : (Jvm.Cond.soleField "TuneLoans" "all") ∈ lw_all := lw_g (lw_at lw_m3 24 rfl) rfl
theorem q587 : (Jvm.Cond.laysFinal "TuneLoans" "TuneLoans" "people" "[LTuneLoans$Borrower;") ∈ lw_all := lw_g (lw_at lw_m3 25 rfl) rfl
theorem q588 : (Jvm.Cond.soleField "TuneLoans" "people") ∈ lw_all := lw_g (lw_at lw_m3 26 rfl) rfl
theorem q589 : (Jvm.Cond.lays "TuneLoans" "TuneLoans" "loans" "I") ∈ lw_all := lw_g (lw_at lw_m3 27 rfl) rfl
theorem q590 : (Jvm.Cond.soleField "TuneLoans" "loans") ∈ lw_all := lw_g (lw_at lw_m3 28 rfl) rfl
theorem q591 : (Jvm.Cond.laysFinal "TuneLoans" "TuneLoans" "terms" "[[I") ∈ lw_all := lw_g (lw_at lw_m3 29 rfl) rfl
theorem q592 : (Jvm.Cond.soleField "TuneLoans" "terms") ∈ lw_all := lw_g (lw_at lw_m3 30 rfl) rfl
theorem q593 : (Jvm.Cond.lays "TuneLoans" "TuneLoans" "earNow" "I") ∈ lw_all := lw_g (lw_at lw_m3 31 rfl) rfl
theorem q594 : (Jvm.Cond.soleField "TuneLoans" "earNow") ∈ lw_all := lw_g (lw_at lw_m3 32 rfl) rfl
theorem q595 : (Jvm.Cond.laysFinal "TuneLoans" "TuneLoans" "now" "[LTuneLoans$Tune;") ∈ lw_all := lw_g (lw_at lw_m3 33 rfl) rfl
theorem q596 : (Jvm.Cond.soleField "TuneLoans" "now") ∈ lw_all := lw_g (lw_at lw_m3 34 rfl) rfl
theorem q597 : (Jvm.Cond.laysFinal "TuneLoans" "TuneLoans" "lent" "[LTuneLoans$Tune;") ∈ lw_all := lw_g (lw_at lw_m3 35 rfl) rfl
theorem q598 : (Jvm.Cond.soleField "TuneLoans" "lent") ∈ lw_all := lw_g (lw_at lw_m3 36 rfl) rfl
theorem q599 : (Jvm.Cond.laysFinal "TuneLoans" "TuneLoans" "by" "[I") ∈ lw_all := lw_g (lw_at lw_m3 37 rfl) rfl
theorem q600 : (Jvm.Cond.soleField "TuneLoans" "by") ∈ lw_all := lw_g (lw_at lw_m3 38 rfl) rfl
theorem q601 : (Jvm.Cond.laysFinal "TuneLoans" "TuneLoans" "counts" "[Z") ∈ lw_all := lw_g (lw_at lw_m3 39 rfl) rfl
theorem q602 : (Jvm.Cond.soleField "TuneLoans" "counts") ∈ lw_all := lw_g (lw_at lw_m3 40 rfl) rfl
theorem q603 : (Jvm.Cond.laysFinal "TuneLoans" "TuneLoans" "isBad" "[Z") ∈ lw_all := lw_g (lw_at lw_m3 41 rfl) rfl
theorem q604 : (Jvm.Cond.soleField "TuneLoans" "isBad") ∈ lw_all := lw_g (lw_at lw_m3 42 rfl) rfl
theorem q605 : (Jvm.Cond.laysFinal "TuneLoans" "TuneLoans" "gains" "[I") ∈ lw_all := lw_g (lw_at lw_m3 43 rfl) rfl
theorem q606 : (Jvm.Cond.soleField "TuneLoans" "gains") ∈ lw_all := lw_g (lw_at lw_m3 44 rfl) rfl
theorem q607 : (Jvm.Cond.laysFinal "TuneLoans" "TuneLoans" "spare" "LTuneLoans$Tune;") ∈ lw_all := lw_g (lw_at lw_m3 45 rfl) rfl
theorem q608 : (Jvm.Cond.soleField "TuneLoans" "spare") ∈ lw_all := lw_g (lw_at lw_m3 46 rfl) rfl
theorem q609 : (Jvm.Cond.laysFinal "TuneLoans" "TuneLoans" "turned" "LTuneLoans$Tune;") ∈ lw_all := lw_g (lw_at lw_m3 47 rfl) rfl
theorem q610 : (Jvm.Cond.soleField "TuneLoans" "turned") ∈ lw_all := lw_g (lw_at lw_m3 48 rfl) rfl
theorem q611 : (Jvm.Cond.laysFinal "TuneLoans" "TuneLoans" "line" "[I") ∈ lw_all := lw_g (lw_at lw_m3 49 rfl) rfl
theorem q612 : (Jvm.Cond.soleField "TuneLoans" "line") ∈ lw_all := lw_g (lw_at lw_m3 50 rfl) rfl
theorem q613 : (Jvm.Cond.laysFinal "TuneLoans" "TuneLoans" "sheets" "[LTuneLoans$Sheet;") ∈ lw_all := lw_g (lw_at lw_m3 51 rfl) rfl
theorem q614 : (Jvm.Cond.soleField "TuneLoans" "sheets") ∈ lw_all := lw_g (lw_at lw_m3 52 rfl) rfl
theorem q615 : (Jvm.Cond.lays "TuneLoans" "TuneLoans" "finding" "I") ∈ lw_all := lw_g (lw_at lw_m3 53 rfl) rfl
theorem q616 : (Jvm.Cond.soleField "TuneLoans" "finding") ∈ lw_all := lw_g (lw_at lw_m3 54 rfl) rfl
theorem q617 : (Jvm.Cond.superclass "TuneLoans" "java/lang/Object") ∈ lw_all := lw_g (lw_at lw_m3 55 rfl) rfl
theorem q619 : (Jvm.Cond.instanceMethod ({ cls := "TuneLoans", name := "sheet", desc := "(III)I" } : Jvm.MethodName)) ∈ lw_all := lw_g (lw_at lw_m3 57 rfl) rfl
theorem q620 : (Jvm.Cond.selects "TuneLoans" ({ cls := "TuneLoans", name := "sheet", desc := "(III)I" } : Jvm.MethodName) ({ cls := "TuneLoans", name := "sheet", desc := "(III)I" } : Jvm.MethodName)) ∈ lw_all := lw_g (lw_at lw_m3 58 rfl) rfl
theorem q621 : (Jvm.Cond.codeWith ({ cls := "TuneLoans", name := "sheet", desc := "(III)I" } : Jvm.MethodName) prog_1_method_77_code (5 : Nat) (Option.some Jvm.ClassFile.FieldType.int) [((25 : Nat), (39 : Nat), (42 : Nat), (322 : Nat))]) ∈ lw_all := lw_g (lw_at lw_m3 59 rfl) rfl
theorem q622 : (Jvm.Cond.classLink "TuneLoans" (322 : Nat) "java/lang/NegativeArraySizeException") ∈ lw_all := lw_g (lw_at lw_m3 60 rfl) rfl
theorem q707 : (Jvm.Cond.methodLink "TuneLoans" (318 : Nat) ({ cls := "TuneLoans", name := "rowOf", desc := "(II)Ljava/lang/Object;" } : Jvm.MethodName)) ∈ lw_all := lw_g (lw_at lw_m3 145 rfl) rfl
theorem q708 : (Jvm.Cond.static ({ cls := "TuneLoans", name := "rowOf", desc := "(II)Ljava/lang/Object;" } : Jvm.MethodName)) ∈ lw_all := lw_g (lw_at lw_m3 146 rfl) rfl
theorem q709 : (Jvm.Cond.code ({ cls := "TuneLoans", name := "rowOf", desc := "(II)Ljava/lang/Object;" } : Jvm.MethodName) prog_1_method_76_code (2 : Nat) (Option.some (Jvm.ClassFile.FieldType.object "java/lang/Object"))) ∈ lw_all := lw_g (lw_at lw_m3 147 rfl) rfl
theorem q712 : (Jvm.Cond.instanceMethod ({ cls := "TuneLoans", name := "lose", desc := "(I)I" } : Jvm.MethodName)) ∈ lw_all := lw_g (lw_at lw_m3 150 rfl) rfl
theorem q713 : (Jvm.Cond.selects "TuneLoans" ({ cls := "TuneLoans", name := "lose", desc := "(I)I" } : Jvm.MethodName) ({ cls := "TuneLoans", name := "lose", desc := "(I)I" } : Jvm.MethodName)) ∈ lw_all := lw_g (lw_at lw_m3 151 rfl) rfl
theorem q714 : (Jvm.Cond.code ({ cls := "TuneLoans", name := "lose", desc := "(I)I" } : Jvm.MethodName) prog_1_method_78_code (3 : Nat) (Option.some Jvm.ClassFile.FieldType.int)) ∈ lw_all := lw_g (lw_at lw_m3 152 rfl) rfl
theorem q716 : (Jvm.Cond.instanceMethod ({ cls := "TuneLoans", name := "lay", desc := "(IIII)I" } : Jvm.MethodName)) ∈ lw_all := lw_g (lw_at lw_m3 154 rfl) rfl
theorem q717 : (Jvm.Cond.selects "TuneLoans" ({ cls := "TuneLoans", name := "lay", desc := "(IIII)I" } : Jvm.MethodName) ({ cls := "TuneLoans", name := "lay", desc := "(IIII)I" } : Jvm.MethodName)) ∈ lw_all := lw_g (lw_at lw_m3 155 rfl) rfl
theorem q718 : (Jvm.Cond.codeWith ({ cls := "TuneLoans", name := "lay", desc := "(IIII)I" } : Jvm.MethodName) prog_1_method_81_code (6 : Nat) (Option.some Jvm.ClassFile.FieldType.int) [((19 : Nat), (36 : Nat), (37 : Nat), (335 : Nat)), ((19 : Nat), (36 : Nat), (45 : Nat), (337 : Nat)), ((19 : Nat), (36 : Nat), (53 : Nat), (339 : Nat))]) ∈ lw_all := lw_g (lw_at lw_m3 156 rfl) rfl
theorem q719 : (Jvm.Cond.classLink "TuneLoans" (335 : Nat) "java/lang/NullPointerException") ∈ lw_all := lw_g (lw_at lw_m3 157 rfl) rfl
theorem q744 : (Jvm.Cond.classLink "TuneLoans" (337 : Nat) "java/lang/ClassCastException") ∈ lw_all := lw_g (lw_at lw_m3 182 rfl) rfl
theorem q758 : (Jvm.Cond.classLink "TuneLoans" (339 : Nat) "java/lang/ArrayIndexOutOfBoundsException") ∈ lw_all := lw_g (lw_at lw_m3 196 rfl) rfl
theorem q777 : (Jvm.Cond.methodLink "TuneLoans" (331 : Nat) ({ cls := "TuneLoans", name := "laid", desc := "(Ljava/lang/Object;III)V" } : Jvm.MethodName)) ∈ lw_all := lw_g (lw_at lw_m3 215 rfl) rfl
theorem q778 : (Jvm.Cond.static ({ cls := "TuneLoans", name := "laid", desc := "(Ljava/lang/Object;III)V" } : Jvm.MethodName)) ∈ lw_all := lw_g (lw_at lw_m3 216 rfl) rfl
theorem q779 : (Jvm.Cond.code ({ cls := "TuneLoans", name := "laid", desc := "(Ljava/lang/Object;III)V" } : Jvm.MethodName) prog_1_method_79_code (4 : Nat) (Option.none : Option Jvm.ClassFile.FieldType)) ∈ lw_all := lw_g (lw_at lw_m3 217 rfl) rfl
theorem q781 : (Jvm.Cond.instanceMethod ({ cls := "TuneLoans", name := "get", desc := "(III)I" } : Jvm.MethodName)) ∈ lw_all := lw_g (lw_at lw_m3 219 rfl) rfl
theorem q782 : (Jvm.Cond.selects "TuneLoans" ({ cls := "TuneLoans", name := "get", desc := "(III)I" } : Jvm.MethodName) ({ cls := "TuneLoans", name := "get", desc := "(III)I" } : Jvm.MethodName)) ∈ lw_all := lw_g (lw_at lw_m3 220 rfl) rfl
theorem q783 : (Jvm.Cond.codeWith ({ cls := "TuneLoans", name := "get", desc := "(III)I" } : Jvm.MethodName) prog_1_method_82_code (6 : Nat) (Option.some Jvm.ClassFile.FieldType.int) [((23 : Nat), (37 : Nat), (38 : Nat), (335 : Nat)), ((23 : Nat), (37 : Nat), (46 : Nat), (337 : Nat)), ((23 : Nat), (37 : Nat), (54 : Nat), (339 : Nat))]) ∈ lw_all := lw_g (lw_at lw_m3 221 rfl) rfl
theorem q784 : (Jvm.Cond.constant "TuneLoans" (341 : Nat) (-2147483648 : Int32)) ∈ lw_all := lw_g (lw_at lw_m3 222 rfl) rfl
theorem q785 : (Jvm.Cond.methodLink "TuneLoans" (342 : Nat) ({ cls := "TuneLoans", name := "taken", desc := "(Ljava/lang/Object;II)I" } : Jvm.MethodName)) ∈ lw_all := lw_g (lw_at lw_m3 223 rfl) rfl
theorem q787 : (Jvm.Cond.instanceMethod ({ cls := "TuneLoans", name := "copy", desc := "(IIIII)I" } : Jvm.MethodName)) ∈ lw_all := lw_g (lw_at lw_m3 225 rfl) rfl
theorem q788 : (Jvm.Cond.selects "TuneLoans" ({ cls := "TuneLoans", name := "copy", desc := "(IIIII)I" } : Jvm.MethodName) ({ cls := "TuneLoans", name := "copy", desc := "(IIIII)I" } : Jvm.MethodName)) ∈ lw_all := lw_g (lw_at lw_m3 226 rfl) rfl
theorem q789 : (Jvm.Cond.codeWith ({ cls := "TuneLoans", name := "copy", desc := "(IIIII)I" } : Jvm.MethodName) prog_1_method_83_code (9 : Nat) (Option.some Jvm.ClassFile.FieldType.int) [((68 : Nat), (87 : Nat), (88 : Nat), (335 : Nat)), ((68 : Nat), (87 : Nat), (96 : Nat), (352 : Nat))]) ∈ lw_all := lw_g (lw_at lw_m3 227 rfl) rfl
theorem q790 : (Jvm.Cond.classLink "TuneLoans" (352 : Nat) "java/lang/IndexOutOfBoundsException") ∈ lw_all := lw_g (lw_at lw_m3 228 rfl) rfl
theorem q791 : (Jvm.Cond.methodLink "TuneLoans" (346 : Nat) ({ cls := "java/lang/System", name := "arraycopy", desc := "(Ljava/lang/Object;ILjava/lang/Object;II)V" } : Jvm.MethodName)) ∈ lw_all := lw_g (lw_at lw_m3 229 rfl) rfl
theorem q793 : (Jvm.Cond.instanceMethod ({ cls := "TuneLoans", name := "write", desc := "(III)I" } : Jvm.MethodName)) ∈ lw_all := lw_g (lw_at lw_m3 231 rfl) rfl
theorem q794 : (Jvm.Cond.selects "TuneLoans" ({ cls := "TuneLoans", name := "write", desc := "(III)I" } : Jvm.MethodName) ({ cls := "TuneLoans", name := "write", desc := "(III)I" } : Jvm.MethodName)) ∈ lw_all := lw_g (lw_at lw_m3 232 rfl) rfl
theorem q795 : (Jvm.Cond.code ({ cls := "TuneLoans", name := "write", desc := "(III)I" } : Jvm.MethodName) prog_1_method_84_code (7 : Nat) (Option.some Jvm.ClassFile.FieldType.int)) ∈ lw_all := lw_g (lw_at lw_m3 233 rfl) rfl
theorem q797 : (Jvm.Cond.instanceMethod ({ cls := "TuneLoans", name := "count", desc := "(I)I" } : Jvm.MethodName)) ∈ lw_all := lw_g (lw_at lw_m3 235 rfl) rfl
theorem q798 : (Jvm.Cond.selects "TuneLoans" ({ cls := "TuneLoans", name := "count", desc := "(I)I" } : Jvm.MethodName) ({ cls := "TuneLoans", name := "count", desc := "(I)I" } : Jvm.MethodName)) ∈ lw_all := lw_g (lw_at lw_m3 236 rfl) rfl
theorem q799 : (Jvm.Cond.code ({ cls := "TuneLoans", name := "count", desc := "(I)I" } : Jvm.MethodName) prog_1_method_86_code (2 : Nat) (Option.some Jvm.ClassFile.FieldType.int)) ∈ lw_all := lw_g (lw_at lw_m3 237 rfl) rfl
theorem q800 : (Jvm.Cond.methodLink "TuneLoans" (354 : Nat) ({ cls := "TuneLoans", name := "sumOf", desc := "(I)I" } : Jvm.MethodName)) ∈ lw_all := lw_g (lw_at lw_m3 238 rfl) rfl
theorem q801 : (Jvm.Cond.privateMethod ({ cls := "TuneLoans", name := "sumOf", desc := "(I)I" } : Jvm.MethodName)) ∈ lw_tbl := lw_at lw_m3 239 rfl
theorem q802 : (Jvm.Cond.instanceMethod ({ cls := "TuneLoans", name := "sumOf", desc := "(I)I" } : Jvm.MethodName)) ∈ lw_all := lw_g (lw_at lw_m4 0 rfl) rfl
theorem q803 : (Jvm.Cond.code ({ cls := "TuneLoans", name := "sumOf", desc := "(I)I" } : Jvm.MethodName) prog_1_method_85_code (4 : Nat) (Option.some Jvm.ClassFile.FieldType.int)) ∈ lw_all := lw_g (lw_at lw_m4 1 rfl) rfl
theorem q805 : (Jvm.Cond.instanceMethod ({ cls := "TuneLoans", name := "digest", desc := "()J" } : Jvm.MethodName)) ∈ lw_all := lw_g (lw_at lw_m4 3 rfl) rfl
theorem q806 : (Jvm.Cond.selects "TuneLoans" ({ cls := "TuneLoans", name := "digest", desc := "()J" } : Jvm.MethodName) ({ cls := "TuneLoans", name := "digest", desc := "()J" } : Jvm.MethodName)) ∈ lw_all := lw_g (lw_at lw_m4 4 rfl) rfl
theorem q807 : (Jvm.Cond.code ({ cls := "TuneLoans", name := "digest", desc := "()J" } : Jvm.MethodName) prog_1_method_88_code (5 : Nat) (Option.some Jvm.ClassFile.FieldType.long)) ∈ lw_all := lw_g (lw_at lw_m4 5 rfl) rfl
theorem q808 : (Jvm.Cond.constantLong "TuneLoans" (362 : Nat) (17 : Int64)) ∈ lw_all := lw_g (lw_at lw_m4 6 rfl) rfl
theorem q809 : (Jvm.Cond.constantLong "TuneLoans" (357 : Nat) (31 : Int64)) ∈ lw_all := lw_g (lw_at lw_m4 7 rfl) rfl
theorem q810 : (Jvm.Cond.methodLink "TuneLoans" (364 : Nat) ({ cls := "TuneLoans", name := "count", desc := "(I)I" } : Jvm.MethodName)) ∈ lw_all := lw_g (lw_at lw_m4 8 rfl) rfl
theorem q811 : (Jvm.Cond.methodLink "TuneLoans" (367 : Nat) ({ cls := "TuneLoans", name := "tuneDigest", desc := "(JI)J" } : Jvm.MethodName)) ∈ lw_all := lw_g (lw_at lw_m4 9 rfl) rfl
theorem q812 : (Jvm.Cond.privateMethod ({ cls := "TuneLoans", name := "tuneDigest", desc := "(JI)J" } : Jvm.MethodName)) ∈ lw_tbl := lw_at lw_m4 10 rfl
theorem q813 : (Jvm.Cond.instanceMethod ({ cls := "TuneLoans", name := "tuneDigest", desc := "(JI)J" } : Jvm.MethodName)) ∈ lw_all := lw_g (lw_at lw_m4 11 rfl) rfl
theorem q814 : (Jvm.Cond.code ({ cls := "TuneLoans", name := "tuneDigest", desc := "(JI)J" } : Jvm.MethodName) prog_1_method_87_code (6 : Nat) (Option.some Jvm.ClassFile.FieldType.long)) ∈ lw_all := lw_g (lw_at lw_m4 12 rfl) rfl
theorem q815 : (Jvm.Cond.methodLink "TuneLoans" (359 : Nat) ({ cls := "TuneLoans", name := "hums", desc := "(IIIIII)J" } : Jvm.MethodName)) ∈ lw_all := lw_g (lw_at lw_m4 13 rfl) rfl
theorem q816 : (Jvm.Cond.methodLink "TuneLoans" (371 : Nat) ({ cls := "TuneLoans", name := "loses", desc := "(I)I" } : Jvm.MethodName)) ∈ lw_all := lw_g (lw_at lw_m4 14 rfl) rfl
theorem in_X0 : ∀ w ∈ wsX00, w ∈ lw_all := lw_in wsX00 [571, 573, 575, 577, 579, 581, 583, 585, 587, 589, 591, 593, 595, 597, 599, 601, 603, 605, 607, 609, 611, 613, 615] (by decide +kernel) (by decide +kernel)

/-! the law's own entry -/
set_option maxRecDepth 100000
abbrev cL_law : ByteArray := code
