/-! java/lang/Throwable -/
set_option maxRecDepth 100000
def RJ0 : String := "java/lang/Throwable"
def TJ0 : u_T := fun k => match k with
  | 0 => ("java/lang/Throwable", "cause", "Ljava/lang/Throwable;", false)
  | 1 => ("java/lang/Throwable", "stackTrace", "[Ljava/lang/StackTraceElement;", false)
  | 2 => ("java/lang/Throwable", "suppressedExceptions", "Ljava/util/List;", false)
  | 3 => ("java/lang/Throwable", "detailMessage", "Ljava/lang/String;", false)
  | _ => ("java/lang/Throwable", "backtrace", "Ljava/lang/Object;", false)
def tyJ0 : Nat → FieldType := fun k => match k with
  | 0 => .object "java/lang/Throwable"
  | 1 => .array (.object "java/lang/StackTraceElement")
  | 2 => .object "java/util/List"
  | 3 => .object "java/lang/String"
  | _ => .object "java/lang/Object"
abbrev wsJ00 : List Cond := u_ws RJ0 TJ0 5
theorem nmJ0 : ∀ a, a < 5 → ∀ b, b < 5 → a ≠ b → (TJ0 a).2.1 ≠ (TJ0 b).2.1 := by decide +kernel
theorem tyJ0_ok : ∀ k, k < 5 → parseFieldDescriptor (TJ0 k).2.2.1 = some (tyJ0 k) := by decide +kernel
abbrev cJ0_init : ByteArray := prog_28_method_1_code
def yJ0_init : MethodName := ⟨RJ0, "<init>", "()V"⟩
def dkwJ0_init_1 : List UInt8 := [182, 0, 27, 87, 177]
abbrev dktJ0_init_1 : List UInt8 := dkwJ0_init_1 ++ []
def dkwJ0_init_0 : List UInt8 := [42, 183, 0, 1, 42, 42, 181, 0, 7, 42, 178, 0, 13, 181, 0, 17, 42, 178, 0, 20, 181, 0, 24, 42]
abbrev dktJ0_init_0 : List UInt8 := dkwJ0_init_0 ++ dktJ0_init_1
theorem dksJ0_init_0 : cJ0_init.data.toList.drop 0 = dktJ0_init_0 := by decide +kernel
theorem dksJ0_init_1 : cJ0_init.data.toList.drop 24 = dktJ0_init_1 := dk_seg dksJ0_init_0 24 rfl rfl
theorem dJ0_init_0 : decode cJ0_init 0 = .ok (.aload_n 0, 1) := dk_42 (dk_at dksJ0_init_0 0 rfl rfl)
theorem dJ0_init_1 : decode cJ0_init 1 = .ok (.invokespecial 1, 3) := dk_183 0 1 (dk_at dksJ0_init_0 1 rfl rfl)
theorem dJ0_init_4 : decode cJ0_init 4 = .ok (.aload_n 0, 1) := dk_42 (dk_at dksJ0_init_0 4 rfl rfl)
theorem dJ0_init_5 : decode cJ0_init 5 = .ok (.aload_n 0, 1) := dk_42 (dk_at dksJ0_init_0 5 rfl rfl)
theorem dJ0_init_6 : decode cJ0_init 6 = .ok (.putfield 7, 3) := dk_181 0 7 (dk_at dksJ0_init_0 6 rfl rfl)
theorem dJ0_init_9 : decode cJ0_init 9 = .ok (.aload_n 0, 1) := dk_42 (dk_at dksJ0_init_0 9 rfl rfl)
theorem dJ0_init_10 : decode cJ0_init 10 = .ok (.getstatic 13, 3) := dk_178 0 13 (dk_at dksJ0_init_0 10 rfl rfl)
theorem dJ0_init_13 : decode cJ0_init 13 = .ok (.putfield 17, 3) := dk_181 0 17 (dk_at dksJ0_init_0 13 rfl rfl)
theorem dJ0_init_16 : decode cJ0_init 16 = .ok (.aload_n 0, 1) := dk_42 (dk_at dksJ0_init_0 16 rfl rfl)
theorem dJ0_init_17 : decode cJ0_init 17 = .ok (.getstatic 20, 3) := dk_178 0 20 (dk_at dksJ0_init_0 17 rfl rfl)
theorem dJ0_init_20 : decode cJ0_init 20 = .ok (.putfield 24, 3) := dk_181 0 24 (dk_at dksJ0_init_0 20 rfl rfl)
theorem dJ0_init_23 : decode cJ0_init 23 = .ok (.aload_n 0, 1) := dk_42 (dk_at dksJ0_init_0 23 rfl rfl)
theorem dJ0_init_24 : decode cJ0_init 24 = .ok (.invokevirtual 27, 3) := dk_182 0 27 (dk_at dksJ0_init_1 0 rfl rfl)
theorem dJ0_init_27 : decode cJ0_init 27 = .ok (.pop, 1) := dk_87 (dk_at dksJ0_init_1 3 rfl rfl)
theorem dJ0_init_28 : decode cJ0_init 28 = .ok (.return_, 1) := dk_177 (dk_at dksJ0_init_1 4 rfl rfl)
abbrev cJ0_init_2 : ByteArray := prog_28_method_5_code
def yJ0_init_2 : MethodName := ⟨RJ0, "<init>", "(Ljava/lang/String;Ljava/lang/Throwable;ZZ)V"⟩
def dkwJ0_init_2_2 : List UInt8 := [44, 181, 0, 7, 29, 154, 0, 8, 42, 1, 181, 0, 24, 177]
abbrev dktJ0_init_2_2 : List UInt8 := dkwJ0_init_2_2 ++ []
def dkwJ0_init_2_1 : List UInt8 := [21, 4, 153, 0, 11, 42, 182, 0, 27, 87, 167, 0, 8, 42, 1, 181, 0, 17, 42, 43, 181, 0, 31, 42]
abbrev dktJ0_init_2_1 : List UInt8 := dkwJ0_init_2_1 ++ dktJ0_init_2_2
def dkwJ0_init_2_0 : List UInt8 := [42, 183, 0, 1, 42, 42, 181, 0, 7, 42, 178, 0, 13, 181, 0, 17, 42, 178, 0, 20, 181, 0, 24]
abbrev dktJ0_init_2_0 : List UInt8 := dkwJ0_init_2_0 ++ dktJ0_init_2_1
theorem dksJ0_init_2_0 : cJ0_init_2.data.toList.drop 0 = dktJ0_init_2_0 := by decide +kernel
theorem dksJ0_init_2_1 : cJ0_init_2.data.toList.drop 23 = dktJ0_init_2_1 := dk_seg dksJ0_init_2_0 23 rfl rfl
theorem dksJ0_init_2_2 : cJ0_init_2.data.toList.drop 47 = dktJ0_init_2_2 := dk_seg dksJ0_init_2_1 24 rfl rfl
theorem dJ0_init_2_0 : decode cJ0_init_2 0 = .ok (.aload_n 0, 1) := dk_42 (dk_at dksJ0_init_2_0 0 rfl rfl)
theorem dJ0_init_2_1 : decode cJ0_init_2 1 = .ok (.invokespecial 1, 3) := dk_183 0 1 (dk_at dksJ0_init_2_0 1 rfl rfl)
theorem dJ0_init_2_4 : decode cJ0_init_2 4 = .ok (.aload_n 0, 1) := dk_42 (dk_at dksJ0_init_2_0 4 rfl rfl)
theorem dJ0_init_2_5 : decode cJ0_init_2 5 = .ok (.aload_n 0, 1) := dk_42 (dk_at dksJ0_init_2_0 5 rfl rfl)
theorem dJ0_init_2_6 : decode cJ0_init_2 6 = .ok (.putfield 7, 3) := dk_181 0 7 (dk_at dksJ0_init_2_0 6 rfl rfl)
theorem dJ0_init_2_9 : decode cJ0_init_2 9 = .ok (.aload_n 0, 1) := dk_42 (dk_at dksJ0_init_2_0 9 rfl rfl)
theorem dJ0_init_2_10 : decode cJ0_init_2 10 = .ok (.getstatic 13, 3) := dk_178 0 13 (dk_at dksJ0_init_2_0 10 rfl rfl)
theorem dJ0_init_2_13 : decode cJ0_init_2 13 = .ok (.putfield 17, 3) := dk_181 0 17 (dk_at dksJ0_init_2_0 13 rfl rfl)
theorem dJ0_init_2_16 : decode cJ0_init_2 16 = .ok (.aload_n 0, 1) := dk_42 (dk_at dksJ0_init_2_0 16 rfl rfl)
theorem dJ0_init_2_17 : decode cJ0_init_2 17 = .ok (.getstatic 20, 3) := dk_178 0 20 (dk_at dksJ0_init_2_0 17 rfl rfl)
theorem dJ0_init_2_20 : decode cJ0_init_2 20 = .ok (.putfield 24, 3) := dk_181 0 24 (dk_at dksJ0_init_2_0 20 rfl rfl)
theorem dJ0_init_2_23 : decode cJ0_init_2 23 = .ok (.iload 4, 2) := dk_21 4 (dk_at dksJ0_init_2_1 0 rfl rfl)
theorem dJ0_init_2_25 : decode cJ0_init_2 25 = .ok (.ifCond .eq 11, 3) := dk_153 0 11 (dk_at dksJ0_init_2_1 2 rfl rfl)
theorem dJ0_init_2_28 : decode cJ0_init_2 28 = .ok (.aload_n 0, 1) := dk_42 (dk_at dksJ0_init_2_1 5 rfl rfl)
theorem dJ0_init_2_29 : decode cJ0_init_2 29 = .ok (.invokevirtual 27, 3) := dk_182 0 27 (dk_at dksJ0_init_2_1 6 rfl rfl)
theorem dJ0_init_2_32 : decode cJ0_init_2 32 = .ok (.pop, 1) := dk_87 (dk_at dksJ0_init_2_1 9 rfl rfl)
theorem dJ0_init_2_33 : decode cJ0_init_2 33 = .ok (.goto 8, 3) := dk_167 0 8 (dk_at dksJ0_init_2_1 10 rfl rfl)
theorem dJ0_init_2_36 : decode cJ0_init_2 36 = .ok (.aload_n 0, 1) := dk_42 (dk_at dksJ0_init_2_1 13 rfl rfl)
theorem dJ0_init_2_37 : decode cJ0_init_2 37 = .ok (.aconst_null, 1) := dk_1 (dk_at dksJ0_init_2_1 14 rfl rfl)
theorem dJ0_init_2_38 : decode cJ0_init_2 38 = .ok (.putfield 17, 3) := dk_181 0 17 (dk_at dksJ0_init_2_1 15 rfl rfl)
theorem dJ0_init_2_41 : decode cJ0_init_2 41 = .ok (.aload_n 0, 1) := dk_42 (dk_at dksJ0_init_2_1 18 rfl rfl)
theorem dJ0_init_2_42 : decode cJ0_init_2 42 = .ok (.aload_n 1, 1) := dk_43 (dk_at dksJ0_init_2_1 19 rfl rfl)
theorem dJ0_init_2_43 : decode cJ0_init_2 43 = .ok (.putfield 31, 3) := dk_181 0 31 (dk_at dksJ0_init_2_1 20 rfl rfl)
theorem dJ0_init_2_46 : decode cJ0_init_2 46 = .ok (.aload_n 0, 1) := dk_42 (dk_at dksJ0_init_2_1 23 rfl rfl)
theorem dJ0_init_2_47 : decode cJ0_init_2 47 = .ok (.aload_n 2, 1) := dk_44 (dk_at dksJ0_init_2_2 0 rfl rfl)
theorem dJ0_init_2_48 : decode cJ0_init_2 48 = .ok (.putfield 7, 3) := dk_181 0 7 (dk_at dksJ0_init_2_2 1 rfl rfl)
theorem dJ0_init_2_51 : decode cJ0_init_2 51 = .ok (.iload_n 3, 1) := dk_29 (dk_at dksJ0_init_2_2 4 rfl rfl)
theorem dJ0_init_2_52 : decode cJ0_init_2 52 = .ok (.ifCond .ne 8, 3) := dk_154 0 8 (dk_at dksJ0_init_2_2 5 rfl rfl)
theorem dJ0_init_2_55 : decode cJ0_init_2 55 = .ok (.aload_n 0, 1) := dk_42 (dk_at dksJ0_init_2_2 8 rfl rfl)
theorem dJ0_init_2_56 : decode cJ0_init_2 56 = .ok (.aconst_null, 1) := dk_1 (dk_at dksJ0_init_2_2 9 rfl rfl)
theorem dJ0_init_2_57 : decode cJ0_init_2 57 = .ok (.putfield 24, 3) := dk_181 0 24 (dk_at dksJ0_init_2_2 10 rfl rfl)
theorem dJ0_init_2_60 : decode cJ0_init_2 60 = .ok (.return_, 1) := dk_177 (dk_at dksJ0_init_2_2 13 rfl rfl)
theorem q83 : (Jvm.Cond.initialized "java/lang/Throwable") ∈ lw_all := lw_g (lw_at lw_m1 3 rfl) rfl
theorem q134 : (Jvm.Cond.declares ({ cls := "java/lang/Throwable", name := "<init>", desc := "()V" } : Jvm.MethodName)) ∈ lw_tbl := lw_at lw_m1 54 rfl
theorem q135 : (Jvm.Cond.declares ({ cls := "java/lang/Throwable", name := "<init>", desc := "(Ljava/lang/String;)V" } : Jvm.MethodName)) ∈ lw_tbl := lw_at lw_m1 55 rfl
theorem q139 : (Jvm.Cond.lays "java/lang/Throwable" "java/lang/Throwable" "cause" "Ljava/lang/Throwable;") ∈ lw_all := lw_g (lw_at lw_m1 59 rfl) rfl
theorem q141 : (Jvm.Cond.lays "java/lang/Throwable" "java/lang/Throwable" "stackTrace" "[Ljava/lang/StackTraceElement;") ∈ lw_all := lw_g (lw_at lw_m1 61 rfl) rfl
theorem q143 : (Jvm.Cond.lays "java/lang/Throwable" "java/lang/Throwable" "suppressedExceptions" "Ljava/util/List;") ∈ lw_all := lw_g (lw_at lw_m1 63 rfl) rfl
theorem q145 : (Jvm.Cond.lays "java/lang/Throwable" "java/lang/Throwable" "detailMessage" "Ljava/lang/String;") ∈ lw_all := lw_g (lw_at lw_m1 65 rfl) rfl
theorem q147 : (Jvm.Cond.lays "java/lang/Throwable" "java/lang/Throwable" "backtrace" "Ljava/lang/Object;") ∈ lw_all := lw_g (lw_at lw_m1 67 rfl) rfl
theorem q148 : (Jvm.Cond.fieldLink "java/lang/Throwable" (198 : Nat) "java/lang/Throwable" "backtrace" "Ljava/lang/Object;") ∈ lw_all := lw_g (lw_at lw_m1 68 rfl) rfl
theorem q149 : (Jvm.Cond.superclass "java/lang/Throwable" "java/lang/Object") ∈ lw_all := lw_g (lw_at lw_m1 69 rfl) rfl
theorem q150 : (Jvm.Cond.instanceMethod ({ cls := "java/lang/Throwable", name := "<init>", desc := "()V" } : Jvm.MethodName)) ∈ lw_all := lw_g (lw_at lw_m1 70 rfl) rfl
theorem q151 : (Jvm.Cond.code ({ cls := "java/lang/Throwable", name := "<init>", desc := "()V" } : Jvm.MethodName) prog_28_method_1_code (1 : Nat) (Option.none : Option Jvm.ClassFile.FieldType)) ∈ lw_all := lw_g (lw_at lw_m1 71 rfl) rfl
theorem q152 : (Jvm.Cond.methodLink "java/lang/Throwable" (1 : Nat) ({ cls := "java/lang/Object", name := "<init>", desc := "()V" } : Jvm.MethodName)) ∈ lw_all := lw_g (lw_at lw_m1 72 rfl) rfl
theorem q153 : (Jvm.Cond.fieldLink "java/lang/Throwable" (13 : Nat) "java/lang/Throwable" "UNASSIGNED_STACK" "[Ljava/lang/StackTraceElement;") ∈ lw_all := lw_g (lw_at lw_m1 73 rfl) rfl
theorem q154 : (Jvm.Cond.laysStatic "java/lang/Throwable" "UNASSIGNED_STACK" "[Ljava/lang/StackTraceElement;") ∈ lw_tbl := lw_at lw_m1 74 rfl
theorem q155 : (Jvm.Cond.fieldLink "java/lang/Throwable" (20 : Nat) "java/lang/Throwable" "SUPPRESSED_SENTINEL" "Ljava/util/List;") ∈ lw_all := lw_g (lw_at lw_m1 75 rfl) rfl
theorem q156 : (Jvm.Cond.laysStatic "java/lang/Throwable" "SUPPRESSED_SENTINEL" "Ljava/util/List;") ∈ lw_tbl := lw_at lw_m1 76 rfl
theorem q157 : (Jvm.Cond.methodLink "java/lang/Throwable" (27 : Nat) ({ cls := "java/lang/Throwable", name := "fillInStackTrace", desc := "()Ljava/lang/Throwable;" } : Jvm.MethodName)) ∈ lw_all := lw_g (lw_at lw_m1 77 rfl) rfl
theorem q158 : (Jvm.Cond.instanceMethod ({ cls := "java/lang/Throwable", name := "fillInStackTrace", desc := "()Ljava/lang/Throwable;" } : Jvm.MethodName)) ∈ lw_all := lw_g (lw_at lw_m1 78 rfl) rfl
theorem q159 : (Jvm.Cond.sameMethod "java/lang/Throwable" "java/lang/Throwable" "fillInStackTrace" "()Ljava/lang/Throwable;") ∈ lw_all := lw_g (lw_at lw_m1 79 rfl) rfl
theorem q160 : (Jvm.Cond.codeSync ({ cls := "java/lang/Throwable", name := "fillInStackTrace", desc := "()Ljava/lang/Throwable;" } : Jvm.MethodName) prog_28_method_18_code (1 : Nat) (Option.some (Jvm.ClassFile.FieldType.object "java/lang/Throwable"))) ∈ lw_all := lw_g (lw_at lw_m1 80 rfl) rfl
theorem q161 : (Jvm.Cond.methodLink "java/lang/Throwable" (202 : Nat) ({ cls := "java/lang/Throwable", name := "fillInStackTrace", desc := "(I)Ljava/lang/Throwable;" } : Jvm.MethodName)) ∈ lw_all := lw_g (lw_at lw_m1 81 rfl) rfl
theorem q162 : (Jvm.Cond.privateMethod ({ cls := "java/lang/Throwable", name := "fillInStackTrace", desc := "(I)Ljava/lang/Throwable;" } : Jvm.MethodName)) ∈ lw_tbl := lw_at lw_m1 82 rfl
theorem q163 : (Jvm.Cond.instanceMethod ({ cls := "java/lang/Throwable", name := "fillInStackTrace", desc := "(I)Ljava/lang/Throwable;" } : Jvm.MethodName)) ∈ lw_all := lw_g (lw_at lw_m1 83 rfl) rfl
theorem q164 : (Jvm.Cond.instantiable "java/lang/Throwable" (6 : Nat)) ∈ lw_all := lw_g (lw_at lw_m1 84 rfl) rfl
theorem q165 : (Jvm.Cond.native ({ cls := "java/lang/Throwable", name := "fillInStackTrace", desc := "(I)Ljava/lang/Throwable;" } : Jvm.MethodName)) ∈ lw_all := lw_g (lw_at lw_m1 85 rfl) rfl
theorem q176 : (Jvm.Cond.instanceMethod ({ cls := "java/lang/Throwable", name := "<init>", desc := "(Ljava/lang/String;Ljava/lang/Throwable;ZZ)V" } : Jvm.MethodName)) ∈ lw_all := lw_g (lw_at lw_m1 96 rfl) rfl
theorem q177 : (Jvm.Cond.code ({ cls := "java/lang/Throwable", name := "<init>", desc := "(Ljava/lang/String;Ljava/lang/Throwable;ZZ)V" } : Jvm.MethodName) prog_28_method_5_code (5 : Nat) (Option.none : Option Jvm.ClassFile.FieldType)) ∈ lw_all := lw_g (lw_at lw_m1 97 rfl) rfl
theorem q182 : (Jvm.Cond.fieldLink "java/lang/Throwable" (198 : Nat) "java/lang/Throwable" "backtrace" "Ljava/lang/Object;") ∈ lw_all := lw_g (lw_at lw_m1 102 rfl) rfl
theorem q183 : (Jvm.Cond.fieldLink "java/lang/Throwable" (31 : Nat) "java/lang/Throwable" "detailMessage" "Ljava/lang/String;") ∈ lw_all := lw_g (lw_at lw_m1 103 rfl) rfl
theorem q184 : (Jvm.Cond.fieldLink "java/lang/Throwable" (7 : Nat) "java/lang/Throwable" "cause" "Ljava/lang/Throwable;") ∈ lw_all := lw_g (lw_at lw_m1 104 rfl) rfl
theorem q185 : (Jvm.Cond.fieldLink "java/lang/Throwable" (17 : Nat) "java/lang/Throwable" "stackTrace" "[Ljava/lang/StackTraceElement;") ∈ lw_all := lw_g (lw_at lw_m1 105 rfl) rfl
theorem q186 : (Jvm.Cond.fieldLink "java/lang/Throwable" (24 : Nat) "java/lang/Throwable" "suppressedExceptions" "Ljava/util/List;") ∈ lw_all := lw_g (lw_at lw_m1 106 rfl) rfl
theorem q191 : (Jvm.Cond.soleField "java/lang/Throwable" "backtrace") ∈ lw_all := lw_g (lw_at lw_m1 111 rfl) rfl
theorem q192 : (Jvm.Cond.soleField "java/lang/Throwable" "detailMessage") ∈ lw_all := lw_g (lw_at lw_m1 112 rfl) rfl
theorem q193 : (Jvm.Cond.soleField "java/lang/Throwable" "cause") ∈ lw_all := lw_g (lw_at lw_m1 113 rfl) rfl
theorem q194 : (Jvm.Cond.soleField "java/lang/Throwable" "stackTrace") ∈ lw_all := lw_g (lw_at lw_m1 114 rfl) rfl
theorem q196 : (Jvm.Cond.soleField "java/lang/Throwable" "depth") ∈ lw_all := lw_g (lw_at lw_m1 116 rfl) rfl
theorem q197 : (Jvm.Cond.soleField "java/lang/Throwable" "suppressedExceptions") ∈ lw_all := lw_g (lw_at lw_m1 117 rfl) rfl
theorem q1644 : (Jvm.Cond.sameMethod "java/lang/Throwable" "java/lang/Throwable" "fillInStackTrace" "(I)Ljava/lang/Throwable;") ∈ lw_all := lw_g (lw_at lw_m7 124 rfl) rfl
theorem q1663 : (Jvm.Cond.castable "java/lang/Throwable" "java/lang/Object") ∈ lw_tbl := lw_at lw_m7 143 rfl
theorem in_J0 : ∀ w ∈ wsJ00, w ∈ lw_all := lw_in wsJ00 [139, 141, 143, 145, 147] (by decide +kernel) (by decide +kernel)
/-! java/lang/Exception -/
set_option maxRecDepth 100000
def RJ1 : String := "java/lang/Exception"
abbrev cJ1_init : ByteArray := prog_19_method_5_code
def yJ1_init : MethodName := ⟨RJ1, "<init>", "(Ljava/lang/String;Ljava/lang/Throwable;ZZ)V"⟩
def dkwJ1_init_0 : List UInt8 := [42, 43, 44, 29, 21, 4, 183, 0, 16, 177]
abbrev dktJ1_init_0 : List UInt8 := dkwJ1_init_0 ++ []
theorem dksJ1_init_0 : cJ1_init.data.toList.drop 0 = dktJ1_init_0 := by decide +kernel
theorem dJ1_init_0 : decode cJ1_init 0 = .ok (.aload_n 0, 1) := dk_42 (dk_at dksJ1_init_0 0 rfl rfl)
theorem dJ1_init_1 : decode cJ1_init 1 = .ok (.aload_n 1, 1) := dk_43 (dk_at dksJ1_init_0 1 rfl rfl)
theorem dJ1_init_2 : decode cJ1_init 2 = .ok (.aload_n 2, 1) := dk_44 (dk_at dksJ1_init_0 2 rfl rfl)
theorem dJ1_init_3 : decode cJ1_init 3 = .ok (.iload_n 3, 1) := dk_29 (dk_at dksJ1_init_0 3 rfl rfl)
theorem dJ1_init_4 : decode cJ1_init 4 = .ok (.iload 4, 2) := dk_21 4 (dk_at dksJ1_init_0 4 rfl rfl)
theorem dJ1_init_6 : decode cJ1_init 6 = .ok (.invokespecial 16, 3) := dk_183 0 16 (dk_at dksJ1_init_0 6 rfl rfl)
theorem dJ1_init_9 : decode cJ1_init 9 = .ok (.return_, 1) := dk_177 (dk_at dksJ1_init_0 9 rfl rfl)
theorem q84 : (Jvm.Cond.initialized "java/lang/Exception") ∈ lw_all := lw_g (lw_at lw_m1 4 rfl) rfl
theorem q132 : (Jvm.Cond.declares ({ cls := "java/lang/Exception", name := "<init>", desc := "()V" } : Jvm.MethodName)) ∈ lw_tbl := lw_at lw_m1 52 rfl
theorem q133 : (Jvm.Cond.declares ({ cls := "java/lang/Exception", name := "<init>", desc := "(Ljava/lang/String;)V" } : Jvm.MethodName)) ∈ lw_tbl := lw_at lw_m1 53 rfl
theorem q173 : (Jvm.Cond.instanceMethod ({ cls := "java/lang/Exception", name := "<init>", desc := "(Ljava/lang/String;Ljava/lang/Throwable;ZZ)V" } : Jvm.MethodName)) ∈ lw_all := lw_g (lw_at lw_m1 93 rfl) rfl
theorem q174 : (Jvm.Cond.code ({ cls := "java/lang/Exception", name := "<init>", desc := "(Ljava/lang/String;Ljava/lang/Throwable;ZZ)V" } : Jvm.MethodName) prog_19_method_5_code (5 : Nat) (Option.none : Option Jvm.ClassFile.FieldType)) ∈ lw_all := lw_g (lw_at lw_m1 94 rfl) rfl
theorem q175 : (Jvm.Cond.methodLink "java/lang/Exception" (16 : Nat) ({ cls := "java/lang/Throwable", name := "<init>", desc := "(Ljava/lang/String;Ljava/lang/Throwable;ZZ)V" } : Jvm.MethodName)) ∈ lw_all := lw_g (lw_at lw_m1 95 rfl) rfl
/-! java/lang/RuntimeException -/
set_option maxRecDepth 100000
def RJ2 : String := "java/lang/RuntimeException"
abbrev cJ2_init : ByteArray := prog_22_method_5_code
def yJ2_init : MethodName := ⟨RJ2, "<init>", "(Ljava/lang/String;Ljava/lang/Throwable;ZZ)V"⟩
def dkwJ2_init_0 : List UInt8 := [42, 43, 44, 29, 21, 4, 183, 0, 16, 177]
abbrev dktJ2_init_0 : List UInt8 := dkwJ2_init_0 ++ []
theorem dksJ2_init_0 : cJ2_init.data.toList.drop 0 = dktJ2_init_0 := by decide +kernel
theorem dJ2_init_0 : decode cJ2_init 0 = .ok (.aload_n 0, 1) := dk_42 (dk_at dksJ2_init_0 0 rfl rfl)
theorem dJ2_init_1 : decode cJ2_init 1 = .ok (.aload_n 1, 1) := dk_43 (dk_at dksJ2_init_0 1 rfl rfl)
theorem dJ2_init_2 : decode cJ2_init 2 = .ok (.aload_n 2, 1) := dk_44 (dk_at dksJ2_init_0 2 rfl rfl)
theorem dJ2_init_3 : decode cJ2_init 3 = .ok (.iload_n 3, 1) := dk_29 (dk_at dksJ2_init_0 3 rfl rfl)
theorem dJ2_init_4 : decode cJ2_init 4 = .ok (.iload 4, 2) := dk_21 4 (dk_at dksJ2_init_0 4 rfl rfl)
theorem dJ2_init_6 : decode cJ2_init 6 = .ok (.invokespecial 16, 3) := dk_183 0 16 (dk_at dksJ2_init_0 6 rfl rfl)
theorem dJ2_init_9 : decode cJ2_init 9 = .ok (.return_, 1) := dk_177 (dk_at dksJ2_init_0 9 rfl rfl)
theorem q85 : (Jvm.Cond.initialized "java/lang/RuntimeException") ∈ lw_all := lw_g (lw_at lw_m1 5 rfl) rfl
theorem q130 : (Jvm.Cond.declares ({ cls := "java/lang/RuntimeException", name := "<init>", desc := "()V" } : Jvm.MethodName)) ∈ lw_tbl := lw_at lw_m1 50 rfl
theorem q131 : (Jvm.Cond.declares ({ cls := "java/lang/RuntimeException", name := "<init>", desc := "(Ljava/lang/String;)V" } : Jvm.MethodName)) ∈ lw_tbl := lw_at lw_m1 51 rfl
theorem q170 : (Jvm.Cond.instanceMethod ({ cls := "java/lang/RuntimeException", name := "<init>", desc := "(Ljava/lang/String;Ljava/lang/Throwable;ZZ)V" } : Jvm.MethodName)) ∈ lw_all := lw_g (lw_at lw_m1 90 rfl) rfl
theorem q171 : (Jvm.Cond.code ({ cls := "java/lang/RuntimeException", name := "<init>", desc := "(Ljava/lang/String;Ljava/lang/Throwable;ZZ)V" } : Jvm.MethodName) prog_22_method_5_code (5 : Nat) (Option.none : Option Jvm.ClassFile.FieldType)) ∈ lw_all := lw_g (lw_at lw_m1 91 rfl) rfl
theorem q172 : (Jvm.Cond.methodLink "java/lang/RuntimeException" (16 : Nat) ({ cls := "java/lang/Exception", name := "<init>", desc := "(Ljava/lang/String;Ljava/lang/Throwable;ZZ)V" } : Jvm.MethodName)) ∈ lw_all := lw_g (lw_at lw_m1 92 rfl) rfl
/-! java/util/AbstractCollection -/
set_option maxRecDepth 100000
def RJ3 : String := "java/util/AbstractCollection"
abbrev cJ3_init : ByteArray := prog_31_method_1_code
def yJ3_init : MethodName := ⟨RJ3, "<init>", "()V"⟩
theorem dJ3_init_0 : decode cJ3_init 0 = .ok (.aload_n 0, 1) := by decide +kernel
theorem dJ3_init_1 : decode cJ3_init 1 = .ok (.invokespecial 1, 3) := by decide +kernel
theorem dJ3_init_4 : decode cJ3_init 4 = .ok (.return_, 1) := by decide +kernel
theorem q87 : (Jvm.Cond.initialized "java/util/AbstractCollection") ∈ lw_all := lw_g (lw_at lw_m1 7 rfl) rfl
theorem q210 : (Jvm.Cond.instanceMethod ({ cls := "java/util/AbstractCollection", name := "<init>", desc := "()V" } : Jvm.MethodName)) ∈ lw_all := lw_g (lw_at lw_m1 130 rfl) rfl
theorem q211 : (Jvm.Cond.code ({ cls := "java/util/AbstractCollection", name := "<init>", desc := "()V" } : Jvm.MethodName) prog_31_method_1_code (1 : Nat) (Option.none : Option Jvm.ClassFile.FieldType)) ∈ lw_all := lw_g (lw_at lw_m1 131 rfl) rfl
theorem q212 : (Jvm.Cond.methodLink "java/util/AbstractCollection" (1 : Nat) ({ cls := "java/lang/Object", name := "<init>", desc := "()V" } : Jvm.MethodName)) ∈ lw_all := lw_g (lw_at lw_m1 132 rfl) rfl
/-! java/util/AbstractList -/
set_option maxRecDepth 100000
def RJ4 : String := "java/util/AbstractList"
abbrev cJ4_init : ByteArray := prog_32_method_1_code
def yJ4_init : MethodName := ⟨RJ4, "<init>", "()V"⟩
def dkwJ4_init_0 : List UInt8 := [42, 183, 0, 1, 42, 3, 181, 0, 7, 177]
abbrev dktJ4_init_0 : List UInt8 := dkwJ4_init_0 ++ []
theorem dksJ4_init_0 : cJ4_init.data.toList.drop 0 = dktJ4_init_0 := by decide +kernel
theorem dJ4_init_0 : decode cJ4_init 0 = .ok (.aload_n 0, 1) := dk_42 (dk_at dksJ4_init_0 0 rfl rfl)
theorem dJ4_init_1 : decode cJ4_init 1 = .ok (.invokespecial 1, 3) := dk_183 0 1 (dk_at dksJ4_init_0 1 rfl rfl)
theorem dJ4_init_4 : decode cJ4_init 4 = .ok (.aload_n 0, 1) := dk_42 (dk_at dksJ4_init_0 4 rfl rfl)
theorem dJ4_init_5 : decode cJ4_init 5 = .ok (.iconst 0, 1) := dk_3 (dk_at dksJ4_init_0 5 rfl rfl)
theorem dJ4_init_6 : decode cJ4_init 6 = .ok (.putfield 7, 3) := dk_181 0 7 (dk_at dksJ4_init_0 6 rfl rfl)
theorem dJ4_init_9 : decode cJ4_init 9 = .ok (.return_, 1) := dk_177 (dk_at dksJ4_init_0 9 rfl rfl)
theorem q88 : (Jvm.Cond.initialized "java/util/AbstractList") ∈ lw_all := lw_g (lw_at lw_m1 8 rfl) rfl
theorem q207 : (Jvm.Cond.instanceMethod ({ cls := "java/util/AbstractList", name := "<init>", desc := "()V" } : Jvm.MethodName)) ∈ lw_all := lw_g (lw_at lw_m1 127 rfl) rfl
theorem q208 : (Jvm.Cond.code ({ cls := "java/util/AbstractList", name := "<init>", desc := "()V" } : Jvm.MethodName) prog_32_method_1_code (1 : Nat) (Option.none : Option Jvm.ClassFile.FieldType)) ∈ lw_all := lw_g (lw_at lw_m1 128 rfl) rfl
theorem q209 : (Jvm.Cond.methodLink "java/util/AbstractList" (1 : Nat) ({ cls := "java/util/AbstractCollection", name := "<init>", desc := "()V" } : Jvm.MethodName)) ∈ lw_all := lw_g (lw_at lw_m1 129 rfl) rfl
theorem q217 : (Jvm.Cond.fieldLink "java/util/AbstractList" (7 : Nat) "java/util/AbstractList" "modCount" "I") ∈ lw_all := lw_g (lw_at lw_m1 137 rfl) rfl
theorem q225 : (Jvm.Cond.soleField "java/util/AbstractList" "modCount") ∈ lw_all := lw_g (lw_at lw_m1 145 rfl) rfl
/-! java/util/ArrayList -/
set_option maxRecDepth 100000
def RJ5 : String := "java/util/ArrayList"
def TJ5 : u_T := fun k => match k with
  | 0 => ("java/util/AbstractList", "modCount", "I", false)
  | 1 => ("java/util/ArrayList", "elementData", "[Ljava/lang/Object;", false)
  | _ => ("java/util/ArrayList", "size", "I", false)
def tyJ5 : Nat → FieldType := fun k => match k with
  | 0 => .int
  | 1 => .array (.object "java/lang/Object")
  | _ => .int
abbrev wsJ50 : List Cond := u_ws RJ5 TJ5 3
theorem nmJ5 : ∀ a, a < 3 → ∀ b, b < 3 → a ≠ b → (TJ5 a).2.1 ≠ (TJ5 b).2.1 := by decide +kernel
theorem tyJ5_ok : ∀ k, k < 3 → parseFieldDescriptor (TJ5 k).2.2.1 = some (tyJ5 k) := by decide +kernel
abbrev cJ5_init : ByteArray := prog_33_method_2_code
def yJ5_init : MethodName := ⟨RJ5, "<init>", "()V"⟩
def dkwJ5_init_0 : List UInt8 := [42, 183, 0, 1, 42, 178, 0, 39, 181, 0, 9, 177]
abbrev dktJ5_init_0 : List UInt8 := dkwJ5_init_0 ++ []
theorem dksJ5_init_0 : cJ5_init.data.toList.drop 0 = dktJ5_init_0 := by decide +kernel
theorem dJ5_init_0 : decode cJ5_init 0 = .ok (.aload_n 0, 1) := dk_42 (dk_at dksJ5_init_0 0 rfl rfl)
theorem dJ5_init_1 : decode cJ5_init 1 = .ok (.invokespecial 1, 3) := dk_183 0 1 (dk_at dksJ5_init_0 1 rfl rfl)
theorem dJ5_init_4 : decode cJ5_init 4 = .ok (.aload_n 0, 1) := dk_42 (dk_at dksJ5_init_0 4 rfl rfl)
theorem dJ5_init_5 : decode cJ5_init 5 = .ok (.getstatic 39, 3) := dk_178 0 39 (dk_at dksJ5_init_0 5 rfl rfl)
theorem dJ5_init_8 : decode cJ5_init 8 = .ok (.putfield 9, 3) := dk_181 0 9 (dk_at dksJ5_init_0 8 rfl rfl)
theorem dJ5_init_11 : decode cJ5_init 11 = .ok (.return_, 1) := dk_177 (dk_at dksJ5_init_0 11 rfl rfl)
abbrev cJ5_clear : ByteArray := prog_33_method_40_code
def yJ5_clear : MethodName := ⟨RJ5, "clear", "()V"⟩
def dkwJ5_clear_1 : List UInt8 := [181, 0, 48, 62, 29, 28, 162, 0, 13, 43, 29, 1, 83, 132, 3, 1, 167, 255, 244, 177]
abbrev dktJ5_clear_1 : List UInt8 := dkwJ5_clear_1 ++ []
def dkwJ5_clear_0 : List UInt8 := [42, 89, 180, 0, 63, 4, 96, 181, 0, 63, 42, 180, 0, 9, 76, 42, 180, 0, 48, 61, 42, 3, 90]
abbrev dktJ5_clear_0 : List UInt8 := dkwJ5_clear_0 ++ dktJ5_clear_1
theorem dksJ5_clear_0 : cJ5_clear.data.toList.drop 0 = dktJ5_clear_0 := by decide +kernel
theorem dksJ5_clear_1 : cJ5_clear.data.toList.drop 23 = dktJ5_clear_1 := dk_seg dksJ5_clear_0 23 rfl rfl
theorem dJ5_clear_0 : decode cJ5_clear 0 = .ok (.aload_n 0, 1) := dk_42 (dk_at dksJ5_clear_0 0 rfl rfl)
theorem dJ5_clear_1 : decode cJ5_clear 1 = .ok (.dup, 1) := dk_89 (dk_at dksJ5_clear_0 1 rfl rfl)
theorem dJ5_clear_2 : decode cJ5_clear 2 = .ok (.getfield 63, 3) := dk_180 0 63 (dk_at dksJ5_clear_0 2 rfl rfl)
theorem dJ5_clear_5 : decode cJ5_clear 5 = .ok (.iconst 1, 1) := dk_4 (dk_at dksJ5_clear_0 5 rfl rfl)
theorem dJ5_clear_6 : decode cJ5_clear 6 = .ok (.iadd, 1) := dk_96 (dk_at dksJ5_clear_0 6 rfl rfl)
theorem dJ5_clear_7 : decode cJ5_clear 7 = .ok (.putfield 63, 3) := dk_181 0 63 (dk_at dksJ5_clear_0 7 rfl rfl)
theorem dJ5_clear_10 : decode cJ5_clear 10 = .ok (.aload_n 0, 1) := dk_42 (dk_at dksJ5_clear_0 10 rfl rfl)
theorem dJ5_clear_11 : decode cJ5_clear 11 = .ok (.getfield 9, 3) := dk_180 0 9 (dk_at dksJ5_clear_0 11 rfl rfl)
theorem dJ5_clear_14 : decode cJ5_clear 14 = .ok (.astore_n 1, 1) := dk_76 (dk_at dksJ5_clear_0 14 rfl rfl)
theorem dJ5_clear_15 : decode cJ5_clear 15 = .ok (.aload_n 0, 1) := dk_42 (dk_at dksJ5_clear_0 15 rfl rfl)
theorem dJ5_clear_16 : decode cJ5_clear 16 = .ok (.getfield 48, 3) := dk_180 0 48 (dk_at dksJ5_clear_0 16 rfl rfl)
theorem dJ5_clear_19 : decode cJ5_clear 19 = .ok (.istore_n 2, 1) := dk_61 (dk_at dksJ5_clear_0 19 rfl rfl)
theorem dJ5_clear_20 : decode cJ5_clear 20 = .ok (.aload_n 0, 1) := dk_42 (dk_at dksJ5_clear_0 20 rfl rfl)
theorem dJ5_clear_21 : decode cJ5_clear 21 = .ok (.iconst 0, 1) := dk_3 (dk_at dksJ5_clear_0 21 rfl rfl)
theorem dJ5_clear_22 : decode cJ5_clear 22 = .ok (.dup_x1, 1) := dk_90 (dk_at dksJ5_clear_0 22 rfl rfl)
theorem dJ5_clear_23 : decode cJ5_clear 23 = .ok (.putfield 48, 3) := dk_181 0 48 (dk_at dksJ5_clear_1 0 rfl rfl)
theorem dJ5_clear_26 : decode cJ5_clear 26 = .ok (.istore_n 3, 1) := dk_62 (dk_at dksJ5_clear_1 3 rfl rfl)
theorem dJ5_clear_27 : decode cJ5_clear 27 = .ok (.iload_n 3, 1) := dk_29 (dk_at dksJ5_clear_1 4 rfl rfl)
theorem dJ5_clear_28 : decode cJ5_clear 28 = .ok (.iload_n 2, 1) := dk_28 (dk_at dksJ5_clear_1 5 rfl rfl)
theorem dJ5_clear_29 : decode cJ5_clear 29 = .ok (.if_icmp .ge 13, 3) := dk_162 0 13 (dk_at dksJ5_clear_1 6 rfl rfl)
theorem dJ5_clear_32 : decode cJ5_clear 32 = .ok (.aload_n 1, 1) := dk_43 (dk_at dksJ5_clear_1 9 rfl rfl)
theorem dJ5_clear_33 : decode cJ5_clear 33 = .ok (.iload_n 3, 1) := dk_29 (dk_at dksJ5_clear_1 10 rfl rfl)
theorem dJ5_clear_34 : decode cJ5_clear 34 = .ok (.aconst_null, 1) := dk_1 (dk_at dksJ5_clear_1 11 rfl rfl)
theorem dJ5_clear_35 : decode cJ5_clear 35 = .ok (.aastore, 1) := dk_83 (dk_at dksJ5_clear_1 12 rfl rfl)
theorem dJ5_clear_36 : decode cJ5_clear 36 = .ok (.iinc 3 1, 3) := dk_132 3 1 (dk_at dksJ5_clear_1 13 rfl rfl)
theorem dJ5_clear_39 : decode cJ5_clear 39 = .ok (.goto (-12), 3) := dk_167 255 244 (dk_at dksJ5_clear_1 16 rfl rfl)
theorem dJ5_clear_42 : decode cJ5_clear 42 = .ok (.return_, 1) := dk_177 (dk_at dksJ5_clear_1 19 rfl rfl)
abbrev cJ5_init_2 : ByteArray := prog_33_method_1_code
def yJ5_init_2 : MethodName := ⟨RJ5, "<init>", "(I)V"⟩
def dkwJ5_init_2_2 : List UInt8 := [182, 0, 25, 27, 182, 0, 29, 182, 0, 32, 183, 0, 36, 191, 177]
abbrev dktJ5_init_2_2 : List UInt8 := dkwJ5_init_2_2 ++ []
def dkwJ5_init_2_1 : List UInt8 := [178, 0, 15, 181, 0, 9, 167, 0, 30, 187, 0, 18, 89, 187, 0, 20, 89, 183, 0, 22, 18, 23]
abbrev dktJ5_init_2_1 : List UInt8 := dkwJ5_init_2_1 ++ dktJ5_init_2_2
def dkwJ5_init_2_0 : List UInt8 := [42, 183, 0, 1, 27, 158, 0, 14, 42, 27, 189, 0, 7, 181, 0, 9, 167, 0, 44, 27, 154, 0, 13, 42]
abbrev dktJ5_init_2_0 : List UInt8 := dkwJ5_init_2_0 ++ dktJ5_init_2_1
theorem dksJ5_init_2_0 : cJ5_init_2.data.toList.drop 0 = dktJ5_init_2_0 := by decide +kernel
theorem dksJ5_init_2_1 : cJ5_init_2.data.toList.drop 24 = dktJ5_init_2_1 := dk_seg dksJ5_init_2_0 24 rfl rfl
theorem dksJ5_init_2_2 : cJ5_init_2.data.toList.drop 46 = dktJ5_init_2_2 := dk_seg dksJ5_init_2_1 22 rfl rfl
theorem dJ5_init_2_0 : decode cJ5_init_2 0 = .ok (.aload_n 0, 1) := dk_42 (dk_at dksJ5_init_2_0 0 rfl rfl)
theorem dJ5_init_2_1 : decode cJ5_init_2 1 = .ok (.invokespecial 1, 3) := dk_183 0 1 (dk_at dksJ5_init_2_0 1 rfl rfl)
theorem dJ5_init_2_4 : decode cJ5_init_2 4 = .ok (.iload_n 1, 1) := dk_27 (dk_at dksJ5_init_2_0 4 rfl rfl)
theorem dJ5_init_2_5 : decode cJ5_init_2 5 = .ok (.ifCond .le 14, 3) := dk_158 0 14 (dk_at dksJ5_init_2_0 5 rfl rfl)
theorem dJ5_init_2_8 : decode cJ5_init_2 8 = .ok (.aload_n 0, 1) := dk_42 (dk_at dksJ5_init_2_0 8 rfl rfl)
theorem dJ5_init_2_9 : decode cJ5_init_2 9 = .ok (.iload_n 1, 1) := dk_27 (dk_at dksJ5_init_2_0 9 rfl rfl)
theorem dJ5_init_2_10 : decode cJ5_init_2 10 = .ok (.anewarray 7, 3) := dk_189 0 7 (dk_at dksJ5_init_2_0 10 rfl rfl)
theorem dJ5_init_2_13 : decode cJ5_init_2 13 = .ok (.putfield 9, 3) := dk_181 0 9 (dk_at dksJ5_init_2_0 13 rfl rfl)
theorem dJ5_init_2_16 : decode cJ5_init_2 16 = .ok (.goto 44, 3) := dk_167 0 44 (dk_at dksJ5_init_2_0 16 rfl rfl)
theorem dJ5_init_2_19 : decode cJ5_init_2 19 = .ok (.iload_n 1, 1) := dk_27 (dk_at dksJ5_init_2_0 19 rfl rfl)
theorem dJ5_init_2_20 : decode cJ5_init_2 20 = .ok (.ifCond .ne 13, 3) := dk_154 0 13 (dk_at dksJ5_init_2_0 20 rfl rfl)
theorem dJ5_init_2_23 : decode cJ5_init_2 23 = .ok (.aload_n 0, 1) := dk_42 (dk_at dksJ5_init_2_0 23 rfl rfl)
theorem dJ5_init_2_24 : decode cJ5_init_2 24 = .ok (.getstatic 15, 3) := dk_178 0 15 (dk_at dksJ5_init_2_1 0 rfl rfl)
theorem dJ5_init_2_27 : decode cJ5_init_2 27 = .ok (.putfield 9, 3) := dk_181 0 9 (dk_at dksJ5_init_2_1 3 rfl rfl)
theorem dJ5_init_2_30 : decode cJ5_init_2 30 = .ok (.goto 30, 3) := dk_167 0 30 (dk_at dksJ5_init_2_1 6 rfl rfl)
theorem dJ5_init_2_33 : decode cJ5_init_2 33 = .ok (.new 18, 3) := dk_187 0 18 (dk_at dksJ5_init_2_1 9 rfl rfl)
theorem dJ5_init_2_36 : decode cJ5_init_2 36 = .ok (.dup, 1) := dk_89 (dk_at dksJ5_init_2_1 12 rfl rfl)
theorem dJ5_init_2_37 : decode cJ5_init_2 37 = .ok (.new 20, 3) := dk_187 0 20 (dk_at dksJ5_init_2_1 13 rfl rfl)
theorem dJ5_init_2_40 : decode cJ5_init_2 40 = .ok (.dup, 1) := dk_89 (dk_at dksJ5_init_2_1 16 rfl rfl)
theorem dJ5_init_2_41 : decode cJ5_init_2 41 = .ok (.invokespecial 22, 3) := dk_183 0 22 (dk_at dksJ5_init_2_1 17 rfl rfl)
theorem dJ5_init_2_44 : decode cJ5_init_2 44 = .ok (.ldc 23, 2) := dk_18 23 (dk_at dksJ5_init_2_1 20 rfl rfl)
theorem dJ5_init_2_46 : decode cJ5_init_2 46 = .ok (.invokevirtual 25, 3) := dk_182 0 25 (dk_at dksJ5_init_2_2 0 rfl rfl)
theorem dJ5_init_2_49 : decode cJ5_init_2 49 = .ok (.iload_n 1, 1) := dk_27 (dk_at dksJ5_init_2_2 3 rfl rfl)
theorem dJ5_init_2_50 : decode cJ5_init_2 50 = .ok (.invokevirtual 29, 3) := dk_182 0 29 (dk_at dksJ5_init_2_2 4 rfl rfl)
theorem dJ5_init_2_53 : decode cJ5_init_2 53 = .ok (.invokevirtual 32, 3) := dk_182 0 32 (dk_at dksJ5_init_2_2 7 rfl rfl)
theorem dJ5_init_2_56 : decode cJ5_init_2 56 = .ok (.invokespecial 36, 3) := dk_183 0 36 (dk_at dksJ5_init_2_2 10 rfl rfl)
theorem dJ5_init_2_59 : decode cJ5_init_2 59 = .ok (.athrow, 1) := dk_191 (dk_at dksJ5_init_2_2 13 rfl rfl)
theorem dJ5_init_2_60 : decode cJ5_init_2 60 = .ok (.return_, 1) := dk_177 (dk_at dksJ5_init_2_2 14 rfl rfl)
abbrev cJ5_size : ByteArray := prog_33_method_8_code
def yJ5_size : MethodName := ⟨RJ5, "size", "()I"⟩
theorem dJ5_size_0 : decode cJ5_size 0 = .ok (.aload_n 0, 1) := by decide +kernel
theorem dJ5_size_1 : decode cJ5_size 1 = .ok (.getfield 48, 3) := by decide +kernel
theorem dJ5_size_4 : decode cJ5_size 4 = .ok (.ireturn, 1) := by decide +kernel
abbrev cJ5_add : ByteArray := prog_33_method_25_code
def yJ5_add : MethodName := ⟨RJ5, "add", "(Ljava/lang/Object;)Z"⟩
def dkwJ5_add_1 : List UInt8 := [172]
abbrev dktJ5_add_1 : List UInt8 := dkwJ5_add_1 ++ []
def dkwJ5_add_0 : List UInt8 := [42, 89, 180, 0, 63, 4, 96, 181, 0, 63, 42, 43, 42, 180, 0, 9, 42, 180, 0, 48, 182, 0, 131, 4]
abbrev dktJ5_add_0 : List UInt8 := dkwJ5_add_0 ++ dktJ5_add_1
theorem dksJ5_add_0 : cJ5_add.data.toList.drop 0 = dktJ5_add_0 := by decide +kernel
theorem dksJ5_add_1 : cJ5_add.data.toList.drop 24 = dktJ5_add_1 := dk_seg dksJ5_add_0 24 rfl rfl
theorem dJ5_add_0 : decode cJ5_add 0 = .ok (.aload_n 0, 1) := dk_42 (dk_at dksJ5_add_0 0 rfl rfl)
theorem dJ5_add_1 : decode cJ5_add 1 = .ok (.dup, 1) := dk_89 (dk_at dksJ5_add_0 1 rfl rfl)
theorem dJ5_add_2 : decode cJ5_add 2 = .ok (.getfield 63, 3) := dk_180 0 63 (dk_at dksJ5_add_0 2 rfl rfl)
theorem dJ5_add_5 : decode cJ5_add 5 = .ok (.iconst 1, 1) := dk_4 (dk_at dksJ5_add_0 5 rfl rfl)
theorem dJ5_add_6 : decode cJ5_add 6 = .ok (.iadd, 1) := dk_96 (dk_at dksJ5_add_0 6 rfl rfl)
theorem dJ5_add_7 : decode cJ5_add 7 = .ok (.putfield 63, 3) := dk_181 0 63 (dk_at dksJ5_add_0 7 rfl rfl)
theorem dJ5_add_10 : decode cJ5_add 10 = .ok (.aload_n 0, 1) := dk_42 (dk_at dksJ5_add_0 10 rfl rfl)
theorem dJ5_add_11 : decode cJ5_add 11 = .ok (.aload_n 1, 1) := dk_43 (dk_at dksJ5_add_0 11 rfl rfl)
theorem dJ5_add_12 : decode cJ5_add 12 = .ok (.aload_n 0, 1) := dk_42 (dk_at dksJ5_add_0 12 rfl rfl)
theorem dJ5_add_13 : decode cJ5_add 13 = .ok (.getfield 9, 3) := dk_180 0 9 (dk_at dksJ5_add_0 13 rfl rfl)
theorem dJ5_add_16 : decode cJ5_add 16 = .ok (.aload_n 0, 1) := dk_42 (dk_at dksJ5_add_0 16 rfl rfl)
theorem dJ5_add_17 : decode cJ5_add 17 = .ok (.getfield 48, 3) := dk_180 0 48 (dk_at dksJ5_add_0 17 rfl rfl)
theorem dJ5_add_20 : decode cJ5_add 20 = .ok (.invokevirtual 131, 3) := dk_182 0 131 (dk_at dksJ5_add_0 20 rfl rfl)
theorem dJ5_add_23 : decode cJ5_add 23 = .ok (.iconst 1, 1) := dk_4 (dk_at dksJ5_add_0 23 rfl rfl)
theorem dJ5_add_24 : decode cJ5_add 24 = .ok (.ireturn, 1) := dk_172 (dk_at dksJ5_add_1 0 rfl rfl)
abbrev cJ5_add_2 : ByteArray := prog_33_method_24_code
def yJ5_add_2 : MethodName := ⟨RJ5, "add", "(Ljava/lang/Object;[Ljava/lang/Object;I)V"⟩
def dkwJ5_add_2_0 : List UInt8 := [29, 44, 190, 160, 0, 8, 42, 182, 0, 129, 77, 44, 29, 43, 83, 42, 29, 4, 96, 181, 0, 48, 177]
abbrev dktJ5_add_2_0 : List UInt8 := dkwJ5_add_2_0 ++ []
theorem dksJ5_add_2_0 : cJ5_add_2.data.toList.drop 0 = dktJ5_add_2_0 := by decide +kernel
theorem dJ5_add_2_0 : decode cJ5_add_2 0 = .ok (.iload_n 3, 1) := dk_29 (dk_at dksJ5_add_2_0 0 rfl rfl)
theorem dJ5_add_2_1 : decode cJ5_add_2 1 = .ok (.aload_n 2, 1) := dk_44 (dk_at dksJ5_add_2_0 1 rfl rfl)
theorem dJ5_add_2_2 : decode cJ5_add_2 2 = .ok (.arraylength, 1) := dk_190 (dk_at dksJ5_add_2_0 2 rfl rfl)
theorem dJ5_add_2_3 : decode cJ5_add_2 3 = .ok (.if_icmp .ne 8, 3) := dk_160 0 8 (dk_at dksJ5_add_2_0 3 rfl rfl)
theorem dJ5_add_2_6 : decode cJ5_add_2 6 = .ok (.aload_n 0, 1) := dk_42 (dk_at dksJ5_add_2_0 6 rfl rfl)
theorem dJ5_add_2_7 : decode cJ5_add_2 7 = .ok (.invokevirtual 129, 3) := dk_182 0 129 (dk_at dksJ5_add_2_0 7 rfl rfl)
theorem dJ5_add_2_10 : decode cJ5_add_2 10 = .ok (.astore_n 2, 1) := dk_77 (dk_at dksJ5_add_2_0 10 rfl rfl)
theorem dJ5_add_2_11 : decode cJ5_add_2 11 = .ok (.aload_n 2, 1) := dk_44 (dk_at dksJ5_add_2_0 11 rfl rfl)
theorem dJ5_add_2_12 : decode cJ5_add_2 12 = .ok (.iload_n 3, 1) := dk_29 (dk_at dksJ5_add_2_0 12 rfl rfl)
theorem dJ5_add_2_13 : decode cJ5_add_2 13 = .ok (.aload_n 1, 1) := dk_43 (dk_at dksJ5_add_2_0 13 rfl rfl)
theorem dJ5_add_2_14 : decode cJ5_add_2 14 = .ok (.aastore, 1) := dk_83 (dk_at dksJ5_add_2_0 14 rfl rfl)
theorem dJ5_add_2_15 : decode cJ5_add_2 15 = .ok (.aload_n 0, 1) := dk_42 (dk_at dksJ5_add_2_0 15 rfl rfl)
theorem dJ5_add_2_16 : decode cJ5_add_2 16 = .ok (.iload_n 3, 1) := dk_29 (dk_at dksJ5_add_2_0 16 rfl rfl)
theorem dJ5_add_2_17 : decode cJ5_add_2 17 = .ok (.iconst 1, 1) := dk_4 (dk_at dksJ5_add_2_0 17 rfl rfl)
theorem dJ5_add_2_18 : decode cJ5_add_2 18 = .ok (.iadd, 1) := dk_96 (dk_at dksJ5_add_2_0 18 rfl rfl)
theorem dJ5_add_2_19 : decode cJ5_add_2 19 = .ok (.putfield 48, 3) := dk_181 0 48 (dk_at dksJ5_add_2_0 19 rfl rfl)
theorem dJ5_add_2_22 : decode cJ5_add_2 22 = .ok (.return_, 1) := dk_177 (dk_at dksJ5_add_2_0 22 rfl rfl)
abbrev cJ5_grow : ByteArray := prog_33_method_7_code
def yJ5_grow : MethodName := ⟨RJ5, "grow", "()[Ljava/lang/Object;"⟩
def dkwJ5_grow_0 : List UInt8 := [42, 42, 180, 0, 48, 4, 96, 182, 0, 69, 176]
abbrev dktJ5_grow_0 : List UInt8 := dkwJ5_grow_0 ++ []
theorem dksJ5_grow_0 : cJ5_grow.data.toList.drop 0 = dktJ5_grow_0 := by decide +kernel
theorem dJ5_grow_0 : decode cJ5_grow 0 = .ok (.aload_n 0, 1) := dk_42 (dk_at dksJ5_grow_0 0 rfl rfl)
theorem dJ5_grow_1 : decode cJ5_grow 1 = .ok (.aload_n 0, 1) := dk_42 (dk_at dksJ5_grow_0 1 rfl rfl)
theorem dJ5_grow_2 : decode cJ5_grow 2 = .ok (.getfield 48, 3) := dk_180 0 48 (dk_at dksJ5_grow_0 2 rfl rfl)
theorem dJ5_grow_5 : decode cJ5_grow 5 = .ok (.iconst 1, 1) := dk_4 (dk_at dksJ5_grow_0 5 rfl rfl)
theorem dJ5_grow_6 : decode cJ5_grow 6 = .ok (.iadd, 1) := dk_96 (dk_at dksJ5_grow_0 6 rfl rfl)
theorem dJ5_grow_7 : decode cJ5_grow 7 = .ok (.invokevirtual 69, 3) := dk_182 0 69 (dk_at dksJ5_grow_0 7 rfl rfl)
theorem dJ5_grow_10 : decode cJ5_grow 10 = .ok (.areturn, 1) := dk_176 (dk_at dksJ5_grow_0 10 rfl rfl)
abbrev cJ5_grow_2 : ByteArray := prog_33_method_6_code
def yJ5_grow_2 : MethodName := ⟨RJ5, "grow", "(I)[Ljava/lang/Object;"⟩
def dkwJ5_grow_2_2 : List UInt8 := [27, 184, 0, 79, 189, 0, 7, 90, 181, 0, 9, 176]
abbrev dktJ5_grow_2_2 : List UInt8 := dkwJ5_grow_2_2 ++ []
def dkwJ5_grow_2_1 : List UInt8 := [28, 4, 122, 184, 0, 73, 62, 42, 42, 180, 0, 9, 29, 184, 0, 66, 90, 181, 0, 9, 176, 42, 16, 10]
abbrev dktJ5_grow_2_1 : List UInt8 := dkwJ5_grow_2_1 ++ dktJ5_grow_2_2
def dkwJ5_grow_2_0 : List UInt8 := [42, 180, 0, 9, 190, 61, 28, 157, 0, 13, 42, 180, 0, 9, 178, 0, 39, 165, 0, 28, 28, 27, 28, 100]
abbrev dktJ5_grow_2_0 : List UInt8 := dkwJ5_grow_2_0 ++ dktJ5_grow_2_1
theorem dksJ5_grow_2_0 : cJ5_grow_2.data.toList.drop 0 = dktJ5_grow_2_0 := by decide +kernel
theorem dksJ5_grow_2_1 : cJ5_grow_2.data.toList.drop 24 = dktJ5_grow_2_1 := dk_seg dksJ5_grow_2_0 24 rfl rfl
theorem dksJ5_grow_2_2 : cJ5_grow_2.data.toList.drop 48 = dktJ5_grow_2_2 := dk_seg dksJ5_grow_2_1 24 rfl rfl
theorem dJ5_grow_2_0 : decode cJ5_grow_2 0 = .ok (.aload_n 0, 1) := dk_42 (dk_at dksJ5_grow_2_0 0 rfl rfl)
theorem dJ5_grow_2_1 : decode cJ5_grow_2 1 = .ok (.getfield 9, 3) := dk_180 0 9 (dk_at dksJ5_grow_2_0 1 rfl rfl)
theorem dJ5_grow_2_4 : decode cJ5_grow_2 4 = .ok (.arraylength, 1) := dk_190 (dk_at dksJ5_grow_2_0 4 rfl rfl)
theorem dJ5_grow_2_5 : decode cJ5_grow_2 5 = .ok (.istore_n 2, 1) := dk_61 (dk_at dksJ5_grow_2_0 5 rfl rfl)
theorem dJ5_grow_2_6 : decode cJ5_grow_2 6 = .ok (.iload_n 2, 1) := dk_28 (dk_at dksJ5_grow_2_0 6 rfl rfl)
theorem dJ5_grow_2_7 : decode cJ5_grow_2 7 = .ok (.ifCond .gt 13, 3) := dk_157 0 13 (dk_at dksJ5_grow_2_0 7 rfl rfl)
theorem dJ5_grow_2_10 : decode cJ5_grow_2 10 = .ok (.aload_n 0, 1) := dk_42 (dk_at dksJ5_grow_2_0 10 rfl rfl)
theorem dJ5_grow_2_11 : decode cJ5_grow_2 11 = .ok (.getfield 9, 3) := dk_180 0 9 (dk_at dksJ5_grow_2_0 11 rfl rfl)
theorem dJ5_grow_2_14 : decode cJ5_grow_2 14 = .ok (.getstatic 39, 3) := dk_178 0 39 (dk_at dksJ5_grow_2_0 14 rfl rfl)
theorem dJ5_grow_2_17 : decode cJ5_grow_2 17 = .ok (.if_acmp .eq 28, 3) := dk_165 0 28 (dk_at dksJ5_grow_2_0 17 rfl rfl)
theorem dJ5_grow_2_20 : decode cJ5_grow_2 20 = .ok (.iload_n 2, 1) := dk_28 (dk_at dksJ5_grow_2_0 20 rfl rfl)
theorem dJ5_grow_2_21 : decode cJ5_grow_2 21 = .ok (.iload_n 1, 1) := dk_27 (dk_at dksJ5_grow_2_0 21 rfl rfl)
theorem dJ5_grow_2_22 : decode cJ5_grow_2 22 = .ok (.iload_n 2, 1) := dk_28 (dk_at dksJ5_grow_2_0 22 rfl rfl)
theorem dJ5_grow_2_23 : decode cJ5_grow_2 23 = .ok (.isub, 1) := dk_100 (dk_at dksJ5_grow_2_0 23 rfl rfl)
theorem dJ5_grow_2_24 : decode cJ5_grow_2 24 = .ok (.iload_n 2, 1) := dk_28 (dk_at dksJ5_grow_2_1 0 rfl rfl)
theorem dJ5_grow_2_25 : decode cJ5_grow_2 25 = .ok (.iconst 1, 1) := dk_4 (dk_at dksJ5_grow_2_1 1 rfl rfl)
theorem dJ5_grow_2_26 : decode cJ5_grow_2 26 = .ok (.ishr, 1) := dk_122 (dk_at dksJ5_grow_2_1 2 rfl rfl)
theorem dJ5_grow_2_27 : decode cJ5_grow_2 27 = .ok (.invokestatic 73, 3) := dk_184 0 73 (dk_at dksJ5_grow_2_1 3 rfl rfl)
theorem dJ5_grow_2_30 : decode cJ5_grow_2 30 = .ok (.istore_n 3, 1) := dk_62 (dk_at dksJ5_grow_2_1 6 rfl rfl)
theorem dJ5_grow_2_31 : decode cJ5_grow_2 31 = .ok (.aload_n 0, 1) := dk_42 (dk_at dksJ5_grow_2_1 7 rfl rfl)
theorem dJ5_grow_2_32 : decode cJ5_grow_2 32 = .ok (.aload_n 0, 1) := dk_42 (dk_at dksJ5_grow_2_1 8 rfl rfl)
theorem dJ5_grow_2_33 : decode cJ5_grow_2 33 = .ok (.getfield 9, 3) := dk_180 0 9 (dk_at dksJ5_grow_2_1 9 rfl rfl)
theorem dJ5_grow_2_36 : decode cJ5_grow_2 36 = .ok (.iload_n 3, 1) := dk_29 (dk_at dksJ5_grow_2_1 12 rfl rfl)
theorem dJ5_grow_2_37 : decode cJ5_grow_2 37 = .ok (.invokestatic 66, 3) := dk_184 0 66 (dk_at dksJ5_grow_2_1 13 rfl rfl)
theorem dJ5_grow_2_40 : decode cJ5_grow_2 40 = .ok (.dup_x1, 1) := dk_90 (dk_at dksJ5_grow_2_1 16 rfl rfl)
theorem dJ5_grow_2_41 : decode cJ5_grow_2 41 = .ok (.putfield 9, 3) := dk_181 0 9 (dk_at dksJ5_grow_2_1 17 rfl rfl)
theorem dJ5_grow_2_44 : decode cJ5_grow_2 44 = .ok (.areturn, 1) := dk_176 (dk_at dksJ5_grow_2_1 20 rfl rfl)
theorem dJ5_grow_2_45 : decode cJ5_grow_2 45 = .ok (.aload_n 0, 1) := dk_42 (dk_at dksJ5_grow_2_1 21 rfl rfl)
theorem dJ5_grow_2_46 : decode cJ5_grow_2 46 = .ok (.bipush 10, 2) := dk_16 10 (dk_at dksJ5_grow_2_1 22 rfl rfl)
theorem dJ5_grow_2_48 : decode cJ5_grow_2 48 = .ok (.iload_n 1, 1) := dk_27 (dk_at dksJ5_grow_2_2 0 rfl rfl)
theorem dJ5_grow_2_49 : decode cJ5_grow_2 49 = .ok (.invokestatic 79, 3) := dk_184 0 79 (dk_at dksJ5_grow_2_2 1 rfl rfl)
theorem dJ5_grow_2_52 : decode cJ5_grow_2 52 = .ok (.anewarray 7, 3) := dk_189 0 7 (dk_at dksJ5_grow_2_2 4 rfl rfl)
theorem dJ5_grow_2_55 : decode cJ5_grow_2 55 = .ok (.dup_x1, 1) := dk_90 (dk_at dksJ5_grow_2_2 7 rfl rfl)
theorem dJ5_grow_2_56 : decode cJ5_grow_2 56 = .ok (.putfield 9, 3) := dk_181 0 9 (dk_at dksJ5_grow_2_2 8 rfl rfl)
theorem dJ5_grow_2_59 : decode cJ5_grow_2 59 = .ok (.areturn, 1) := dk_176 (dk_at dksJ5_grow_2_2 11 rfl rfl)
abbrev cJ5_get : ByteArray := prog_33_method_20_code
def yJ5_get : MethodName := ⟨RJ5, "get", "(I)Ljava/lang/Object;"⟩
def dkwJ5_get_0 : List UInt8 := [27, 42, 180, 0, 48, 184, 0, 118, 87, 42, 27, 182, 0, 123, 176]
abbrev dktJ5_get_0 : List UInt8 := dkwJ5_get_0 ++ []
theorem dksJ5_get_0 : cJ5_get.data.toList.drop 0 = dktJ5_get_0 := by decide +kernel
theorem dJ5_get_0 : decode cJ5_get 0 = .ok (.iload_n 1, 1) := dk_27 (dk_at dksJ5_get_0 0 rfl rfl)
theorem dJ5_get_1 : decode cJ5_get 1 = .ok (.aload_n 0, 1) := dk_42 (dk_at dksJ5_get_0 1 rfl rfl)
theorem dJ5_get_2 : decode cJ5_get 2 = .ok (.getfield 48, 3) := dk_180 0 48 (dk_at dksJ5_get_0 2 rfl rfl)
theorem dJ5_get_5 : decode cJ5_get 5 = .ok (.invokestatic 118, 3) := dk_184 0 118 (dk_at dksJ5_get_0 5 rfl rfl)
theorem dJ5_get_8 : decode cJ5_get 8 = .ok (.pop, 1) := dk_87 (dk_at dksJ5_get_0 8 rfl rfl)
theorem dJ5_get_9 : decode cJ5_get 9 = .ok (.aload_n 0, 1) := dk_42 (dk_at dksJ5_get_0 9 rfl rfl)
theorem dJ5_get_10 : decode cJ5_get 10 = .ok (.iload_n 1, 1) := dk_27 (dk_at dksJ5_get_0 10 rfl rfl)
theorem dJ5_get_11 : decode cJ5_get 11 = .ok (.invokevirtual 123, 3) := dk_182 0 123 (dk_at dksJ5_get_0 11 rfl rfl)
theorem dJ5_get_14 : decode cJ5_get 14 = .ok (.areturn, 1) := dk_176 (dk_at dksJ5_get_0 14 rfl rfl)
abbrev cJ5_elementData : ByteArray := prog_33_method_18_code
def yJ5_elementData : MethodName := ⟨RJ5, "elementData", "(I)Ljava/lang/Object;"⟩
def dkwJ5_elementData_0 : List UInt8 := [42, 180, 0, 9, 27, 50, 176]
abbrev dktJ5_elementData_0 : List UInt8 := dkwJ5_elementData_0 ++ []
theorem dksJ5_elementData_0 : cJ5_elementData.data.toList.drop 0 = dktJ5_elementData_0 := by decide +kernel
theorem dJ5_elementData_0 : decode cJ5_elementData 0 = .ok (.aload_n 0, 1) := dk_42 (dk_at dksJ5_elementData_0 0 rfl rfl)
theorem dJ5_elementData_1 : decode cJ5_elementData 1 = .ok (.getfield 9, 3) := dk_180 0 9 (dk_at dksJ5_elementData_0 1 rfl rfl)
theorem dJ5_elementData_4 : decode cJ5_elementData 4 = .ok (.iload_n 1, 1) := dk_27 (dk_at dksJ5_elementData_0 4 rfl rfl)
theorem dJ5_elementData_5 : decode cJ5_elementData 5 = .ok (.aaload, 1) := dk_50 (dk_at dksJ5_elementData_0 5 rfl rfl)
theorem dJ5_elementData_6 : decode cJ5_elementData 6 = .ok (.areturn, 1) := dk_176 (dk_at dksJ5_elementData_0 6 rfl rfl)
abbrev cJ5_indexOf : ByteArray := prog_33_method_11_code
def yJ5_indexOf : MethodName := ⟨RJ5, "indexOf", "(Ljava/lang/Object;)I"⟩
def dkwJ5_indexOf_0 : List UInt8 := [42, 43, 3, 42, 180, 0, 48, 182, 0, 89, 172]
abbrev dktJ5_indexOf_0 : List UInt8 := dkwJ5_indexOf_0 ++ []
theorem dksJ5_indexOf_0 : cJ5_indexOf.data.toList.drop 0 = dktJ5_indexOf_0 := by decide +kernel
theorem dJ5_indexOf_0 : decode cJ5_indexOf 0 = .ok (.aload_n 0, 1) := dk_42 (dk_at dksJ5_indexOf_0 0 rfl rfl)
theorem dJ5_indexOf_1 : decode cJ5_indexOf 1 = .ok (.aload_n 1, 1) := dk_43 (dk_at dksJ5_indexOf_0 1 rfl rfl)
theorem dJ5_indexOf_2 : decode cJ5_indexOf 2 = .ok (.iconst 0, 1) := dk_3 (dk_at dksJ5_indexOf_0 2 rfl rfl)
theorem dJ5_indexOf_3 : decode cJ5_indexOf 3 = .ok (.aload_n 0, 1) := dk_42 (dk_at dksJ5_indexOf_0 3 rfl rfl)
theorem dJ5_indexOf_4 : decode cJ5_indexOf 4 = .ok (.getfield 48, 3) := dk_180 0 48 (dk_at dksJ5_indexOf_0 4 rfl rfl)
theorem dJ5_indexOf_7 : decode cJ5_indexOf 7 = .ok (.invokevirtual 89, 3) := dk_182 0 89 (dk_at dksJ5_indexOf_0 7 rfl rfl)
theorem dJ5_indexOf_10 : decode cJ5_indexOf 10 = .ok (.ireturn, 1) := dk_172 (dk_at dksJ5_indexOf_0 10 rfl rfl)
abbrev cJ5_indexOfRange : ByteArray := prog_33_method_12_code
def yJ5_indexOfRange : MethodName := ⟨RJ5, "indexOfRange", "(Ljava/lang/Object;II)I"⟩
def dkwJ5_indexOfRange_2 : List UInt8 := [43, 25, 4, 21, 5, 50, 182, 0, 93, 153, 0, 6, 21, 5, 172, 132, 5, 1, 167, 255, 232, 2, 172]
abbrev dktJ5_indexOfRange_2 : List UInt8 := dkwJ5_indexOfRange_2 ++ []
def dkwJ5_indexOfRange_1 : List UInt8 := [199, 0, 6, 21, 5, 172, 132, 5, 1, 167, 255, 236, 167, 0, 33, 28, 54, 5, 21, 5, 29, 162, 0, 24]
abbrev dktJ5_indexOfRange_1 : List UInt8 := dkwJ5_indexOfRange_1 ++ dktJ5_indexOfRange_2
def dkwJ5_indexOfRange_0 : List UInt8 := [42, 180, 0, 9, 58, 4, 43, 199, 0, 32, 28, 54, 5, 21, 5, 29, 162, 0, 20, 25, 4, 21, 5, 50]
abbrev dktJ5_indexOfRange_0 : List UInt8 := dkwJ5_indexOfRange_0 ++ dktJ5_indexOfRange_1
theorem dksJ5_indexOfRange_0 : cJ5_indexOfRange.data.toList.drop 0 = dktJ5_indexOfRange_0 := by decide +kernel
theorem dksJ5_indexOfRange_1 : cJ5_indexOfRange.data.toList.drop 24 = dktJ5_indexOfRange_1 := dk_seg dksJ5_indexOfRange_0 24 rfl rfl
theorem dksJ5_indexOfRange_2 : cJ5_indexOfRange.data.toList.drop 48 = dktJ5_indexOfRange_2 := dk_seg dksJ5_indexOfRange_1 24 rfl rfl
theorem dJ5_indexOfRange_0 : decode cJ5_indexOfRange 0 = .ok (.aload_n 0, 1) := dk_42 (dk_at dksJ5_indexOfRange_0 0 rfl rfl)
theorem dJ5_indexOfRange_1 : decode cJ5_indexOfRange 1 = .ok (.getfield 9, 3) := dk_180 0 9 (dk_at dksJ5_indexOfRange_0 1 rfl rfl)
theorem dJ5_indexOfRange_4 : decode cJ5_indexOfRange 4 = .ok (.astore 4, 2) := dk_58 4 (dk_at dksJ5_indexOfRange_0 4 rfl rfl)
theorem dJ5_indexOfRange_6 : decode cJ5_indexOfRange 6 = .ok (.aload_n 1, 1) := dk_43 (dk_at dksJ5_indexOfRange_0 6 rfl rfl)
theorem dJ5_indexOfRange_7 : decode cJ5_indexOfRange 7 = .ok (.ifnonnull 32, 3) := dk_199 0 32 (dk_at dksJ5_indexOfRange_0 7 rfl rfl)
theorem dJ5_indexOfRange_10 : decode cJ5_indexOfRange 10 = .ok (.iload_n 2, 1) := dk_28 (dk_at dksJ5_indexOfRange_0 10 rfl rfl)
theorem dJ5_indexOfRange_11 : decode cJ5_indexOfRange 11 = .ok (.istore 5, 2) := dk_54 5 (dk_at dksJ5_indexOfRange_0 11 rfl rfl)
theorem dJ5_indexOfRange_13 : decode cJ5_indexOfRange 13 = .ok (.iload 5, 2) := dk_21 5 (dk_at dksJ5_indexOfRange_0 13 rfl rfl)
theorem dJ5_indexOfRange_15 : decode cJ5_indexOfRange 15 = .ok (.iload_n 3, 1) := dk_29 (dk_at dksJ5_indexOfRange_0 15 rfl rfl)
theorem dJ5_indexOfRange_16 : decode cJ5_indexOfRange 16 = .ok (.if_icmp .ge 20, 3) := dk_162 0 20 (dk_at dksJ5_indexOfRange_0 16 rfl rfl)
theorem dJ5_indexOfRange_19 : decode cJ5_indexOfRange 19 = .ok (.aload 4, 2) := dk_25 4 (dk_at dksJ5_indexOfRange_0 19 rfl rfl)
theorem dJ5_indexOfRange_21 : decode cJ5_indexOfRange 21 = .ok (.iload 5, 2) := dk_21 5 (dk_at dksJ5_indexOfRange_0 21 rfl rfl)
theorem dJ5_indexOfRange_23 : decode cJ5_indexOfRange 23 = .ok (.aaload, 1) := dk_50 (dk_at dksJ5_indexOfRange_0 23 rfl rfl)
theorem dJ5_indexOfRange_24 : decode cJ5_indexOfRange 24 = .ok (.ifnonnull 6, 3) := dk_199 0 6 (dk_at dksJ5_indexOfRange_1 0 rfl rfl)
theorem dJ5_indexOfRange_27 : decode cJ5_indexOfRange 27 = .ok (.iload 5, 2) := dk_21 5 (dk_at dksJ5_indexOfRange_1 3 rfl rfl)
theorem dJ5_indexOfRange_29 : decode cJ5_indexOfRange 29 = .ok (.ireturn, 1) := dk_172 (dk_at dksJ5_indexOfRange_1 5 rfl rfl)
theorem dJ5_indexOfRange_30 : decode cJ5_indexOfRange 30 = .ok (.iinc 5 1, 3) := dk_132 5 1 (dk_at dksJ5_indexOfRange_1 6 rfl rfl)
theorem dJ5_indexOfRange_33 : decode cJ5_indexOfRange 33 = .ok (.goto (-20), 3) := dk_167 255 236 (dk_at dksJ5_indexOfRange_1 9 rfl rfl)
theorem dJ5_indexOfRange_36 : decode cJ5_indexOfRange 36 = .ok (.goto 33, 3) := dk_167 0 33 (dk_at dksJ5_indexOfRange_1 12 rfl rfl)
theorem dJ5_indexOfRange_39 : decode cJ5_indexOfRange 39 = .ok (.iload_n 2, 1) := dk_28 (dk_at dksJ5_indexOfRange_1 15 rfl rfl)
theorem dJ5_indexOfRange_40 : decode cJ5_indexOfRange 40 = .ok (.istore 5, 2) := dk_54 5 (dk_at dksJ5_indexOfRange_1 16 rfl rfl)
theorem dJ5_indexOfRange_42 : decode cJ5_indexOfRange 42 = .ok (.iload 5, 2) := dk_21 5 (dk_at dksJ5_indexOfRange_1 18 rfl rfl)
theorem dJ5_indexOfRange_44 : decode cJ5_indexOfRange 44 = .ok (.iload_n 3, 1) := dk_29 (dk_at dksJ5_indexOfRange_1 20 rfl rfl)
theorem dJ5_indexOfRange_45 : decode cJ5_indexOfRange 45 = .ok (.if_icmp .ge 24, 3) := dk_162 0 24 (dk_at dksJ5_indexOfRange_1 21 rfl rfl)
theorem dJ5_indexOfRange_48 : decode cJ5_indexOfRange 48 = .ok (.aload_n 1, 1) := dk_43 (dk_at dksJ5_indexOfRange_2 0 rfl rfl)
theorem dJ5_indexOfRange_49 : decode cJ5_indexOfRange 49 = .ok (.aload 4, 2) := dk_25 4 (dk_at dksJ5_indexOfRange_2 1 rfl rfl)
theorem dJ5_indexOfRange_51 : decode cJ5_indexOfRange 51 = .ok (.iload 5, 2) := dk_21 5 (dk_at dksJ5_indexOfRange_2 3 rfl rfl)
theorem dJ5_indexOfRange_53 : decode cJ5_indexOfRange 53 = .ok (.aaload, 1) := dk_50 (dk_at dksJ5_indexOfRange_2 5 rfl rfl)
theorem dJ5_indexOfRange_54 : decode cJ5_indexOfRange 54 = .ok (.invokevirtual 93, 3) := dk_182 0 93 (dk_at dksJ5_indexOfRange_2 6 rfl rfl)
theorem dJ5_indexOfRange_57 : decode cJ5_indexOfRange 57 = .ok (.ifCond .eq 6, 3) := dk_153 0 6 (dk_at dksJ5_indexOfRange_2 9 rfl rfl)
theorem dJ5_indexOfRange_60 : decode cJ5_indexOfRange 60 = .ok (.iload 5, 2) := dk_21 5 (dk_at dksJ5_indexOfRange_2 12 rfl rfl)
theorem dJ5_indexOfRange_62 : decode cJ5_indexOfRange 62 = .ok (.ireturn, 1) := dk_172 (dk_at dksJ5_indexOfRange_2 14 rfl rfl)
theorem dJ5_indexOfRange_63 : decode cJ5_indexOfRange 63 = .ok (.iinc 5 1, 3) := dk_132 5 1 (dk_at dksJ5_indexOfRange_2 15 rfl rfl)
theorem dJ5_indexOfRange_66 : decode cJ5_indexOfRange 66 = .ok (.goto (-24), 3) := dk_167 255 232 (dk_at dksJ5_indexOfRange_2 18 rfl rfl)
theorem dJ5_indexOfRange_69 : decode cJ5_indexOfRange 69 = .ok (.iconst (-1), 1) := dk_2 (dk_at dksJ5_indexOfRange_2 21 rfl rfl)
theorem dJ5_indexOfRange_70 : decode cJ5_indexOfRange 70 = .ok (.ireturn, 1) := dk_172 (dk_at dksJ5_indexOfRange_2 22 rfl rfl)
theorem q89 : (Jvm.Cond.initialized "java/util/ArrayList") ∈ lw_all := lw_g (lw_at lw_m1 9 rfl) rfl
theorem q202 : (Jvm.Cond.instantiable "java/util/ArrayList" (3 : Nat)) ∈ lw_all := lw_g (lw_at lw_m1 122 rfl) rfl
theorem q204 : (Jvm.Cond.instanceMethod ({ cls := "java/util/ArrayList", name := "<init>", desc := "()V" } : Jvm.MethodName)) ∈ lw_all := lw_g (lw_at lw_m1 124 rfl) rfl
theorem q205 : (Jvm.Cond.code ({ cls := "java/util/ArrayList", name := "<init>", desc := "()V" } : Jvm.MethodName) prog_33_method_2_code (1 : Nat) (Option.none : Option Jvm.ClassFile.FieldType)) ∈ lw_all := lw_g (lw_at lw_m1 125 rfl) rfl
theorem q206 : (Jvm.Cond.methodLink "java/util/ArrayList" (1 : Nat) ({ cls := "java/util/AbstractList", name := "<init>", desc := "()V" } : Jvm.MethodName)) ∈ lw_all := lw_g (lw_at lw_m1 126 rfl) rfl
theorem q213 : (Jvm.Cond.fieldLink "java/util/ArrayList" (39 : Nat) "java/util/ArrayList" "DEFAULTCAPACITY_EMPTY_ELEMENTDATA" "[Ljava/lang/Object;") ∈ lw_all := lw_g (lw_at lw_m1 133 rfl) rfl
theorem q214 : (Jvm.Cond.laysStatic "java/util/ArrayList" "DEFAULTCAPACITY_EMPTY_ELEMENTDATA" "[Ljava/lang/Object;") ∈ lw_tbl := lw_at lw_m1 134 rfl
theorem q215 : (Jvm.Cond.fieldLink "java/util/ArrayList" (9 : Nat) "java/util/ArrayList" "elementData" "[Ljava/lang/Object;") ∈ lw_all := lw_g (lw_at lw_m1 135 rfl) rfl
theorem q216 : (Jvm.Cond.fieldLink "java/util/ArrayList" (48 : Nat) "java/util/ArrayList" "size" "I") ∈ lw_all := lw_g (lw_at lw_m1 136 rfl) rfl
theorem q218 : (Jvm.Cond.fieldLink "java/util/ArrayList" (63 : Nat) "java/util/ArrayList" "modCount" "I") ∈ lw_all := lw_g (lw_at lw_m1 138 rfl) rfl
theorem q219 : (Jvm.Cond.sameField "java/util/ArrayList" "java/util/AbstractList" "modCount" "I") ∈ lw_all := lw_g (lw_at lw_m1 139 rfl) rfl
theorem q220 : (Jvm.Cond.lays "java/util/ArrayList" "java/util/ArrayList" "elementData" "[Ljava/lang/Object;") ∈ lw_all := lw_g (lw_at lw_m1 140 rfl) rfl
theorem q221 : (Jvm.Cond.soleField "java/util/ArrayList" "elementData") ∈ lw_all := lw_g (lw_at lw_m1 141 rfl) rfl
theorem q222 : (Jvm.Cond.lays "java/util/ArrayList" "java/util/ArrayList" "size" "I") ∈ lw_all := lw_g (lw_at lw_m1 142 rfl) rfl
theorem q223 : (Jvm.Cond.soleField "java/util/ArrayList" "size") ∈ lw_all := lw_g (lw_at lw_m1 143 rfl) rfl
theorem q224 : (Jvm.Cond.lays "java/util/ArrayList" "java/util/AbstractList" "modCount" "I") ∈ lw_all := lw_g (lw_at lw_m1 144 rfl) rfl
theorem q226 : (Jvm.Cond.superclass "java/util/ArrayList" "java/util/AbstractList") ∈ lw_all := lw_g (lw_at lw_m1 146 rfl) rfl
theorem q352 : (Jvm.Cond.instanceMethod ({ cls := "java/util/ArrayList", name := "clear", desc := "()V" } : Jvm.MethodName)) ∈ lw_all := lw_g (lw_at lw_m2 32 rfl) rfl
theorem q353 : (Jvm.Cond.selects "java/util/ArrayList" ({ cls := "java/util/ArrayList", name := "clear", desc := "()V" } : Jvm.MethodName) ({ cls := "java/util/ArrayList", name := "clear", desc := "()V" } : Jvm.MethodName)) ∈ lw_all := lw_g (lw_at lw_m2 33 rfl) rfl
theorem q354 : (Jvm.Cond.code ({ cls := "java/util/ArrayList", name := "clear", desc := "()V" } : Jvm.MethodName) prog_33_method_40_code (4 : Nat) (Option.none : Option Jvm.ClassFile.FieldType)) ∈ lw_all := lw_g (lw_at lw_m2 34 rfl) rfl
theorem q545 : (Jvm.Cond.instanceMethod ({ cls := "java/util/ArrayList", name := "<init>", desc := "(I)V" } : Jvm.MethodName)) ∈ lw_all := lw_g (lw_at lw_m2 225 rfl) rfl
theorem q546 : (Jvm.Cond.code ({ cls := "java/util/ArrayList", name := "<init>", desc := "(I)V" } : Jvm.MethodName) prog_33_method_1_code (2 : Nat) (Option.none : Option Jvm.ClassFile.FieldType)) ∈ lw_all := lw_g (lw_at lw_m2 226 rfl) rfl
theorem q547 : (Jvm.Cond.classLink "java/util/ArrayList" (7 : Nat) "java/lang/Object") ∈ lw_all := lw_g (lw_at lw_m2 227 rfl) rfl
theorem q549 : (Jvm.Cond.fieldLink "java/util/ArrayList" (15 : Nat) "java/util/ArrayList" "EMPTY_ELEMENTDATA" "[Ljava/lang/Object;") ∈ lw_all := lw_g (lw_at lw_m2 229 rfl) rfl
theorem q550 : (Jvm.Cond.laysStatic "java/util/ArrayList" "EMPTY_ELEMENTDATA" "[Ljava/lang/Object;") ∈ lw_tbl := lw_at lw_m2 230 rfl
theorem q630 : (Jvm.Cond.instanceMethod ({ cls := "java/util/ArrayList", name := "size", desc := "()I" } : Jvm.MethodName)) ∈ lw_all := lw_g (lw_at lw_m3 70 rfl) rfl
theorem q631 : (Jvm.Cond.selects "java/util/ArrayList" ({ cls := "java/util/ArrayList", name := "size", desc := "()I" } : Jvm.MethodName) ({ cls := "java/util/ArrayList", name := "size", desc := "()I" } : Jvm.MethodName)) ∈ lw_all := lw_g (lw_at lw_m3 71 rfl) rfl
theorem q632 : (Jvm.Cond.code ({ cls := "java/util/ArrayList", name := "size", desc := "()I" } : Jvm.MethodName) prog_33_method_8_code (1 : Nat) (Option.some Jvm.ClassFile.FieldType.int)) ∈ lw_all := lw_g (lw_at lw_m3 72 rfl) rfl
theorem q634 : (Jvm.Cond.instanceMethod ({ cls := "java/util/ArrayList", name := "add", desc := "(Ljava/lang/Object;)Z" } : Jvm.MethodName)) ∈ lw_all := lw_g (lw_at lw_m3 74 rfl) rfl
theorem q635 : (Jvm.Cond.selects "java/util/ArrayList" ({ cls := "java/util/ArrayList", name := "add", desc := "(Ljava/lang/Object;)Z" } : Jvm.MethodName) ({ cls := "java/util/ArrayList", name := "add", desc := "(Ljava/lang/Object;)Z" } : Jvm.MethodName)) ∈ lw_all := lw_g (lw_at lw_m3 75 rfl) rfl
theorem q636 : (Jvm.Cond.code ({ cls := "java/util/ArrayList", name := "add", desc := "(Ljava/lang/Object;)Z" } : Jvm.MethodName) prog_33_method_25_code (2 : Nat) (Option.some Jvm.ClassFile.FieldType.boolean)) ∈ lw_all := lw_g (lw_at lw_m3 76 rfl) rfl
theorem q637 : (Jvm.Cond.methodLink "java/util/ArrayList" (131 : Nat) ({ cls := "java/util/ArrayList", name := "add", desc := "(Ljava/lang/Object;[Ljava/lang/Object;I)V" } : Jvm.MethodName)) ∈ lw_all := lw_g (lw_at lw_m3 77 rfl) rfl
theorem q638 : (Jvm.Cond.privateMethod ({ cls := "java/util/ArrayList", name := "add", desc := "(Ljava/lang/Object;[Ljava/lang/Object;I)V" } : Jvm.MethodName)) ∈ lw_tbl := lw_at lw_m3 78 rfl
theorem q639 : (Jvm.Cond.instanceMethod ({ cls := "java/util/ArrayList", name := "add", desc := "(Ljava/lang/Object;[Ljava/lang/Object;I)V" } : Jvm.MethodName)) ∈ lw_all := lw_g (lw_at lw_m3 79 rfl) rfl
theorem q640 : (Jvm.Cond.code ({ cls := "java/util/ArrayList", name := "add", desc := "(Ljava/lang/Object;[Ljava/lang/Object;I)V" } : Jvm.MethodName) prog_33_method_24_code (4 : Nat) (Option.none : Option Jvm.ClassFile.FieldType)) ∈ lw_all := lw_g (lw_at lw_m3 80 rfl) rfl
theorem q641 : (Jvm.Cond.methodLink "java/util/ArrayList" (129 : Nat) ({ cls := "java/util/ArrayList", name := "grow", desc := "()[Ljava/lang/Object;" } : Jvm.MethodName)) ∈ lw_all := lw_g (lw_at lw_m3 81 rfl) rfl
theorem q642 : (Jvm.Cond.privateMethod ({ cls := "java/util/ArrayList", name := "grow", desc := "()[Ljava/lang/Object;" } : Jvm.MethodName)) ∈ lw_tbl := lw_at lw_m3 82 rfl
theorem q643 : (Jvm.Cond.instanceMethod ({ cls := "java/util/ArrayList", name := "grow", desc := "()[Ljava/lang/Object;" } : Jvm.MethodName)) ∈ lw_all := lw_g (lw_at lw_m3 83 rfl) rfl
theorem q644 : (Jvm.Cond.code ({ cls := "java/util/ArrayList", name := "grow", desc := "()[Ljava/lang/Object;" } : Jvm.MethodName) prog_33_method_7_code (1 : Nat) (Option.some (Jvm.ClassFile.FieldType.array (Jvm.ClassFile.FieldType.object "java/lang/Object")))) ∈ lw_all := lw_g (lw_at lw_m3 84 rfl) rfl
theorem q645 : (Jvm.Cond.methodLink "java/util/ArrayList" (69 : Nat) ({ cls := "java/util/ArrayList", name := "grow", desc := "(I)[Ljava/lang/Object;" } : Jvm.MethodName)) ∈ lw_all := lw_g (lw_at lw_m3 85 rfl) rfl
theorem q646 : (Jvm.Cond.privateMethod ({ cls := "java/util/ArrayList", name := "grow", desc := "(I)[Ljava/lang/Object;" } : Jvm.MethodName)) ∈ lw_tbl := lw_at lw_m3 86 rfl
theorem q647 : (Jvm.Cond.instanceMethod ({ cls := "java/util/ArrayList", name := "grow", desc := "(I)[Ljava/lang/Object;" } : Jvm.MethodName)) ∈ lw_all := lw_g (lw_at lw_m3 87 rfl) rfl
theorem q648 : (Jvm.Cond.code ({ cls := "java/util/ArrayList", name := "grow", desc := "(I)[Ljava/lang/Object;" } : Jvm.MethodName) prog_33_method_6_code (4 : Nat) (Option.some (Jvm.ClassFile.FieldType.array (Jvm.ClassFile.FieldType.object "java/lang/Object")))) ∈ lw_all := lw_g (lw_at lw_m3 88 rfl) rfl
theorem q649 : (Jvm.Cond.methodLink "java/util/ArrayList" (73 : Nat) ({ cls := "jdk/internal/util/ArraysSupport", name := "newLength", desc := "(III)I" } : Jvm.MethodName)) ∈ lw_all := lw_g (lw_at lw_m3 89 rfl) rfl
theorem q659 : (Jvm.Cond.methodLink "java/util/ArrayList" (66 : Nat) ({ cls := "java/util/Arrays", name := "copyOf", desc := "([Ljava/lang/Object;I)[Ljava/lang/Object;" } : Jvm.MethodName)) ∈ lw_all := lw_g (lw_at lw_m3 99 rfl) rfl
theorem q678 : (Jvm.Cond.selects "java/util/ArrayList" ({ cls := "java/lang/Object", name := "getClass", desc := "()Ljava/lang/Class;" } : Jvm.MethodName) ({ cls := "java/lang/Object", name := "getClass", desc := "()Ljava/lang/Class;" } : Jvm.MethodName)) ∈ lw_all := lw_g (lw_at lw_m3 118 rfl) rfl
theorem q691 : (Jvm.Cond.methodLink "java/util/ArrayList" (79 : Nat) ({ cls := "java/lang/Math", name := "max", desc := "(II)I" } : Jvm.MethodName)) ∈ lw_all := lw_g (lw_at lw_m3 131 rfl) rfl
theorem q890 : (Jvm.Cond.instanceMethod ({ cls := "java/util/ArrayList", name := "get", desc := "(I)Ljava/lang/Object;" } : Jvm.MethodName)) ∈ lw_all := lw_g (lw_at lw_m4 90 rfl) rfl
theorem q891 : (Jvm.Cond.selects "java/util/ArrayList" ({ cls := "java/util/ArrayList", name := "get", desc := "(I)Ljava/lang/Object;" } : Jvm.MethodName) ({ cls := "java/util/ArrayList", name := "get", desc := "(I)Ljava/lang/Object;" } : Jvm.MethodName)) ∈ lw_all := lw_g (lw_at lw_m4 91 rfl) rfl
theorem q892 : (Jvm.Cond.code ({ cls := "java/util/ArrayList", name := "get", desc := "(I)Ljava/lang/Object;" } : Jvm.MethodName) prog_33_method_20_code (2 : Nat) (Option.some (Jvm.ClassFile.FieldType.object "java/lang/Object"))) ∈ lw_all := lw_g (lw_at lw_m4 92 rfl) rfl
theorem q893 : (Jvm.Cond.methodLink "java/util/ArrayList" (118 : Nat) ({ cls := "java/util/Objects", name := "checkIndex", desc := "(II)I" } : Jvm.MethodName)) ∈ lw_all := lw_g (lw_at lw_m4 93 rfl) rfl
theorem q897 : (Jvm.Cond.methodLink "java/util/ArrayList" (123 : Nat) ({ cls := "java/util/ArrayList", name := "elementData", desc := "(I)Ljava/lang/Object;" } : Jvm.MethodName)) ∈ lw_all := lw_g (lw_at lw_m4 97 rfl) rfl
theorem q898 : (Jvm.Cond.instanceMethod ({ cls := "java/util/ArrayList", name := "elementData", desc := "(I)Ljava/lang/Object;" } : Jvm.MethodName)) ∈ lw_all := lw_g (lw_at lw_m4 98 rfl) rfl
theorem q899 : (Jvm.Cond.selects "java/util/ArrayList" ({ cls := "java/util/ArrayList", name := "elementData", desc := "(I)Ljava/lang/Object;" } : Jvm.MethodName) ({ cls := "java/util/ArrayList", name := "elementData", desc := "(I)Ljava/lang/Object;" } : Jvm.MethodName)) ∈ lw_all := lw_g (lw_at lw_m4 99 rfl) rfl
theorem q900 : (Jvm.Cond.code ({ cls := "java/util/ArrayList", name := "elementData", desc := "(I)Ljava/lang/Object;" } : Jvm.MethodName) prog_33_method_18_code (2 : Nat) (Option.some (Jvm.ClassFile.FieldType.object "java/lang/Object"))) ∈ lw_all := lw_g (lw_at lw_m4 100 rfl) rfl
theorem q902 : (Jvm.Cond.instanceMethod ({ cls := "java/util/ArrayList", name := "indexOf", desc := "(Ljava/lang/Object;)I" } : Jvm.MethodName)) ∈ lw_all := lw_g (lw_at lw_m4 102 rfl) rfl
theorem q903 : (Jvm.Cond.selects "java/util/ArrayList" ({ cls := "java/util/ArrayList", name := "indexOf", desc := "(Ljava/lang/Object;)I" } : Jvm.MethodName) ({ cls := "java/util/ArrayList", name := "indexOf", desc := "(Ljava/lang/Object;)I" } : Jvm.MethodName)) ∈ lw_all := lw_g (lw_at lw_m4 103 rfl) rfl
theorem q904 : (Jvm.Cond.code ({ cls := "java/util/ArrayList", name := "indexOf", desc := "(Ljava/lang/Object;)I" } : Jvm.MethodName) prog_33_method_11_code (2 : Nat) (Option.some Jvm.ClassFile.FieldType.int)) ∈ lw_all := lw_g (lw_at lw_m4 104 rfl) rfl
theorem q905 : (Jvm.Cond.methodLink "java/util/ArrayList" (89 : Nat) ({ cls := "java/util/ArrayList", name := "indexOfRange", desc := "(Ljava/lang/Object;II)I" } : Jvm.MethodName)) ∈ lw_all := lw_g (lw_at lw_m4 105 rfl) rfl
theorem q906 : (Jvm.Cond.instanceMethod ({ cls := "java/util/ArrayList", name := "indexOfRange", desc := "(Ljava/lang/Object;II)I" } : Jvm.MethodName)) ∈ lw_all := lw_g (lw_at lw_m4 106 rfl) rfl
theorem q907 : (Jvm.Cond.selects "java/util/ArrayList" ({ cls := "java/util/ArrayList", name := "indexOfRange", desc := "(Ljava/lang/Object;II)I" } : Jvm.MethodName) ({ cls := "java/util/ArrayList", name := "indexOfRange", desc := "(Ljava/lang/Object;II)I" } : Jvm.MethodName)) ∈ lw_all := lw_g (lw_at lw_m4 107 rfl) rfl
theorem q908 : (Jvm.Cond.code ({ cls := "java/util/ArrayList", name := "indexOfRange", desc := "(Ljava/lang/Object;II)I" } : Jvm.MethodName) prog_33_method_12_code (6 : Nat) (Option.some Jvm.ClassFile.FieldType.int)) ∈ lw_all := lw_g (lw_at lw_m4 108 rfl) rfl
theorem q910 : (Jvm.Cond.methodLink "java/util/ArrayList" (93 : Nat) ({ cls := "java/lang/Object", name := "equals", desc := "(Ljava/lang/Object;)Z" } : Jvm.MethodName)) ∈ lw_all := lw_g (lw_at lw_m4 110 rfl) rfl
theorem q1653 : (Jvm.Cond.castable "java/util/ArrayList" "java/lang/Object") ∈ lw_tbl := lw_at lw_m7 133 rfl
theorem in_J5 : ∀ w ∈ wsJ50, w ∈ lw_all := lw_in wsJ50 [224, 220, 222] (by decide +kernel) (by decide +kernel)
/-! java/lang/String -/
set_option maxRecDepth 100000
def RJ6 : String := "java/lang/String"
def TJ6 : u_T := fun k => match k with
  | 0 => ("java/lang/String", "value", "[B", true)
  | 1 => ("java/lang/String", "coder", "B", true)
  | 2 => ("java/lang/String", "hash", "I", false)
  | _ => ("java/lang/String", "hashIsZero", "Z", false)
def tyJ6 : Nat → FieldType := fun k => match k with
  | 0 => .array .byte
  | 1 => .byte
  | 2 => .int
  | _ => .boolean
abbrev wsJ60 : List Cond := u_ws RJ6 TJ6 4
theorem nmJ6 : ∀ a, a < 4 → ∀ b, b < 4 → a ≠ b → (TJ6 a).2.1 ≠ (TJ6 b).2.1 := by decide +kernel
theorem tyJ6_ok : ∀ k, k < 4 → parseFieldDescriptor (TJ6 k).2.2.1 = some (tyJ6 k) := by decide +kernel
abbrev cJ6_length : ByteArray := prog_23_method_54_code
def yJ6_length : MethodName := ⟨RJ6, "length", "()I"⟩
def dkwJ6_length_0 : List UInt8 := [42, 180, 0, 9, 190, 42, 182, 1, 79, 122, 172]
abbrev dktJ6_length_0 : List UInt8 := dkwJ6_length_0 ++ []
theorem dksJ6_length_0 : cJ6_length.data.toList.drop 0 = dktJ6_length_0 := by decide +kernel
theorem dJ6_length_0 : decode cJ6_length 0 = .ok (.aload_n 0, 1) := dk_42 (dk_at dksJ6_length_0 0 rfl rfl)
theorem dJ6_length_1 : decode cJ6_length 1 = .ok (.getfield 9, 3) := dk_180 0 9 (dk_at dksJ6_length_0 1 rfl rfl)
theorem dJ6_length_4 : decode cJ6_length 4 = .ok (.arraylength, 1) := dk_190 (dk_at dksJ6_length_0 4 rfl rfl)
theorem dJ6_length_5 : decode cJ6_length 5 = .ok (.aload_n 0, 1) := dk_42 (dk_at dksJ6_length_0 5 rfl rfl)
theorem dJ6_length_6 : decode cJ6_length 6 = .ok (.invokevirtual 335, 3) := dk_182 1 79 (dk_at dksJ6_length_0 6 rfl rfl)
theorem dJ6_length_9 : decode cJ6_length 9 = .ok (.ishr, 1) := dk_122 (dk_at dksJ6_length_0 9 rfl rfl)
theorem dJ6_length_10 : decode cJ6_length 10 = .ok (.ireturn, 1) := dk_172 (dk_at dksJ6_length_0 10 rfl rfl)
abbrev cJ6_coder : ByteArray := prog_23_method_152_code
def yJ6_coder : MethodName := ⟨RJ6, "coder", "()B"⟩
def dkwJ6_coder_0 : List UInt8 := [178, 0, 38, 153, 0, 10, 42, 180, 0, 15, 167, 0, 4, 4, 172]
abbrev dktJ6_coder_0 : List UInt8 := dkwJ6_coder_0 ++ []
theorem dksJ6_coder_0 : cJ6_coder.data.toList.drop 0 = dktJ6_coder_0 := by decide +kernel
theorem dJ6_coder_0 : decode cJ6_coder 0 = .ok (.getstatic 38, 3) := dk_178 0 38 (dk_at dksJ6_coder_0 0 rfl rfl)
theorem dJ6_coder_3 : decode cJ6_coder 3 = .ok (.ifCond .eq 10, 3) := dk_153 0 10 (dk_at dksJ6_coder_0 3 rfl rfl)
theorem dJ6_coder_6 : decode cJ6_coder 6 = .ok (.aload_n 0, 1) := dk_42 (dk_at dksJ6_coder_0 6 rfl rfl)
theorem dJ6_coder_7 : decode cJ6_coder 7 = .ok (.getfield 15, 3) := dk_180 0 15 (dk_at dksJ6_coder_0 7 rfl rfl)
theorem dJ6_coder_10 : decode cJ6_coder 10 = .ok (.goto 4, 3) := dk_167 0 4 (dk_at dksJ6_coder_0 10 rfl rfl)
theorem dJ6_coder_13 : decode cJ6_coder 13 = .ok (.iconst 1, 1) := dk_4 (dk_at dksJ6_coder_0 13 rfl rfl)
theorem dJ6_coder_14 : decode cJ6_coder 14 = .ok (.ireturn, 1) := dk_172 (dk_at dksJ6_coder_0 14 rfl rfl)
abbrev cJ6_valueOf : ByteArray := prog_23_method_134_code
def yJ6_valueOf : MethodName := ⟨RJ6, "valueOf", "([C)Ljava/lang/String;"⟩
def dkwJ6_valueOf_0 : List UInt8 := [187, 0, 10, 89, 42, 183, 3, 240, 176]
abbrev dktJ6_valueOf_0 : List UInt8 := dkwJ6_valueOf_0 ++ []
theorem dksJ6_valueOf_0 : cJ6_valueOf.data.toList.drop 0 = dktJ6_valueOf_0 := by decide +kernel
theorem dJ6_valueOf_0 : decode cJ6_valueOf 0 = .ok (.new 10, 3) := dk_187 0 10 (dk_at dksJ6_valueOf_0 0 rfl rfl)
theorem dJ6_valueOf_3 : decode cJ6_valueOf 3 = .ok (.dup, 1) := dk_89 (dk_at dksJ6_valueOf_0 3 rfl rfl)
theorem dJ6_valueOf_4 : decode cJ6_valueOf 4 = .ok (.aload_n 0, 1) := dk_42 (dk_at dksJ6_valueOf_0 4 rfl rfl)
theorem dJ6_valueOf_5 : decode cJ6_valueOf 5 = .ok (.invokespecial 1008, 3) := dk_183 3 240 (dk_at dksJ6_valueOf_0 5 rfl rfl)
theorem dJ6_valueOf_8 : decode cJ6_valueOf 8 = .ok (.areturn, 1) := dk_176 (dk_at dksJ6_valueOf_0 8 rfl rfl)
abbrev cJ6_init : ByteArray := prog_23_method_3_code
def yJ6_init : MethodName := ⟨RJ6, "<init>", "([C)V"⟩
def dkwJ6_init_0 : List UInt8 := [42, 43, 3, 43, 190, 1, 183, 0, 27, 177]
abbrev dktJ6_init_0 : List UInt8 := dkwJ6_init_0 ++ []
theorem dksJ6_init_0 : cJ6_init.data.toList.drop 0 = dktJ6_init_0 := by decide +kernel
theorem dJ6_init_0 : decode cJ6_init 0 = .ok (.aload_n 0, 1) := dk_42 (dk_at dksJ6_init_0 0 rfl rfl)
theorem dJ6_init_1 : decode cJ6_init 1 = .ok (.aload_n 1, 1) := dk_43 (dk_at dksJ6_init_0 1 rfl rfl)
theorem dJ6_init_2 : decode cJ6_init 2 = .ok (.iconst 0, 1) := dk_3 (dk_at dksJ6_init_0 2 rfl rfl)
theorem dJ6_init_3 : decode cJ6_init 3 = .ok (.aload_n 1, 1) := dk_43 (dk_at dksJ6_init_0 3 rfl rfl)
theorem dJ6_init_4 : decode cJ6_init 4 = .ok (.arraylength, 1) := dk_190 (dk_at dksJ6_init_0 4 rfl rfl)
theorem dJ6_init_5 : decode cJ6_init 5 = .ok (.aconst_null, 1) := dk_1 (dk_at dksJ6_init_0 5 rfl rfl)
theorem dJ6_init_6 : decode cJ6_init 6 = .ok (.invokespecial 27, 3) := dk_183 0 27 (dk_at dksJ6_init_0 6 rfl rfl)
theorem dJ6_init_9 : decode cJ6_init 9 = .ok (.return_, 1) := dk_177 (dk_at dksJ6_init_0 9 rfl rfl)
abbrev cJ6_init_2 : ByteArray := prog_23_method_149_code
def yJ6_init_2 : MethodName := ⟨RJ6, "<init>", "([CIILjava/lang/Void;)V"⟩
def dkwJ6_init_2_3 : List UInt8 := [184, 0, 180, 181, 0, 9, 177]
abbrev dktJ6_init_2_3 : List UInt8 := dkwJ6_init_2_3 ++ []
def dkwJ6_init_2_2 : List UInt8 := [184, 0, 47, 181, 0, 15, 42, 25, 5, 181, 0, 9, 177, 42, 4, 181, 0, 15, 42, 43, 28, 29]
abbrev dktJ6_init_2_2 : List UInt8 := dkwJ6_init_2_2 ++ dktJ6_init_2_3
def dkwJ6_init_2_1 : List UInt8 := [181, 0, 15, 177, 178, 0, 38, 153, 0, 28, 43, 28, 29, 184, 0, 177, 58, 5, 42, 25, 5, 29]
abbrev dktJ6_init_2_1 : List UInt8 := dkwJ6_init_2_1 ++ dktJ6_init_2_2
def dkwJ6_init_2_0 : List UInt8 := [42, 183, 0, 1, 29, 154, 0, 22, 42, 18, 7, 180, 0, 9, 181, 0, 9, 42, 18, 7, 180, 0, 15]
abbrev dktJ6_init_2_0 : List UInt8 := dkwJ6_init_2_0 ++ dktJ6_init_2_1
theorem dksJ6_init_2_0 : cJ6_init_2.data.toList.drop 0 = dktJ6_init_2_0 := by decide +kernel
theorem dksJ6_init_2_1 : cJ6_init_2.data.toList.drop 23 = dktJ6_init_2_1 := dk_seg dksJ6_init_2_0 23 rfl rfl
theorem dksJ6_init_2_2 : cJ6_init_2.data.toList.drop 45 = dktJ6_init_2_2 := dk_seg dksJ6_init_2_1 22 rfl rfl
theorem dksJ6_init_2_3 : cJ6_init_2.data.toList.drop 67 = dktJ6_init_2_3 := dk_seg dksJ6_init_2_2 22 rfl rfl
theorem dJ6_init_2_0 : decode cJ6_init_2 0 = .ok (.aload_n 0, 1) := dk_42 (dk_at dksJ6_init_2_0 0 rfl rfl)
theorem dJ6_init_2_1 : decode cJ6_init_2 1 = .ok (.invokespecial 1, 3) := dk_183 0 1 (dk_at dksJ6_init_2_0 1 rfl rfl)
theorem dJ6_init_2_4 : decode cJ6_init_2 4 = .ok (.iload_n 3, 1) := dk_29 (dk_at dksJ6_init_2_0 4 rfl rfl)
theorem dJ6_init_2_5 : decode cJ6_init_2 5 = .ok (.ifCond .ne 22, 3) := dk_154 0 22 (dk_at dksJ6_init_2_0 5 rfl rfl)
theorem dJ6_init_2_8 : decode cJ6_init_2 8 = .ok (.aload_n 0, 1) := dk_42 (dk_at dksJ6_init_2_0 8 rfl rfl)
theorem dJ6_init_2_9 : decode cJ6_init_2 9 = .ok (.ldc 7, 2) := dk_18 7 (dk_at dksJ6_init_2_0 9 rfl rfl)
theorem dJ6_init_2_11 : decode cJ6_init_2 11 = .ok (.getfield 9, 3) := dk_180 0 9 (dk_at dksJ6_init_2_0 11 rfl rfl)
theorem dJ6_init_2_14 : decode cJ6_init_2 14 = .ok (.putfield 9, 3) := dk_181 0 9 (dk_at dksJ6_init_2_0 14 rfl rfl)
theorem dJ6_init_2_17 : decode cJ6_init_2 17 = .ok (.aload_n 0, 1) := dk_42 (dk_at dksJ6_init_2_0 17 rfl rfl)
theorem dJ6_init_2_18 : decode cJ6_init_2 18 = .ok (.ldc 7, 2) := dk_18 7 (dk_at dksJ6_init_2_0 18 rfl rfl)
theorem dJ6_init_2_20 : decode cJ6_init_2 20 = .ok (.getfield 15, 3) := dk_180 0 15 (dk_at dksJ6_init_2_0 20 rfl rfl)
theorem dJ6_init_2_23 : decode cJ6_init_2 23 = .ok (.putfield 15, 3) := dk_181 0 15 (dk_at dksJ6_init_2_1 0 rfl rfl)
theorem dJ6_init_2_26 : decode cJ6_init_2 26 = .ok (.return_, 1) := dk_177 (dk_at dksJ6_init_2_1 3 rfl rfl)
theorem dJ6_init_2_27 : decode cJ6_init_2 27 = .ok (.getstatic 38, 3) := dk_178 0 38 (dk_at dksJ6_init_2_1 4 rfl rfl)
theorem dJ6_init_2_30 : decode cJ6_init_2 30 = .ok (.ifCond .eq 28, 3) := dk_153 0 28 (dk_at dksJ6_init_2_1 7 rfl rfl)
theorem dJ6_init_2_33 : decode cJ6_init_2 33 = .ok (.aload_n 1, 1) := dk_43 (dk_at dksJ6_init_2_1 10 rfl rfl)
theorem dJ6_init_2_34 : decode cJ6_init_2 34 = .ok (.iload_n 2, 1) := dk_28 (dk_at dksJ6_init_2_1 11 rfl rfl)
theorem dJ6_init_2_35 : decode cJ6_init_2 35 = .ok (.iload_n 3, 1) := dk_29 (dk_at dksJ6_init_2_1 12 rfl rfl)
theorem dJ6_init_2_36 : decode cJ6_init_2 36 = .ok (.invokestatic 177, 3) := dk_184 0 177 (dk_at dksJ6_init_2_1 13 rfl rfl)
theorem dJ6_init_2_39 : decode cJ6_init_2 39 = .ok (.astore 5, 2) := dk_58 5 (dk_at dksJ6_init_2_1 16 rfl rfl)
theorem dJ6_init_2_41 : decode cJ6_init_2 41 = .ok (.aload_n 0, 1) := dk_42 (dk_at dksJ6_init_2_1 18 rfl rfl)
theorem dJ6_init_2_42 : decode cJ6_init_2 42 = .ok (.aload 5, 2) := dk_25 5 (dk_at dksJ6_init_2_1 19 rfl rfl)
theorem dJ6_init_2_44 : decode cJ6_init_2 44 = .ok (.iload_n 3, 1) := dk_29 (dk_at dksJ6_init_2_1 21 rfl rfl)
theorem dJ6_init_2_45 : decode cJ6_init_2 45 = .ok (.invokestatic 47, 3) := dk_184 0 47 (dk_at dksJ6_init_2_2 0 rfl rfl)
theorem dJ6_init_2_48 : decode cJ6_init_2 48 = .ok (.putfield 15, 3) := dk_181 0 15 (dk_at dksJ6_init_2_2 3 rfl rfl)
theorem dJ6_init_2_51 : decode cJ6_init_2 51 = .ok (.aload_n 0, 1) := dk_42 (dk_at dksJ6_init_2_2 6 rfl rfl)
theorem dJ6_init_2_52 : decode cJ6_init_2 52 = .ok (.aload 5, 2) := dk_25 5 (dk_at dksJ6_init_2_2 7 rfl rfl)
theorem dJ6_init_2_54 : decode cJ6_init_2 54 = .ok (.putfield 9, 3) := dk_181 0 9 (dk_at dksJ6_init_2_2 9 rfl rfl)
theorem dJ6_init_2_57 : decode cJ6_init_2 57 = .ok (.return_, 1) := dk_177 (dk_at dksJ6_init_2_2 12 rfl rfl)
theorem dJ6_init_2_58 : decode cJ6_init_2 58 = .ok (.aload_n 0, 1) := dk_42 (dk_at dksJ6_init_2_2 13 rfl rfl)
theorem dJ6_init_2_59 : decode cJ6_init_2 59 = .ok (.iconst 1, 1) := dk_4 (dk_at dksJ6_init_2_2 14 rfl rfl)
theorem dJ6_init_2_60 : decode cJ6_init_2 60 = .ok (.putfield 15, 3) := dk_181 0 15 (dk_at dksJ6_init_2_2 15 rfl rfl)
theorem dJ6_init_2_63 : decode cJ6_init_2 63 = .ok (.aload_n 0, 1) := dk_42 (dk_at dksJ6_init_2_2 18 rfl rfl)
theorem dJ6_init_2_64 : decode cJ6_init_2 64 = .ok (.aload_n 1, 1) := dk_43 (dk_at dksJ6_init_2_2 19 rfl rfl)
theorem dJ6_init_2_65 : decode cJ6_init_2 65 = .ok (.iload_n 2, 1) := dk_28 (dk_at dksJ6_init_2_2 20 rfl rfl)
theorem dJ6_init_2_66 : decode cJ6_init_2 66 = .ok (.iload_n 3, 1) := dk_29 (dk_at dksJ6_init_2_2 21 rfl rfl)
theorem dJ6_init_2_67 : decode cJ6_init_2 67 = .ok (.invokestatic 180, 3) := dk_184 0 180 (dk_at dksJ6_init_2_3 0 rfl rfl)
theorem dJ6_init_2_70 : decode cJ6_init_2 70 = .ok (.putfield 9, 3) := dk_181 0 9 (dk_at dksJ6_init_2_3 3 rfl rfl)
theorem dJ6_init_2_73 : decode cJ6_init_2 73 = .ok (.return_, 1) := dk_177 (dk_at dksJ6_init_2_3 6 rfl rfl)
abbrev cJ6_checkBoundsOffCount : ByteArray := prog_23_method_157_code
def yJ6_checkBoundsOffCount : MethodName := ⟨RJ6, "checkBoundsOffCount", "(III)I"⟩
def dkwJ6_checkBoundsOffCount_0 : List UInt8 := [26, 27, 28, 178, 4, 29, 184, 4, 41, 172]
abbrev dktJ6_checkBoundsOffCount_0 : List UInt8 := dkwJ6_checkBoundsOffCount_0 ++ []
theorem dksJ6_checkBoundsOffCount_0 : cJ6_checkBoundsOffCount.data.toList.drop 0 = dktJ6_checkBoundsOffCount_0 := by decide +kernel
theorem dJ6_checkBoundsOffCount_0 : decode cJ6_checkBoundsOffCount 0 = .ok (.iload_n 0, 1) := dk_26 (dk_at dksJ6_checkBoundsOffCount_0 0 rfl rfl)
theorem dJ6_checkBoundsOffCount_1 : decode cJ6_checkBoundsOffCount 1 = .ok (.iload_n 1, 1) := dk_27 (dk_at dksJ6_checkBoundsOffCount_0 1 rfl rfl)
theorem dJ6_checkBoundsOffCount_2 : decode cJ6_checkBoundsOffCount 2 = .ok (.iload_n 2, 1) := dk_28 (dk_at dksJ6_checkBoundsOffCount_0 2 rfl rfl)
theorem dJ6_checkBoundsOffCount_3 : decode cJ6_checkBoundsOffCount 3 = .ok (.getstatic 1053, 3) := dk_178 4 29 (dk_at dksJ6_checkBoundsOffCount_0 3 rfl rfl)
theorem dJ6_checkBoundsOffCount_6 : decode cJ6_checkBoundsOffCount 6 = .ok (.invokestatic 1065, 3) := dk_184 4 41 (dk_at dksJ6_checkBoundsOffCount_0 6 rfl rfl)
theorem dJ6_checkBoundsOffCount_9 : decode cJ6_checkBoundsOffCount 9 = .ok (.ireturn, 1) := dk_172 (dk_at dksJ6_checkBoundsOffCount_0 9 rfl rfl)
abbrev cJ6_equals : ByteArray := prog_23_method_66_code
def yJ6_equals : MethodName := ⟨RJ6, "equals", "(Ljava/lang/Object;)Z"⟩
def dkwJ6_equals_2 : List UInt8 := [184, 2, 29, 153, 0, 7, 4, 167, 0, 4, 3, 172]
abbrev dktJ6_equals_2 : List UInt8 := dkwJ6_equals_2 ++ []
def dkwJ6_equals_1 : List UInt8 := [153, 0, 14, 42, 180, 0, 15, 44, 180, 0, 15, 160, 0, 21, 42, 180, 0, 9, 44, 180, 0, 9]
abbrev dktJ6_equals_1 : List UInt8 := dkwJ6_equals_1 ++ dktJ6_equals_2
def dkwJ6_equals_0 : List UInt8 := [42, 43, 166, 0, 5, 4, 172, 43, 193, 0, 10, 153, 0, 43, 43, 192, 0, 10, 77, 178, 0, 38]
abbrev dktJ6_equals_0 : List UInt8 := dkwJ6_equals_0 ++ dktJ6_equals_1
theorem dksJ6_equals_0 : cJ6_equals.data.toList.drop 0 = dktJ6_equals_0 := by decide +kernel
theorem dksJ6_equals_1 : cJ6_equals.data.toList.drop 22 = dktJ6_equals_1 := dk_seg dksJ6_equals_0 22 rfl rfl
theorem dksJ6_equals_2 : cJ6_equals.data.toList.drop 44 = dktJ6_equals_2 := dk_seg dksJ6_equals_1 22 rfl rfl
theorem dJ6_equals_0 : decode cJ6_equals 0 = .ok (.aload_n 0, 1) := dk_42 (dk_at dksJ6_equals_0 0 rfl rfl)
theorem dJ6_equals_1 : decode cJ6_equals 1 = .ok (.aload_n 1, 1) := dk_43 (dk_at dksJ6_equals_0 1 rfl rfl)
theorem dJ6_equals_2 : decode cJ6_equals 2 = .ok (.if_acmp .ne 5, 3) := dk_166 0 5 (dk_at dksJ6_equals_0 2 rfl rfl)
theorem dJ6_equals_5 : decode cJ6_equals 5 = .ok (.iconst 1, 1) := dk_4 (dk_at dksJ6_equals_0 5 rfl rfl)
theorem dJ6_equals_6 : decode cJ6_equals 6 = .ok (.ireturn, 1) := dk_172 (dk_at dksJ6_equals_0 6 rfl rfl)
theorem dJ6_equals_7 : decode cJ6_equals 7 = .ok (.aload_n 1, 1) := dk_43 (dk_at dksJ6_equals_0 7 rfl rfl)
theorem dJ6_equals_8 : decode cJ6_equals 8 = .ok (.instanceof 10, 3) := dk_193 0 10 (dk_at dksJ6_equals_0 8 rfl rfl)
theorem dJ6_equals_11 : decode cJ6_equals 11 = .ok (.ifCond .eq 43, 3) := dk_153 0 43 (dk_at dksJ6_equals_0 11 rfl rfl)
theorem dJ6_equals_14 : decode cJ6_equals 14 = .ok (.aload_n 1, 1) := dk_43 (dk_at dksJ6_equals_0 14 rfl rfl)
theorem dJ6_equals_15 : decode cJ6_equals 15 = .ok (.checkcast 10, 3) := dk_192 0 10 (dk_at dksJ6_equals_0 15 rfl rfl)
theorem dJ6_equals_18 : decode cJ6_equals 18 = .ok (.astore_n 2, 1) := dk_77 (dk_at dksJ6_equals_0 18 rfl rfl)
theorem dJ6_equals_19 : decode cJ6_equals 19 = .ok (.getstatic 38, 3) := dk_178 0 38 (dk_at dksJ6_equals_0 19 rfl rfl)
theorem dJ6_equals_22 : decode cJ6_equals 22 = .ok (.ifCond .eq 14, 3) := dk_153 0 14 (dk_at dksJ6_equals_1 0 rfl rfl)
theorem dJ6_equals_25 : decode cJ6_equals 25 = .ok (.aload_n 0, 1) := dk_42 (dk_at dksJ6_equals_1 3 rfl rfl)
theorem dJ6_equals_26 : decode cJ6_equals 26 = .ok (.getfield 15, 3) := dk_180 0 15 (dk_at dksJ6_equals_1 4 rfl rfl)
theorem dJ6_equals_29 : decode cJ6_equals 29 = .ok (.aload_n 2, 1) := dk_44 (dk_at dksJ6_equals_1 7 rfl rfl)
theorem dJ6_equals_30 : decode cJ6_equals 30 = .ok (.getfield 15, 3) := dk_180 0 15 (dk_at dksJ6_equals_1 8 rfl rfl)
theorem dJ6_equals_33 : decode cJ6_equals 33 = .ok (.if_icmp .ne 21, 3) := dk_160 0 21 (dk_at dksJ6_equals_1 11 rfl rfl)
theorem dJ6_equals_36 : decode cJ6_equals 36 = .ok (.aload_n 0, 1) := dk_42 (dk_at dksJ6_equals_1 14 rfl rfl)
theorem dJ6_equals_37 : decode cJ6_equals 37 = .ok (.getfield 9, 3) := dk_180 0 9 (dk_at dksJ6_equals_1 15 rfl rfl)
theorem dJ6_equals_40 : decode cJ6_equals 40 = .ok (.aload_n 2, 1) := dk_44 (dk_at dksJ6_equals_1 18 rfl rfl)
theorem dJ6_equals_41 : decode cJ6_equals 41 = .ok (.getfield 9, 3) := dk_180 0 9 (dk_at dksJ6_equals_1 19 rfl rfl)
theorem dJ6_equals_44 : decode cJ6_equals 44 = .ok (.invokestatic 541, 3) := dk_184 2 29 (dk_at dksJ6_equals_2 0 rfl rfl)
theorem dJ6_equals_47 : decode cJ6_equals 47 = .ok (.ifCond .eq 7, 3) := dk_153 0 7 (dk_at dksJ6_equals_2 3 rfl rfl)
theorem dJ6_equals_50 : decode cJ6_equals 50 = .ok (.iconst 1, 1) := dk_4 (dk_at dksJ6_equals_2 6 rfl rfl)
theorem dJ6_equals_51 : decode cJ6_equals 51 = .ok (.goto 4, 3) := dk_167 0 4 (dk_at dksJ6_equals_2 7 rfl rfl)
theorem dJ6_equals_54 : decode cJ6_equals 54 = .ok (.iconst 0, 1) := dk_3 (dk_at dksJ6_equals_2 10 rfl rfl)
theorem dJ6_equals_55 : decode cJ6_equals 55 = .ok (.ireturn, 1) := dk_172 (dk_at dksJ6_equals_2 11 rfl rfl)
abbrev cJ6_hashCode : ByteArray := prog_23_method_78_code
def yJ6_hashCode : MethodName := ⟨RJ6, "hashCode", "()I"⟩
def dkwJ6_hashCode_2 : List UInt8 := [181, 0, 23, 167, 0, 8, 42, 27, 181, 0, 19, 27, 172]
abbrev dktJ6_hashCode_2 : List UInt8 := dkwJ6_hashCode_2 ++ []
def dkwJ6_hashCode_1 : List UInt8 := [180, 0, 9, 184, 2, 116, 167, 0, 10, 42, 180, 0, 9, 184, 2, 120, 60, 27, 154, 0, 11, 42, 4]
abbrev dktJ6_hashCode_1 : List UInt8 := dkwJ6_hashCode_1 ++ dktJ6_hashCode_2
def dkwJ6_hashCode_0 : List UInt8 := [42, 180, 0, 19, 60, 27, 154, 0, 52, 42, 180, 0, 23, 154, 0, 45, 42, 182, 1, 236, 153, 0, 13, 42]
abbrev dktJ6_hashCode_0 : List UInt8 := dkwJ6_hashCode_0 ++ dktJ6_hashCode_1
theorem dksJ6_hashCode_0 : cJ6_hashCode.data.toList.drop 0 = dktJ6_hashCode_0 := by decide +kernel
theorem dksJ6_hashCode_1 : cJ6_hashCode.data.toList.drop 24 = dktJ6_hashCode_1 := dk_seg dksJ6_hashCode_0 24 rfl rfl
theorem dksJ6_hashCode_2 : cJ6_hashCode.data.toList.drop 47 = dktJ6_hashCode_2 := dk_seg dksJ6_hashCode_1 23 rfl rfl
theorem dJ6_hashCode_0 : decode cJ6_hashCode 0 = .ok (.aload_n 0, 1) := dk_42 (dk_at dksJ6_hashCode_0 0 rfl rfl)
theorem dJ6_hashCode_1 : decode cJ6_hashCode 1 = .ok (.getfield 19, 3) := dk_180 0 19 (dk_at dksJ6_hashCode_0 1 rfl rfl)
theorem dJ6_hashCode_4 : decode cJ6_hashCode 4 = .ok (.istore_n 1, 1) := dk_60 (dk_at dksJ6_hashCode_0 4 rfl rfl)
theorem dJ6_hashCode_5 : decode cJ6_hashCode 5 = .ok (.iload_n 1, 1) := dk_27 (dk_at dksJ6_hashCode_0 5 rfl rfl)
theorem dJ6_hashCode_6 : decode cJ6_hashCode 6 = .ok (.ifCond .ne 52, 3) := dk_154 0 52 (dk_at dksJ6_hashCode_0 6 rfl rfl)
theorem dJ6_hashCode_9 : decode cJ6_hashCode 9 = .ok (.aload_n 0, 1) := dk_42 (dk_at dksJ6_hashCode_0 9 rfl rfl)
theorem dJ6_hashCode_10 : decode cJ6_hashCode 10 = .ok (.getfield 23, 3) := dk_180 0 23 (dk_at dksJ6_hashCode_0 10 rfl rfl)
theorem dJ6_hashCode_13 : decode cJ6_hashCode 13 = .ok (.ifCond .ne 45, 3) := dk_154 0 45 (dk_at dksJ6_hashCode_0 13 rfl rfl)
theorem dJ6_hashCode_16 : decode cJ6_hashCode 16 = .ok (.aload_n 0, 1) := dk_42 (dk_at dksJ6_hashCode_0 16 rfl rfl)
theorem dJ6_hashCode_17 : decode cJ6_hashCode 17 = .ok (.invokevirtual 492, 3) := dk_182 1 236 (dk_at dksJ6_hashCode_0 17 rfl rfl)
theorem dJ6_hashCode_20 : decode cJ6_hashCode 20 = .ok (.ifCond .eq 13, 3) := dk_153 0 13 (dk_at dksJ6_hashCode_0 20 rfl rfl)
theorem dJ6_hashCode_23 : decode cJ6_hashCode 23 = .ok (.aload_n 0, 1) := dk_42 (dk_at dksJ6_hashCode_0 23 rfl rfl)
theorem dJ6_hashCode_24 : decode cJ6_hashCode 24 = .ok (.getfield 9, 3) := dk_180 0 9 (dk_at dksJ6_hashCode_1 0 rfl rfl)
theorem dJ6_hashCode_27 : decode cJ6_hashCode 27 = .ok (.invokestatic 628, 3) := dk_184 2 116 (dk_at dksJ6_hashCode_1 3 rfl rfl)
theorem dJ6_hashCode_30 : decode cJ6_hashCode 30 = .ok (.goto 10, 3) := dk_167 0 10 (dk_at dksJ6_hashCode_1 6 rfl rfl)
theorem dJ6_hashCode_33 : decode cJ6_hashCode 33 = .ok (.aload_n 0, 1) := dk_42 (dk_at dksJ6_hashCode_1 9 rfl rfl)
theorem dJ6_hashCode_34 : decode cJ6_hashCode 34 = .ok (.getfield 9, 3) := dk_180 0 9 (dk_at dksJ6_hashCode_1 10 rfl rfl)
theorem dJ6_hashCode_37 : decode cJ6_hashCode 37 = .ok (.invokestatic 632, 3) := dk_184 2 120 (dk_at dksJ6_hashCode_1 13 rfl rfl)
theorem dJ6_hashCode_40 : decode cJ6_hashCode 40 = .ok (.istore_n 1, 1) := dk_60 (dk_at dksJ6_hashCode_1 16 rfl rfl)
theorem dJ6_hashCode_41 : decode cJ6_hashCode 41 = .ok (.iload_n 1, 1) := dk_27 (dk_at dksJ6_hashCode_1 17 rfl rfl)
theorem dJ6_hashCode_42 : decode cJ6_hashCode 42 = .ok (.ifCond .ne 11, 3) := dk_154 0 11 (dk_at dksJ6_hashCode_1 18 rfl rfl)
theorem dJ6_hashCode_45 : decode cJ6_hashCode 45 = .ok (.aload_n 0, 1) := dk_42 (dk_at dksJ6_hashCode_1 21 rfl rfl)
theorem dJ6_hashCode_46 : decode cJ6_hashCode 46 = .ok (.iconst 1, 1) := dk_4 (dk_at dksJ6_hashCode_1 22 rfl rfl)
theorem dJ6_hashCode_47 : decode cJ6_hashCode 47 = .ok (.putfield 23, 3) := dk_181 0 23 (dk_at dksJ6_hashCode_2 0 rfl rfl)
theorem dJ6_hashCode_50 : decode cJ6_hashCode 50 = .ok (.goto 8, 3) := dk_167 0 8 (dk_at dksJ6_hashCode_2 3 rfl rfl)
theorem dJ6_hashCode_53 : decode cJ6_hashCode 53 = .ok (.aload_n 0, 1) := dk_42 (dk_at dksJ6_hashCode_2 6 rfl rfl)
theorem dJ6_hashCode_54 : decode cJ6_hashCode 54 = .ok (.iload_n 1, 1) := dk_27 (dk_at dksJ6_hashCode_2 7 rfl rfl)
theorem dJ6_hashCode_55 : decode cJ6_hashCode 55 = .ok (.putfield 19, 3) := dk_181 0 19 (dk_at dksJ6_hashCode_2 8 rfl rfl)
theorem dJ6_hashCode_58 : decode cJ6_hashCode 58 = .ok (.iload_n 1, 1) := dk_27 (dk_at dksJ6_hashCode_2 11 rfl rfl)
theorem dJ6_hashCode_59 : decode cJ6_hashCode 59 = .ok (.ireturn, 1) := dk_172 (dk_at dksJ6_hashCode_2 12 rfl rfl)
abbrev cJ6_isLatin1 : ByteArray := prog_23_method_154_code
def yJ6_isLatin1 : MethodName := ⟨RJ6, "isLatin1", "()Z"⟩
def dkwJ6_isLatin1_0 : List UInt8 := [178, 0, 38, 153, 0, 14, 42, 180, 0, 15, 154, 0, 7, 4, 167, 0, 4, 3, 172]
abbrev dktJ6_isLatin1_0 : List UInt8 := dkwJ6_isLatin1_0 ++ []
theorem dksJ6_isLatin1_0 : cJ6_isLatin1.data.toList.drop 0 = dktJ6_isLatin1_0 := by decide +kernel
theorem dJ6_isLatin1_0 : decode cJ6_isLatin1 0 = .ok (.getstatic 38, 3) := dk_178 0 38 (dk_at dksJ6_isLatin1_0 0 rfl rfl)
theorem dJ6_isLatin1_3 : decode cJ6_isLatin1 3 = .ok (.ifCond .eq 14, 3) := dk_153 0 14 (dk_at dksJ6_isLatin1_0 3 rfl rfl)
theorem dJ6_isLatin1_6 : decode cJ6_isLatin1 6 = .ok (.aload_n 0, 1) := dk_42 (dk_at dksJ6_isLatin1_0 6 rfl rfl)
theorem dJ6_isLatin1_7 : decode cJ6_isLatin1 7 = .ok (.getfield 15, 3) := dk_180 0 15 (dk_at dksJ6_isLatin1_0 7 rfl rfl)
theorem dJ6_isLatin1_10 : decode cJ6_isLatin1 10 = .ok (.ifCond .ne 7, 3) := dk_154 0 7 (dk_at dksJ6_isLatin1_0 10 rfl rfl)
theorem dJ6_isLatin1_13 : decode cJ6_isLatin1 13 = .ok (.iconst 1, 1) := dk_4 (dk_at dksJ6_isLatin1_0 13 rfl rfl)
theorem dJ6_isLatin1_14 : decode cJ6_isLatin1 14 = .ok (.goto 4, 3) := dk_167 0 4 (dk_at dksJ6_isLatin1_0 14 rfl rfl)
theorem dJ6_isLatin1_17 : decode cJ6_isLatin1 17 = .ok (.iconst 0, 1) := dk_3 (dk_at dksJ6_isLatin1_0 17 rfl rfl)
theorem dJ6_isLatin1_18 : decode cJ6_isLatin1 18 = .ok (.ireturn, 1) := dk_172 (dk_at dksJ6_isLatin1_0 18 rfl rfl)
abbrev cJ6_charAt : ByteArray := prog_23_method_56_code
def yJ6_charAt : MethodName := ⟨RJ6, "charAt", "(I)C"⟩
def dkwJ6_charAt_1 : List UInt8 := [172]
abbrev dktJ6_charAt_1 : List UInt8 := dkwJ6_charAt_1 ++ []
def dkwJ6_charAt_0 : List UInt8 := [42, 182, 1, 236, 153, 0, 12, 42, 180, 0, 9, 27, 184, 1, 239, 172, 42, 180, 0, 9, 27, 184, 1, 242]
abbrev dktJ6_charAt_0 : List UInt8 := dkwJ6_charAt_0 ++ dktJ6_charAt_1
theorem dksJ6_charAt_0 : cJ6_charAt.data.toList.drop 0 = dktJ6_charAt_0 := by decide +kernel
theorem dksJ6_charAt_1 : cJ6_charAt.data.toList.drop 24 = dktJ6_charAt_1 := dk_seg dksJ6_charAt_0 24 rfl rfl
theorem dJ6_charAt_0 : decode cJ6_charAt 0 = .ok (.aload_n 0, 1) := dk_42 (dk_at dksJ6_charAt_0 0 rfl rfl)
theorem dJ6_charAt_1 : decode cJ6_charAt 1 = .ok (.invokevirtual 492, 3) := dk_182 1 236 (dk_at dksJ6_charAt_0 1 rfl rfl)
theorem dJ6_charAt_4 : decode cJ6_charAt 4 = .ok (.ifCond .eq 12, 3) := dk_153 0 12 (dk_at dksJ6_charAt_0 4 rfl rfl)
theorem dJ6_charAt_7 : decode cJ6_charAt 7 = .ok (.aload_n 0, 1) := dk_42 (dk_at dksJ6_charAt_0 7 rfl rfl)
theorem dJ6_charAt_8 : decode cJ6_charAt 8 = .ok (.getfield 9, 3) := dk_180 0 9 (dk_at dksJ6_charAt_0 8 rfl rfl)
theorem dJ6_charAt_11 : decode cJ6_charAt 11 = .ok (.iload_n 1, 1) := dk_27 (dk_at dksJ6_charAt_0 11 rfl rfl)
theorem dJ6_charAt_12 : decode cJ6_charAt 12 = .ok (.invokestatic 495, 3) := dk_184 1 239 (dk_at dksJ6_charAt_0 12 rfl rfl)
theorem dJ6_charAt_15 : decode cJ6_charAt 15 = .ok (.ireturn, 1) := dk_172 (dk_at dksJ6_charAt_0 15 rfl rfl)
theorem dJ6_charAt_16 : decode cJ6_charAt 16 = .ok (.aload_n 0, 1) := dk_42 (dk_at dksJ6_charAt_0 16 rfl rfl)
theorem dJ6_charAt_17 : decode cJ6_charAt 17 = .ok (.getfield 9, 3) := dk_180 0 9 (dk_at dksJ6_charAt_0 17 rfl rfl)
theorem dJ6_charAt_20 : decode cJ6_charAt 20 = .ok (.iload_n 1, 1) := dk_27 (dk_at dksJ6_charAt_0 20 rfl rfl)
theorem dJ6_charAt_21 : decode cJ6_charAt 21 = .ok (.invokestatic 498, 3) := dk_184 1 242 (dk_at dksJ6_charAt_0 21 rfl rfl)
theorem dJ6_charAt_24 : decode cJ6_charAt 24 = .ok (.ireturn, 1) := dk_172 (dk_at dksJ6_charAt_1 0 rfl rfl)
abbrev cJ6_checkIndex : ByteArray := prog_23_method_155_code
def yJ6_checkIndex : MethodName := ⟨RJ6, "checkIndex", "(II)V"⟩
def dkwJ6_checkIndex_0 : List UInt8 := [26, 27, 178, 4, 29, 184, 4, 35, 87, 177]
abbrev dktJ6_checkIndex_0 : List UInt8 := dkwJ6_checkIndex_0 ++ []
theorem dksJ6_checkIndex_0 : cJ6_checkIndex.data.toList.drop 0 = dktJ6_checkIndex_0 := by decide +kernel
theorem dJ6_checkIndex_0 : decode cJ6_checkIndex 0 = .ok (.iload_n 0, 1) := dk_26 (dk_at dksJ6_checkIndex_0 0 rfl rfl)
theorem dJ6_checkIndex_1 : decode cJ6_checkIndex 1 = .ok (.iload_n 1, 1) := dk_27 (dk_at dksJ6_checkIndex_0 1 rfl rfl)
theorem dJ6_checkIndex_2 : decode cJ6_checkIndex 2 = .ok (.getstatic 1053, 3) := dk_178 4 29 (dk_at dksJ6_checkIndex_0 2 rfl rfl)
theorem dJ6_checkIndex_5 : decode cJ6_checkIndex 5 = .ok (.invokestatic 1059, 3) := dk_184 4 35 (dk_at dksJ6_checkIndex_0 5 rfl rfl)
theorem dJ6_checkIndex_8 : decode cJ6_checkIndex 8 = .ok (.pop, 1) := dk_87 (dk_at dksJ6_checkIndex_0 8 rfl rfl)
theorem dJ6_checkIndex_9 : decode cJ6_checkIndex 9 = .ok (.return_, 1) := dk_177 (dk_at dksJ6_checkIndex_0 9 rfl rfl)
abbrev cJ6_valueOf_2 : ByteArray := prog_23_method_135_code
def yJ6_valueOf_2 : MethodName := ⟨RJ6, "valueOf", "([CII)Ljava/lang/String;"⟩
def dkwJ6_valueOf_2_0 : List UInt8 := [187, 0, 10, 89, 42, 27, 28, 183, 3, 202, 176]
abbrev dktJ6_valueOf_2_0 : List UInt8 := dkwJ6_valueOf_2_0 ++ []
theorem dksJ6_valueOf_2_0 : cJ6_valueOf_2.data.toList.drop 0 = dktJ6_valueOf_2_0 := by decide +kernel
theorem dJ6_valueOf_2_0 : decode cJ6_valueOf_2 0 = .ok (.new 10, 3) := dk_187 0 10 (dk_at dksJ6_valueOf_2_0 0 rfl rfl)
theorem dJ6_valueOf_2_3 : decode cJ6_valueOf_2 3 = .ok (.dup, 1) := dk_89 (dk_at dksJ6_valueOf_2_0 3 rfl rfl)
theorem dJ6_valueOf_2_4 : decode cJ6_valueOf_2 4 = .ok (.aload_n 0, 1) := dk_42 (dk_at dksJ6_valueOf_2_0 4 rfl rfl)
theorem dJ6_valueOf_2_5 : decode cJ6_valueOf_2 5 = .ok (.iload_n 1, 1) := dk_27 (dk_at dksJ6_valueOf_2_0 5 rfl rfl)
theorem dJ6_valueOf_2_6 : decode cJ6_valueOf_2 6 = .ok (.iload_n 2, 1) := dk_28 (dk_at dksJ6_valueOf_2_0 6 rfl rfl)
theorem dJ6_valueOf_2_7 : decode cJ6_valueOf_2 7 = .ok (.invokespecial 970, 3) := dk_183 3 202 (dk_at dksJ6_valueOf_2_0 7 rfl rfl)
theorem dJ6_valueOf_2_10 : decode cJ6_valueOf_2 10 = .ok (.areturn, 1) := dk_176 (dk_at dksJ6_valueOf_2_0 10 rfl rfl)
abbrev cJ6_init_3 : ByteArray := prog_23_method_4_code
def yJ6_init_3 : MethodName := ⟨RJ6, "<init>", "([CII)V"⟩
def dkwJ6_init_3_0 : List UInt8 := [42, 43, 28, 29, 43, 28, 29, 184, 0, 30, 183, 0, 27, 177]
abbrev dktJ6_init_3_0 : List UInt8 := dkwJ6_init_3_0 ++ []
theorem dksJ6_init_3_0 : cJ6_init_3.data.toList.drop 0 = dktJ6_init_3_0 := by decide +kernel
theorem dJ6_init_3_0 : decode cJ6_init_3 0 = .ok (.aload_n 0, 1) := dk_42 (dk_at dksJ6_init_3_0 0 rfl rfl)
theorem dJ6_init_3_1 : decode cJ6_init_3 1 = .ok (.aload_n 1, 1) := dk_43 (dk_at dksJ6_init_3_0 1 rfl rfl)
theorem dJ6_init_3_2 : decode cJ6_init_3 2 = .ok (.iload_n 2, 1) := dk_28 (dk_at dksJ6_init_3_0 2 rfl rfl)
theorem dJ6_init_3_3 : decode cJ6_init_3 3 = .ok (.iload_n 3, 1) := dk_29 (dk_at dksJ6_init_3_0 3 rfl rfl)
theorem dJ6_init_3_4 : decode cJ6_init_3 4 = .ok (.aload_n 1, 1) := dk_43 (dk_at dksJ6_init_3_0 4 rfl rfl)
theorem dJ6_init_3_5 : decode cJ6_init_3 5 = .ok (.iload_n 2, 1) := dk_28 (dk_at dksJ6_init_3_0 5 rfl rfl)
theorem dJ6_init_3_6 : decode cJ6_init_3 6 = .ok (.iload_n 3, 1) := dk_29 (dk_at dksJ6_init_3_0 6 rfl rfl)
theorem dJ6_init_3_7 : decode cJ6_init_3 7 = .ok (.invokestatic 30, 3) := dk_184 0 30 (dk_at dksJ6_init_3_0 7 rfl rfl)
theorem dJ6_init_3_10 : decode cJ6_init_3 10 = .ok (.invokespecial 27, 3) := dk_183 0 27 (dk_at dksJ6_init_3_0 10 rfl rfl)
theorem dJ6_init_3_13 : decode cJ6_init_3 13 = .ok (.return_, 1) := dk_177 (dk_at dksJ6_init_3_0 13 rfl rfl)
abbrev cJ6_rangeCheck : ByteArray := prog_23_method_5_code
def yJ6_rangeCheck : MethodName := ⟨RJ6, "rangeCheck", "([CII)Ljava/lang/Void;"⟩
def dkwJ6_rangeCheck_0 : List UInt8 := [27, 28, 42, 190, 184, 0, 34, 87, 1, 176]
abbrev dktJ6_rangeCheck_0 : List UInt8 := dkwJ6_rangeCheck_0 ++ []
theorem dksJ6_rangeCheck_0 : cJ6_rangeCheck.data.toList.drop 0 = dktJ6_rangeCheck_0 := by decide +kernel
theorem dJ6_rangeCheck_0 : decode cJ6_rangeCheck 0 = .ok (.iload_n 1, 1) := dk_27 (dk_at dksJ6_rangeCheck_0 0 rfl rfl)
theorem dJ6_rangeCheck_1 : decode cJ6_rangeCheck 1 = .ok (.iload_n 2, 1) := dk_28 (dk_at dksJ6_rangeCheck_0 1 rfl rfl)
theorem dJ6_rangeCheck_2 : decode cJ6_rangeCheck 2 = .ok (.aload_n 0, 1) := dk_42 (dk_at dksJ6_rangeCheck_0 2 rfl rfl)
theorem dJ6_rangeCheck_3 : decode cJ6_rangeCheck 3 = .ok (.arraylength, 1) := dk_190 (dk_at dksJ6_rangeCheck_0 3 rfl rfl)
theorem dJ6_rangeCheck_4 : decode cJ6_rangeCheck 4 = .ok (.invokestatic 34, 3) := dk_184 0 34 (dk_at dksJ6_rangeCheck_0 4 rfl rfl)
theorem dJ6_rangeCheck_7 : decode cJ6_rangeCheck 7 = .ok (.pop, 1) := dk_87 (dk_at dksJ6_rangeCheck_0 7 rfl rfl)
theorem dJ6_rangeCheck_8 : decode cJ6_rangeCheck 8 = .ok (.aconst_null, 1) := dk_1 (dk_at dksJ6_rangeCheck_0 8 rfl rfl)
theorem dJ6_rangeCheck_9 : decode cJ6_rangeCheck 9 = .ok (.areturn, 1) := dk_176 (dk_at dksJ6_rangeCheck_0 9 rfl rfl)
theorem q91 : (Jvm.Cond.initialized "java/lang/String") ∈ lw_all := lw_g (lw_at lw_m1 11 rfl) rfl
theorem q368 : (Jvm.Cond.instanceMethod ({ cls := "java/lang/String", name := "length", desc := "()I" } : Jvm.MethodName)) ∈ lw_all := lw_g (lw_at lw_m2 48 rfl) rfl
theorem q369 : (Jvm.Cond.selects "java/lang/String" ({ cls := "java/lang/String", name := "length", desc := "()I" } : Jvm.MethodName) ({ cls := "java/lang/String", name := "length", desc := "()I" } : Jvm.MethodName)) ∈ lw_all := lw_g (lw_at lw_m2 49 rfl) rfl
theorem q370 : (Jvm.Cond.code ({ cls := "java/lang/String", name := "length", desc := "()I" } : Jvm.MethodName) prog_23_method_54_code (1 : Nat) (Option.some Jvm.ClassFile.FieldType.int)) ∈ lw_all := lw_g (lw_at lw_m2 50 rfl) rfl
theorem q371 : (Jvm.Cond.methodLink "java/lang/String" (335 : Nat) ({ cls := "java/lang/String", name := "coder", desc := "()B" } : Jvm.MethodName)) ∈ lw_all := lw_g (lw_at lw_m2 51 rfl) rfl
theorem q372 : (Jvm.Cond.instanceMethod ({ cls := "java/lang/String", name := "coder", desc := "()B" } : Jvm.MethodName)) ∈ lw_all := lw_g (lw_at lw_m2 52 rfl) rfl
theorem q373 : (Jvm.Cond.selects "java/lang/String" ({ cls := "java/lang/String", name := "coder", desc := "()B" } : Jvm.MethodName) ({ cls := "java/lang/String", name := "coder", desc := "()B" } : Jvm.MethodName)) ∈ lw_all := lw_g (lw_at lw_m2 53 rfl) rfl
theorem q374 : (Jvm.Cond.code ({ cls := "java/lang/String", name := "coder", desc := "()B" } : Jvm.MethodName) prog_23_method_152_code (1 : Nat) (Option.some Jvm.ClassFile.FieldType.byte)) ∈ lw_all := lw_g (lw_at lw_m2 54 rfl) rfl
theorem q375 : (Jvm.Cond.fieldLink "java/lang/String" (38 : Nat) "java/lang/String" "COMPACT_STRINGS" "Z") ∈ lw_all := lw_g (lw_at lw_m2 55 rfl) rfl
theorem q376 : (Jvm.Cond.laysStatic "java/lang/String" "COMPACT_STRINGS" "Z") ∈ lw_tbl := lw_at lw_m2 56 rfl
theorem q382 : (Jvm.Cond.static ({ cls := "java/lang/String", name := "valueOf", desc := "([C)Ljava/lang/String;" } : Jvm.MethodName)) ∈ lw_all := lw_g (lw_at lw_m2 62 rfl) rfl
theorem q383 : (Jvm.Cond.code ({ cls := "java/lang/String", name := "valueOf", desc := "([C)Ljava/lang/String;" } : Jvm.MethodName) prog_23_method_134_code (1 : Nat) (Option.some (Jvm.ClassFile.FieldType.object "java/lang/String"))) ∈ lw_all := lw_g (lw_at lw_m2 63 rfl) rfl
theorem q384 : (Jvm.Cond.classLink "java/lang/String" (10 : Nat) "java/lang/String") ∈ lw_all := lw_g (lw_at lw_m2 64 rfl) rfl
theorem q385 : (Jvm.Cond.instantiable "java/lang/String" (4 : Nat)) ∈ lw_all := lw_g (lw_at lw_m2 65 rfl) rfl
theorem q386 : (Jvm.Cond.methodLink "java/lang/String" (1008 : Nat) ({ cls := "java/lang/String", name := "<init>", desc := "([C)V" } : Jvm.MethodName)) ∈ lw_all := lw_g (lw_at lw_m2 66 rfl) rfl
theorem q387 : (Jvm.Cond.instanceMethod ({ cls := "java/lang/String", name := "<init>", desc := "([C)V" } : Jvm.MethodName)) ∈ lw_all := lw_g (lw_at lw_m2 67 rfl) rfl
theorem q388 : (Jvm.Cond.code ({ cls := "java/lang/String", name := "<init>", desc := "([C)V" } : Jvm.MethodName) prog_23_method_3_code (2 : Nat) (Option.none : Option Jvm.ClassFile.FieldType)) ∈ lw_all := lw_g (lw_at lw_m2 68 rfl) rfl
theorem q389 : (Jvm.Cond.methodLink "java/lang/String" (27 : Nat) ({ cls := "java/lang/String", name := "<init>", desc := "([CIILjava/lang/Void;)V" } : Jvm.MethodName)) ∈ lw_all := lw_g (lw_at lw_m2 69 rfl) rfl
theorem q390 : (Jvm.Cond.instanceMethod ({ cls := "java/lang/String", name := "<init>", desc := "([CIILjava/lang/Void;)V" } : Jvm.MethodName)) ∈ lw_all := lw_g (lw_at lw_m2 70 rfl) rfl
theorem q391 : (Jvm.Cond.code ({ cls := "java/lang/String", name := "<init>", desc := "([CIILjava/lang/Void;)V" } : Jvm.MethodName) prog_23_method_149_code (6 : Nat) (Option.none : Option Jvm.ClassFile.FieldType)) ∈ lw_all := lw_g (lw_at lw_m2 71 rfl) rfl
theorem q392 : (Jvm.Cond.methodLink "java/lang/String" (1 : Nat) ({ cls := "java/lang/Object", name := "<init>", desc := "()V" } : Jvm.MethodName)) ∈ lw_all := lw_g (lw_at lw_m2 72 rfl) rfl
theorem q393 : (Jvm.Cond.stringRef "java/lang/String" (7 : Nat) "") ∈ lw_tbl := lw_at lw_m2 73 rfl
theorem q394 : (Jvm.Cond.methodLink "java/lang/String" (177 : Nat) ({ cls := "java/lang/StringUTF16", name := "compress", desc := "([CII)[B" } : Jvm.MethodName)) ∈ lw_all := lw_g (lw_at lw_m2 74 rfl) rfl
theorem q432 : (Jvm.Cond.static ({ cls := "java/lang/String", name := "checkBoundsOffCount", desc := "(III)I" } : Jvm.MethodName)) ∈ lw_all := lw_g (lw_at lw_m2 112 rfl) rfl
theorem q433 : (Jvm.Cond.code ({ cls := "java/lang/String", name := "checkBoundsOffCount", desc := "(III)I" } : Jvm.MethodName) prog_23_method_157_code (3 : Nat) (Option.some Jvm.ClassFile.FieldType.int)) ∈ lw_all := lw_g (lw_at lw_m2 113 rfl) rfl
theorem q434 : (Jvm.Cond.fieldLink "java/lang/String" (1053 : Nat) "jdk/internal/util/Preconditions" "SIOOBE_FORMATTER" "Ljava/util/function/BiFunction;") ∈ lw_all := lw_g (lw_at lw_m2 114 rfl) rfl
theorem q436 : (Jvm.Cond.methodLink "java/lang/String" (1065 : Nat) ({ cls := "jdk/internal/util/Preconditions", name := "checkFromIndexSize", desc := "(IIILjava/util/function/BiFunction;)I" } : Jvm.MethodName)) ∈ lw_all := lw_g (lw_at lw_m2 116 rfl) rfl
theorem q439 : (Jvm.Cond.methodLink "java/lang/String" (47 : Nat) ({ cls := "java/lang/StringUTF16", name := "coderFromArrayLen", desc := "([BI)B" } : Jvm.MethodName)) ∈ lw_all := lw_g (lw_at lw_m2 119 rfl) rfl
theorem q442 : (Jvm.Cond.methodLink "java/lang/String" (180 : Nat) ({ cls := "java/lang/StringUTF16", name := "toBytes", desc := "([CII)[B" } : Jvm.MethodName)) ∈ lw_all := lw_g (lw_at lw_m2 122 rfl) rfl
theorem q443 : (Jvm.Cond.fieldLink "java/lang/String" (9 : Nat) "java/lang/String" "value" "[B") ∈ lw_all := lw_g (lw_at lw_m2 123 rfl) rfl
theorem q444 : (Jvm.Cond.fieldLink "java/lang/String" (15 : Nat) "java/lang/String" "coder" "B") ∈ lw_all := lw_g (lw_at lw_m2 124 rfl) rfl
theorem q445 : (Jvm.Cond.fieldLink "java/lang/String" (19 : Nat) "java/lang/String" "hash" "I") ∈ lw_all := lw_g (lw_at lw_m2 125 rfl) rfl
theorem q446 : (Jvm.Cond.fieldLink "java/lang/String" (23 : Nat) "java/lang/String" "hashIsZero" "Z") ∈ lw_all := lw_g (lw_at lw_m2 126 rfl) rfl
theorem q447 : (Jvm.Cond.laysFinal "java/lang/String" "java/lang/String" "value" "[B") ∈ lw_all := lw_g (lw_at lw_m2 127 rfl) rfl
theorem q448 : (Jvm.Cond.soleField "java/lang/String" "value") ∈ lw_all := lw_g (lw_at lw_m2 128 rfl) rfl
theorem q449 : (Jvm.Cond.laysFinal "java/lang/String" "java/lang/String" "coder" "B") ∈ lw_all := lw_g (lw_at lw_m2 129 rfl) rfl
theorem q450 : (Jvm.Cond.soleField "java/lang/String" "coder") ∈ lw_all := lw_g (lw_at lw_m2 130 rfl) rfl
theorem q451 : (Jvm.Cond.lays "java/lang/String" "java/lang/String" "hash" "I") ∈ lw_all := lw_g (lw_at lw_m2 131 rfl) rfl
theorem q452 : (Jvm.Cond.soleField "java/lang/String" "hash") ∈ lw_all := lw_g (lw_at lw_m2 132 rfl) rfl
theorem q453 : (Jvm.Cond.lays "java/lang/String" "java/lang/String" "hashIsZero" "Z") ∈ lw_all := lw_g (lw_at lw_m2 133 rfl) rfl
theorem q454 : (Jvm.Cond.soleField "java/lang/String" "hashIsZero") ∈ lw_all := lw_g (lw_at lw_m2 134 rfl) rfl
theorem q455 : (Jvm.Cond.superclass "java/lang/String" "java/lang/Object") ∈ lw_all := lw_g (lw_at lw_m2 135 rfl) rfl
theorem q457 : (Jvm.Cond.instanceMethod ({ cls := "java/lang/String", name := "equals", desc := "(Ljava/lang/Object;)Z" } : Jvm.MethodName)) ∈ lw_all := lw_g (lw_at lw_m2 137 rfl) rfl
theorem q458 : (Jvm.Cond.selects "java/lang/String" ({ cls := "java/lang/String", name := "equals", desc := "(Ljava/lang/Object;)Z" } : Jvm.MethodName) ({ cls := "java/lang/String", name := "equals", desc := "(Ljava/lang/Object;)Z" } : Jvm.MethodName)) ∈ lw_all := lw_g (lw_at lw_m2 138 rfl) rfl
theorem q459 : (Jvm.Cond.code ({ cls := "java/lang/String", name := "equals", desc := "(Ljava/lang/Object;)Z" } : Jvm.MethodName) prog_23_method_66_code (3 : Nat) (Option.some Jvm.ClassFile.FieldType.boolean)) ∈ lw_all := lw_g (lw_at lw_m2 139 rfl) rfl
theorem q460 : (Jvm.Cond.methodLink "java/lang/String" (541 : Nat) ({ cls := "java/lang/StringLatin1", name := "equals", desc := "([B[B)Z" } : Jvm.MethodName)) ∈ lw_all := lw_g (lw_at lw_m2 140 rfl) rfl
theorem q477 : (Jvm.Cond.instanceMethod ({ cls := "java/lang/String", name := "hashCode", desc := "()I" } : Jvm.MethodName)) ∈ lw_all := lw_g (lw_at lw_m2 157 rfl) rfl
theorem q478 : (Jvm.Cond.selects "java/lang/String" ({ cls := "java/lang/String", name := "hashCode", desc := "()I" } : Jvm.MethodName) ({ cls := "java/lang/String", name := "hashCode", desc := "()I" } : Jvm.MethodName)) ∈ lw_all := lw_g (lw_at lw_m2 158 rfl) rfl
theorem q479 : (Jvm.Cond.code ({ cls := "java/lang/String", name := "hashCode", desc := "()I" } : Jvm.MethodName) prog_23_method_78_code (2 : Nat) (Option.some Jvm.ClassFile.FieldType.int)) ∈ lw_all := lw_g (lw_at lw_m2 159 rfl) rfl
theorem q480 : (Jvm.Cond.methodLink "java/lang/String" (492 : Nat) ({ cls := "java/lang/String", name := "isLatin1", desc := "()Z" } : Jvm.MethodName)) ∈ lw_all := lw_g (lw_at lw_m2 160 rfl) rfl
theorem q481 : (Jvm.Cond.instanceMethod ({ cls := "java/lang/String", name := "isLatin1", desc := "()Z" } : Jvm.MethodName)) ∈ lw_all := lw_g (lw_at lw_m2 161 rfl) rfl
theorem q482 : (Jvm.Cond.selects "java/lang/String" ({ cls := "java/lang/String", name := "isLatin1", desc := "()Z" } : Jvm.MethodName) ({ cls := "java/lang/String", name := "isLatin1", desc := "()Z" } : Jvm.MethodName)) ∈ lw_all := lw_g (lw_at lw_m2 162 rfl) rfl
theorem q483 : (Jvm.Cond.code ({ cls := "java/lang/String", name := "isLatin1", desc := "()Z" } : Jvm.MethodName) prog_23_method_154_code (1 : Nat) (Option.some Jvm.ClassFile.FieldType.boolean)) ∈ lw_all := lw_g (lw_at lw_m2 163 rfl) rfl
theorem q484 : (Jvm.Cond.methodLink "java/lang/String" (628 : Nat) ({ cls := "java/lang/StringLatin1", name := "hashCode", desc := "([B)I" } : Jvm.MethodName)) ∈ lw_all := lw_g (lw_at lw_m2 164 rfl) rfl
theorem q525 : (Jvm.Cond.methodLink "java/lang/String" (632 : Nat) ({ cls := "java/lang/StringUTF16", name := "hashCode", desc := "([B)I" } : Jvm.MethodName)) ∈ lw_all := lw_g (lw_at lw_m2 205 rfl) rfl
theorem q676 : (Jvm.Cond.selects "java/lang/String" ({ cls := "java/lang/Object", name := "getClass", desc := "()Ljava/lang/Class;" } : Jvm.MethodName) ({ cls := "java/lang/Object", name := "getClass", desc := "()Ljava/lang/Class;" } : Jvm.MethodName)) ∈ lw_all := lw_g (lw_at lw_m3 116 rfl) rfl
theorem q701 : (Jvm.Cond.instanceMethod ({ cls := "java/lang/String", name := "charAt", desc := "(I)C" } : Jvm.MethodName)) ∈ lw_all := lw_g (lw_at lw_m3 141 rfl) rfl
theorem q702 : (Jvm.Cond.selects "java/lang/String" ({ cls := "java/lang/String", name := "charAt", desc := "(I)C" } : Jvm.MethodName) ({ cls := "java/lang/String", name := "charAt", desc := "(I)C" } : Jvm.MethodName)) ∈ lw_all := lw_g (lw_at lw_m3 142 rfl) rfl
theorem q703 : (Jvm.Cond.code ({ cls := "java/lang/String", name := "charAt", desc := "(I)C" } : Jvm.MethodName) prog_23_method_56_code (2 : Nat) (Option.some Jvm.ClassFile.FieldType.char)) ∈ lw_all := lw_g (lw_at lw_m3 143 rfl) rfl
theorem q704 : (Jvm.Cond.methodLink "java/lang/String" (495 : Nat) ({ cls := "java/lang/StringLatin1", name := "charAt", desc := "([BI)C" } : Jvm.MethodName)) ∈ lw_all := lw_g (lw_at lw_m3 144 rfl) rfl
theorem q708 : (Jvm.Cond.static ({ cls := "java/lang/String", name := "checkIndex", desc := "(II)V" } : Jvm.MethodName)) ∈ lw_all := lw_g (lw_at lw_m3 148 rfl) rfl
theorem q709 : (Jvm.Cond.code ({ cls := "java/lang/String", name := "checkIndex", desc := "(II)V" } : Jvm.MethodName) prog_23_method_155_code (2 : Nat) (Option.none : Option Jvm.ClassFile.FieldType)) ∈ lw_all := lw_g (lw_at lw_m3 149 rfl) rfl
theorem q710 : (Jvm.Cond.methodLink "java/lang/String" (1059 : Nat) ({ cls := "jdk/internal/util/Preconditions", name := "checkIndex", desc := "(IILjava/util/function/BiFunction;)I" } : Jvm.MethodName)) ∈ lw_all := lw_g (lw_at lw_m3 150 rfl) rfl
theorem q713 : (Jvm.Cond.methodLink "java/lang/String" (498 : Nat) ({ cls := "java/lang/StringUTF16", name := "charAt", desc := "([BI)C" } : Jvm.MethodName)) ∈ lw_all := lw_g (lw_at lw_m3 153 rfl) rfl
theorem q848 : (Jvm.Cond.static ({ cls := "java/lang/String", name := "valueOf", desc := "([CII)Ljava/lang/String;" } : Jvm.MethodName)) ∈ lw_all := lw_g (lw_at lw_m4 48 rfl) rfl
theorem q849 : (Jvm.Cond.code ({ cls := "java/lang/String", name := "valueOf", desc := "([CII)Ljava/lang/String;" } : Jvm.MethodName) prog_23_method_135_code (3 : Nat) (Option.some (Jvm.ClassFile.FieldType.object "java/lang/String"))) ∈ lw_all := lw_g (lw_at lw_m4 49 rfl) rfl
theorem q850 : (Jvm.Cond.methodLink "java/lang/String" (970 : Nat) ({ cls := "java/lang/String", name := "<init>", desc := "([CII)V" } : Jvm.MethodName)) ∈ lw_all := lw_g (lw_at lw_m4 50 rfl) rfl
theorem q851 : (Jvm.Cond.instanceMethod ({ cls := "java/lang/String", name := "<init>", desc := "([CII)V" } : Jvm.MethodName)) ∈ lw_all := lw_g (lw_at lw_m4 51 rfl) rfl
theorem q852 : (Jvm.Cond.code ({ cls := "java/lang/String", name := "<init>", desc := "([CII)V" } : Jvm.MethodName) prog_23_method_4_code (4 : Nat) (Option.none : Option Jvm.ClassFile.FieldType)) ∈ lw_all := lw_g (lw_at lw_m4 52 rfl) rfl
theorem q853 : (Jvm.Cond.methodLink "java/lang/String" (30 : Nat) ({ cls := "java/lang/String", name := "rangeCheck", desc := "([CII)Ljava/lang/Void;" } : Jvm.MethodName)) ∈ lw_all := lw_g (lw_at lw_m4 53 rfl) rfl
theorem q854 : (Jvm.Cond.static ({ cls := "java/lang/String", name := "rangeCheck", desc := "([CII)Ljava/lang/Void;" } : Jvm.MethodName)) ∈ lw_all := lw_g (lw_at lw_m4 54 rfl) rfl
theorem q855 : (Jvm.Cond.code ({ cls := "java/lang/String", name := "rangeCheck", desc := "([CII)Ljava/lang/Void;" } : Jvm.MethodName) prog_23_method_5_code (3 : Nat) (Option.some (Jvm.ClassFile.FieldType.object "java/lang/Void"))) ∈ lw_all := lw_g (lw_at lw_m4 55 rfl) rfl
theorem q856 : (Jvm.Cond.methodLink "java/lang/String" (34 : Nat) ({ cls := "java/lang/String", name := "checkBoundsOffCount", desc := "(III)I" } : Jvm.MethodName)) ∈ lw_all := lw_g (lw_at lw_m4 56 rfl) rfl
theorem q924 : (Jvm.Cond.selects "java/lang/String" ({ cls := "java/lang/Object", name := "equals", desc := "(Ljava/lang/Object;)Z" } : Jvm.MethodName) ({ cls := "java/lang/String", name := "equals", desc := "(Ljava/lang/Object;)Z" } : Jvm.MethodName)) ∈ lw_all := lw_g (lw_at lw_m4 124 rfl) rfl
theorem q1655 : (Jvm.Cond.castable "java/lang/String" "java/lang/Object") ∈ lw_tbl := lw_at lw_m7 135 rfl
theorem in_J6 : ∀ w ∈ wsJ60, w ∈ lw_all := lw_in wsJ60 [447, 449, 451, 453] (by decide +kernel) (by decide +kernel)
/-! java/lang/StringUTF16 -/
set_option maxRecDepth 100000
def RJ7 : String := "java/lang/StringUTF16"
abbrev cJ7_compress : ByteArray := prog_25_method_16_code
def yJ7_compress : MethodName := ⟨RJ7, "compress", "([CII)[B"⟩
def dkwJ7_compress_2 : List UInt8 := [184, 0, 123, 28, 159, 0, 6, 25, 5, 176, 45, 176]
abbrev dktJ7_compress_2 : List UInt8 := dkwJ7_compress_2 ++ []
def dkwJ7_compress_1 : List UInt8 := [184, 0, 119, 58, 5, 25, 5, 21, 4, 184, 0, 71, 17, 0, 255, 163, 0, 16, 25, 5, 3, 45, 3, 28]
abbrev dktJ7_compress_1 : List UInt8 := dkwJ7_compress_1 ++ dktJ7_compress_2
def dkwJ7_compress_0 : List UInt8 := [28, 188, 8, 78, 42, 27, 45, 3, 28, 184, 0, 115, 54, 4, 21, 4, 28, 159, 0, 40, 42, 27, 28]
abbrev dktJ7_compress_0 : List UInt8 := dkwJ7_compress_0 ++ dktJ7_compress_1
theorem dksJ7_compress_0 : cJ7_compress.data.toList.drop 0 = dktJ7_compress_0 := by decide +kernel
theorem dksJ7_compress_1 : cJ7_compress.data.toList.drop 23 = dktJ7_compress_1 := dk_seg dksJ7_compress_0 23 rfl rfl
theorem dksJ7_compress_2 : cJ7_compress.data.toList.drop 47 = dktJ7_compress_2 := dk_seg dksJ7_compress_1 24 rfl rfl
theorem dJ7_compress_0 : decode cJ7_compress 0 = .ok (.iload_n 2, 1) := dk_28 (dk_at dksJ7_compress_0 0 rfl rfl)
theorem dJ7_compress_1 : decode cJ7_compress 1 = .ok (.newarray .byte, 2) := dk_188_8 (dk_at dksJ7_compress_0 1 rfl rfl)
theorem dJ7_compress_3 : decode cJ7_compress 3 = .ok (.astore_n 3, 1) := dk_78 (dk_at dksJ7_compress_0 3 rfl rfl)
theorem dJ7_compress_4 : decode cJ7_compress 4 = .ok (.aload_n 0, 1) := dk_42 (dk_at dksJ7_compress_0 4 rfl rfl)
theorem dJ7_compress_5 : decode cJ7_compress 5 = .ok (.iload_n 1, 1) := dk_27 (dk_at dksJ7_compress_0 5 rfl rfl)
theorem dJ7_compress_6 : decode cJ7_compress 6 = .ok (.aload_n 3, 1) := dk_45 (dk_at dksJ7_compress_0 6 rfl rfl)
theorem dJ7_compress_7 : decode cJ7_compress 7 = .ok (.iconst 0, 1) := dk_3 (dk_at dksJ7_compress_0 7 rfl rfl)
theorem dJ7_compress_8 : decode cJ7_compress 8 = .ok (.iload_n 2, 1) := dk_28 (dk_at dksJ7_compress_0 8 rfl rfl)
theorem dJ7_compress_9 : decode cJ7_compress 9 = .ok (.invokestatic 115, 3) := dk_184 0 115 (dk_at dksJ7_compress_0 9 rfl rfl)
theorem dJ7_compress_12 : decode cJ7_compress 12 = .ok (.istore 4, 2) := dk_54 4 (dk_at dksJ7_compress_0 12 rfl rfl)
theorem dJ7_compress_14 : decode cJ7_compress 14 = .ok (.iload 4, 2) := dk_21 4 (dk_at dksJ7_compress_0 14 rfl rfl)
theorem dJ7_compress_16 : decode cJ7_compress 16 = .ok (.iload_n 2, 1) := dk_28 (dk_at dksJ7_compress_0 16 rfl rfl)
theorem dJ7_compress_17 : decode cJ7_compress 17 = .ok (.if_icmp .eq 40, 3) := dk_159 0 40 (dk_at dksJ7_compress_0 17 rfl rfl)
theorem dJ7_compress_20 : decode cJ7_compress 20 = .ok (.aload_n 0, 1) := dk_42 (dk_at dksJ7_compress_0 20 rfl rfl)
theorem dJ7_compress_21 : decode cJ7_compress 21 = .ok (.iload_n 1, 1) := dk_27 (dk_at dksJ7_compress_0 21 rfl rfl)
theorem dJ7_compress_22 : decode cJ7_compress 22 = .ok (.iload_n 2, 1) := dk_28 (dk_at dksJ7_compress_0 22 rfl rfl)
theorem dJ7_compress_23 : decode cJ7_compress 23 = .ok (.invokestatic 119, 3) := dk_184 0 119 (dk_at dksJ7_compress_1 0 rfl rfl)
theorem dJ7_compress_26 : decode cJ7_compress 26 = .ok (.astore 5, 2) := dk_58 5 (dk_at dksJ7_compress_1 3 rfl rfl)
theorem dJ7_compress_28 : decode cJ7_compress 28 = .ok (.aload 5, 2) := dk_25 5 (dk_at dksJ7_compress_1 5 rfl rfl)
theorem dJ7_compress_30 : decode cJ7_compress 30 = .ok (.iload 4, 2) := dk_21 4 (dk_at dksJ7_compress_1 7 rfl rfl)
theorem dJ7_compress_32 : decode cJ7_compress 32 = .ok (.invokestatic 71, 3) := dk_184 0 71 (dk_at dksJ7_compress_1 9 rfl rfl)
theorem dJ7_compress_35 : decode cJ7_compress 35 = .ok (.sipush 255, 3) := dk_17 0 255 (dk_at dksJ7_compress_1 12 rfl rfl)
theorem dJ7_compress_38 : decode cJ7_compress 38 = .ok (.if_icmp .gt 16, 3) := dk_163 0 16 (dk_at dksJ7_compress_1 15 rfl rfl)
theorem dJ7_compress_41 : decode cJ7_compress 41 = .ok (.aload 5, 2) := dk_25 5 (dk_at dksJ7_compress_1 18 rfl rfl)
theorem dJ7_compress_43 : decode cJ7_compress 43 = .ok (.iconst 0, 1) := dk_3 (dk_at dksJ7_compress_1 20 rfl rfl)
theorem dJ7_compress_44 : decode cJ7_compress 44 = .ok (.aload_n 3, 1) := dk_45 (dk_at dksJ7_compress_1 21 rfl rfl)
theorem dJ7_compress_45 : decode cJ7_compress 45 = .ok (.iconst 0, 1) := dk_3 (dk_at dksJ7_compress_1 22 rfl rfl)
theorem dJ7_compress_46 : decode cJ7_compress 46 = .ok (.iload_n 2, 1) := dk_28 (dk_at dksJ7_compress_1 23 rfl rfl)
theorem dJ7_compress_47 : decode cJ7_compress 47 = .ok (.invokestatic 123, 3) := dk_184 0 123 (dk_at dksJ7_compress_2 0 rfl rfl)
theorem dJ7_compress_50 : decode cJ7_compress 50 = .ok (.iload_n 2, 1) := dk_28 (dk_at dksJ7_compress_2 3 rfl rfl)
theorem dJ7_compress_51 : decode cJ7_compress 51 = .ok (.if_icmp .eq 6, 3) := dk_159 0 6 (dk_at dksJ7_compress_2 4 rfl rfl)
theorem dJ7_compress_54 : decode cJ7_compress 54 = .ok (.aload 5, 2) := dk_25 5 (dk_at dksJ7_compress_2 7 rfl rfl)
theorem dJ7_compress_56 : decode cJ7_compress 56 = .ok (.areturn, 1) := dk_176 (dk_at dksJ7_compress_2 9 rfl rfl)
theorem dJ7_compress_57 : decode cJ7_compress 57 = .ok (.aload_n 3, 1) := dk_45 (dk_at dksJ7_compress_2 10 rfl rfl)
theorem dJ7_compress_58 : decode cJ7_compress 58 = .ok (.areturn, 1) := dk_176 (dk_at dksJ7_compress_2 11 rfl rfl)
abbrev cJ7_compress_2 : ByteArray := prog_25_method_21_code
def yJ7_compress_2 : MethodName := ⟨RJ7, "compress", "([CI[BII)I"⟩
def dkwJ7_compress_2_1 : List UInt8 := [21, 5, 172, 44, 29, 21, 6, 145, 84, 132, 1, 1, 132, 3, 1, 132, 5, 1, 167, 255, 218, 21, 4, 172]
abbrev dktJ7_compress_2_1 : List UInt8 := dkwJ7_compress_2_1 ++ []
def dkwJ7_compress_2_0 : List UInt8 := [3, 54, 5, 21, 5, 21, 4, 162, 0, 37, 42, 27, 52, 54, 6, 21, 6, 17, 0, 255, 164, 0, 6]
abbrev dktJ7_compress_2_0 : List UInt8 := dkwJ7_compress_2_0 ++ dktJ7_compress_2_1
theorem dksJ7_compress_2_0 : cJ7_compress_2.data.toList.drop 0 = dktJ7_compress_2_0 := by decide +kernel
theorem dksJ7_compress_2_1 : cJ7_compress_2.data.toList.drop 23 = dktJ7_compress_2_1 := dk_seg dksJ7_compress_2_0 23 rfl rfl
theorem dJ7_compress_2_0 : decode cJ7_compress_2 0 = .ok (.iconst 0, 1) := dk_3 (dk_at dksJ7_compress_2_0 0 rfl rfl)
theorem dJ7_compress_2_1 : decode cJ7_compress_2 1 = .ok (.istore 5, 2) := dk_54 5 (dk_at dksJ7_compress_2_0 1 rfl rfl)
theorem dJ7_compress_2_3 : decode cJ7_compress_2 3 = .ok (.iload 5, 2) := dk_21 5 (dk_at dksJ7_compress_2_0 3 rfl rfl)
theorem dJ7_compress_2_5 : decode cJ7_compress_2 5 = .ok (.iload 4, 2) := dk_21 4 (dk_at dksJ7_compress_2_0 5 rfl rfl)
theorem dJ7_compress_2_7 : decode cJ7_compress_2 7 = .ok (.if_icmp .ge 37, 3) := dk_162 0 37 (dk_at dksJ7_compress_2_0 7 rfl rfl)
theorem dJ7_compress_2_10 : decode cJ7_compress_2 10 = .ok (.aload_n 0, 1) := dk_42 (dk_at dksJ7_compress_2_0 10 rfl rfl)
theorem dJ7_compress_2_11 : decode cJ7_compress_2 11 = .ok (.iload_n 1, 1) := dk_27 (dk_at dksJ7_compress_2_0 11 rfl rfl)
theorem dJ7_compress_2_12 : decode cJ7_compress_2 12 = .ok (.caload, 1) := dk_52 (dk_at dksJ7_compress_2_0 12 rfl rfl)
theorem dJ7_compress_2_13 : decode cJ7_compress_2 13 = .ok (.istore 6, 2) := dk_54 6 (dk_at dksJ7_compress_2_0 13 rfl rfl)
theorem dJ7_compress_2_15 : decode cJ7_compress_2 15 = .ok (.iload 6, 2) := dk_21 6 (dk_at dksJ7_compress_2_0 15 rfl rfl)
theorem dJ7_compress_2_17 : decode cJ7_compress_2 17 = .ok (.sipush 255, 3) := dk_17 0 255 (dk_at dksJ7_compress_2_0 17 rfl rfl)
theorem dJ7_compress_2_20 : decode cJ7_compress_2 20 = .ok (.if_icmp .le 6, 3) := dk_164 0 6 (dk_at dksJ7_compress_2_0 20 rfl rfl)
theorem dJ7_compress_2_23 : decode cJ7_compress_2 23 = .ok (.iload 5, 2) := dk_21 5 (dk_at dksJ7_compress_2_1 0 rfl rfl)
theorem dJ7_compress_2_25 : decode cJ7_compress_2 25 = .ok (.ireturn, 1) := dk_172 (dk_at dksJ7_compress_2_1 2 rfl rfl)
theorem dJ7_compress_2_26 : decode cJ7_compress_2 26 = .ok (.aload_n 2, 1) := dk_44 (dk_at dksJ7_compress_2_1 3 rfl rfl)
theorem dJ7_compress_2_27 : decode cJ7_compress_2 27 = .ok (.iload_n 3, 1) := dk_29 (dk_at dksJ7_compress_2_1 4 rfl rfl)
theorem dJ7_compress_2_28 : decode cJ7_compress_2 28 = .ok (.iload 6, 2) := dk_21 6 (dk_at dksJ7_compress_2_1 5 rfl rfl)
theorem dJ7_compress_2_30 : decode cJ7_compress_2 30 = .ok (.i2b, 1) := dk_145 (dk_at dksJ7_compress_2_1 7 rfl rfl)
theorem dJ7_compress_2_31 : decode cJ7_compress_2 31 = .ok (.bastore, 1) := dk_84 (dk_at dksJ7_compress_2_1 8 rfl rfl)
theorem dJ7_compress_2_32 : decode cJ7_compress_2 32 = .ok (.iinc 1 1, 3) := dk_132 1 1 (dk_at dksJ7_compress_2_1 9 rfl rfl)
theorem dJ7_compress_2_35 : decode cJ7_compress_2 35 = .ok (.iinc 3 1, 3) := dk_132 3 1 (dk_at dksJ7_compress_2_1 12 rfl rfl)
theorem dJ7_compress_2_38 : decode cJ7_compress_2 38 = .ok (.iinc 5 1, 3) := dk_132 5 1 (dk_at dksJ7_compress_2_1 15 rfl rfl)
theorem dJ7_compress_2_41 : decode cJ7_compress_2 41 = .ok (.goto (-38), 3) := dk_167 255 218 (dk_at dksJ7_compress_2_1 18 rfl rfl)
theorem dJ7_compress_2_44 : decode cJ7_compress_2 44 = .ok (.iload 4, 2) := dk_21 4 (dk_at dksJ7_compress_2_1 21 rfl rfl)
theorem dJ7_compress_2_46 : decode cJ7_compress_2 46 = .ok (.ireturn, 1) := dk_172 (dk_at dksJ7_compress_2_1 23 rfl rfl)
abbrev cJ7_toBytes : ByteArray := prog_25_method_14_code
def yJ7_toBytes : MethodName := ⟨RJ7, "toBytes", "([CII)[B"⟩
def dkwJ7_toBytes_1 : List UInt8 := [132, 1, 1, 132, 4, 1, 167, 255, 235, 45, 176]
abbrev dktJ7_toBytes_1 : List UInt8 := dkwJ7_toBytes_1 ++ []
def dkwJ7_toBytes_0 : List UInt8 := [28, 184, 0, 107, 78, 3, 54, 4, 21, 4, 28, 162, 0, 21, 45, 21, 4, 42, 27, 52, 184, 0, 111]
abbrev dktJ7_toBytes_0 : List UInt8 := dkwJ7_toBytes_0 ++ dktJ7_toBytes_1
theorem dksJ7_toBytes_0 : cJ7_toBytes.data.toList.drop 0 = dktJ7_toBytes_0 := by decide +kernel
theorem dksJ7_toBytes_1 : cJ7_toBytes.data.toList.drop 23 = dktJ7_toBytes_1 := dk_seg dksJ7_toBytes_0 23 rfl rfl
theorem dJ7_toBytes_0 : decode cJ7_toBytes 0 = .ok (.iload_n 2, 1) := dk_28 (dk_at dksJ7_toBytes_0 0 rfl rfl)
theorem dJ7_toBytes_1 : decode cJ7_toBytes 1 = .ok (.invokestatic 107, 3) := dk_184 0 107 (dk_at dksJ7_toBytes_0 1 rfl rfl)
theorem dJ7_toBytes_4 : decode cJ7_toBytes 4 = .ok (.astore_n 3, 1) := dk_78 (dk_at dksJ7_toBytes_0 4 rfl rfl)
theorem dJ7_toBytes_5 : decode cJ7_toBytes 5 = .ok (.iconst 0, 1) := dk_3 (dk_at dksJ7_toBytes_0 5 rfl rfl)
theorem dJ7_toBytes_6 : decode cJ7_toBytes 6 = .ok (.istore 4, 2) := dk_54 4 (dk_at dksJ7_toBytes_0 6 rfl rfl)
theorem dJ7_toBytes_8 : decode cJ7_toBytes 8 = .ok (.iload 4, 2) := dk_21 4 (dk_at dksJ7_toBytes_0 8 rfl rfl)
theorem dJ7_toBytes_10 : decode cJ7_toBytes 10 = .ok (.iload_n 2, 1) := dk_28 (dk_at dksJ7_toBytes_0 10 rfl rfl)
theorem dJ7_toBytes_11 : decode cJ7_toBytes 11 = .ok (.if_icmp .ge 21, 3) := dk_162 0 21 (dk_at dksJ7_toBytes_0 11 rfl rfl)
theorem dJ7_toBytes_14 : decode cJ7_toBytes 14 = .ok (.aload_n 3, 1) := dk_45 (dk_at dksJ7_toBytes_0 14 rfl rfl)
theorem dJ7_toBytes_15 : decode cJ7_toBytes 15 = .ok (.iload 4, 2) := dk_21 4 (dk_at dksJ7_toBytes_0 15 rfl rfl)
theorem dJ7_toBytes_17 : decode cJ7_toBytes 17 = .ok (.aload_n 0, 1) := dk_42 (dk_at dksJ7_toBytes_0 17 rfl rfl)
theorem dJ7_toBytes_18 : decode cJ7_toBytes 18 = .ok (.iload_n 1, 1) := dk_27 (dk_at dksJ7_toBytes_0 18 rfl rfl)
theorem dJ7_toBytes_19 : decode cJ7_toBytes 19 = .ok (.caload, 1) := dk_52 (dk_at dksJ7_toBytes_0 19 rfl rfl)
theorem dJ7_toBytes_20 : decode cJ7_toBytes 20 = .ok (.invokestatic 111, 3) := dk_184 0 111 (dk_at dksJ7_toBytes_0 20 rfl rfl)
theorem dJ7_toBytes_23 : decode cJ7_toBytes 23 = .ok (.iinc 1 1, 3) := dk_132 1 1 (dk_at dksJ7_toBytes_1 0 rfl rfl)
theorem dJ7_toBytes_26 : decode cJ7_toBytes 26 = .ok (.iinc 4 1, 3) := dk_132 4 1 (dk_at dksJ7_toBytes_1 3 rfl rfl)
theorem dJ7_toBytes_29 : decode cJ7_toBytes 29 = .ok (.goto (-21), 3) := dk_167 255 235 (dk_at dksJ7_toBytes_1 6 rfl rfl)
theorem dJ7_toBytes_32 : decode cJ7_toBytes 32 = .ok (.aload_n 3, 1) := dk_45 (dk_at dksJ7_toBytes_1 9 rfl rfl)
theorem dJ7_toBytes_33 : decode cJ7_toBytes 33 = .ok (.areturn, 1) := dk_176 (dk_at dksJ7_toBytes_1 10 rfl rfl)
abbrev cJ7_newBytesFor : ByteArray := prog_25_method_2_code
def yJ7_newBytesFor : MethodName := ⟨RJ7, "newBytesFor", "(I)[B"⟩
def dkwJ7_newBytesFor_0 : List UInt8 := [26, 184, 0, 11, 188, 8, 176]
abbrev dktJ7_newBytesFor_0 : List UInt8 := dkwJ7_newBytesFor_0 ++ []
theorem dksJ7_newBytesFor_0 : cJ7_newBytesFor.data.toList.drop 0 = dktJ7_newBytesFor_0 := by decide +kernel
theorem dJ7_newBytesFor_0 : decode cJ7_newBytesFor 0 = .ok (.iload_n 0, 1) := dk_26 (dk_at dksJ7_newBytesFor_0 0 rfl rfl)
theorem dJ7_newBytesFor_1 : decode cJ7_newBytesFor 1 = .ok (.invokestatic 11, 3) := dk_184 0 11 (dk_at dksJ7_newBytesFor_0 1 rfl rfl)
theorem dJ7_newBytesFor_4 : decode cJ7_newBytesFor 4 = .ok (.newarray .byte, 2) := dk_188_8 (dk_at dksJ7_newBytesFor_0 4 rfl rfl)
theorem dJ7_newBytesFor_6 : decode cJ7_newBytesFor 6 = .ok (.areturn, 1) := dk_176 (dk_at dksJ7_newBytesFor_0 6 rfl rfl)
abbrev cJ7_newBytesLength : ByteArray := prog_25_method_3_code
def yJ7_newBytesLength : MethodName := ⟨RJ7, "newBytesLength", "(I)I"⟩
def dkwJ7_newBytesLength_2 : List UInt8 := [182, 0, 32, 182, 0, 37, 183, 0, 41, 191, 26, 4, 120, 172]
abbrev dktJ7_newBytesLength_2 : List UInt8 := dkwJ7_newBytesLength_2 ++ []
def dkwJ7_newBytesLength_1 : List UInt8 := [187, 0, 23, 89, 183, 0, 25, 18, 26, 182, 0, 28, 26, 182, 0, 32, 18, 35, 182, 0, 28, 18, 20]
abbrev dktJ7_newBytesLength_1 : List UInt8 := dkwJ7_newBytesLength_1 ++ dktJ7_newBytesLength_2
def dkwJ7_newBytesLength_0 : List UInt8 := [26, 156, 0, 11, 187, 0, 17, 89, 183, 0, 19, 191, 26, 18, 20, 161, 0, 40, 187, 0, 21, 89]
abbrev dktJ7_newBytesLength_0 : List UInt8 := dkwJ7_newBytesLength_0 ++ dktJ7_newBytesLength_1
theorem dksJ7_newBytesLength_0 : cJ7_newBytesLength.data.toList.drop 0 = dktJ7_newBytesLength_0 := by decide +kernel
theorem dksJ7_newBytesLength_1 : cJ7_newBytesLength.data.toList.drop 22 = dktJ7_newBytesLength_1 := dk_seg dksJ7_newBytesLength_0 22 rfl rfl
theorem dksJ7_newBytesLength_2 : cJ7_newBytesLength.data.toList.drop 45 = dktJ7_newBytesLength_2 := dk_seg dksJ7_newBytesLength_1 23 rfl rfl
theorem dJ7_newBytesLength_0 : decode cJ7_newBytesLength 0 = .ok (.iload_n 0, 1) := dk_26 (dk_at dksJ7_newBytesLength_0 0 rfl rfl)
theorem dJ7_newBytesLength_1 : decode cJ7_newBytesLength 1 = .ok (.ifCond .ge 11, 3) := dk_156 0 11 (dk_at dksJ7_newBytesLength_0 1 rfl rfl)
theorem dJ7_newBytesLength_4 : decode cJ7_newBytesLength 4 = .ok (.new 17, 3) := dk_187 0 17 (dk_at dksJ7_newBytesLength_0 4 rfl rfl)
theorem dJ7_newBytesLength_7 : decode cJ7_newBytesLength 7 = .ok (.dup, 1) := dk_89 (dk_at dksJ7_newBytesLength_0 7 rfl rfl)
theorem dJ7_newBytesLength_8 : decode cJ7_newBytesLength 8 = .ok (.invokespecial 19, 3) := dk_183 0 19 (dk_at dksJ7_newBytesLength_0 8 rfl rfl)
theorem dJ7_newBytesLength_11 : decode cJ7_newBytesLength 11 = .ok (.athrow, 1) := dk_191 (dk_at dksJ7_newBytesLength_0 11 rfl rfl)
theorem dJ7_newBytesLength_12 : decode cJ7_newBytesLength 12 = .ok (.iload_n 0, 1) := dk_26 (dk_at dksJ7_newBytesLength_0 12 rfl rfl)
theorem dJ7_newBytesLength_13 : decode cJ7_newBytesLength 13 = .ok (.ldc 20, 2) := dk_18 20 (dk_at dksJ7_newBytesLength_0 13 rfl rfl)
theorem dJ7_newBytesLength_15 : decode cJ7_newBytesLength 15 = .ok (.if_icmp .lt 40, 3) := dk_161 0 40 (dk_at dksJ7_newBytesLength_0 15 rfl rfl)
theorem dJ7_newBytesLength_18 : decode cJ7_newBytesLength 18 = .ok (.new 21, 3) := dk_187 0 21 (dk_at dksJ7_newBytesLength_0 18 rfl rfl)
theorem dJ7_newBytesLength_21 : decode cJ7_newBytesLength 21 = .ok (.dup, 1) := dk_89 (dk_at dksJ7_newBytesLength_0 21 rfl rfl)
theorem dJ7_newBytesLength_22 : decode cJ7_newBytesLength 22 = .ok (.new 23, 3) := dk_187 0 23 (dk_at dksJ7_newBytesLength_1 0 rfl rfl)
theorem dJ7_newBytesLength_25 : decode cJ7_newBytesLength 25 = .ok (.dup, 1) := dk_89 (dk_at dksJ7_newBytesLength_1 3 rfl rfl)
theorem dJ7_newBytesLength_26 : decode cJ7_newBytesLength 26 = .ok (.invokespecial 25, 3) := dk_183 0 25 (dk_at dksJ7_newBytesLength_1 4 rfl rfl)
theorem dJ7_newBytesLength_29 : decode cJ7_newBytesLength 29 = .ok (.ldc 26, 2) := dk_18 26 (dk_at dksJ7_newBytesLength_1 7 rfl rfl)
theorem dJ7_newBytesLength_31 : decode cJ7_newBytesLength 31 = .ok (.invokevirtual 28, 3) := dk_182 0 28 (dk_at dksJ7_newBytesLength_1 9 rfl rfl)
theorem dJ7_newBytesLength_34 : decode cJ7_newBytesLength 34 = .ok (.iload_n 0, 1) := dk_26 (dk_at dksJ7_newBytesLength_1 12 rfl rfl)
theorem dJ7_newBytesLength_35 : decode cJ7_newBytesLength 35 = .ok (.invokevirtual 32, 3) := dk_182 0 32 (dk_at dksJ7_newBytesLength_1 13 rfl rfl)
theorem dJ7_newBytesLength_38 : decode cJ7_newBytesLength 38 = .ok (.ldc 35, 2) := dk_18 35 (dk_at dksJ7_newBytesLength_1 16 rfl rfl)
theorem dJ7_newBytesLength_40 : decode cJ7_newBytesLength 40 = .ok (.invokevirtual 28, 3) := dk_182 0 28 (dk_at dksJ7_newBytesLength_1 18 rfl rfl)
theorem dJ7_newBytesLength_43 : decode cJ7_newBytesLength 43 = .ok (.ldc 20, 2) := dk_18 20 (dk_at dksJ7_newBytesLength_1 21 rfl rfl)
theorem dJ7_newBytesLength_45 : decode cJ7_newBytesLength 45 = .ok (.invokevirtual 32, 3) := dk_182 0 32 (dk_at dksJ7_newBytesLength_2 0 rfl rfl)
theorem dJ7_newBytesLength_48 : decode cJ7_newBytesLength 48 = .ok (.invokevirtual 37, 3) := dk_182 0 37 (dk_at dksJ7_newBytesLength_2 3 rfl rfl)
theorem dJ7_newBytesLength_51 : decode cJ7_newBytesLength 51 = .ok (.invokespecial 41, 3) := dk_183 0 41 (dk_at dksJ7_newBytesLength_2 6 rfl rfl)
theorem dJ7_newBytesLength_54 : decode cJ7_newBytesLength 54 = .ok (.athrow, 1) := dk_191 (dk_at dksJ7_newBytesLength_2 9 rfl rfl)
theorem dJ7_newBytesLength_55 : decode cJ7_newBytesLength 55 = .ok (.iload_n 0, 1) := dk_26 (dk_at dksJ7_newBytesLength_2 10 rfl rfl)
theorem dJ7_newBytesLength_56 : decode cJ7_newBytesLength 56 = .ok (.iconst 1, 1) := dk_4 (dk_at dksJ7_newBytesLength_2 11 rfl rfl)
theorem dJ7_newBytesLength_57 : decode cJ7_newBytesLength 57 = .ok (.ishl, 1) := dk_120 (dk_at dksJ7_newBytesLength_2 12 rfl rfl)
theorem dJ7_newBytesLength_58 : decode cJ7_newBytesLength 58 = .ok (.ireturn, 1) := dk_172 (dk_at dksJ7_newBytesLength_2 13 rfl rfl)
abbrev cJ7_putChar : ByteArray := prog_25_method_4_code
def yJ7_putChar : MethodName := ⟨RJ7, "putChar", "([BII)V"⟩
def dkwJ7_putChar_2 : List UInt8 := [178, 0, 63, 122, 145, 84, 177]
abbrev dktJ7_putChar_2 : List UInt8 := dkwJ7_putChar_2 ++ []
def dkwJ7_putChar_1 : List UInt8 := [183, 0, 56, 191, 27, 4, 120, 60, 42, 27, 132, 1, 1, 28, 178, 0, 59, 122, 145, 84, 42, 27, 28]
abbrev dktJ7_putChar_1 : List UInt8 := dkwJ7_putChar_1 ++ dktJ7_putChar_2
def dkwJ7_putChar_0 : List UInt8 := [178, 0, 44, 154, 0, 25, 27, 155, 0, 11, 27, 42, 184, 0, 48, 161, 0, 13, 187, 0, 52, 89, 18, 54]
abbrev dktJ7_putChar_0 : List UInt8 := dkwJ7_putChar_0 ++ dktJ7_putChar_1
theorem dksJ7_putChar_0 : cJ7_putChar.data.toList.drop 0 = dktJ7_putChar_0 := by decide +kernel
theorem dksJ7_putChar_1 : cJ7_putChar.data.toList.drop 24 = dktJ7_putChar_1 := dk_seg dksJ7_putChar_0 24 rfl rfl
theorem dksJ7_putChar_2 : cJ7_putChar.data.toList.drop 47 = dktJ7_putChar_2 := dk_seg dksJ7_putChar_1 23 rfl rfl
theorem dJ7_putChar_0 : decode cJ7_putChar 0 = .ok (.getstatic 44, 3) := dk_178 0 44 (dk_at dksJ7_putChar_0 0 rfl rfl)
theorem dJ7_putChar_3 : decode cJ7_putChar 3 = .ok (.ifCond .ne 25, 3) := dk_154 0 25 (dk_at dksJ7_putChar_0 3 rfl rfl)
theorem dJ7_putChar_6 : decode cJ7_putChar 6 = .ok (.iload_n 1, 1) := dk_27 (dk_at dksJ7_putChar_0 6 rfl rfl)
theorem dJ7_putChar_7 : decode cJ7_putChar 7 = .ok (.ifCond .lt 11, 3) := dk_155 0 11 (dk_at dksJ7_putChar_0 7 rfl rfl)
theorem dJ7_putChar_10 : decode cJ7_putChar 10 = .ok (.iload_n 1, 1) := dk_27 (dk_at dksJ7_putChar_0 10 rfl rfl)
theorem dJ7_putChar_11 : decode cJ7_putChar 11 = .ok (.aload_n 0, 1) := dk_42 (dk_at dksJ7_putChar_0 11 rfl rfl)
theorem dJ7_putChar_12 : decode cJ7_putChar 12 = .ok (.invokestatic 48, 3) := dk_184 0 48 (dk_at dksJ7_putChar_0 12 rfl rfl)
theorem dJ7_putChar_15 : decode cJ7_putChar 15 = .ok (.if_icmp .lt 13, 3) := dk_161 0 13 (dk_at dksJ7_putChar_0 15 rfl rfl)
theorem dJ7_putChar_18 : decode cJ7_putChar 18 = .ok (.new 52, 3) := dk_187 0 52 (dk_at dksJ7_putChar_0 18 rfl rfl)
theorem dJ7_putChar_21 : decode cJ7_putChar 21 = .ok (.dup, 1) := dk_89 (dk_at dksJ7_putChar_0 21 rfl rfl)
theorem dJ7_putChar_22 : decode cJ7_putChar 22 = .ok (.ldc 54, 2) := dk_18 54 (dk_at dksJ7_putChar_0 22 rfl rfl)
theorem dJ7_putChar_24 : decode cJ7_putChar 24 = .ok (.invokespecial 56, 3) := dk_183 0 56 (dk_at dksJ7_putChar_1 0 rfl rfl)
theorem dJ7_putChar_27 : decode cJ7_putChar 27 = .ok (.athrow, 1) := dk_191 (dk_at dksJ7_putChar_1 3 rfl rfl)
theorem dJ7_putChar_28 : decode cJ7_putChar 28 = .ok (.iload_n 1, 1) := dk_27 (dk_at dksJ7_putChar_1 4 rfl rfl)
theorem dJ7_putChar_29 : decode cJ7_putChar 29 = .ok (.iconst 1, 1) := dk_4 (dk_at dksJ7_putChar_1 5 rfl rfl)
theorem dJ7_putChar_30 : decode cJ7_putChar 30 = .ok (.ishl, 1) := dk_120 (dk_at dksJ7_putChar_1 6 rfl rfl)
theorem dJ7_putChar_31 : decode cJ7_putChar 31 = .ok (.istore_n 1, 1) := dk_60 (dk_at dksJ7_putChar_1 7 rfl rfl)
theorem dJ7_putChar_32 : decode cJ7_putChar 32 = .ok (.aload_n 0, 1) := dk_42 (dk_at dksJ7_putChar_1 8 rfl rfl)
theorem dJ7_putChar_33 : decode cJ7_putChar 33 = .ok (.iload_n 1, 1) := dk_27 (dk_at dksJ7_putChar_1 9 rfl rfl)
theorem dJ7_putChar_34 : decode cJ7_putChar 34 = .ok (.iinc 1 1, 3) := dk_132 1 1 (dk_at dksJ7_putChar_1 10 rfl rfl)
theorem dJ7_putChar_37 : decode cJ7_putChar 37 = .ok (.iload_n 2, 1) := dk_28 (dk_at dksJ7_putChar_1 13 rfl rfl)
theorem dJ7_putChar_38 : decode cJ7_putChar 38 = .ok (.getstatic 59, 3) := dk_178 0 59 (dk_at dksJ7_putChar_1 14 rfl rfl)
theorem dJ7_putChar_41 : decode cJ7_putChar 41 = .ok (.ishr, 1) := dk_122 (dk_at dksJ7_putChar_1 17 rfl rfl)
theorem dJ7_putChar_42 : decode cJ7_putChar 42 = .ok (.i2b, 1) := dk_145 (dk_at dksJ7_putChar_1 18 rfl rfl)
theorem dJ7_putChar_43 : decode cJ7_putChar 43 = .ok (.bastore, 1) := dk_84 (dk_at dksJ7_putChar_1 19 rfl rfl)
theorem dJ7_putChar_44 : decode cJ7_putChar 44 = .ok (.aload_n 0, 1) := dk_42 (dk_at dksJ7_putChar_1 20 rfl rfl)
theorem dJ7_putChar_45 : decode cJ7_putChar 45 = .ok (.iload_n 1, 1) := dk_27 (dk_at dksJ7_putChar_1 21 rfl rfl)
theorem dJ7_putChar_46 : decode cJ7_putChar 46 = .ok (.iload_n 2, 1) := dk_28 (dk_at dksJ7_putChar_1 22 rfl rfl)
theorem dJ7_putChar_47 : decode cJ7_putChar 47 = .ok (.getstatic 63, 3) := dk_178 0 63 (dk_at dksJ7_putChar_2 0 rfl rfl)
theorem dJ7_putChar_50 : decode cJ7_putChar 50 = .ok (.ishr, 1) := dk_122 (dk_at dksJ7_putChar_2 3 rfl rfl)
theorem dJ7_putChar_51 : decode cJ7_putChar 51 = .ok (.i2b, 1) := dk_145 (dk_at dksJ7_putChar_2 4 rfl rfl)
theorem dJ7_putChar_52 : decode cJ7_putChar 52 = .ok (.bastore, 1) := dk_84 (dk_at dksJ7_putChar_2 5 rfl rfl)
theorem dJ7_putChar_53 : decode cJ7_putChar 53 = .ok (.return_, 1) := dk_177 (dk_at dksJ7_putChar_2 6 rfl rfl)
abbrev cJ7_length : ByteArray := prog_25_method_6_code
def yJ7_length : MethodName := ⟨RJ7, "length", "([B)I"⟩
def dkwJ7_length_0 : List UInt8 := [42, 190, 4, 122, 172]
abbrev dktJ7_length_0 : List UInt8 := dkwJ7_length_0 ++ []
theorem dksJ7_length_0 : cJ7_length.data.toList.drop 0 = dktJ7_length_0 := by decide +kernel
theorem dJ7_length_0 : decode cJ7_length 0 = .ok (.aload_n 0, 1) := dk_42 (dk_at dksJ7_length_0 0 rfl rfl)
theorem dJ7_length_1 : decode cJ7_length 1 = .ok (.arraylength, 1) := dk_190 (dk_at dksJ7_length_0 1 rfl rfl)
theorem dJ7_length_2 : decode cJ7_length 2 = .ok (.iconst 1, 1) := dk_4 (dk_at dksJ7_length_0 2 rfl rfl)
theorem dJ7_length_3 : decode cJ7_length 3 = .ok (.ishr, 1) := dk_122 (dk_at dksJ7_length_0 3 rfl rfl)
theorem dJ7_length_4 : decode cJ7_length 4 = .ok (.ireturn, 1) := dk_172 (dk_at dksJ7_length_0 4 rfl rfl)
abbrev cJ7_getChar : ByteArray := prog_25_method_5_code
def yJ7_getChar : MethodName := ⟨RJ7, "getChar", "([BI)C"⟩
def dkwJ7_getChar_2 : List UInt8 := [51, 17, 0, 255, 126, 178, 0, 63, 120, 128, 146, 172]
abbrev dktJ7_getChar_2 : List UInt8 := dkwJ7_getChar_2 ++ []
def dkwJ7_getChar_1 : List UInt8 := [183, 0, 56, 191, 27, 4, 120, 60, 42, 27, 132, 1, 1, 51, 17, 0, 255, 126, 178, 0, 59, 120, 42, 27]
abbrev dktJ7_getChar_1 : List UInt8 := dkwJ7_getChar_1 ++ dktJ7_getChar_2
def dkwJ7_getChar_0 : List UInt8 := [178, 0, 44, 154, 0, 25, 27, 155, 0, 11, 27, 42, 184, 0, 48, 161, 0, 13, 187, 0, 52, 89, 18, 54]
abbrev dktJ7_getChar_0 : List UInt8 := dkwJ7_getChar_0 ++ dktJ7_getChar_1
theorem dksJ7_getChar_0 : cJ7_getChar.data.toList.drop 0 = dktJ7_getChar_0 := by decide +kernel
theorem dksJ7_getChar_1 : cJ7_getChar.data.toList.drop 24 = dktJ7_getChar_1 := dk_seg dksJ7_getChar_0 24 rfl rfl
theorem dksJ7_getChar_2 : cJ7_getChar.data.toList.drop 48 = dktJ7_getChar_2 := dk_seg dksJ7_getChar_1 24 rfl rfl
theorem dJ7_getChar_0 : decode cJ7_getChar 0 = .ok (.getstatic 44, 3) := dk_178 0 44 (dk_at dksJ7_getChar_0 0 rfl rfl)
theorem dJ7_getChar_3 : decode cJ7_getChar 3 = .ok (.ifCond .ne 25, 3) := dk_154 0 25 (dk_at dksJ7_getChar_0 3 rfl rfl)
theorem dJ7_getChar_6 : decode cJ7_getChar 6 = .ok (.iload_n 1, 1) := dk_27 (dk_at dksJ7_getChar_0 6 rfl rfl)
theorem dJ7_getChar_7 : decode cJ7_getChar 7 = .ok (.ifCond .lt 11, 3) := dk_155 0 11 (dk_at dksJ7_getChar_0 7 rfl rfl)
theorem dJ7_getChar_10 : decode cJ7_getChar 10 = .ok (.iload_n 1, 1) := dk_27 (dk_at dksJ7_getChar_0 10 rfl rfl)
theorem dJ7_getChar_11 : decode cJ7_getChar 11 = .ok (.aload_n 0, 1) := dk_42 (dk_at dksJ7_getChar_0 11 rfl rfl)
theorem dJ7_getChar_12 : decode cJ7_getChar 12 = .ok (.invokestatic 48, 3) := dk_184 0 48 (dk_at dksJ7_getChar_0 12 rfl rfl)
theorem dJ7_getChar_15 : decode cJ7_getChar 15 = .ok (.if_icmp .lt 13, 3) := dk_161 0 13 (dk_at dksJ7_getChar_0 15 rfl rfl)
theorem dJ7_getChar_18 : decode cJ7_getChar 18 = .ok (.new 52, 3) := dk_187 0 52 (dk_at dksJ7_getChar_0 18 rfl rfl)
theorem dJ7_getChar_21 : decode cJ7_getChar 21 = .ok (.dup, 1) := dk_89 (dk_at dksJ7_getChar_0 21 rfl rfl)
theorem dJ7_getChar_22 : decode cJ7_getChar 22 = .ok (.ldc 54, 2) := dk_18 54 (dk_at dksJ7_getChar_0 22 rfl rfl)
theorem dJ7_getChar_24 : decode cJ7_getChar 24 = .ok (.invokespecial 56, 3) := dk_183 0 56 (dk_at dksJ7_getChar_1 0 rfl rfl)
theorem dJ7_getChar_27 : decode cJ7_getChar 27 = .ok (.athrow, 1) := dk_191 (dk_at dksJ7_getChar_1 3 rfl rfl)
theorem dJ7_getChar_28 : decode cJ7_getChar 28 = .ok (.iload_n 1, 1) := dk_27 (dk_at dksJ7_getChar_1 4 rfl rfl)
theorem dJ7_getChar_29 : decode cJ7_getChar 29 = .ok (.iconst 1, 1) := dk_4 (dk_at dksJ7_getChar_1 5 rfl rfl)
theorem dJ7_getChar_30 : decode cJ7_getChar 30 = .ok (.ishl, 1) := dk_120 (dk_at dksJ7_getChar_1 6 rfl rfl)
theorem dJ7_getChar_31 : decode cJ7_getChar 31 = .ok (.istore_n 1, 1) := dk_60 (dk_at dksJ7_getChar_1 7 rfl rfl)
theorem dJ7_getChar_32 : decode cJ7_getChar 32 = .ok (.aload_n 0, 1) := dk_42 (dk_at dksJ7_getChar_1 8 rfl rfl)
theorem dJ7_getChar_33 : decode cJ7_getChar 33 = .ok (.iload_n 1, 1) := dk_27 (dk_at dksJ7_getChar_1 9 rfl rfl)
theorem dJ7_getChar_34 : decode cJ7_getChar 34 = .ok (.iinc 1 1, 3) := dk_132 1 1 (dk_at dksJ7_getChar_1 10 rfl rfl)
theorem dJ7_getChar_37 : decode cJ7_getChar 37 = .ok (.baload, 1) := dk_51 (dk_at dksJ7_getChar_1 13 rfl rfl)
theorem dJ7_getChar_38 : decode cJ7_getChar 38 = .ok (.sipush 255, 3) := dk_17 0 255 (dk_at dksJ7_getChar_1 14 rfl rfl)
theorem dJ7_getChar_41 : decode cJ7_getChar 41 = .ok (.iand, 1) := dk_126 (dk_at dksJ7_getChar_1 17 rfl rfl)
theorem dJ7_getChar_42 : decode cJ7_getChar 42 = .ok (.getstatic 59, 3) := dk_178 0 59 (dk_at dksJ7_getChar_1 18 rfl rfl)
theorem dJ7_getChar_45 : decode cJ7_getChar 45 = .ok (.ishl, 1) := dk_120 (dk_at dksJ7_getChar_1 21 rfl rfl)
theorem dJ7_getChar_46 : decode cJ7_getChar 46 = .ok (.aload_n 0, 1) := dk_42 (dk_at dksJ7_getChar_1 22 rfl rfl)
theorem dJ7_getChar_47 : decode cJ7_getChar 47 = .ok (.iload_n 1, 1) := dk_27 (dk_at dksJ7_getChar_1 23 rfl rfl)
theorem dJ7_getChar_48 : decode cJ7_getChar 48 = .ok (.baload, 1) := dk_51 (dk_at dksJ7_getChar_2 0 rfl rfl)
theorem dJ7_getChar_49 : decode cJ7_getChar 49 = .ok (.sipush 255, 3) := dk_17 0 255 (dk_at dksJ7_getChar_2 1 rfl rfl)
theorem dJ7_getChar_52 : decode cJ7_getChar 52 = .ok (.iand, 1) := dk_126 (dk_at dksJ7_getChar_2 4 rfl rfl)
theorem dJ7_getChar_53 : decode cJ7_getChar 53 = .ok (.getstatic 63, 3) := dk_178 0 63 (dk_at dksJ7_getChar_2 5 rfl rfl)
theorem dJ7_getChar_56 : decode cJ7_getChar 56 = .ok (.ishl, 1) := dk_120 (dk_at dksJ7_getChar_2 8 rfl rfl)
theorem dJ7_getChar_57 : decode cJ7_getChar 57 = .ok (.ior, 1) := dk_128 (dk_at dksJ7_getChar_2 9 rfl rfl)
theorem dJ7_getChar_58 : decode cJ7_getChar 58 = .ok (.i2c, 1) := dk_146 (dk_at dksJ7_getChar_2 10 rfl rfl)
theorem dJ7_getChar_59 : decode cJ7_getChar 59 = .ok (.ireturn, 1) := dk_172 (dk_at dksJ7_getChar_2 11 rfl rfl)
abbrev cJ7_compress_3 : ByteArray := prog_25_method_22_code
def yJ7_compress_3 : MethodName := ⟨RJ7, "compress", "([BI[BII)I"⟩
def dkwJ7_compress_3_2 : List UInt8 := [132, 5, 1, 167, 255, 216, 21, 4, 172]
abbrev dktJ7_compress_3_2 : List UInt8 := dkwJ7_compress_3_2 ++ []
def dkwJ7_compress_3_1 : List UInt8 := [21, 6, 17, 0, 255, 164, 0, 6, 21, 5, 172, 44, 29, 21, 6, 145, 84, 132, 1, 1, 132, 3, 1]
abbrev dktJ7_compress_3_1 : List UInt8 := dkwJ7_compress_3_1 ++ dktJ7_compress_3_2
def dkwJ7_compress_3_0 : List UInt8 := [27, 21, 4, 42, 184, 0, 173, 3, 54, 5, 21, 5, 21, 4, 162, 0, 39, 42, 27, 184, 0, 71, 54, 6]
abbrev dktJ7_compress_3_0 : List UInt8 := dkwJ7_compress_3_0 ++ dktJ7_compress_3_1
theorem dksJ7_compress_3_0 : cJ7_compress_3.data.toList.drop 0 = dktJ7_compress_3_0 := by decide +kernel
theorem dksJ7_compress_3_1 : cJ7_compress_3.data.toList.drop 24 = dktJ7_compress_3_1 := dk_seg dksJ7_compress_3_0 24 rfl rfl
theorem dksJ7_compress_3_2 : cJ7_compress_3.data.toList.drop 47 = dktJ7_compress_3_2 := dk_seg dksJ7_compress_3_1 23 rfl rfl
theorem dJ7_compress_3_0 : decode cJ7_compress_3 0 = .ok (.iload_n 1, 1) := dk_27 (dk_at dksJ7_compress_3_0 0 rfl rfl)
theorem dJ7_compress_3_1 : decode cJ7_compress_3 1 = .ok (.iload 4, 2) := dk_21 4 (dk_at dksJ7_compress_3_0 1 rfl rfl)
theorem dJ7_compress_3_3 : decode cJ7_compress_3 3 = .ok (.aload_n 0, 1) := dk_42 (dk_at dksJ7_compress_3_0 3 rfl rfl)
theorem dJ7_compress_3_4 : decode cJ7_compress_3 4 = .ok (.invokestatic 173, 3) := dk_184 0 173 (dk_at dksJ7_compress_3_0 4 rfl rfl)
theorem dJ7_compress_3_7 : decode cJ7_compress_3 7 = .ok (.iconst 0, 1) := dk_3 (dk_at dksJ7_compress_3_0 7 rfl rfl)
theorem dJ7_compress_3_8 : decode cJ7_compress_3 8 = .ok (.istore 5, 2) := dk_54 5 (dk_at dksJ7_compress_3_0 8 rfl rfl)
theorem dJ7_compress_3_10 : decode cJ7_compress_3 10 = .ok (.iload 5, 2) := dk_21 5 (dk_at dksJ7_compress_3_0 10 rfl rfl)
theorem dJ7_compress_3_12 : decode cJ7_compress_3 12 = .ok (.iload 4, 2) := dk_21 4 (dk_at dksJ7_compress_3_0 12 rfl rfl)
theorem dJ7_compress_3_14 : decode cJ7_compress_3 14 = .ok (.if_icmp .ge 39, 3) := dk_162 0 39 (dk_at dksJ7_compress_3_0 14 rfl rfl)
theorem dJ7_compress_3_17 : decode cJ7_compress_3 17 = .ok (.aload_n 0, 1) := dk_42 (dk_at dksJ7_compress_3_0 17 rfl rfl)
theorem dJ7_compress_3_18 : decode cJ7_compress_3 18 = .ok (.iload_n 1, 1) := dk_27 (dk_at dksJ7_compress_3_0 18 rfl rfl)
theorem dJ7_compress_3_19 : decode cJ7_compress_3 19 = .ok (.invokestatic 71, 3) := dk_184 0 71 (dk_at dksJ7_compress_3_0 19 rfl rfl)
theorem dJ7_compress_3_22 : decode cJ7_compress_3 22 = .ok (.istore 6, 2) := dk_54 6 (dk_at dksJ7_compress_3_0 22 rfl rfl)
theorem dJ7_compress_3_24 : decode cJ7_compress_3 24 = .ok (.iload 6, 2) := dk_21 6 (dk_at dksJ7_compress_3_1 0 rfl rfl)
theorem dJ7_compress_3_26 : decode cJ7_compress_3 26 = .ok (.sipush 255, 3) := dk_17 0 255 (dk_at dksJ7_compress_3_1 2 rfl rfl)
theorem dJ7_compress_3_29 : decode cJ7_compress_3 29 = .ok (.if_icmp .le 6, 3) := dk_164 0 6 (dk_at dksJ7_compress_3_1 5 rfl rfl)
theorem dJ7_compress_3_32 : decode cJ7_compress_3 32 = .ok (.iload 5, 2) := dk_21 5 (dk_at dksJ7_compress_3_1 8 rfl rfl)
theorem dJ7_compress_3_34 : decode cJ7_compress_3 34 = .ok (.ireturn, 1) := dk_172 (dk_at dksJ7_compress_3_1 10 rfl rfl)
theorem dJ7_compress_3_35 : decode cJ7_compress_3 35 = .ok (.aload_n 2, 1) := dk_44 (dk_at dksJ7_compress_3_1 11 rfl rfl)
theorem dJ7_compress_3_36 : decode cJ7_compress_3 36 = .ok (.iload_n 3, 1) := dk_29 (dk_at dksJ7_compress_3_1 12 rfl rfl)
theorem dJ7_compress_3_37 : decode cJ7_compress_3 37 = .ok (.iload 6, 2) := dk_21 6 (dk_at dksJ7_compress_3_1 13 rfl rfl)
theorem dJ7_compress_3_39 : decode cJ7_compress_3 39 = .ok (.i2b, 1) := dk_145 (dk_at dksJ7_compress_3_1 15 rfl rfl)
theorem dJ7_compress_3_40 : decode cJ7_compress_3 40 = .ok (.bastore, 1) := dk_84 (dk_at dksJ7_compress_3_1 16 rfl rfl)
theorem dJ7_compress_3_41 : decode cJ7_compress_3 41 = .ok (.iinc 1 1, 3) := dk_132 1 1 (dk_at dksJ7_compress_3_1 17 rfl rfl)
theorem dJ7_compress_3_44 : decode cJ7_compress_3 44 = .ok (.iinc 3 1, 3) := dk_132 3 1 (dk_at dksJ7_compress_3_1 20 rfl rfl)
theorem dJ7_compress_3_47 : decode cJ7_compress_3 47 = .ok (.iinc 5 1, 3) := dk_132 5 1 (dk_at dksJ7_compress_3_2 0 rfl rfl)
theorem dJ7_compress_3_50 : decode cJ7_compress_3 50 = .ok (.goto (-40), 3) := dk_167 255 216 (dk_at dksJ7_compress_3_2 3 rfl rfl)
theorem dJ7_compress_3_53 : decode cJ7_compress_3 53 = .ok (.iload 4, 2) := dk_21 4 (dk_at dksJ7_compress_3_2 6 rfl rfl)
theorem dJ7_compress_3_55 : decode cJ7_compress_3 55 = .ok (.ireturn, 1) := dk_172 (dk_at dksJ7_compress_3_2 8 rfl rfl)
abbrev cJ7_checkBoundsOffCount : ByteArray := prog_25_method_94_code
def yJ7_checkBoundsOffCount : MethodName := ⟨RJ7, "checkBoundsOffCount", "(II[B)V"⟩
def dkwJ7_checkBoundsOffCount_0 : List UInt8 := [26, 27, 44, 184, 0, 48, 184, 1, 163, 87, 177]
abbrev dktJ7_checkBoundsOffCount_0 : List UInt8 := dkwJ7_checkBoundsOffCount_0 ++ []
theorem dksJ7_checkBoundsOffCount_0 : cJ7_checkBoundsOffCount.data.toList.drop 0 = dktJ7_checkBoundsOffCount_0 := by decide +kernel
theorem dJ7_checkBoundsOffCount_0 : decode cJ7_checkBoundsOffCount 0 = .ok (.iload_n 0, 1) := dk_26 (dk_at dksJ7_checkBoundsOffCount_0 0 rfl rfl)
theorem dJ7_checkBoundsOffCount_1 : decode cJ7_checkBoundsOffCount 1 = .ok (.iload_n 1, 1) := dk_27 (dk_at dksJ7_checkBoundsOffCount_0 1 rfl rfl)
theorem dJ7_checkBoundsOffCount_2 : decode cJ7_checkBoundsOffCount 2 = .ok (.aload_n 2, 1) := dk_44 (dk_at dksJ7_checkBoundsOffCount_0 2 rfl rfl)
theorem dJ7_checkBoundsOffCount_3 : decode cJ7_checkBoundsOffCount 3 = .ok (.invokestatic 48, 3) := dk_184 0 48 (dk_at dksJ7_checkBoundsOffCount_0 3 rfl rfl)
theorem dJ7_checkBoundsOffCount_6 : decode cJ7_checkBoundsOffCount 6 = .ok (.invokestatic 419, 3) := dk_184 1 163 (dk_at dksJ7_checkBoundsOffCount_0 6 rfl rfl)
theorem dJ7_checkBoundsOffCount_9 : decode cJ7_checkBoundsOffCount 9 = .ok (.pop, 1) := dk_87 (dk_at dksJ7_checkBoundsOffCount_0 9 rfl rfl)
theorem dJ7_checkBoundsOffCount_10 : decode cJ7_checkBoundsOffCount 10 = .ok (.return_, 1) := dk_177 (dk_at dksJ7_checkBoundsOffCount_0 10 rfl rfl)
abbrev cJ7_coderFromArrayLen : ByteArray := prog_25_method_15_code
def yJ7_coderFromArrayLen : MethodName := ⟨RJ7, "coderFromArrayLen", "([BI)B"⟩
def dkwJ7_coderFromArrayLen_0 : List UInt8 := [27, 42, 190, 100, 16, 31, 124, 145, 172]
abbrev dktJ7_coderFromArrayLen_0 : List UInt8 := dkwJ7_coderFromArrayLen_0 ++ []
theorem dksJ7_coderFromArrayLen_0 : cJ7_coderFromArrayLen.data.toList.drop 0 = dktJ7_coderFromArrayLen_0 := by decide +kernel
theorem dJ7_coderFromArrayLen_0 : decode cJ7_coderFromArrayLen 0 = .ok (.iload_n 1, 1) := dk_27 (dk_at dksJ7_coderFromArrayLen_0 0 rfl rfl)
theorem dJ7_coderFromArrayLen_1 : decode cJ7_coderFromArrayLen 1 = .ok (.aload_n 0, 1) := dk_42 (dk_at dksJ7_coderFromArrayLen_0 1 rfl rfl)
theorem dJ7_coderFromArrayLen_2 : decode cJ7_coderFromArrayLen 2 = .ok (.arraylength, 1) := dk_190 (dk_at dksJ7_coderFromArrayLen_0 2 rfl rfl)
theorem dJ7_coderFromArrayLen_3 : decode cJ7_coderFromArrayLen 3 = .ok (.isub, 1) := dk_100 (dk_at dksJ7_coderFromArrayLen_0 3 rfl rfl)
theorem dJ7_coderFromArrayLen_4 : decode cJ7_coderFromArrayLen 4 = .ok (.bipush 31, 2) := dk_16 31 (dk_at dksJ7_coderFromArrayLen_0 4 rfl rfl)
theorem dJ7_coderFromArrayLen_6 : decode cJ7_coderFromArrayLen 6 = .ok (.iushr, 1) := dk_124 (dk_at dksJ7_coderFromArrayLen_0 6 rfl rfl)
theorem dJ7_coderFromArrayLen_7 : decode cJ7_coderFromArrayLen 7 = .ok (.i2b, 1) := dk_145 (dk_at dksJ7_coderFromArrayLen_0 7 rfl rfl)
theorem dJ7_coderFromArrayLen_8 : decode cJ7_coderFromArrayLen 8 = .ok (.ireturn, 1) := dk_172 (dk_at dksJ7_coderFromArrayLen_0 8 rfl rfl)
abbrev cJ7_hashCode : ByteArray := prog_25_method_39_code
def yJ7_hashCode : MethodName := ⟨RJ7, "hashCode", "([B)I"⟩
def dkwJ7_hashCode_2 : List UInt8 := [3, 167, 0, 22, 42, 3, 184, 0, 71, 167, 0, 14, 42, 3, 42, 190, 4, 122, 3, 8, 184, 0, 220, 172]
abbrev dktJ7_hashCode_2 : List UInt8 := dkwJ7_hashCode_2 ++ []
def dkwJ7_hashCode_1 : List UInt8 := [171, 0, 0, 0, 0, 38, 0, 0, 0, 2, 0, 0, 0, 0, 0, 0, 0, 26, 0, 0, 0, 2, 0, 0, 0, 30]
abbrev dktJ7_hashCode_1 : List UInt8 := dkwJ7_hashCode_1 ++ dktJ7_hashCode_2
def dkwJ7_hashCode_0 : List UInt8 := [42, 190]
abbrev dktJ7_hashCode_0 : List UInt8 := dkwJ7_hashCode_0 ++ dktJ7_hashCode_1
theorem dksJ7_hashCode_0 : cJ7_hashCode.data.toList.drop 0 = dktJ7_hashCode_0 := by decide +kernel
theorem dksJ7_hashCode_1 : cJ7_hashCode.data.toList.drop 2 = dktJ7_hashCode_1 := dk_seg dksJ7_hashCode_0 2 rfl rfl
theorem dksJ7_hashCode_2 : cJ7_hashCode.data.toList.drop 28 = dktJ7_hashCode_2 := dk_seg dksJ7_hashCode_1 26 rfl rfl
theorem dJ7_hashCode_0 : decode cJ7_hashCode 0 = .ok (.aload_n 0, 1) := dk_42 (dk_at dksJ7_hashCode_0 0 rfl rfl)
theorem dJ7_hashCode_1 : decode cJ7_hashCode 1 = .ok (.arraylength, 1) := dk_190 (dk_at dksJ7_hashCode_0 1 rfl rfl)
theorem dJ7_hashCode_2 : decode cJ7_hashCode 2 = .ok (.lookupswitch 38 #[(0, 26), (2, 30)], 26) := by decide +kernel
theorem dJ7_hashCode_28 : decode cJ7_hashCode 28 = .ok (.iconst 0, 1) := dk_3 (dk_at dksJ7_hashCode_2 0 rfl rfl)
theorem dJ7_hashCode_29 : decode cJ7_hashCode 29 = .ok (.goto 22, 3) := dk_167 0 22 (dk_at dksJ7_hashCode_2 1 rfl rfl)
theorem dJ7_hashCode_32 : decode cJ7_hashCode 32 = .ok (.aload_n 0, 1) := dk_42 (dk_at dksJ7_hashCode_2 4 rfl rfl)
theorem dJ7_hashCode_33 : decode cJ7_hashCode 33 = .ok (.iconst 0, 1) := dk_3 (dk_at dksJ7_hashCode_2 5 rfl rfl)
theorem dJ7_hashCode_34 : decode cJ7_hashCode 34 = .ok (.invokestatic 71, 3) := dk_184 0 71 (dk_at dksJ7_hashCode_2 6 rfl rfl)
theorem dJ7_hashCode_37 : decode cJ7_hashCode 37 = .ok (.goto 14, 3) := dk_167 0 14 (dk_at dksJ7_hashCode_2 9 rfl rfl)
theorem dJ7_hashCode_40 : decode cJ7_hashCode 40 = .ok (.aload_n 0, 1) := dk_42 (dk_at dksJ7_hashCode_2 12 rfl rfl)
theorem dJ7_hashCode_41 : decode cJ7_hashCode 41 = .ok (.iconst 0, 1) := dk_3 (dk_at dksJ7_hashCode_2 13 rfl rfl)
theorem dJ7_hashCode_42 : decode cJ7_hashCode 42 = .ok (.aload_n 0, 1) := dk_42 (dk_at dksJ7_hashCode_2 14 rfl rfl)
theorem dJ7_hashCode_43 : decode cJ7_hashCode 43 = .ok (.arraylength, 1) := dk_190 (dk_at dksJ7_hashCode_2 15 rfl rfl)
theorem dJ7_hashCode_44 : decode cJ7_hashCode 44 = .ok (.iconst 1, 1) := dk_4 (dk_at dksJ7_hashCode_2 16 rfl rfl)
theorem dJ7_hashCode_45 : decode cJ7_hashCode 45 = .ok (.ishr, 1) := dk_122 (dk_at dksJ7_hashCode_2 17 rfl rfl)
theorem dJ7_hashCode_46 : decode cJ7_hashCode 46 = .ok (.iconst 0, 1) := dk_3 (dk_at dksJ7_hashCode_2 18 rfl rfl)
theorem dJ7_hashCode_47 : decode cJ7_hashCode 47 = .ok (.iconst 5, 1) := dk_8 (dk_at dksJ7_hashCode_2 19 rfl rfl)
theorem dJ7_hashCode_48 : decode cJ7_hashCode 48 = .ok (.invokestatic 220, 3) := dk_184 0 220 (dk_at dksJ7_hashCode_2 20 rfl rfl)
theorem dJ7_hashCode_51 : decode cJ7_hashCode 51 = .ok (.ireturn, 1) := dk_172 (dk_at dksJ7_hashCode_2 23 rfl rfl)
abbrev cJ7_charAt : ByteArray := prog_25_method_83_code
def yJ7_charAt : MethodName := ⟨RJ7, "charAt", "([BI)C"⟩
def dkwJ7_charAt_0 : List UInt8 := [27, 42, 184, 0, 67, 42, 27, 184, 0, 71, 172]
abbrev dktJ7_charAt_0 : List UInt8 := dkwJ7_charAt_0 ++ []
theorem dksJ7_charAt_0 : cJ7_charAt.data.toList.drop 0 = dktJ7_charAt_0 := by decide +kernel
theorem dJ7_charAt_0 : decode cJ7_charAt 0 = .ok (.iload_n 1, 1) := dk_27 (dk_at dksJ7_charAt_0 0 rfl rfl)
theorem dJ7_charAt_1 : decode cJ7_charAt 1 = .ok (.aload_n 0, 1) := dk_42 (dk_at dksJ7_charAt_0 1 rfl rfl)
theorem dJ7_charAt_2 : decode cJ7_charAt 2 = .ok (.invokestatic 67, 3) := dk_184 0 67 (dk_at dksJ7_charAt_0 2 rfl rfl)
theorem dJ7_charAt_5 : decode cJ7_charAt 5 = .ok (.aload_n 0, 1) := dk_42 (dk_at dksJ7_charAt_0 5 rfl rfl)
theorem dJ7_charAt_6 : decode cJ7_charAt 6 = .ok (.iload_n 1, 1) := dk_27 (dk_at dksJ7_charAt_0 6 rfl rfl)
theorem dJ7_charAt_7 : decode cJ7_charAt 7 = .ok (.invokestatic 71, 3) := dk_184 0 71 (dk_at dksJ7_charAt_0 7 rfl rfl)
theorem dJ7_charAt_10 : decode cJ7_charAt 10 = .ok (.ireturn, 1) := dk_172 (dk_at dksJ7_charAt_0 10 rfl rfl)
abbrev cJ7_checkIndex : ByteArray := prog_25_method_91_code
def yJ7_checkIndex : MethodName := ⟨RJ7, "checkIndex", "(I[B)V"⟩
def dkwJ7_checkIndex_0 : List UInt8 := [26, 43, 184, 0, 48, 184, 1, 158, 177]
abbrev dktJ7_checkIndex_0 : List UInt8 := dkwJ7_checkIndex_0 ++ []
theorem dksJ7_checkIndex_0 : cJ7_checkIndex.data.toList.drop 0 = dktJ7_checkIndex_0 := by decide +kernel
theorem dJ7_checkIndex_0 : decode cJ7_checkIndex 0 = .ok (.iload_n 0, 1) := dk_26 (dk_at dksJ7_checkIndex_0 0 rfl rfl)
theorem dJ7_checkIndex_1 : decode cJ7_checkIndex 1 = .ok (.aload_n 1, 1) := dk_43 (dk_at dksJ7_checkIndex_0 1 rfl rfl)
theorem dJ7_checkIndex_2 : decode cJ7_checkIndex 2 = .ok (.invokestatic 48, 3) := dk_184 0 48 (dk_at dksJ7_checkIndex_0 2 rfl rfl)
theorem dJ7_checkIndex_5 : decode cJ7_checkIndex 5 = .ok (.invokestatic 414, 3) := dk_184 1 158 (dk_at dksJ7_checkIndex_0 5 rfl rfl)
theorem dJ7_checkIndex_8 : decode cJ7_checkIndex 8 = .ok (.return_, 1) := dk_177 (dk_at dksJ7_checkIndex_0 8 rfl rfl)
theorem q92 : (Jvm.Cond.initialized "java/lang/StringUTF16") ∈ lw_all := lw_g (lw_at lw_m1 12 rfl) rfl
theorem q395 : (Jvm.Cond.static ({ cls := "java/lang/StringUTF16", name := "compress", desc := "([CII)[B" } : Jvm.MethodName)) ∈ lw_all := lw_g (lw_at lw_m2 75 rfl) rfl
theorem q396 : (Jvm.Cond.code ({ cls := "java/lang/StringUTF16", name := "compress", desc := "([CII)[B" } : Jvm.MethodName) prog_25_method_16_code (6 : Nat) (Option.some (Jvm.ClassFile.FieldType.array Jvm.ClassFile.FieldType.byte))) ∈ lw_all := lw_g (lw_at lw_m2 76 rfl) rfl
theorem q397 : (Jvm.Cond.methodLink "java/lang/StringUTF16" (115 : Nat) ({ cls := "java/lang/StringUTF16", name := "compress", desc := "([CI[BII)I" } : Jvm.MethodName)) ∈ lw_all := lw_g (lw_at lw_m2 77 rfl) rfl
theorem q398 : (Jvm.Cond.static ({ cls := "java/lang/StringUTF16", name := "compress", desc := "([CI[BII)I" } : Jvm.MethodName)) ∈ lw_all := lw_g (lw_at lw_m2 78 rfl) rfl
theorem q399 : (Jvm.Cond.code ({ cls := "java/lang/StringUTF16", name := "compress", desc := "([CI[BII)I" } : Jvm.MethodName) prog_25_method_21_code (7 : Nat) (Option.some Jvm.ClassFile.FieldType.int)) ∈ lw_all := lw_g (lw_at lw_m2 79 rfl) rfl
theorem q400 : (Jvm.Cond.methodLink "java/lang/StringUTF16" (119 : Nat) ({ cls := "java/lang/StringUTF16", name := "toBytes", desc := "([CII)[B" } : Jvm.MethodName)) ∈ lw_all := lw_g (lw_at lw_m2 80 rfl) rfl
theorem q401 : (Jvm.Cond.static ({ cls := "java/lang/StringUTF16", name := "toBytes", desc := "([CII)[B" } : Jvm.MethodName)) ∈ lw_all := lw_g (lw_at lw_m2 81 rfl) rfl
theorem q402 : (Jvm.Cond.code ({ cls := "java/lang/StringUTF16", name := "toBytes", desc := "([CII)[B" } : Jvm.MethodName) prog_25_method_14_code (5 : Nat) (Option.some (Jvm.ClassFile.FieldType.array Jvm.ClassFile.FieldType.byte))) ∈ lw_all := lw_g (lw_at lw_m2 82 rfl) rfl
theorem q403 : (Jvm.Cond.methodLink "java/lang/StringUTF16" (107 : Nat) ({ cls := "java/lang/StringUTF16", name := "newBytesFor", desc := "(I)[B" } : Jvm.MethodName)) ∈ lw_all := lw_g (lw_at lw_m2 83 rfl) rfl
theorem q404 : (Jvm.Cond.static ({ cls := "java/lang/StringUTF16", name := "newBytesFor", desc := "(I)[B" } : Jvm.MethodName)) ∈ lw_all := lw_g (lw_at lw_m2 84 rfl) rfl
theorem q405 : (Jvm.Cond.code ({ cls := "java/lang/StringUTF16", name := "newBytesFor", desc := "(I)[B" } : Jvm.MethodName) prog_25_method_2_code (1 : Nat) (Option.some (Jvm.ClassFile.FieldType.array Jvm.ClassFile.FieldType.byte))) ∈ lw_all := lw_g (lw_at lw_m2 85 rfl) rfl
theorem q406 : (Jvm.Cond.methodLink "java/lang/StringUTF16" (11 : Nat) ({ cls := "java/lang/StringUTF16", name := "newBytesLength", desc := "(I)I" } : Jvm.MethodName)) ∈ lw_all := lw_g (lw_at lw_m2 86 rfl) rfl
theorem q407 : (Jvm.Cond.static ({ cls := "java/lang/StringUTF16", name := "newBytesLength", desc := "(I)I" } : Jvm.MethodName)) ∈ lw_all := lw_g (lw_at lw_m2 87 rfl) rfl
theorem q408 : (Jvm.Cond.code ({ cls := "java/lang/StringUTF16", name := "newBytesLength", desc := "(I)I" } : Jvm.MethodName) prog_25_method_3_code (1 : Nat) (Option.some Jvm.ClassFile.FieldType.int)) ∈ lw_all := lw_g (lw_at lw_m2 88 rfl) rfl
theorem q409 : (Jvm.Cond.constant "java/lang/StringUTF16" (20 : Nat) (1073741823 : Int32)) ∈ lw_all := lw_g (lw_at lw_m2 89 rfl) rfl
theorem q410 : (Jvm.Cond.methodLink "java/lang/StringUTF16" (111 : Nat) ({ cls := "java/lang/StringUTF16", name := "putChar", desc := "([BII)V" } : Jvm.MethodName)) ∈ lw_all := lw_g (lw_at lw_m2 90 rfl) rfl
theorem q411 : (Jvm.Cond.static ({ cls := "java/lang/StringUTF16", name := "putChar", desc := "([BII)V" } : Jvm.MethodName)) ∈ lw_all := lw_g (lw_at lw_m2 91 rfl) rfl
theorem q412 : (Jvm.Cond.code ({ cls := "java/lang/StringUTF16", name := "putChar", desc := "([BII)V" } : Jvm.MethodName) prog_25_method_4_code (3 : Nat) (Option.none : Option Jvm.ClassFile.FieldType)) ∈ lw_all := lw_g (lw_at lw_m2 92 rfl) rfl
theorem q413 : (Jvm.Cond.fieldLink "java/lang/StringUTF16" (44 : Nat) "java/lang/StringUTF16" "$assertionsDisabled" "Z") ∈ lw_all := lw_g (lw_at lw_m2 93 rfl) rfl
theorem q414 : (Jvm.Cond.laysStatic "java/lang/StringUTF16" "$assertionsDisabled" "Z") ∈ lw_tbl := lw_at lw_m2 94 rfl
theorem q415 : (Jvm.Cond.methodLink "java/lang/StringUTF16" (48 : Nat) ({ cls := "java/lang/StringUTF16", name := "length", desc := "([B)I" } : Jvm.MethodName)) ∈ lw_all := lw_g (lw_at lw_m2 95 rfl) rfl
theorem q416 : (Jvm.Cond.static ({ cls := "java/lang/StringUTF16", name := "length", desc := "([B)I" } : Jvm.MethodName)) ∈ lw_all := lw_g (lw_at lw_m2 96 rfl) rfl
theorem q417 : (Jvm.Cond.code ({ cls := "java/lang/StringUTF16", name := "length", desc := "([B)I" } : Jvm.MethodName) prog_25_method_6_code (1 : Nat) (Option.some Jvm.ClassFile.FieldType.int)) ∈ lw_all := lw_g (lw_at lw_m2 97 rfl) rfl
theorem q418 : (Jvm.Cond.fieldLink "java/lang/StringUTF16" (59 : Nat) "java/lang/StringUTF16" "HI_BYTE_SHIFT" "I") ∈ lw_all := lw_g (lw_at lw_m2 98 rfl) rfl
theorem q419 : (Jvm.Cond.laysStatic "java/lang/StringUTF16" "HI_BYTE_SHIFT" "I") ∈ lw_tbl := lw_at lw_m2 99 rfl
theorem q420 : (Jvm.Cond.fieldLink "java/lang/StringUTF16" (63 : Nat) "java/lang/StringUTF16" "LO_BYTE_SHIFT" "I") ∈ lw_all := lw_g (lw_at lw_m2 100 rfl) rfl
theorem q421 : (Jvm.Cond.laysStatic "java/lang/StringUTF16" "LO_BYTE_SHIFT" "I") ∈ lw_tbl := lw_at lw_m2 101 rfl
theorem q422 : (Jvm.Cond.methodLink "java/lang/StringUTF16" (71 : Nat) ({ cls := "java/lang/StringUTF16", name := "getChar", desc := "([BI)C" } : Jvm.MethodName)) ∈ lw_all := lw_g (lw_at lw_m2 102 rfl) rfl
theorem q423 : (Jvm.Cond.static ({ cls := "java/lang/StringUTF16", name := "getChar", desc := "([BI)C" } : Jvm.MethodName)) ∈ lw_all := lw_g (lw_at lw_m2 103 rfl) rfl
theorem q424 : (Jvm.Cond.code ({ cls := "java/lang/StringUTF16", name := "getChar", desc := "([BI)C" } : Jvm.MethodName) prog_25_method_5_code (2 : Nat) (Option.some Jvm.ClassFile.FieldType.char)) ∈ lw_all := lw_g (lw_at lw_m2 104 rfl) rfl
theorem q425 : (Jvm.Cond.methodLink "java/lang/StringUTF16" (123 : Nat) ({ cls := "java/lang/StringUTF16", name := "compress", desc := "([BI[BII)I" } : Jvm.MethodName)) ∈ lw_all := lw_g (lw_at lw_m2 105 rfl) rfl
theorem q426 : (Jvm.Cond.static ({ cls := "java/lang/StringUTF16", name := "compress", desc := "([BI[BII)I" } : Jvm.MethodName)) ∈ lw_all := lw_g (lw_at lw_m2 106 rfl) rfl
theorem q427 : (Jvm.Cond.code ({ cls := "java/lang/StringUTF16", name := "compress", desc := "([BI[BII)I" } : Jvm.MethodName) prog_25_method_22_code (7 : Nat) (Option.some Jvm.ClassFile.FieldType.int)) ∈ lw_all := lw_g (lw_at lw_m2 107 rfl) rfl
theorem q428 : (Jvm.Cond.methodLink "java/lang/StringUTF16" (173 : Nat) ({ cls := "java/lang/StringUTF16", name := "checkBoundsOffCount", desc := "(II[B)V" } : Jvm.MethodName)) ∈ lw_all := lw_g (lw_at lw_m2 108 rfl) rfl
theorem q429 : (Jvm.Cond.static ({ cls := "java/lang/StringUTF16", name := "checkBoundsOffCount", desc := "(II[B)V" } : Jvm.MethodName)) ∈ lw_all := lw_g (lw_at lw_m2 109 rfl) rfl
theorem q430 : (Jvm.Cond.code ({ cls := "java/lang/StringUTF16", name := "checkBoundsOffCount", desc := "(II[B)V" } : Jvm.MethodName) prog_25_method_94_code (3 : Nat) (Option.none : Option Jvm.ClassFile.FieldType)) ∈ lw_all := lw_g (lw_at lw_m2 110 rfl) rfl
theorem q431 : (Jvm.Cond.methodLink "java/lang/StringUTF16" (419 : Nat) ({ cls := "java/lang/String", name := "checkBoundsOffCount", desc := "(III)I" } : Jvm.MethodName)) ∈ lw_all := lw_g (lw_at lw_m2 111 rfl) rfl
theorem q440 : (Jvm.Cond.static ({ cls := "java/lang/StringUTF16", name := "coderFromArrayLen", desc := "([BI)B" } : Jvm.MethodName)) ∈ lw_all := lw_g (lw_at lw_m2 120 rfl) rfl
theorem q441 : (Jvm.Cond.code ({ cls := "java/lang/StringUTF16", name := "coderFromArrayLen", desc := "([BI)B" } : Jvm.MethodName) prog_25_method_15_code (2 : Nat) (Option.some Jvm.ClassFile.FieldType.byte)) ∈ lw_all := lw_g (lw_at lw_m2 121 rfl) rfl
theorem q526 : (Jvm.Cond.static ({ cls := "java/lang/StringUTF16", name := "hashCode", desc := "([B)I" } : Jvm.MethodName)) ∈ lw_all := lw_g (lw_at lw_m2 206 rfl) rfl
theorem q527 : (Jvm.Cond.code ({ cls := "java/lang/StringUTF16", name := "hashCode", desc := "([B)I" } : Jvm.MethodName) prog_25_method_39_code (1 : Nat) (Option.some Jvm.ClassFile.FieldType.int)) ∈ lw_all := lw_g (lw_at lw_m2 207 rfl) rfl
theorem q528 : (Jvm.Cond.methodLink "java/lang/StringUTF16" (220 : Nat) ({ cls := "jdk/internal/util/ArraysSupport", name := "vectorizedHashCode", desc := "(Ljava/lang/Object;IIII)I" } : Jvm.MethodName)) ∈ lw_all := lw_g (lw_at lw_m2 208 rfl) rfl
theorem q714 : (Jvm.Cond.static ({ cls := "java/lang/StringUTF16", name := "charAt", desc := "([BI)C" } : Jvm.MethodName)) ∈ lw_all := lw_g (lw_at lw_m3 154 rfl) rfl
theorem q715 : (Jvm.Cond.code ({ cls := "java/lang/StringUTF16", name := "charAt", desc := "([BI)C" } : Jvm.MethodName) prog_25_method_83_code (2 : Nat) (Option.some Jvm.ClassFile.FieldType.char)) ∈ lw_all := lw_g (lw_at lw_m3 155 rfl) rfl
theorem q716 : (Jvm.Cond.methodLink "java/lang/StringUTF16" (67 : Nat) ({ cls := "java/lang/StringUTF16", name := "checkIndex", desc := "(I[B)V" } : Jvm.MethodName)) ∈ lw_all := lw_g (lw_at lw_m3 156 rfl) rfl
theorem q717 : (Jvm.Cond.static ({ cls := "java/lang/StringUTF16", name := "checkIndex", desc := "(I[B)V" } : Jvm.MethodName)) ∈ lw_all := lw_g (lw_at lw_m3 157 rfl) rfl
theorem q718 : (Jvm.Cond.code ({ cls := "java/lang/StringUTF16", name := "checkIndex", desc := "(I[B)V" } : Jvm.MethodName) prog_25_method_91_code (2 : Nat) (Option.none : Option Jvm.ClassFile.FieldType)) ∈ lw_all := lw_g (lw_at lw_m3 158 rfl) rfl
theorem q719 : (Jvm.Cond.methodLink "java/lang/StringUTF16" (414 : Nat) ({ cls := "java/lang/String", name := "checkIndex", desc := "(II)V" } : Jvm.MethodName)) ∈ lw_all := lw_g (lw_at lw_m3 159 rfl) rfl
/-! jdk/internal/util/Preconditions -/
set_option maxRecDepth 100000
def RJ8 : String := "jdk/internal/util/Preconditions"
abbrev cJ8_checkFromIndexSize : ByteArray := prog_42_method_13_code
def yJ8_checkFromIndexSize : MethodName := ⟨RJ8, "checkFromIndexSize", "(IIILjava/util/function/BiFunction;)I"⟩
def dkwJ8_checkFromIndexSize_1 : List UInt8 := [172]
abbrev dktJ8_checkFromIndexSize_1 : List UInt8 := dkwJ8_checkFromIndexSize_1 ++ []
def dkwJ8_checkFromIndexSize_0 : List UInt8 := [28, 26, 128, 27, 128, 155, 0, 10, 27, 28, 26, 100, 164, 0, 11, 45, 26, 27, 28, 184, 0, 103, 191, 26]
abbrev dktJ8_checkFromIndexSize_0 : List UInt8 := dkwJ8_checkFromIndexSize_0 ++ dktJ8_checkFromIndexSize_1
theorem dksJ8_checkFromIndexSize_0 : cJ8_checkFromIndexSize.data.toList.drop 0 = dktJ8_checkFromIndexSize_0 := by decide +kernel
theorem dksJ8_checkFromIndexSize_1 : cJ8_checkFromIndexSize.data.toList.drop 24 = dktJ8_checkFromIndexSize_1 := dk_seg dksJ8_checkFromIndexSize_0 24 rfl rfl
theorem dJ8_checkFromIndexSize_0 : decode cJ8_checkFromIndexSize 0 = .ok (.iload_n 2, 1) := dk_28 (dk_at dksJ8_checkFromIndexSize_0 0 rfl rfl)
theorem dJ8_checkFromIndexSize_1 : decode cJ8_checkFromIndexSize 1 = .ok (.iload_n 0, 1) := dk_26 (dk_at dksJ8_checkFromIndexSize_0 1 rfl rfl)
theorem dJ8_checkFromIndexSize_2 : decode cJ8_checkFromIndexSize 2 = .ok (.ior, 1) := dk_128 (dk_at dksJ8_checkFromIndexSize_0 2 rfl rfl)
theorem dJ8_checkFromIndexSize_3 : decode cJ8_checkFromIndexSize 3 = .ok (.iload_n 1, 1) := dk_27 (dk_at dksJ8_checkFromIndexSize_0 3 rfl rfl)
theorem dJ8_checkFromIndexSize_4 : decode cJ8_checkFromIndexSize 4 = .ok (.ior, 1) := dk_128 (dk_at dksJ8_checkFromIndexSize_0 4 rfl rfl)
theorem dJ8_checkFromIndexSize_5 : decode cJ8_checkFromIndexSize 5 = .ok (.ifCond .lt 10, 3) := dk_155 0 10 (dk_at dksJ8_checkFromIndexSize_0 5 rfl rfl)
theorem dJ8_checkFromIndexSize_8 : decode cJ8_checkFromIndexSize 8 = .ok (.iload_n 1, 1) := dk_27 (dk_at dksJ8_checkFromIndexSize_0 8 rfl rfl)
theorem dJ8_checkFromIndexSize_9 : decode cJ8_checkFromIndexSize 9 = .ok (.iload_n 2, 1) := dk_28 (dk_at dksJ8_checkFromIndexSize_0 9 rfl rfl)
theorem dJ8_checkFromIndexSize_10 : decode cJ8_checkFromIndexSize 10 = .ok (.iload_n 0, 1) := dk_26 (dk_at dksJ8_checkFromIndexSize_0 10 rfl rfl)
theorem dJ8_checkFromIndexSize_11 : decode cJ8_checkFromIndexSize 11 = .ok (.isub, 1) := dk_100 (dk_at dksJ8_checkFromIndexSize_0 11 rfl rfl)
theorem dJ8_checkFromIndexSize_12 : decode cJ8_checkFromIndexSize 12 = .ok (.if_icmp .le 11, 3) := dk_164 0 11 (dk_at dksJ8_checkFromIndexSize_0 12 rfl rfl)
theorem dJ8_checkFromIndexSize_15 : decode cJ8_checkFromIndexSize 15 = .ok (.aload_n 3, 1) := dk_45 (dk_at dksJ8_checkFromIndexSize_0 15 rfl rfl)
theorem dJ8_checkFromIndexSize_16 : decode cJ8_checkFromIndexSize 16 = .ok (.iload_n 0, 1) := dk_26 (dk_at dksJ8_checkFromIndexSize_0 16 rfl rfl)
theorem dJ8_checkFromIndexSize_17 : decode cJ8_checkFromIndexSize 17 = .ok (.iload_n 1, 1) := dk_27 (dk_at dksJ8_checkFromIndexSize_0 17 rfl rfl)
theorem dJ8_checkFromIndexSize_18 : decode cJ8_checkFromIndexSize 18 = .ok (.iload_n 2, 1) := dk_28 (dk_at dksJ8_checkFromIndexSize_0 18 rfl rfl)
theorem dJ8_checkFromIndexSize_19 : decode cJ8_checkFromIndexSize 19 = .ok (.invokestatic 103, 3) := dk_184 0 103 (dk_at dksJ8_checkFromIndexSize_0 19 rfl rfl)
theorem dJ8_checkFromIndexSize_22 : decode cJ8_checkFromIndexSize 22 = .ok (.athrow, 1) := dk_191 (dk_at dksJ8_checkFromIndexSize_0 22 rfl rfl)
theorem dJ8_checkFromIndexSize_23 : decode cJ8_checkFromIndexSize 23 = .ok (.iload_n 0, 1) := dk_26 (dk_at dksJ8_checkFromIndexSize_0 23 rfl rfl)
theorem dJ8_checkFromIndexSize_24 : decode cJ8_checkFromIndexSize 24 = .ok (.ireturn, 1) := dk_172 (dk_at dksJ8_checkFromIndexSize_1 0 rfl rfl)
abbrev cJ8_checkIndex : ByteArray := prog_42_method_11_code
def yJ8_checkIndex : MethodName := ⟨RJ8, "checkIndex", "(IILjava/util/function/BiFunction;)I"⟩
def dkwJ8_checkIndex_0 : List UInt8 := [26, 155, 0, 8, 26, 27, 161, 0, 10, 44, 26, 27, 184, 0, 95, 191, 26, 172]
abbrev dktJ8_checkIndex_0 : List UInt8 := dkwJ8_checkIndex_0 ++ []
theorem dksJ8_checkIndex_0 : cJ8_checkIndex.data.toList.drop 0 = dktJ8_checkIndex_0 := by decide +kernel
theorem dJ8_checkIndex_0 : decode cJ8_checkIndex 0 = .ok (.iload_n 0, 1) := dk_26 (dk_at dksJ8_checkIndex_0 0 rfl rfl)
theorem dJ8_checkIndex_1 : decode cJ8_checkIndex 1 = .ok (.ifCond .lt 8, 3) := dk_155 0 8 (dk_at dksJ8_checkIndex_0 1 rfl rfl)
theorem dJ8_checkIndex_4 : decode cJ8_checkIndex 4 = .ok (.iload_n 0, 1) := dk_26 (dk_at dksJ8_checkIndex_0 4 rfl rfl)
theorem dJ8_checkIndex_5 : decode cJ8_checkIndex 5 = .ok (.iload_n 1, 1) := dk_27 (dk_at dksJ8_checkIndex_0 5 rfl rfl)
theorem dJ8_checkIndex_6 : decode cJ8_checkIndex 6 = .ok (.if_icmp .lt 10, 3) := dk_161 0 10 (dk_at dksJ8_checkIndex_0 6 rfl rfl)
theorem dJ8_checkIndex_9 : decode cJ8_checkIndex 9 = .ok (.aload_n 2, 1) := dk_44 (dk_at dksJ8_checkIndex_0 9 rfl rfl)
theorem dJ8_checkIndex_10 : decode cJ8_checkIndex 10 = .ok (.iload_n 0, 1) := dk_26 (dk_at dksJ8_checkIndex_0 10 rfl rfl)
theorem dJ8_checkIndex_11 : decode cJ8_checkIndex 11 = .ok (.iload_n 1, 1) := dk_27 (dk_at dksJ8_checkIndex_0 11 rfl rfl)
theorem dJ8_checkIndex_12 : decode cJ8_checkIndex 12 = .ok (.invokestatic 95, 3) := dk_184 0 95 (dk_at dksJ8_checkIndex_0 12 rfl rfl)
theorem dJ8_checkIndex_15 : decode cJ8_checkIndex 15 = .ok (.athrow, 1) := dk_191 (dk_at dksJ8_checkIndex_0 15 rfl rfl)
theorem dJ8_checkIndex_16 : decode cJ8_checkIndex 16 = .ok (.iload_n 0, 1) := dk_26 (dk_at dksJ8_checkIndex_0 16 rfl rfl)
theorem dJ8_checkIndex_17 : decode cJ8_checkIndex 17 = .ok (.ireturn, 1) := dk_172 (dk_at dksJ8_checkIndex_0 17 rfl rfl)
theorem q93 : (Jvm.Cond.initialized "jdk/internal/util/Preconditions") ∈ lw_all := lw_g (lw_at lw_m1 13 rfl) rfl
theorem q435 : (Jvm.Cond.laysStatic "jdk/internal/util/Preconditions" "SIOOBE_FORMATTER" "Ljava/util/function/BiFunction;") ∈ lw_tbl := lw_at lw_m2 115 rfl
theorem q437 : (Jvm.Cond.static ({ cls := "jdk/internal/util/Preconditions", name := "checkFromIndexSize", desc := "(IIILjava/util/function/BiFunction;)I" } : Jvm.MethodName)) ∈ lw_all := lw_g (lw_at lw_m2 117 rfl) rfl
theorem q438 : (Jvm.Cond.code ({ cls := "jdk/internal/util/Preconditions", name := "checkFromIndexSize", desc := "(IIILjava/util/function/BiFunction;)I" } : Jvm.MethodName) prog_42_method_13_code (4 : Nat) (Option.some Jvm.ClassFile.FieldType.int)) ∈ lw_all := lw_g (lw_at lw_m2 118 rfl) rfl
theorem q711 : (Jvm.Cond.static ({ cls := "jdk/internal/util/Preconditions", name := "checkIndex", desc := "(IILjava/util/function/BiFunction;)I" } : Jvm.MethodName)) ∈ lw_all := lw_g (lw_at lw_m3 151 rfl) rfl
theorem q712 : (Jvm.Cond.code ({ cls := "jdk/internal/util/Preconditions", name := "checkIndex", desc := "(IILjava/util/function/BiFunction;)I" } : Jvm.MethodName) prog_42_method_11_code (3 : Nat) (Option.some Jvm.ClassFile.FieldType.int)) ∈ lw_all := lw_g (lw_at lw_m3 152 rfl) rfl
/-! java/lang/StringLatin1 -/
set_option maxRecDepth 100000
def RJ9 : String := "java/lang/StringLatin1"
abbrev cJ9_equals : ByteArray := prog_24_method_13_code
def yJ9_equals : MethodName := ⟨RJ9, "equals", "([B[B)Z"⟩
def dkwJ9_equals_1 : List UInt8 := [3, 172, 132, 2, 1, 167, 255, 236, 4, 172, 3, 172]
abbrev dktJ9_equals_1 : List UInt8 := dkwJ9_equals_1 ++ []
def dkwJ9_equals_0 : List UInt8 := [42, 190, 43, 190, 160, 0, 30, 3, 61, 28, 42, 190, 162, 0, 20, 42, 28, 51, 43, 28, 51, 159, 0, 5]
abbrev dktJ9_equals_0 : List UInt8 := dkwJ9_equals_0 ++ dktJ9_equals_1
theorem dksJ9_equals_0 : cJ9_equals.data.toList.drop 0 = dktJ9_equals_0 := by decide +kernel
theorem dksJ9_equals_1 : cJ9_equals.data.toList.drop 24 = dktJ9_equals_1 := dk_seg dksJ9_equals_0 24 rfl rfl
theorem dJ9_equals_0 : decode cJ9_equals 0 = .ok (.aload_n 0, 1) := dk_42 (dk_at dksJ9_equals_0 0 rfl rfl)
theorem dJ9_equals_1 : decode cJ9_equals 1 = .ok (.arraylength, 1) := dk_190 (dk_at dksJ9_equals_0 1 rfl rfl)
theorem dJ9_equals_2 : decode cJ9_equals 2 = .ok (.aload_n 1, 1) := dk_43 (dk_at dksJ9_equals_0 2 rfl rfl)
theorem dJ9_equals_3 : decode cJ9_equals 3 = .ok (.arraylength, 1) := dk_190 (dk_at dksJ9_equals_0 3 rfl rfl)
theorem dJ9_equals_4 : decode cJ9_equals 4 = .ok (.if_icmp .ne 30, 3) := dk_160 0 30 (dk_at dksJ9_equals_0 4 rfl rfl)
theorem dJ9_equals_7 : decode cJ9_equals 7 = .ok (.iconst 0, 1) := dk_3 (dk_at dksJ9_equals_0 7 rfl rfl)
theorem dJ9_equals_8 : decode cJ9_equals 8 = .ok (.istore_n 2, 1) := dk_61 (dk_at dksJ9_equals_0 8 rfl rfl)
theorem dJ9_equals_9 : decode cJ9_equals 9 = .ok (.iload_n 2, 1) := dk_28 (dk_at dksJ9_equals_0 9 rfl rfl)
theorem dJ9_equals_10 : decode cJ9_equals 10 = .ok (.aload_n 0, 1) := dk_42 (dk_at dksJ9_equals_0 10 rfl rfl)
theorem dJ9_equals_11 : decode cJ9_equals 11 = .ok (.arraylength, 1) := dk_190 (dk_at dksJ9_equals_0 11 rfl rfl)
theorem dJ9_equals_12 : decode cJ9_equals 12 = .ok (.if_icmp .ge 20, 3) := dk_162 0 20 (dk_at dksJ9_equals_0 12 rfl rfl)
theorem dJ9_equals_15 : decode cJ9_equals 15 = .ok (.aload_n 0, 1) := dk_42 (dk_at dksJ9_equals_0 15 rfl rfl)
theorem dJ9_equals_16 : decode cJ9_equals 16 = .ok (.iload_n 2, 1) := dk_28 (dk_at dksJ9_equals_0 16 rfl rfl)
theorem dJ9_equals_17 : decode cJ9_equals 17 = .ok (.baload, 1) := dk_51 (dk_at dksJ9_equals_0 17 rfl rfl)
theorem dJ9_equals_18 : decode cJ9_equals 18 = .ok (.aload_n 1, 1) := dk_43 (dk_at dksJ9_equals_0 18 rfl rfl)
theorem dJ9_equals_19 : decode cJ9_equals 19 = .ok (.iload_n 2, 1) := dk_28 (dk_at dksJ9_equals_0 19 rfl rfl)
theorem dJ9_equals_20 : decode cJ9_equals 20 = .ok (.baload, 1) := dk_51 (dk_at dksJ9_equals_0 20 rfl rfl)
theorem dJ9_equals_21 : decode cJ9_equals 21 = .ok (.if_icmp .eq 5, 3) := dk_159 0 5 (dk_at dksJ9_equals_0 21 rfl rfl)
theorem dJ9_equals_24 : decode cJ9_equals 24 = .ok (.iconst 0, 1) := dk_3 (dk_at dksJ9_equals_1 0 rfl rfl)
theorem dJ9_equals_25 : decode cJ9_equals 25 = .ok (.ireturn, 1) := dk_172 (dk_at dksJ9_equals_1 1 rfl rfl)
theorem dJ9_equals_26 : decode cJ9_equals 26 = .ok (.iinc 2 1, 3) := dk_132 2 1 (dk_at dksJ9_equals_1 2 rfl rfl)
theorem dJ9_equals_29 : decode cJ9_equals 29 = .ok (.goto (-20), 3) := dk_167 255 236 (dk_at dksJ9_equals_1 5 rfl rfl)
theorem dJ9_equals_32 : decode cJ9_equals 32 = .ok (.iconst 1, 1) := dk_4 (dk_at dksJ9_equals_1 8 rfl rfl)
theorem dJ9_equals_33 : decode cJ9_equals 33 = .ok (.ireturn, 1) := dk_172 (dk_at dksJ9_equals_1 9 rfl rfl)
theorem dJ9_equals_34 : decode cJ9_equals 34 = .ok (.iconst 0, 1) := dk_3 (dk_at dksJ9_equals_1 10 rfl rfl)
theorem dJ9_equals_35 : decode cJ9_equals 35 = .ok (.ireturn, 1) := dk_172 (dk_at dksJ9_equals_1 11 rfl rfl)
abbrev cJ9_hashCode : ByteArray := prog_24_method_21_code
def yJ9_hashCode : MethodName := ⟨RJ9, "hashCode", "([B)I"⟩
def dkwJ9_hashCode_2 : List UInt8 := [3, 167, 0, 22, 42, 3, 51, 17, 0, 255, 126, 167, 0, 12, 42, 3, 42, 190, 3, 7, 184, 0, 84, 172]
abbrev dktJ9_hashCode_2 : List UInt8 := dkwJ9_hashCode_2 ++ []
def dkwJ9_hashCode_1 : List UInt8 := [171, 0, 0, 0, 0, 40, 0, 0, 0, 2, 0, 0, 0, 0, 0, 0, 0, 26, 0, 0, 0, 1, 0, 0, 0, 30]
abbrev dktJ9_hashCode_1 : List UInt8 := dkwJ9_hashCode_1 ++ dktJ9_hashCode_2
def dkwJ9_hashCode_0 : List UInt8 := [42, 190]
abbrev dktJ9_hashCode_0 : List UInt8 := dkwJ9_hashCode_0 ++ dktJ9_hashCode_1
theorem dksJ9_hashCode_0 : cJ9_hashCode.data.toList.drop 0 = dktJ9_hashCode_0 := by decide +kernel
theorem dksJ9_hashCode_1 : cJ9_hashCode.data.toList.drop 2 = dktJ9_hashCode_1 := dk_seg dksJ9_hashCode_0 2 rfl rfl
theorem dksJ9_hashCode_2 : cJ9_hashCode.data.toList.drop 28 = dktJ9_hashCode_2 := dk_seg dksJ9_hashCode_1 26 rfl rfl
theorem dJ9_hashCode_0 : decode cJ9_hashCode 0 = .ok (.aload_n 0, 1) := dk_42 (dk_at dksJ9_hashCode_0 0 rfl rfl)
theorem dJ9_hashCode_1 : decode cJ9_hashCode 1 = .ok (.arraylength, 1) := dk_190 (dk_at dksJ9_hashCode_0 1 rfl rfl)
theorem dJ9_hashCode_2 : decode cJ9_hashCode 2 = .ok (.lookupswitch 40 #[(0, 26), (1, 30)], 26) := by decide +kernel
theorem dJ9_hashCode_28 : decode cJ9_hashCode 28 = .ok (.iconst 0, 1) := dk_3 (dk_at dksJ9_hashCode_2 0 rfl rfl)
theorem dJ9_hashCode_29 : decode cJ9_hashCode 29 = .ok (.goto 22, 3) := dk_167 0 22 (dk_at dksJ9_hashCode_2 1 rfl rfl)
theorem dJ9_hashCode_32 : decode cJ9_hashCode 32 = .ok (.aload_n 0, 1) := dk_42 (dk_at dksJ9_hashCode_2 4 rfl rfl)
theorem dJ9_hashCode_33 : decode cJ9_hashCode 33 = .ok (.iconst 0, 1) := dk_3 (dk_at dksJ9_hashCode_2 5 rfl rfl)
theorem dJ9_hashCode_34 : decode cJ9_hashCode 34 = .ok (.baload, 1) := dk_51 (dk_at dksJ9_hashCode_2 6 rfl rfl)
theorem dJ9_hashCode_35 : decode cJ9_hashCode 35 = .ok (.sipush 255, 3) := dk_17 0 255 (dk_at dksJ9_hashCode_2 7 rfl rfl)
theorem dJ9_hashCode_38 : decode cJ9_hashCode 38 = .ok (.iand, 1) := dk_126 (dk_at dksJ9_hashCode_2 10 rfl rfl)
theorem dJ9_hashCode_39 : decode cJ9_hashCode 39 = .ok (.goto 12, 3) := dk_167 0 12 (dk_at dksJ9_hashCode_2 11 rfl rfl)
theorem dJ9_hashCode_42 : decode cJ9_hashCode 42 = .ok (.aload_n 0, 1) := dk_42 (dk_at dksJ9_hashCode_2 14 rfl rfl)
theorem dJ9_hashCode_43 : decode cJ9_hashCode 43 = .ok (.iconst 0, 1) := dk_3 (dk_at dksJ9_hashCode_2 15 rfl rfl)
theorem dJ9_hashCode_44 : decode cJ9_hashCode 44 = .ok (.aload_n 0, 1) := dk_42 (dk_at dksJ9_hashCode_2 16 rfl rfl)
theorem dJ9_hashCode_45 : decode cJ9_hashCode 45 = .ok (.arraylength, 1) := dk_190 (dk_at dksJ9_hashCode_2 17 rfl rfl)
theorem dJ9_hashCode_46 : decode cJ9_hashCode 46 = .ok (.iconst 0, 1) := dk_3 (dk_at dksJ9_hashCode_2 18 rfl rfl)
theorem dJ9_hashCode_47 : decode cJ9_hashCode 47 = .ok (.iconst 4, 1) := dk_7 (dk_at dksJ9_hashCode_2 19 rfl rfl)
theorem dJ9_hashCode_48 : decode cJ9_hashCode 48 = .ok (.invokestatic 84, 3) := dk_184 0 84 (dk_at dksJ9_hashCode_2 20 rfl rfl)
theorem dJ9_hashCode_51 : decode cJ9_hashCode 51 = .ok (.ireturn, 1) := dk_172 (dk_at dksJ9_hashCode_2 23 rfl rfl)
abbrev cJ9_charAt : ByteArray := prog_24_method_2_code
def yJ9_charAt : MethodName := ⟨RJ9, "charAt", "([BI)C"⟩
def dkwJ9_charAt_0 : List UInt8 := [27, 42, 190, 184, 0, 9, 42, 27, 51, 17, 0, 255, 126, 146, 172]
abbrev dktJ9_charAt_0 : List UInt8 := dkwJ9_charAt_0 ++ []
theorem dksJ9_charAt_0 : cJ9_charAt.data.toList.drop 0 = dktJ9_charAt_0 := by decide +kernel
theorem dJ9_charAt_0 : decode cJ9_charAt 0 = .ok (.iload_n 1, 1) := dk_27 (dk_at dksJ9_charAt_0 0 rfl rfl)
theorem dJ9_charAt_1 : decode cJ9_charAt 1 = .ok (.aload_n 0, 1) := dk_42 (dk_at dksJ9_charAt_0 1 rfl rfl)
theorem dJ9_charAt_2 : decode cJ9_charAt 2 = .ok (.arraylength, 1) := dk_190 (dk_at dksJ9_charAt_0 2 rfl rfl)
theorem dJ9_charAt_3 : decode cJ9_charAt 3 = .ok (.invokestatic 9, 3) := dk_184 0 9 (dk_at dksJ9_charAt_0 3 rfl rfl)
theorem dJ9_charAt_6 : decode cJ9_charAt 6 = .ok (.aload_n 0, 1) := dk_42 (dk_at dksJ9_charAt_0 6 rfl rfl)
theorem dJ9_charAt_7 : decode cJ9_charAt 7 = .ok (.iload_n 1, 1) := dk_27 (dk_at dksJ9_charAt_0 7 rfl rfl)
theorem dJ9_charAt_8 : decode cJ9_charAt 8 = .ok (.baload, 1) := dk_51 (dk_at dksJ9_charAt_0 8 rfl rfl)
theorem dJ9_charAt_9 : decode cJ9_charAt 9 = .ok (.sipush 255, 3) := dk_17 0 255 (dk_at dksJ9_charAt_0 9 rfl rfl)
theorem dJ9_charAt_12 : decode cJ9_charAt 12 = .ok (.iand, 1) := dk_126 (dk_at dksJ9_charAt_0 12 rfl rfl)
theorem dJ9_charAt_13 : decode cJ9_charAt 13 = .ok (.i2c, 1) := dk_146 (dk_at dksJ9_charAt_0 13 rfl rfl)
theorem dJ9_charAt_14 : decode cJ9_charAt 14 = .ok (.ireturn, 1) := dk_172 (dk_at dksJ9_charAt_0 14 rfl rfl)
theorem q94 : (Jvm.Cond.initialized "java/lang/StringLatin1") ∈ lw_all := lw_g (lw_at lw_m1 14 rfl) rfl
theorem q461 : (Jvm.Cond.static ({ cls := "java/lang/StringLatin1", name := "equals", desc := "([B[B)Z" } : Jvm.MethodName)) ∈ lw_all := lw_g (lw_at lw_m2 141 rfl) rfl
theorem q462 : (Jvm.Cond.code ({ cls := "java/lang/StringLatin1", name := "equals", desc := "([B[B)Z" } : Jvm.MethodName) prog_24_method_13_code (3 : Nat) (Option.some Jvm.ClassFile.FieldType.boolean)) ∈ lw_all := lw_g (lw_at lw_m2 142 rfl) rfl
theorem q485 : (Jvm.Cond.static ({ cls := "java/lang/StringLatin1", name := "hashCode", desc := "([B)I" } : Jvm.MethodName)) ∈ lw_all := lw_g (lw_at lw_m2 165 rfl) rfl
theorem q486 : (Jvm.Cond.code ({ cls := "java/lang/StringLatin1", name := "hashCode", desc := "([B)I" } : Jvm.MethodName) prog_24_method_21_code (1 : Nat) (Option.some Jvm.ClassFile.FieldType.int)) ∈ lw_all := lw_g (lw_at lw_m2 166 rfl) rfl
theorem q487 : (Jvm.Cond.methodLink "java/lang/StringLatin1" (84 : Nat) ({ cls := "jdk/internal/util/ArraysSupport", name := "vectorizedHashCode", desc := "(Ljava/lang/Object;IIII)I" } : Jvm.MethodName)) ∈ lw_all := lw_g (lw_at lw_m2 167 rfl) rfl
theorem q705 : (Jvm.Cond.static ({ cls := "java/lang/StringLatin1", name := "charAt", desc := "([BI)C" } : Jvm.MethodName)) ∈ lw_all := lw_g (lw_at lw_m3 145 rfl) rfl
theorem q706 : (Jvm.Cond.code ({ cls := "java/lang/StringLatin1", name := "charAt", desc := "([BI)C" } : Jvm.MethodName) prog_24_method_2_code (2 : Nat) (Option.some Jvm.ClassFile.FieldType.char)) ∈ lw_all := lw_g (lw_at lw_m3 146 rfl) rfl
theorem q707 : (Jvm.Cond.methodLink "java/lang/StringLatin1" (9 : Nat) ({ cls := "java/lang/String", name := "checkIndex", desc := "(II)V" } : Jvm.MethodName)) ∈ lw_all := lw_g (lw_at lw_m3 147 rfl) rfl
/-! jdk/internal/util/ArraysSupport -/
set_option maxRecDepth 100000
def RJ10 : String := "jdk/internal/util/ArraysSupport"
abbrev cJ10_vectorizedHashCode : ByteArray := prog_41_method_4_code
def yJ10_vectorizedHashCode : MethodName := ⟨RJ10, "vectorizedHashCode", "(Ljava/lang/Object;IIII)I"⟩
def dkwJ10_vectorizedHashCode_6 : List UInt8 := [183, 0, 91, 18, 92, 182, 0, 94, 21, 4, 182, 0, 98, 182, 0, 101, 183, 0, 105, 191, 172]
abbrev dktJ10_vectorizedHashCode_6 : List UInt8 := dkwJ10_vectorizedHashCode_6 ++ []
def dkwJ10_vectorizedHashCode_5 : List UInt8 := [167, 0, 44, 29, 42, 192, 0, 82, 27, 28, 184, 0, 84, 167, 0, 31, 187, 0, 87, 89, 187, 0, 89, 89]
abbrev dktJ10_vectorizedHashCode_5 : List UInt8 := dkwJ10_vectorizedHashCode_5 ++ dktJ10_vectorizedHashCode_6
def dkwJ10_vectorizedHashCode_4 : List UInt8 := [29, 42, 192, 0, 60, 27, 28, 184, 0, 75, 167, 0, 57, 29, 42, 192, 0, 77, 27, 28, 184, 0, 79]
abbrev dktJ10_vectorizedHashCode_4 : List UInt8 := dkwJ10_vectorizedHashCode_4 ++ dktJ10_vectorizedHashCode_5
def dkwJ10_vectorizedHashCode_3 : List UInt8 := [192, 0, 60, 27, 28, 184, 0, 66, 167, 0, 83, 29, 42, 192, 0, 69, 27, 28, 184, 0, 71, 167, 0, 70]
abbrev dktJ10_vectorizedHashCode_3 : List UInt8 := dkwJ10_vectorizedHashCode_3 ++ dktJ10_vectorizedHashCode_4
def dkwJ10_vectorizedHashCode_2 : List UInt8 := [29, 42, 192, 0, 60, 27, 28, 184, 0, 62, 167, 0, 103, 42, 193, 0, 60, 153, 0, 16, 29, 42]
abbrev dktJ10_vectorizedHashCode_2 : List UInt8 := dkwJ10_vectorizedHashCode_2 ++ dktJ10_vectorizedHashCode_3
def dkwJ10_vectorizedHashCode_1 : List UInt8 := [170, 0, 0, 0, 0, 127, 0, 0, 0, 4, 0, 0, 0, 10, 0, 0, 0, 42, 0, 0, 0, 55, 0, 0, 0, 127, 0, 0, 0, 127, 0, 0, 0, 88, 0, 0, 0, 101, 0, 0, 0, 114]
abbrev dktJ10_vectorizedHashCode_1 : List UInt8 := dkwJ10_vectorizedHashCode_1 ++ dktJ10_vectorizedHashCode_2
def dkwJ10_vectorizedHashCode_0 : List UInt8 := [21, 4]
abbrev dktJ10_vectorizedHashCode_0 : List UInt8 := dkwJ10_vectorizedHashCode_0 ++ dktJ10_vectorizedHashCode_1
theorem dksJ10_vectorizedHashCode_0 : cJ10_vectorizedHashCode.data.toList.drop 0 = dktJ10_vectorizedHashCode_0 := by decide +kernel
theorem dksJ10_vectorizedHashCode_1 : cJ10_vectorizedHashCode.data.toList.drop 2 = dktJ10_vectorizedHashCode_1 := dk_seg dksJ10_vectorizedHashCode_0 2 rfl rfl
theorem dksJ10_vectorizedHashCode_2 : cJ10_vectorizedHashCode.data.toList.drop 44 = dktJ10_vectorizedHashCode_2 := dk_seg dksJ10_vectorizedHashCode_1 42 rfl rfl
theorem dksJ10_vectorizedHashCode_3 : cJ10_vectorizedHashCode.data.toList.drop 66 = dktJ10_vectorizedHashCode_3 := dk_seg dksJ10_vectorizedHashCode_2 22 rfl rfl
theorem dksJ10_vectorizedHashCode_4 : cJ10_vectorizedHashCode.data.toList.drop 90 = dktJ10_vectorizedHashCode_4 := dk_seg dksJ10_vectorizedHashCode_3 24 rfl rfl
theorem dksJ10_vectorizedHashCode_5 : cJ10_vectorizedHashCode.data.toList.drop 113 = dktJ10_vectorizedHashCode_5 := dk_seg dksJ10_vectorizedHashCode_4 23 rfl rfl
theorem dksJ10_vectorizedHashCode_6 : cJ10_vectorizedHashCode.data.toList.drop 137 = dktJ10_vectorizedHashCode_6 := dk_seg dksJ10_vectorizedHashCode_5 24 rfl rfl
theorem dJ10_vectorizedHashCode_0 : decode cJ10_vectorizedHashCode 0 = .ok (.iload 4, 2) := dk_21 4 (dk_at dksJ10_vectorizedHashCode_0 0 rfl rfl)
theorem dJ10_vectorizedHashCode_2 : decode cJ10_vectorizedHashCode 2 = .ok (.tableswitch 127 4 10 #[42, 55, 127, 127, 88, 101, 114], 42) := by decide +kernel
theorem dJ10_vectorizedHashCode_44 : decode cJ10_vectorizedHashCode 44 = .ok (.iload_n 3, 1) := dk_29 (dk_at dksJ10_vectorizedHashCode_2 0 rfl rfl)
theorem dJ10_vectorizedHashCode_45 : decode cJ10_vectorizedHashCode 45 = .ok (.aload_n 0, 1) := dk_42 (dk_at dksJ10_vectorizedHashCode_2 1 rfl rfl)
theorem dJ10_vectorizedHashCode_46 : decode cJ10_vectorizedHashCode 46 = .ok (.checkcast 60, 3) := dk_192 0 60 (dk_at dksJ10_vectorizedHashCode_2 2 rfl rfl)
theorem dJ10_vectorizedHashCode_49 : decode cJ10_vectorizedHashCode 49 = .ok (.iload_n 1, 1) := dk_27 (dk_at dksJ10_vectorizedHashCode_2 5 rfl rfl)
theorem dJ10_vectorizedHashCode_50 : decode cJ10_vectorizedHashCode 50 = .ok (.iload_n 2, 1) := dk_28 (dk_at dksJ10_vectorizedHashCode_2 6 rfl rfl)
theorem dJ10_vectorizedHashCode_51 : decode cJ10_vectorizedHashCode 51 = .ok (.invokestatic 62, 3) := dk_184 0 62 (dk_at dksJ10_vectorizedHashCode_2 7 rfl rfl)
theorem dJ10_vectorizedHashCode_54 : decode cJ10_vectorizedHashCode 54 = .ok (.goto 103, 3) := dk_167 0 103 (dk_at dksJ10_vectorizedHashCode_2 10 rfl rfl)
theorem dJ10_vectorizedHashCode_57 : decode cJ10_vectorizedHashCode 57 = .ok (.aload_n 0, 1) := dk_42 (dk_at dksJ10_vectorizedHashCode_2 13 rfl rfl)
theorem dJ10_vectorizedHashCode_58 : decode cJ10_vectorizedHashCode 58 = .ok (.instanceof 60, 3) := dk_193 0 60 (dk_at dksJ10_vectorizedHashCode_2 14 rfl rfl)
theorem dJ10_vectorizedHashCode_61 : decode cJ10_vectorizedHashCode 61 = .ok (.ifCond .eq 16, 3) := dk_153 0 16 (dk_at dksJ10_vectorizedHashCode_2 17 rfl rfl)
theorem dJ10_vectorizedHashCode_64 : decode cJ10_vectorizedHashCode 64 = .ok (.iload_n 3, 1) := dk_29 (dk_at dksJ10_vectorizedHashCode_2 20 rfl rfl)
theorem dJ10_vectorizedHashCode_65 : decode cJ10_vectorizedHashCode 65 = .ok (.aload_n 0, 1) := dk_42 (dk_at dksJ10_vectorizedHashCode_2 21 rfl rfl)
theorem dJ10_vectorizedHashCode_66 : decode cJ10_vectorizedHashCode 66 = .ok (.checkcast 60, 3) := dk_192 0 60 (dk_at dksJ10_vectorizedHashCode_3 0 rfl rfl)
theorem dJ10_vectorizedHashCode_69 : decode cJ10_vectorizedHashCode 69 = .ok (.iload_n 1, 1) := dk_27 (dk_at dksJ10_vectorizedHashCode_3 3 rfl rfl)
theorem dJ10_vectorizedHashCode_70 : decode cJ10_vectorizedHashCode 70 = .ok (.iload_n 2, 1) := dk_28 (dk_at dksJ10_vectorizedHashCode_3 4 rfl rfl)
theorem dJ10_vectorizedHashCode_71 : decode cJ10_vectorizedHashCode 71 = .ok (.invokestatic 66, 3) := dk_184 0 66 (dk_at dksJ10_vectorizedHashCode_3 5 rfl rfl)
theorem dJ10_vectorizedHashCode_74 : decode cJ10_vectorizedHashCode 74 = .ok (.goto 83, 3) := dk_167 0 83 (dk_at dksJ10_vectorizedHashCode_3 8 rfl rfl)
theorem dJ10_vectorizedHashCode_77 : decode cJ10_vectorizedHashCode 77 = .ok (.iload_n 3, 1) := dk_29 (dk_at dksJ10_vectorizedHashCode_3 11 rfl rfl)
theorem dJ10_vectorizedHashCode_78 : decode cJ10_vectorizedHashCode 78 = .ok (.aload_n 0, 1) := dk_42 (dk_at dksJ10_vectorizedHashCode_3 12 rfl rfl)
theorem dJ10_vectorizedHashCode_79 : decode cJ10_vectorizedHashCode 79 = .ok (.checkcast 69, 3) := dk_192 0 69 (dk_at dksJ10_vectorizedHashCode_3 13 rfl rfl)
theorem dJ10_vectorizedHashCode_82 : decode cJ10_vectorizedHashCode 82 = .ok (.iload_n 1, 1) := dk_27 (dk_at dksJ10_vectorizedHashCode_3 16 rfl rfl)
theorem dJ10_vectorizedHashCode_83 : decode cJ10_vectorizedHashCode 83 = .ok (.iload_n 2, 1) := dk_28 (dk_at dksJ10_vectorizedHashCode_3 17 rfl rfl)
theorem dJ10_vectorizedHashCode_84 : decode cJ10_vectorizedHashCode 84 = .ok (.invokestatic 71, 3) := dk_184 0 71 (dk_at dksJ10_vectorizedHashCode_3 18 rfl rfl)
theorem dJ10_vectorizedHashCode_87 : decode cJ10_vectorizedHashCode 87 = .ok (.goto 70, 3) := dk_167 0 70 (dk_at dksJ10_vectorizedHashCode_3 21 rfl rfl)
theorem dJ10_vectorizedHashCode_90 : decode cJ10_vectorizedHashCode 90 = .ok (.iload_n 3, 1) := dk_29 (dk_at dksJ10_vectorizedHashCode_4 0 rfl rfl)
theorem dJ10_vectorizedHashCode_91 : decode cJ10_vectorizedHashCode 91 = .ok (.aload_n 0, 1) := dk_42 (dk_at dksJ10_vectorizedHashCode_4 1 rfl rfl)
theorem dJ10_vectorizedHashCode_92 : decode cJ10_vectorizedHashCode 92 = .ok (.checkcast 60, 3) := dk_192 0 60 (dk_at dksJ10_vectorizedHashCode_4 2 rfl rfl)
theorem dJ10_vectorizedHashCode_95 : decode cJ10_vectorizedHashCode 95 = .ok (.iload_n 1, 1) := dk_27 (dk_at dksJ10_vectorizedHashCode_4 5 rfl rfl)
theorem dJ10_vectorizedHashCode_96 : decode cJ10_vectorizedHashCode 96 = .ok (.iload_n 2, 1) := dk_28 (dk_at dksJ10_vectorizedHashCode_4 6 rfl rfl)
theorem dJ10_vectorizedHashCode_97 : decode cJ10_vectorizedHashCode 97 = .ok (.invokestatic 75, 3) := dk_184 0 75 (dk_at dksJ10_vectorizedHashCode_4 7 rfl rfl)
theorem dJ10_vectorizedHashCode_100 : decode cJ10_vectorizedHashCode 100 = .ok (.goto 57, 3) := dk_167 0 57 (dk_at dksJ10_vectorizedHashCode_4 10 rfl rfl)
theorem dJ10_vectorizedHashCode_103 : decode cJ10_vectorizedHashCode 103 = .ok (.iload_n 3, 1) := dk_29 (dk_at dksJ10_vectorizedHashCode_4 13 rfl rfl)
theorem dJ10_vectorizedHashCode_104 : decode cJ10_vectorizedHashCode 104 = .ok (.aload_n 0, 1) := dk_42 (dk_at dksJ10_vectorizedHashCode_4 14 rfl rfl)
theorem dJ10_vectorizedHashCode_105 : decode cJ10_vectorizedHashCode 105 = .ok (.checkcast 77, 3) := dk_192 0 77 (dk_at dksJ10_vectorizedHashCode_4 15 rfl rfl)
theorem dJ10_vectorizedHashCode_108 : decode cJ10_vectorizedHashCode 108 = .ok (.iload_n 1, 1) := dk_27 (dk_at dksJ10_vectorizedHashCode_4 18 rfl rfl)
theorem dJ10_vectorizedHashCode_109 : decode cJ10_vectorizedHashCode 109 = .ok (.iload_n 2, 1) := dk_28 (dk_at dksJ10_vectorizedHashCode_4 19 rfl rfl)
theorem dJ10_vectorizedHashCode_110 : decode cJ10_vectorizedHashCode 110 = .ok (.invokestatic 79, 3) := dk_184 0 79 (dk_at dksJ10_vectorizedHashCode_4 20 rfl rfl)
theorem dJ10_vectorizedHashCode_113 : decode cJ10_vectorizedHashCode 113 = .ok (.goto 44, 3) := dk_167 0 44 (dk_at dksJ10_vectorizedHashCode_5 0 rfl rfl)
theorem dJ10_vectorizedHashCode_116 : decode cJ10_vectorizedHashCode 116 = .ok (.iload_n 3, 1) := dk_29 (dk_at dksJ10_vectorizedHashCode_5 3 rfl rfl)
theorem dJ10_vectorizedHashCode_117 : decode cJ10_vectorizedHashCode 117 = .ok (.aload_n 0, 1) := dk_42 (dk_at dksJ10_vectorizedHashCode_5 4 rfl rfl)
theorem dJ10_vectorizedHashCode_118 : decode cJ10_vectorizedHashCode 118 = .ok (.checkcast 82, 3) := dk_192 0 82 (dk_at dksJ10_vectorizedHashCode_5 5 rfl rfl)
theorem dJ10_vectorizedHashCode_121 : decode cJ10_vectorizedHashCode 121 = .ok (.iload_n 1, 1) := dk_27 (dk_at dksJ10_vectorizedHashCode_5 8 rfl rfl)
theorem dJ10_vectorizedHashCode_122 : decode cJ10_vectorizedHashCode 122 = .ok (.iload_n 2, 1) := dk_28 (dk_at dksJ10_vectorizedHashCode_5 9 rfl rfl)
theorem dJ10_vectorizedHashCode_123 : decode cJ10_vectorizedHashCode 123 = .ok (.invokestatic 84, 3) := dk_184 0 84 (dk_at dksJ10_vectorizedHashCode_5 10 rfl rfl)
theorem dJ10_vectorizedHashCode_126 : decode cJ10_vectorizedHashCode 126 = .ok (.goto 31, 3) := dk_167 0 31 (dk_at dksJ10_vectorizedHashCode_5 13 rfl rfl)
theorem dJ10_vectorizedHashCode_129 : decode cJ10_vectorizedHashCode 129 = .ok (.new 87, 3) := dk_187 0 87 (dk_at dksJ10_vectorizedHashCode_5 16 rfl rfl)
theorem dJ10_vectorizedHashCode_132 : decode cJ10_vectorizedHashCode 132 = .ok (.dup, 1) := dk_89 (dk_at dksJ10_vectorizedHashCode_5 19 rfl rfl)
theorem dJ10_vectorizedHashCode_133 : decode cJ10_vectorizedHashCode 133 = .ok (.new 89, 3) := dk_187 0 89 (dk_at dksJ10_vectorizedHashCode_5 20 rfl rfl)
theorem dJ10_vectorizedHashCode_136 : decode cJ10_vectorizedHashCode 136 = .ok (.dup, 1) := dk_89 (dk_at dksJ10_vectorizedHashCode_5 23 rfl rfl)
theorem dJ10_vectorizedHashCode_137 : decode cJ10_vectorizedHashCode 137 = .ok (.invokespecial 91, 3) := dk_183 0 91 (dk_at dksJ10_vectorizedHashCode_6 0 rfl rfl)
theorem dJ10_vectorizedHashCode_140 : decode cJ10_vectorizedHashCode 140 = .ok (.ldc 92, 2) := dk_18 92 (dk_at dksJ10_vectorizedHashCode_6 3 rfl rfl)
theorem dJ10_vectorizedHashCode_142 : decode cJ10_vectorizedHashCode 142 = .ok (.invokevirtual 94, 3) := dk_182 0 94 (dk_at dksJ10_vectorizedHashCode_6 5 rfl rfl)
theorem dJ10_vectorizedHashCode_145 : decode cJ10_vectorizedHashCode 145 = .ok (.iload 4, 2) := dk_21 4 (dk_at dksJ10_vectorizedHashCode_6 8 rfl rfl)
theorem dJ10_vectorizedHashCode_147 : decode cJ10_vectorizedHashCode 147 = .ok (.invokevirtual 98, 3) := dk_182 0 98 (dk_at dksJ10_vectorizedHashCode_6 10 rfl rfl)
theorem dJ10_vectorizedHashCode_150 : decode cJ10_vectorizedHashCode 150 = .ok (.invokevirtual 101, 3) := dk_182 0 101 (dk_at dksJ10_vectorizedHashCode_6 13 rfl rfl)
theorem dJ10_vectorizedHashCode_153 : decode cJ10_vectorizedHashCode 153 = .ok (.invokespecial 105, 3) := dk_183 0 105 (dk_at dksJ10_vectorizedHashCode_6 16 rfl rfl)
theorem dJ10_vectorizedHashCode_156 : decode cJ10_vectorizedHashCode 156 = .ok (.athrow, 1) := dk_191 (dk_at dksJ10_vectorizedHashCode_6 19 rfl rfl)
theorem dJ10_vectorizedHashCode_157 : decode cJ10_vectorizedHashCode 157 = .ok (.ireturn, 1) := dk_172 (dk_at dksJ10_vectorizedHashCode_6 20 rfl rfl)
abbrev cJ10_signedHashCode : ByteArray := prog_41_method_5_code
def yJ10_signedHashCode : MethodName := ⟨RJ10, "signedHashCode", "(I[BII)I"⟩
def dkwJ10_signedHashCode_1 : List UInt8 := [17, 0, 255, 126, 96, 59, 132, 5, 1, 167, 255, 232, 26, 172]
abbrev dktJ10_signedHashCode_1 : List UInt8 := dkwJ10_signedHashCode_1 ++ []
def dkwJ10_signedHashCode_0 : List UInt8 := [28, 29, 96, 54, 4, 28, 54, 5, 21, 5, 21, 4, 162, 0, 23, 16, 31, 26, 104, 43, 21, 5, 51]
abbrev dktJ10_signedHashCode_0 : List UInt8 := dkwJ10_signedHashCode_0 ++ dktJ10_signedHashCode_1
theorem dksJ10_signedHashCode_0 : cJ10_signedHashCode.data.toList.drop 0 = dktJ10_signedHashCode_0 := by decide +kernel
theorem dksJ10_signedHashCode_1 : cJ10_signedHashCode.data.toList.drop 23 = dktJ10_signedHashCode_1 := dk_seg dksJ10_signedHashCode_0 23 rfl rfl
theorem dJ10_signedHashCode_0 : decode cJ10_signedHashCode 0 = .ok (.iload_n 2, 1) := dk_28 (dk_at dksJ10_signedHashCode_0 0 rfl rfl)
theorem dJ10_signedHashCode_1 : decode cJ10_signedHashCode 1 = .ok (.iload_n 3, 1) := dk_29 (dk_at dksJ10_signedHashCode_0 1 rfl rfl)
theorem dJ10_signedHashCode_2 : decode cJ10_signedHashCode 2 = .ok (.iadd, 1) := dk_96 (dk_at dksJ10_signedHashCode_0 2 rfl rfl)
theorem dJ10_signedHashCode_3 : decode cJ10_signedHashCode 3 = .ok (.istore 4, 2) := dk_54 4 (dk_at dksJ10_signedHashCode_0 3 rfl rfl)
theorem dJ10_signedHashCode_5 : decode cJ10_signedHashCode 5 = .ok (.iload_n 2, 1) := dk_28 (dk_at dksJ10_signedHashCode_0 5 rfl rfl)
theorem dJ10_signedHashCode_6 : decode cJ10_signedHashCode 6 = .ok (.istore 5, 2) := dk_54 5 (dk_at dksJ10_signedHashCode_0 6 rfl rfl)
theorem dJ10_signedHashCode_8 : decode cJ10_signedHashCode 8 = .ok (.iload 5, 2) := dk_21 5 (dk_at dksJ10_signedHashCode_0 8 rfl rfl)
theorem dJ10_signedHashCode_10 : decode cJ10_signedHashCode 10 = .ok (.iload 4, 2) := dk_21 4 (dk_at dksJ10_signedHashCode_0 10 rfl rfl)
theorem dJ10_signedHashCode_12 : decode cJ10_signedHashCode 12 = .ok (.if_icmp .ge 23, 3) := dk_162 0 23 (dk_at dksJ10_signedHashCode_0 12 rfl rfl)
theorem dJ10_signedHashCode_15 : decode cJ10_signedHashCode 15 = .ok (.bipush 31, 2) := dk_16 31 (dk_at dksJ10_signedHashCode_0 15 rfl rfl)
theorem dJ10_signedHashCode_17 : decode cJ10_signedHashCode 17 = .ok (.iload_n 0, 1) := dk_26 (dk_at dksJ10_signedHashCode_0 17 rfl rfl)
theorem dJ10_signedHashCode_18 : decode cJ10_signedHashCode 18 = .ok (.imul, 1) := dk_104 (dk_at dksJ10_signedHashCode_0 18 rfl rfl)
theorem dJ10_signedHashCode_19 : decode cJ10_signedHashCode 19 = .ok (.aload_n 1, 1) := dk_43 (dk_at dksJ10_signedHashCode_0 19 rfl rfl)
theorem dJ10_signedHashCode_20 : decode cJ10_signedHashCode 20 = .ok (.iload 5, 2) := dk_21 5 (dk_at dksJ10_signedHashCode_0 20 rfl rfl)
theorem dJ10_signedHashCode_22 : decode cJ10_signedHashCode 22 = .ok (.baload, 1) := dk_51 (dk_at dksJ10_signedHashCode_0 22 rfl rfl)
theorem dJ10_signedHashCode_23 : decode cJ10_signedHashCode 23 = .ok (.sipush 255, 3) := dk_17 0 255 (dk_at dksJ10_signedHashCode_1 0 rfl rfl)
theorem dJ10_signedHashCode_26 : decode cJ10_signedHashCode 26 = .ok (.iand, 1) := dk_126 (dk_at dksJ10_signedHashCode_1 3 rfl rfl)
theorem dJ10_signedHashCode_27 : decode cJ10_signedHashCode 27 = .ok (.iadd, 1) := dk_96 (dk_at dksJ10_signedHashCode_1 4 rfl rfl)
theorem dJ10_signedHashCode_28 : decode cJ10_signedHashCode 28 = .ok (.istore_n 0, 1) := dk_59 (dk_at dksJ10_signedHashCode_1 5 rfl rfl)
theorem dJ10_signedHashCode_29 : decode cJ10_signedHashCode 29 = .ok (.iinc 5 1, 3) := dk_132 5 1 (dk_at dksJ10_signedHashCode_1 6 rfl rfl)
theorem dJ10_signedHashCode_32 : decode cJ10_signedHashCode 32 = .ok (.goto (-24), 3) := dk_167 255 232 (dk_at dksJ10_signedHashCode_1 9 rfl rfl)
theorem dJ10_signedHashCode_35 : decode cJ10_signedHashCode 35 = .ok (.iload_n 0, 1) := dk_26 (dk_at dksJ10_signedHashCode_1 12 rfl rfl)
theorem dJ10_signedHashCode_36 : decode cJ10_signedHashCode 36 = .ok (.ireturn, 1) := dk_172 (dk_at dksJ10_signedHashCode_1 13 rfl rfl)
abbrev cJ10_utf16hashCode : ByteArray := prog_41_method_10_code
def yJ10_utf16hashCode : MethodName := ⟨RJ10, "utf16hashCode", "(I[BII)I"⟩
def dkwJ10_utf16hashCode_1 : List UInt8 := [21, 5, 185, 0, 110, 3, 0, 96, 59, 132, 5, 1, 167, 255, 229, 26, 172]
abbrev dktJ10_utf16hashCode_1 : List UInt8 := dkwJ10_utf16hashCode_1 ++ []
def dkwJ10_utf16hashCode_0 : List UInt8 := [28, 29, 96, 54, 4, 28, 54, 5, 21, 5, 21, 4, 162, 0, 26, 16, 31, 26, 104, 178, 0, 106, 43]
abbrev dktJ10_utf16hashCode_0 : List UInt8 := dkwJ10_utf16hashCode_0 ++ dktJ10_utf16hashCode_1
theorem dksJ10_utf16hashCode_0 : cJ10_utf16hashCode.data.toList.drop 0 = dktJ10_utf16hashCode_0 := by decide +kernel
theorem dksJ10_utf16hashCode_1 : cJ10_utf16hashCode.data.toList.drop 23 = dktJ10_utf16hashCode_1 := dk_seg dksJ10_utf16hashCode_0 23 rfl rfl
theorem dJ10_utf16hashCode_0 : decode cJ10_utf16hashCode 0 = .ok (.iload_n 2, 1) := dk_28 (dk_at dksJ10_utf16hashCode_0 0 rfl rfl)
theorem dJ10_utf16hashCode_1 : decode cJ10_utf16hashCode 1 = .ok (.iload_n 3, 1) := dk_29 (dk_at dksJ10_utf16hashCode_0 1 rfl rfl)
theorem dJ10_utf16hashCode_2 : decode cJ10_utf16hashCode 2 = .ok (.iadd, 1) := dk_96 (dk_at dksJ10_utf16hashCode_0 2 rfl rfl)
theorem dJ10_utf16hashCode_3 : decode cJ10_utf16hashCode 3 = .ok (.istore 4, 2) := dk_54 4 (dk_at dksJ10_utf16hashCode_0 3 rfl rfl)
theorem dJ10_utf16hashCode_5 : decode cJ10_utf16hashCode 5 = .ok (.iload_n 2, 1) := dk_28 (dk_at dksJ10_utf16hashCode_0 5 rfl rfl)
theorem dJ10_utf16hashCode_6 : decode cJ10_utf16hashCode 6 = .ok (.istore 5, 2) := dk_54 5 (dk_at dksJ10_utf16hashCode_0 6 rfl rfl)
theorem dJ10_utf16hashCode_8 : decode cJ10_utf16hashCode 8 = .ok (.iload 5, 2) := dk_21 5 (dk_at dksJ10_utf16hashCode_0 8 rfl rfl)
theorem dJ10_utf16hashCode_10 : decode cJ10_utf16hashCode 10 = .ok (.iload 4, 2) := dk_21 4 (dk_at dksJ10_utf16hashCode_0 10 rfl rfl)
theorem dJ10_utf16hashCode_12 : decode cJ10_utf16hashCode 12 = .ok (.if_icmp .ge 26, 3) := dk_162 0 26 (dk_at dksJ10_utf16hashCode_0 12 rfl rfl)
theorem dJ10_utf16hashCode_15 : decode cJ10_utf16hashCode 15 = .ok (.bipush 31, 2) := dk_16 31 (dk_at dksJ10_utf16hashCode_0 15 rfl rfl)
theorem dJ10_utf16hashCode_17 : decode cJ10_utf16hashCode 17 = .ok (.iload_n 0, 1) := dk_26 (dk_at dksJ10_utf16hashCode_0 17 rfl rfl)
theorem dJ10_utf16hashCode_18 : decode cJ10_utf16hashCode 18 = .ok (.imul, 1) := dk_104 (dk_at dksJ10_utf16hashCode_0 18 rfl rfl)
theorem dJ10_utf16hashCode_19 : decode cJ10_utf16hashCode 19 = .ok (.getstatic 106, 3) := dk_178 0 106 (dk_at dksJ10_utf16hashCode_0 19 rfl rfl)
theorem dJ10_utf16hashCode_22 : decode cJ10_utf16hashCode 22 = .ok (.aload_n 1, 1) := dk_43 (dk_at dksJ10_utf16hashCode_0 22 rfl rfl)
theorem dJ10_utf16hashCode_23 : decode cJ10_utf16hashCode 23 = .ok (.iload 5, 2) := dk_21 5 (dk_at dksJ10_utf16hashCode_1 0 rfl rfl)
theorem dJ10_utf16hashCode_25 : decode cJ10_utf16hashCode 25 = .ok (.invokeinterface 110 3, 5) := by decide +kernel
theorem dJ10_utf16hashCode_30 : decode cJ10_utf16hashCode 30 = .ok (.iadd, 1) := dk_96 (dk_at dksJ10_utf16hashCode_1 7 rfl rfl)
theorem dJ10_utf16hashCode_31 : decode cJ10_utf16hashCode 31 = .ok (.istore_n 0, 1) := dk_59 (dk_at dksJ10_utf16hashCode_1 8 rfl rfl)
theorem dJ10_utf16hashCode_32 : decode cJ10_utf16hashCode 32 = .ok (.iinc 5 1, 3) := dk_132 5 1 (dk_at dksJ10_utf16hashCode_1 9 rfl rfl)
theorem dJ10_utf16hashCode_35 : decode cJ10_utf16hashCode 35 = .ok (.goto (-27), 3) := dk_167 255 229 (dk_at dksJ10_utf16hashCode_1 12 rfl rfl)
theorem dJ10_utf16hashCode_38 : decode cJ10_utf16hashCode 38 = .ok (.iload_n 0, 1) := dk_26 (dk_at dksJ10_utf16hashCode_1 15 rfl rfl)
theorem dJ10_utf16hashCode_39 : decode cJ10_utf16hashCode 39 = .ok (.ireturn, 1) := dk_172 (dk_at dksJ10_utf16hashCode_1 16 rfl rfl)
abbrev cJ10_hashCode : ByteArray := prog_41_method_7_code
def yJ10_hashCode : MethodName := ⟨RJ10, "hashCode", "(I[CII)I"⟩
def dkwJ10_hashCode_1 : List UInt8 := [59, 132, 5, 1, 167, 255, 236, 26, 172]
abbrev dktJ10_hashCode_1 : List UInt8 := dkwJ10_hashCode_1 ++ []
def dkwJ10_hashCode_0 : List UInt8 := [28, 29, 96, 54, 4, 28, 54, 5, 21, 5, 21, 4, 162, 0, 19, 16, 31, 26, 104, 43, 21, 5, 52, 96]
abbrev dktJ10_hashCode_0 : List UInt8 := dkwJ10_hashCode_0 ++ dktJ10_hashCode_1
theorem dksJ10_hashCode_0 : cJ10_hashCode.data.toList.drop 0 = dktJ10_hashCode_0 := by decide +kernel
theorem dksJ10_hashCode_1 : cJ10_hashCode.data.toList.drop 24 = dktJ10_hashCode_1 := dk_seg dksJ10_hashCode_0 24 rfl rfl
theorem dJ10_hashCode_0 : decode cJ10_hashCode 0 = .ok (.iload_n 2, 1) := dk_28 (dk_at dksJ10_hashCode_0 0 rfl rfl)
theorem dJ10_hashCode_1 : decode cJ10_hashCode 1 = .ok (.iload_n 3, 1) := dk_29 (dk_at dksJ10_hashCode_0 1 rfl rfl)
theorem dJ10_hashCode_2 : decode cJ10_hashCode 2 = .ok (.iadd, 1) := dk_96 (dk_at dksJ10_hashCode_0 2 rfl rfl)
theorem dJ10_hashCode_3 : decode cJ10_hashCode 3 = .ok (.istore 4, 2) := dk_54 4 (dk_at dksJ10_hashCode_0 3 rfl rfl)
theorem dJ10_hashCode_5 : decode cJ10_hashCode 5 = .ok (.iload_n 2, 1) := dk_28 (dk_at dksJ10_hashCode_0 5 rfl rfl)
theorem dJ10_hashCode_6 : decode cJ10_hashCode 6 = .ok (.istore 5, 2) := dk_54 5 (dk_at dksJ10_hashCode_0 6 rfl rfl)
theorem dJ10_hashCode_8 : decode cJ10_hashCode 8 = .ok (.iload 5, 2) := dk_21 5 (dk_at dksJ10_hashCode_0 8 rfl rfl)
theorem dJ10_hashCode_10 : decode cJ10_hashCode 10 = .ok (.iload 4, 2) := dk_21 4 (dk_at dksJ10_hashCode_0 10 rfl rfl)
theorem dJ10_hashCode_12 : decode cJ10_hashCode 12 = .ok (.if_icmp .ge 19, 3) := dk_162 0 19 (dk_at dksJ10_hashCode_0 12 rfl rfl)
theorem dJ10_hashCode_15 : decode cJ10_hashCode 15 = .ok (.bipush 31, 2) := dk_16 31 (dk_at dksJ10_hashCode_0 15 rfl rfl)
theorem dJ10_hashCode_17 : decode cJ10_hashCode 17 = .ok (.iload_n 0, 1) := dk_26 (dk_at dksJ10_hashCode_0 17 rfl rfl)
theorem dJ10_hashCode_18 : decode cJ10_hashCode 18 = .ok (.imul, 1) := dk_104 (dk_at dksJ10_hashCode_0 18 rfl rfl)
theorem dJ10_hashCode_19 : decode cJ10_hashCode 19 = .ok (.aload_n 1, 1) := dk_43 (dk_at dksJ10_hashCode_0 19 rfl rfl)
theorem dJ10_hashCode_20 : decode cJ10_hashCode 20 = .ok (.iload 5, 2) := dk_21 5 (dk_at dksJ10_hashCode_0 20 rfl rfl)
theorem dJ10_hashCode_22 : decode cJ10_hashCode 22 = .ok (.caload, 1) := dk_52 (dk_at dksJ10_hashCode_0 22 rfl rfl)
theorem dJ10_hashCode_23 : decode cJ10_hashCode 23 = .ok (.iadd, 1) := dk_96 (dk_at dksJ10_hashCode_0 23 rfl rfl)
theorem dJ10_hashCode_24 : decode cJ10_hashCode 24 = .ok (.istore_n 0, 1) := dk_59 (dk_at dksJ10_hashCode_1 0 rfl rfl)
theorem dJ10_hashCode_25 : decode cJ10_hashCode 25 = .ok (.iinc 5 1, 3) := dk_132 5 1 (dk_at dksJ10_hashCode_1 1 rfl rfl)
theorem dJ10_hashCode_28 : decode cJ10_hashCode 28 = .ok (.goto (-20), 3) := dk_167 255 236 (dk_at dksJ10_hashCode_1 4 rfl rfl)
theorem dJ10_hashCode_31 : decode cJ10_hashCode 31 = .ok (.iload_n 0, 1) := dk_26 (dk_at dksJ10_hashCode_1 7 rfl rfl)
theorem dJ10_hashCode_32 : decode cJ10_hashCode 32 = .ok (.ireturn, 1) := dk_172 (dk_at dksJ10_hashCode_1 8 rfl rfl)
abbrev cJ10_hashCode_2 : ByteArray := prog_41_method_6_code
def yJ10_hashCode_2 : MethodName := ⟨RJ10, "hashCode", "(I[BII)I"⟩
def dkwJ10_hashCode_2_1 : List UInt8 := [59, 132, 5, 1, 167, 255, 236, 26, 172]
abbrev dktJ10_hashCode_2_1 : List UInt8 := dkwJ10_hashCode_2_1 ++ []
def dkwJ10_hashCode_2_0 : List UInt8 := [28, 29, 96, 54, 4, 28, 54, 5, 21, 5, 21, 4, 162, 0, 19, 16, 31, 26, 104, 43, 21, 5, 51, 96]
abbrev dktJ10_hashCode_2_0 : List UInt8 := dkwJ10_hashCode_2_0 ++ dktJ10_hashCode_2_1
theorem dksJ10_hashCode_2_0 : cJ10_hashCode_2.data.toList.drop 0 = dktJ10_hashCode_2_0 := by decide +kernel
theorem dksJ10_hashCode_2_1 : cJ10_hashCode_2.data.toList.drop 24 = dktJ10_hashCode_2_1 := dk_seg dksJ10_hashCode_2_0 24 rfl rfl
theorem dJ10_hashCode_2_0 : decode cJ10_hashCode_2 0 = .ok (.iload_n 2, 1) := dk_28 (dk_at dksJ10_hashCode_2_0 0 rfl rfl)
theorem dJ10_hashCode_2_1 : decode cJ10_hashCode_2 1 = .ok (.iload_n 3, 1) := dk_29 (dk_at dksJ10_hashCode_2_0 1 rfl rfl)
theorem dJ10_hashCode_2_2 : decode cJ10_hashCode_2 2 = .ok (.iadd, 1) := dk_96 (dk_at dksJ10_hashCode_2_0 2 rfl rfl)
theorem dJ10_hashCode_2_3 : decode cJ10_hashCode_2 3 = .ok (.istore 4, 2) := dk_54 4 (dk_at dksJ10_hashCode_2_0 3 rfl rfl)
theorem dJ10_hashCode_2_5 : decode cJ10_hashCode_2 5 = .ok (.iload_n 2, 1) := dk_28 (dk_at dksJ10_hashCode_2_0 5 rfl rfl)
theorem dJ10_hashCode_2_6 : decode cJ10_hashCode_2 6 = .ok (.istore 5, 2) := dk_54 5 (dk_at dksJ10_hashCode_2_0 6 rfl rfl)
theorem dJ10_hashCode_2_8 : decode cJ10_hashCode_2 8 = .ok (.iload 5, 2) := dk_21 5 (dk_at dksJ10_hashCode_2_0 8 rfl rfl)
theorem dJ10_hashCode_2_10 : decode cJ10_hashCode_2 10 = .ok (.iload 4, 2) := dk_21 4 (dk_at dksJ10_hashCode_2_0 10 rfl rfl)
theorem dJ10_hashCode_2_12 : decode cJ10_hashCode_2 12 = .ok (.if_icmp .ge 19, 3) := dk_162 0 19 (dk_at dksJ10_hashCode_2_0 12 rfl rfl)
theorem dJ10_hashCode_2_15 : decode cJ10_hashCode_2 15 = .ok (.bipush 31, 2) := dk_16 31 (dk_at dksJ10_hashCode_2_0 15 rfl rfl)
theorem dJ10_hashCode_2_17 : decode cJ10_hashCode_2 17 = .ok (.iload_n 0, 1) := dk_26 (dk_at dksJ10_hashCode_2_0 17 rfl rfl)
theorem dJ10_hashCode_2_18 : decode cJ10_hashCode_2 18 = .ok (.imul, 1) := dk_104 (dk_at dksJ10_hashCode_2_0 18 rfl rfl)
theorem dJ10_hashCode_2_19 : decode cJ10_hashCode_2 19 = .ok (.aload_n 1, 1) := dk_43 (dk_at dksJ10_hashCode_2_0 19 rfl rfl)
theorem dJ10_hashCode_2_20 : decode cJ10_hashCode_2 20 = .ok (.iload 5, 2) := dk_21 5 (dk_at dksJ10_hashCode_2_0 20 rfl rfl)
theorem dJ10_hashCode_2_22 : decode cJ10_hashCode_2 22 = .ok (.baload, 1) := dk_51 (dk_at dksJ10_hashCode_2_0 22 rfl rfl)
theorem dJ10_hashCode_2_23 : decode cJ10_hashCode_2 23 = .ok (.iadd, 1) := dk_96 (dk_at dksJ10_hashCode_2_0 23 rfl rfl)
theorem dJ10_hashCode_2_24 : decode cJ10_hashCode_2 24 = .ok (.istore_n 0, 1) := dk_59 (dk_at dksJ10_hashCode_2_1 0 rfl rfl)
theorem dJ10_hashCode_2_25 : decode cJ10_hashCode_2 25 = .ok (.iinc 5 1, 3) := dk_132 5 1 (dk_at dksJ10_hashCode_2_1 1 rfl rfl)
theorem dJ10_hashCode_2_28 : decode cJ10_hashCode_2 28 = .ok (.goto (-20), 3) := dk_167 255 236 (dk_at dksJ10_hashCode_2_1 4 rfl rfl)
theorem dJ10_hashCode_2_31 : decode cJ10_hashCode_2 31 = .ok (.iload_n 0, 1) := dk_26 (dk_at dksJ10_hashCode_2_1 7 rfl rfl)
theorem dJ10_hashCode_2_32 : decode cJ10_hashCode_2 32 = .ok (.ireturn, 1) := dk_172 (dk_at dksJ10_hashCode_2_1 8 rfl rfl)
abbrev cJ10_hashCode_3 : ByteArray := prog_41_method_8_code
def yJ10_hashCode_3 : MethodName := ⟨RJ10, "hashCode", "(I[SII)I"⟩
def dkwJ10_hashCode_3_1 : List UInt8 := [59, 132, 5, 1, 167, 255, 236, 26, 172]
abbrev dktJ10_hashCode_3_1 : List UInt8 := dkwJ10_hashCode_3_1 ++ []
def dkwJ10_hashCode_3_0 : List UInt8 := [28, 29, 96, 54, 4, 28, 54, 5, 21, 5, 21, 4, 162, 0, 19, 16, 31, 26, 104, 43, 21, 5, 53, 96]
abbrev dktJ10_hashCode_3_0 : List UInt8 := dkwJ10_hashCode_3_0 ++ dktJ10_hashCode_3_1
theorem dksJ10_hashCode_3_0 : cJ10_hashCode_3.data.toList.drop 0 = dktJ10_hashCode_3_0 := by decide +kernel
theorem dksJ10_hashCode_3_1 : cJ10_hashCode_3.data.toList.drop 24 = dktJ10_hashCode_3_1 := dk_seg dksJ10_hashCode_3_0 24 rfl rfl
theorem dJ10_hashCode_3_0 : decode cJ10_hashCode_3 0 = .ok (.iload_n 2, 1) := dk_28 (dk_at dksJ10_hashCode_3_0 0 rfl rfl)
theorem dJ10_hashCode_3_1 : decode cJ10_hashCode_3 1 = .ok (.iload_n 3, 1) := dk_29 (dk_at dksJ10_hashCode_3_0 1 rfl rfl)
theorem dJ10_hashCode_3_2 : decode cJ10_hashCode_3 2 = .ok (.iadd, 1) := dk_96 (dk_at dksJ10_hashCode_3_0 2 rfl rfl)
theorem dJ10_hashCode_3_3 : decode cJ10_hashCode_3 3 = .ok (.istore 4, 2) := dk_54 4 (dk_at dksJ10_hashCode_3_0 3 rfl rfl)
theorem dJ10_hashCode_3_5 : decode cJ10_hashCode_3 5 = .ok (.iload_n 2, 1) := dk_28 (dk_at dksJ10_hashCode_3_0 5 rfl rfl)
theorem dJ10_hashCode_3_6 : decode cJ10_hashCode_3 6 = .ok (.istore 5, 2) := dk_54 5 (dk_at dksJ10_hashCode_3_0 6 rfl rfl)
theorem dJ10_hashCode_3_8 : decode cJ10_hashCode_3 8 = .ok (.iload 5, 2) := dk_21 5 (dk_at dksJ10_hashCode_3_0 8 rfl rfl)
theorem dJ10_hashCode_3_10 : decode cJ10_hashCode_3 10 = .ok (.iload 4, 2) := dk_21 4 (dk_at dksJ10_hashCode_3_0 10 rfl rfl)
theorem dJ10_hashCode_3_12 : decode cJ10_hashCode_3 12 = .ok (.if_icmp .ge 19, 3) := dk_162 0 19 (dk_at dksJ10_hashCode_3_0 12 rfl rfl)
theorem dJ10_hashCode_3_15 : decode cJ10_hashCode_3 15 = .ok (.bipush 31, 2) := dk_16 31 (dk_at dksJ10_hashCode_3_0 15 rfl rfl)
theorem dJ10_hashCode_3_17 : decode cJ10_hashCode_3 17 = .ok (.iload_n 0, 1) := dk_26 (dk_at dksJ10_hashCode_3_0 17 rfl rfl)
theorem dJ10_hashCode_3_18 : decode cJ10_hashCode_3 18 = .ok (.imul, 1) := dk_104 (dk_at dksJ10_hashCode_3_0 18 rfl rfl)
theorem dJ10_hashCode_3_19 : decode cJ10_hashCode_3 19 = .ok (.aload_n 1, 1) := dk_43 (dk_at dksJ10_hashCode_3_0 19 rfl rfl)
theorem dJ10_hashCode_3_20 : decode cJ10_hashCode_3 20 = .ok (.iload 5, 2) := dk_21 5 (dk_at dksJ10_hashCode_3_0 20 rfl rfl)
theorem dJ10_hashCode_3_22 : decode cJ10_hashCode_3 22 = .ok (.saload, 1) := dk_53 (dk_at dksJ10_hashCode_3_0 22 rfl rfl)
theorem dJ10_hashCode_3_23 : decode cJ10_hashCode_3 23 = .ok (.iadd, 1) := dk_96 (dk_at dksJ10_hashCode_3_0 23 rfl rfl)
theorem dJ10_hashCode_3_24 : decode cJ10_hashCode_3 24 = .ok (.istore_n 0, 1) := dk_59 (dk_at dksJ10_hashCode_3_1 0 rfl rfl)
theorem dJ10_hashCode_3_25 : decode cJ10_hashCode_3 25 = .ok (.iinc 5 1, 3) := dk_132 5 1 (dk_at dksJ10_hashCode_3_1 1 rfl rfl)
theorem dJ10_hashCode_3_28 : decode cJ10_hashCode_3 28 = .ok (.goto (-20), 3) := dk_167 255 236 (dk_at dksJ10_hashCode_3_1 4 rfl rfl)
theorem dJ10_hashCode_3_31 : decode cJ10_hashCode_3 31 = .ok (.iload_n 0, 1) := dk_26 (dk_at dksJ10_hashCode_3_1 7 rfl rfl)
theorem dJ10_hashCode_3_32 : decode cJ10_hashCode_3 32 = .ok (.ireturn, 1) := dk_172 (dk_at dksJ10_hashCode_3_1 8 rfl rfl)
abbrev cJ10_hashCode_4 : ByteArray := prog_41_method_9_code
def yJ10_hashCode_4 : MethodName := ⟨RJ10, "hashCode", "(I[III)I"⟩
def dkwJ10_hashCode_4_1 : List UInt8 := [59, 132, 5, 1, 167, 255, 236, 26, 172]
abbrev dktJ10_hashCode_4_1 : List UInt8 := dkwJ10_hashCode_4_1 ++ []
def dkwJ10_hashCode_4_0 : List UInt8 := [28, 29, 96, 54, 4, 28, 54, 5, 21, 5, 21, 4, 162, 0, 19, 16, 31, 26, 104, 43, 21, 5, 46, 96]
abbrev dktJ10_hashCode_4_0 : List UInt8 := dkwJ10_hashCode_4_0 ++ dktJ10_hashCode_4_1
theorem dksJ10_hashCode_4_0 : cJ10_hashCode_4.data.toList.drop 0 = dktJ10_hashCode_4_0 := by decide +kernel
theorem dksJ10_hashCode_4_1 : cJ10_hashCode_4.data.toList.drop 24 = dktJ10_hashCode_4_1 := dk_seg dksJ10_hashCode_4_0 24 rfl rfl
theorem dJ10_hashCode_4_0 : decode cJ10_hashCode_4 0 = .ok (.iload_n 2, 1) := dk_28 (dk_at dksJ10_hashCode_4_0 0 rfl rfl)
theorem dJ10_hashCode_4_1 : decode cJ10_hashCode_4 1 = .ok (.iload_n 3, 1) := dk_29 (dk_at dksJ10_hashCode_4_0 1 rfl rfl)
theorem dJ10_hashCode_4_2 : decode cJ10_hashCode_4 2 = .ok (.iadd, 1) := dk_96 (dk_at dksJ10_hashCode_4_0 2 rfl rfl)
theorem dJ10_hashCode_4_3 : decode cJ10_hashCode_4 3 = .ok (.istore 4, 2) := dk_54 4 (dk_at dksJ10_hashCode_4_0 3 rfl rfl)
theorem dJ10_hashCode_4_5 : decode cJ10_hashCode_4 5 = .ok (.iload_n 2, 1) := dk_28 (dk_at dksJ10_hashCode_4_0 5 rfl rfl)
theorem dJ10_hashCode_4_6 : decode cJ10_hashCode_4 6 = .ok (.istore 5, 2) := dk_54 5 (dk_at dksJ10_hashCode_4_0 6 rfl rfl)
theorem dJ10_hashCode_4_8 : decode cJ10_hashCode_4 8 = .ok (.iload 5, 2) := dk_21 5 (dk_at dksJ10_hashCode_4_0 8 rfl rfl)
theorem dJ10_hashCode_4_10 : decode cJ10_hashCode_4 10 = .ok (.iload 4, 2) := dk_21 4 (dk_at dksJ10_hashCode_4_0 10 rfl rfl)
theorem dJ10_hashCode_4_12 : decode cJ10_hashCode_4 12 = .ok (.if_icmp .ge 19, 3) := dk_162 0 19 (dk_at dksJ10_hashCode_4_0 12 rfl rfl)
theorem dJ10_hashCode_4_15 : decode cJ10_hashCode_4 15 = .ok (.bipush 31, 2) := dk_16 31 (dk_at dksJ10_hashCode_4_0 15 rfl rfl)
theorem dJ10_hashCode_4_17 : decode cJ10_hashCode_4 17 = .ok (.iload_n 0, 1) := dk_26 (dk_at dksJ10_hashCode_4_0 17 rfl rfl)
theorem dJ10_hashCode_4_18 : decode cJ10_hashCode_4 18 = .ok (.imul, 1) := dk_104 (dk_at dksJ10_hashCode_4_0 18 rfl rfl)
theorem dJ10_hashCode_4_19 : decode cJ10_hashCode_4 19 = .ok (.aload_n 1, 1) := dk_43 (dk_at dksJ10_hashCode_4_0 19 rfl rfl)
theorem dJ10_hashCode_4_20 : decode cJ10_hashCode_4 20 = .ok (.iload 5, 2) := dk_21 5 (dk_at dksJ10_hashCode_4_0 20 rfl rfl)
theorem dJ10_hashCode_4_22 : decode cJ10_hashCode_4 22 = .ok (.iaload, 1) := dk_46 (dk_at dksJ10_hashCode_4_0 22 rfl rfl)
theorem dJ10_hashCode_4_23 : decode cJ10_hashCode_4 23 = .ok (.iadd, 1) := dk_96 (dk_at dksJ10_hashCode_4_0 23 rfl rfl)
theorem dJ10_hashCode_4_24 : decode cJ10_hashCode_4 24 = .ok (.istore_n 0, 1) := dk_59 (dk_at dksJ10_hashCode_4_1 0 rfl rfl)
theorem dJ10_hashCode_4_25 : decode cJ10_hashCode_4 25 = .ok (.iinc 5 1, 3) := dk_132 5 1 (dk_at dksJ10_hashCode_4_1 1 rfl rfl)
theorem dJ10_hashCode_4_28 : decode cJ10_hashCode_4 28 = .ok (.goto (-20), 3) := dk_167 255 236 (dk_at dksJ10_hashCode_4_1 4 rfl rfl)
theorem dJ10_hashCode_4_31 : decode cJ10_hashCode_4 31 = .ok (.iload_n 0, 1) := dk_26 (dk_at dksJ10_hashCode_4_1 7 rfl rfl)
theorem dJ10_hashCode_4_32 : decode cJ10_hashCode_4 32 = .ok (.ireturn, 1) := dk_172 (dk_at dksJ10_hashCode_4_1 8 rfl rfl)
abbrev cJ10_newLength : ByteArray := prog_41_method_27_code
def yJ10_newLength : MethodName := ⟨RJ10, "newLength", "(III)I"⟩
def dkwJ10_newLength_1 : List UInt8 := [184, 0, 201, 172]
abbrev dktJ10_newLength_1 : List UInt8 := dkwJ10_newLength_1 ++ []
def dkwJ10_newLength_0 : List UInt8 := [26, 27, 28, 184, 0, 194, 96, 62, 3, 29, 162, 0, 11, 29, 18, 200, 163, 0, 5, 29, 172, 26, 27]
abbrev dktJ10_newLength_0 : List UInt8 := dkwJ10_newLength_0 ++ dktJ10_newLength_1
theorem dksJ10_newLength_0 : cJ10_newLength.data.toList.drop 0 = dktJ10_newLength_0 := by decide +kernel
theorem dksJ10_newLength_1 : cJ10_newLength.data.toList.drop 23 = dktJ10_newLength_1 := dk_seg dksJ10_newLength_0 23 rfl rfl
theorem dJ10_newLength_0 : decode cJ10_newLength 0 = .ok (.iload_n 0, 1) := dk_26 (dk_at dksJ10_newLength_0 0 rfl rfl)
theorem dJ10_newLength_1 : decode cJ10_newLength 1 = .ok (.iload_n 1, 1) := dk_27 (dk_at dksJ10_newLength_0 1 rfl rfl)
theorem dJ10_newLength_2 : decode cJ10_newLength 2 = .ok (.iload_n 2, 1) := dk_28 (dk_at dksJ10_newLength_0 2 rfl rfl)
theorem dJ10_newLength_3 : decode cJ10_newLength 3 = .ok (.invokestatic 194, 3) := dk_184 0 194 (dk_at dksJ10_newLength_0 3 rfl rfl)
theorem dJ10_newLength_6 : decode cJ10_newLength 6 = .ok (.iadd, 1) := dk_96 (dk_at dksJ10_newLength_0 6 rfl rfl)
theorem dJ10_newLength_7 : decode cJ10_newLength 7 = .ok (.istore_n 3, 1) := dk_62 (dk_at dksJ10_newLength_0 7 rfl rfl)
theorem dJ10_newLength_8 : decode cJ10_newLength 8 = .ok (.iconst 0, 1) := dk_3 (dk_at dksJ10_newLength_0 8 rfl rfl)
theorem dJ10_newLength_9 : decode cJ10_newLength 9 = .ok (.iload_n 3, 1) := dk_29 (dk_at dksJ10_newLength_0 9 rfl rfl)
theorem dJ10_newLength_10 : decode cJ10_newLength 10 = .ok (.if_icmp .ge 11, 3) := dk_162 0 11 (dk_at dksJ10_newLength_0 10 rfl rfl)
theorem dJ10_newLength_13 : decode cJ10_newLength 13 = .ok (.iload_n 3, 1) := dk_29 (dk_at dksJ10_newLength_0 13 rfl rfl)
theorem dJ10_newLength_14 : decode cJ10_newLength 14 = .ok (.ldc 200, 2) := dk_18 200 (dk_at dksJ10_newLength_0 14 rfl rfl)
theorem dJ10_newLength_16 : decode cJ10_newLength 16 = .ok (.if_icmp .gt 5, 3) := dk_163 0 5 (dk_at dksJ10_newLength_0 16 rfl rfl)
theorem dJ10_newLength_19 : decode cJ10_newLength 19 = .ok (.iload_n 3, 1) := dk_29 (dk_at dksJ10_newLength_0 19 rfl rfl)
theorem dJ10_newLength_20 : decode cJ10_newLength 20 = .ok (.ireturn, 1) := dk_172 (dk_at dksJ10_newLength_0 20 rfl rfl)
theorem dJ10_newLength_21 : decode cJ10_newLength 21 = .ok (.iload_n 0, 1) := dk_26 (dk_at dksJ10_newLength_0 21 rfl rfl)
theorem dJ10_newLength_22 : decode cJ10_newLength 22 = .ok (.iload_n 1, 1) := dk_27 (dk_at dksJ10_newLength_0 22 rfl rfl)
theorem dJ10_newLength_23 : decode cJ10_newLength 23 = .ok (.invokestatic 201, 3) := dk_184 0 201 (dk_at dksJ10_newLength_1 0 rfl rfl)
theorem dJ10_newLength_26 : decode cJ10_newLength 26 = .ok (.ireturn, 1) := dk_172 (dk_at dksJ10_newLength_1 3 rfl rfl)
abbrev cJ10_hugeLength : ByteArray := prog_41_method_28_code
def yJ10_hugeLength : MethodName := ⟨RJ10, "hugeLength", "(II)I"⟩
def dkwJ10_hugeLength_2 : List UInt8 := [191, 28, 18, 200, 163, 0, 6, 18, 200, 172, 28, 172]
abbrev dktJ10_hugeLength_2 : List UInt8 := dkwJ10_hugeLength_2 ++ []
def dkwJ10_hugeLength_1 : List UInt8 := [26, 182, 0, 98, 18, 208, 182, 0, 94, 27, 182, 0, 98, 18, 210, 182, 0, 94, 182, 0, 101, 183, 0, 212]
abbrev dktJ10_hugeLength_1 : List UInt8 := dkwJ10_hugeLength_1 ++ dktJ10_hugeLength_2
def dkwJ10_hugeLength_0 : List UInt8 := [26, 27, 96, 61, 28, 156, 0, 44, 187, 0, 204, 89, 187, 0, 89, 89, 183, 0, 91, 18, 206, 182, 0, 94]
abbrev dktJ10_hugeLength_0 : List UInt8 := dkwJ10_hugeLength_0 ++ dktJ10_hugeLength_1
theorem dksJ10_hugeLength_0 : cJ10_hugeLength.data.toList.drop 0 = dktJ10_hugeLength_0 := by decide +kernel
theorem dksJ10_hugeLength_1 : cJ10_hugeLength.data.toList.drop 24 = dktJ10_hugeLength_1 := dk_seg dksJ10_hugeLength_0 24 rfl rfl
theorem dksJ10_hugeLength_2 : cJ10_hugeLength.data.toList.drop 48 = dktJ10_hugeLength_2 := dk_seg dksJ10_hugeLength_1 24 rfl rfl
theorem dJ10_hugeLength_0 : decode cJ10_hugeLength 0 = .ok (.iload_n 0, 1) := dk_26 (dk_at dksJ10_hugeLength_0 0 rfl rfl)
theorem dJ10_hugeLength_1 : decode cJ10_hugeLength 1 = .ok (.iload_n 1, 1) := dk_27 (dk_at dksJ10_hugeLength_0 1 rfl rfl)
theorem dJ10_hugeLength_2 : decode cJ10_hugeLength 2 = .ok (.iadd, 1) := dk_96 (dk_at dksJ10_hugeLength_0 2 rfl rfl)
theorem dJ10_hugeLength_3 : decode cJ10_hugeLength 3 = .ok (.istore_n 2, 1) := dk_61 (dk_at dksJ10_hugeLength_0 3 rfl rfl)
theorem dJ10_hugeLength_4 : decode cJ10_hugeLength 4 = .ok (.iload_n 2, 1) := dk_28 (dk_at dksJ10_hugeLength_0 4 rfl rfl)
theorem dJ10_hugeLength_5 : decode cJ10_hugeLength 5 = .ok (.ifCond .ge 44, 3) := dk_156 0 44 (dk_at dksJ10_hugeLength_0 5 rfl rfl)
theorem dJ10_hugeLength_8 : decode cJ10_hugeLength 8 = .ok (.new 204, 3) := dk_187 0 204 (dk_at dksJ10_hugeLength_0 8 rfl rfl)
theorem dJ10_hugeLength_11 : decode cJ10_hugeLength 11 = .ok (.dup, 1) := dk_89 (dk_at dksJ10_hugeLength_0 11 rfl rfl)
theorem dJ10_hugeLength_12 : decode cJ10_hugeLength 12 = .ok (.new 89, 3) := dk_187 0 89 (dk_at dksJ10_hugeLength_0 12 rfl rfl)
theorem dJ10_hugeLength_15 : decode cJ10_hugeLength 15 = .ok (.dup, 1) := dk_89 (dk_at dksJ10_hugeLength_0 15 rfl rfl)
theorem dJ10_hugeLength_16 : decode cJ10_hugeLength 16 = .ok (.invokespecial 91, 3) := dk_183 0 91 (dk_at dksJ10_hugeLength_0 16 rfl rfl)
theorem dJ10_hugeLength_19 : decode cJ10_hugeLength 19 = .ok (.ldc 206, 2) := dk_18 206 (dk_at dksJ10_hugeLength_0 19 rfl rfl)
theorem dJ10_hugeLength_21 : decode cJ10_hugeLength 21 = .ok (.invokevirtual 94, 3) := dk_182 0 94 (dk_at dksJ10_hugeLength_0 21 rfl rfl)
theorem dJ10_hugeLength_24 : decode cJ10_hugeLength 24 = .ok (.iload_n 0, 1) := dk_26 (dk_at dksJ10_hugeLength_1 0 rfl rfl)
theorem dJ10_hugeLength_25 : decode cJ10_hugeLength 25 = .ok (.invokevirtual 98, 3) := dk_182 0 98 (dk_at dksJ10_hugeLength_1 1 rfl rfl)
theorem dJ10_hugeLength_28 : decode cJ10_hugeLength 28 = .ok (.ldc 208, 2) := dk_18 208 (dk_at dksJ10_hugeLength_1 4 rfl rfl)
theorem dJ10_hugeLength_30 : decode cJ10_hugeLength 30 = .ok (.invokevirtual 94, 3) := dk_182 0 94 (dk_at dksJ10_hugeLength_1 6 rfl rfl)
theorem dJ10_hugeLength_33 : decode cJ10_hugeLength 33 = .ok (.iload_n 1, 1) := dk_27 (dk_at dksJ10_hugeLength_1 9 rfl rfl)
theorem dJ10_hugeLength_34 : decode cJ10_hugeLength 34 = .ok (.invokevirtual 98, 3) := dk_182 0 98 (dk_at dksJ10_hugeLength_1 10 rfl rfl)
theorem dJ10_hugeLength_37 : decode cJ10_hugeLength 37 = .ok (.ldc 210, 2) := dk_18 210 (dk_at dksJ10_hugeLength_1 13 rfl rfl)
theorem dJ10_hugeLength_39 : decode cJ10_hugeLength 39 = .ok (.invokevirtual 94, 3) := dk_182 0 94 (dk_at dksJ10_hugeLength_1 15 rfl rfl)
theorem dJ10_hugeLength_42 : decode cJ10_hugeLength 42 = .ok (.invokevirtual 101, 3) := dk_182 0 101 (dk_at dksJ10_hugeLength_1 18 rfl rfl)
theorem dJ10_hugeLength_45 : decode cJ10_hugeLength 45 = .ok (.invokespecial 212, 3) := dk_183 0 212 (dk_at dksJ10_hugeLength_1 21 rfl rfl)
theorem dJ10_hugeLength_48 : decode cJ10_hugeLength 48 = .ok (.athrow, 1) := dk_191 (dk_at dksJ10_hugeLength_2 0 rfl rfl)
theorem dJ10_hugeLength_49 : decode cJ10_hugeLength 49 = .ok (.iload_n 2, 1) := dk_28 (dk_at dksJ10_hugeLength_2 1 rfl rfl)
theorem dJ10_hugeLength_50 : decode cJ10_hugeLength 50 = .ok (.ldc 200, 2) := dk_18 200 (dk_at dksJ10_hugeLength_2 2 rfl rfl)
theorem dJ10_hugeLength_52 : decode cJ10_hugeLength 52 = .ok (.if_icmp .gt 6, 3) := dk_163 0 6 (dk_at dksJ10_hugeLength_2 4 rfl rfl)
theorem dJ10_hugeLength_55 : decode cJ10_hugeLength 55 = .ok (.ldc 200, 2) := dk_18 200 (dk_at dksJ10_hugeLength_2 7 rfl rfl)
theorem dJ10_hugeLength_57 : decode cJ10_hugeLength 57 = .ok (.ireturn, 1) := dk_172 (dk_at dksJ10_hugeLength_2 9 rfl rfl)
theorem dJ10_hugeLength_58 : decode cJ10_hugeLength 58 = .ok (.iload_n 2, 1) := dk_28 (dk_at dksJ10_hugeLength_2 10 rfl rfl)
theorem dJ10_hugeLength_59 : decode cJ10_hugeLength 59 = .ok (.ireturn, 1) := dk_172 (dk_at dksJ10_hugeLength_2 11 rfl rfl)
theorem q95 : (Jvm.Cond.initialized "jdk/internal/util/ArraysSupport") ∈ lw_all := lw_g (lw_at lw_m1 15 rfl) rfl
theorem q488 : (Jvm.Cond.static ({ cls := "jdk/internal/util/ArraysSupport", name := "vectorizedHashCode", desc := "(Ljava/lang/Object;IIII)I" } : Jvm.MethodName)) ∈ lw_all := lw_g (lw_at lw_m2 168 rfl) rfl
theorem q489 : (Jvm.Cond.code ({ cls := "jdk/internal/util/ArraysSupport", name := "vectorizedHashCode", desc := "(Ljava/lang/Object;IIII)I" } : Jvm.MethodName) prog_41_method_4_code (5 : Nat) (Option.some Jvm.ClassFile.FieldType.int)) ∈ lw_all := lw_g (lw_at lw_m2 169 rfl) rfl
theorem q490 : (Jvm.Cond.classLink "jdk/internal/util/ArraysSupport" (60 : Nat) "[B") ∈ lw_all := lw_g (lw_at lw_m2 170 rfl) rfl
theorem q491 : (Jvm.Cond.methodLink "jdk/internal/util/ArraysSupport" (62 : Nat) ({ cls := "jdk/internal/util/ArraysSupport", name := "signedHashCode", desc := "(I[BII)I" } : Jvm.MethodName)) ∈ lw_all := lw_g (lw_at lw_m2 171 rfl) rfl
theorem q492 : (Jvm.Cond.static ({ cls := "jdk/internal/util/ArraysSupport", name := "signedHashCode", desc := "(I[BII)I" } : Jvm.MethodName)) ∈ lw_all := lw_g (lw_at lw_m2 172 rfl) rfl
theorem q493 : (Jvm.Cond.code ({ cls := "jdk/internal/util/ArraysSupport", name := "signedHashCode", desc := "(I[BII)I" } : Jvm.MethodName) prog_41_method_5_code (6 : Nat) (Option.some Jvm.ClassFile.FieldType.int)) ∈ lw_all := lw_g (lw_at lw_m2 173 rfl) rfl
theorem q494 : (Jvm.Cond.methodLink "jdk/internal/util/ArraysSupport" (66 : Nat) ({ cls := "jdk/internal/util/ArraysSupport", name := "utf16hashCode", desc := "(I[BII)I" } : Jvm.MethodName)) ∈ lw_all := lw_g (lw_at lw_m2 174 rfl) rfl
theorem q495 : (Jvm.Cond.static ({ cls := "jdk/internal/util/ArraysSupport", name := "utf16hashCode", desc := "(I[BII)I" } : Jvm.MethodName)) ∈ lw_all := lw_g (lw_at lw_m2 175 rfl) rfl
theorem q496 : (Jvm.Cond.code ({ cls := "jdk/internal/util/ArraysSupport", name := "utf16hashCode", desc := "(I[BII)I" } : Jvm.MethodName) prog_41_method_10_code (6 : Nat) (Option.some Jvm.ClassFile.FieldType.int)) ∈ lw_all := lw_g (lw_at lw_m2 176 rfl) rfl
theorem q497 : (Jvm.Cond.fieldLink "jdk/internal/util/ArraysSupport" (106 : Nat) "jdk/internal/util/ArraysSupport" "JLA" "Ljdk/internal/access/JavaLangAccess;") ∈ lw_all := lw_g (lw_at lw_m2 177 rfl) rfl
theorem q498 : (Jvm.Cond.laysStatic "jdk/internal/util/ArraysSupport" "JLA" "Ljdk/internal/access/JavaLangAccess;") ∈ lw_tbl := lw_at lw_m2 178 rfl
theorem q499 : (Jvm.Cond.interfaceEntry "jdk/internal/util/ArraysSupport" (110 : Nat)) ∈ lw_tbl := lw_at lw_m2 179 rfl
theorem q500 : (Jvm.Cond.methodLink "jdk/internal/util/ArraysSupport" (110 : Nat) ({ cls := "jdk/internal/access/JavaLangAccess", name := "getUTF16Char", desc := "([BI)C" } : Jvm.MethodName)) ∈ lw_all := lw_g (lw_at lw_m2 180 rfl) rfl
theorem q510 : (Jvm.Cond.classLink "jdk/internal/util/ArraysSupport" (69 : Nat) "[C") ∈ lw_all := lw_g (lw_at lw_m2 190 rfl) rfl
theorem q511 : (Jvm.Cond.methodLink "jdk/internal/util/ArraysSupport" (71 : Nat) ({ cls := "jdk/internal/util/ArraysSupport", name := "hashCode", desc := "(I[CII)I" } : Jvm.MethodName)) ∈ lw_all := lw_g (lw_at lw_m2 191 rfl) rfl
theorem q512 : (Jvm.Cond.static ({ cls := "jdk/internal/util/ArraysSupport", name := "hashCode", desc := "(I[CII)I" } : Jvm.MethodName)) ∈ lw_all := lw_g (lw_at lw_m2 192 rfl) rfl
theorem q513 : (Jvm.Cond.code ({ cls := "jdk/internal/util/ArraysSupport", name := "hashCode", desc := "(I[CII)I" } : Jvm.MethodName) prog_41_method_7_code (6 : Nat) (Option.some Jvm.ClassFile.FieldType.int)) ∈ lw_all := lw_g (lw_at lw_m2 193 rfl) rfl
theorem q514 : (Jvm.Cond.methodLink "jdk/internal/util/ArraysSupport" (75 : Nat) ({ cls := "jdk/internal/util/ArraysSupport", name := "hashCode", desc := "(I[BII)I" } : Jvm.MethodName)) ∈ lw_all := lw_g (lw_at lw_m2 194 rfl) rfl
theorem q515 : (Jvm.Cond.static ({ cls := "jdk/internal/util/ArraysSupport", name := "hashCode", desc := "(I[BII)I" } : Jvm.MethodName)) ∈ lw_all := lw_g (lw_at lw_m2 195 rfl) rfl
theorem q516 : (Jvm.Cond.code ({ cls := "jdk/internal/util/ArraysSupport", name := "hashCode", desc := "(I[BII)I" } : Jvm.MethodName) prog_41_method_6_code (6 : Nat) (Option.some Jvm.ClassFile.FieldType.int)) ∈ lw_all := lw_g (lw_at lw_m2 196 rfl) rfl
theorem q517 : (Jvm.Cond.classLink "jdk/internal/util/ArraysSupport" (77 : Nat) "[S") ∈ lw_all := lw_g (lw_at lw_m2 197 rfl) rfl
theorem q518 : (Jvm.Cond.methodLink "jdk/internal/util/ArraysSupport" (79 : Nat) ({ cls := "jdk/internal/util/ArraysSupport", name := "hashCode", desc := "(I[SII)I" } : Jvm.MethodName)) ∈ lw_all := lw_g (lw_at lw_m2 198 rfl) rfl
theorem q519 : (Jvm.Cond.static ({ cls := "jdk/internal/util/ArraysSupport", name := "hashCode", desc := "(I[SII)I" } : Jvm.MethodName)) ∈ lw_all := lw_g (lw_at lw_m2 199 rfl) rfl
theorem q520 : (Jvm.Cond.code ({ cls := "jdk/internal/util/ArraysSupport", name := "hashCode", desc := "(I[SII)I" } : Jvm.MethodName) prog_41_method_8_code (6 : Nat) (Option.some Jvm.ClassFile.FieldType.int)) ∈ lw_all := lw_g (lw_at lw_m2 200 rfl) rfl
theorem q521 : (Jvm.Cond.classLink "jdk/internal/util/ArraysSupport" (82 : Nat) "[I") ∈ lw_all := lw_g (lw_at lw_m2 201 rfl) rfl
theorem q522 : (Jvm.Cond.methodLink "jdk/internal/util/ArraysSupport" (84 : Nat) ({ cls := "jdk/internal/util/ArraysSupport", name := "hashCode", desc := "(I[III)I" } : Jvm.MethodName)) ∈ lw_all := lw_g (lw_at lw_m2 202 rfl) rfl
theorem q523 : (Jvm.Cond.static ({ cls := "jdk/internal/util/ArraysSupport", name := "hashCode", desc := "(I[III)I" } : Jvm.MethodName)) ∈ lw_all := lw_g (lw_at lw_m2 203 rfl) rfl
theorem q524 : (Jvm.Cond.code ({ cls := "jdk/internal/util/ArraysSupport", name := "hashCode", desc := "(I[III)I" } : Jvm.MethodName) prog_41_method_9_code (6 : Nat) (Option.some Jvm.ClassFile.FieldType.int)) ∈ lw_all := lw_g (lw_at lw_m2 204 rfl) rfl
theorem q650 : (Jvm.Cond.static ({ cls := "jdk/internal/util/ArraysSupport", name := "newLength", desc := "(III)I" } : Jvm.MethodName)) ∈ lw_all := lw_g (lw_at lw_m3 90 rfl) rfl
theorem q651 : (Jvm.Cond.code ({ cls := "jdk/internal/util/ArraysSupport", name := "newLength", desc := "(III)I" } : Jvm.MethodName) prog_41_method_27_code (4 : Nat) (Option.some Jvm.ClassFile.FieldType.int)) ∈ lw_all := lw_g (lw_at lw_m3 91 rfl) rfl
theorem q652 : (Jvm.Cond.methodLink "jdk/internal/util/ArraysSupport" (194 : Nat) ({ cls := "java/lang/Math", name := "max", desc := "(II)I" } : Jvm.MethodName)) ∈ lw_all := lw_g (lw_at lw_m3 92 rfl) rfl
theorem q655 : (Jvm.Cond.constant "jdk/internal/util/ArraysSupport" (200 : Nat) (2147483639 : Int32)) ∈ lw_all := lw_g (lw_at lw_m3 95 rfl) rfl
theorem q656 : (Jvm.Cond.methodLink "jdk/internal/util/ArraysSupport" (201 : Nat) ({ cls := "jdk/internal/util/ArraysSupport", name := "hugeLength", desc := "(II)I" } : Jvm.MethodName)) ∈ lw_all := lw_g (lw_at lw_m3 96 rfl) rfl
theorem q657 : (Jvm.Cond.static ({ cls := "jdk/internal/util/ArraysSupport", name := "hugeLength", desc := "(II)I" } : Jvm.MethodName)) ∈ lw_all := lw_g (lw_at lw_m3 97 rfl) rfl
theorem q658 : (Jvm.Cond.code ({ cls := "jdk/internal/util/ArraysSupport", name := "hugeLength", desc := "(II)I" } : Jvm.MethodName) prog_41_method_28_code (3 : Nat) (Option.some Jvm.ClassFile.FieldType.int)) ∈ lw_all := lw_g (lw_at lw_m3 98 rfl) rfl
/-! java/lang/Math -/
set_option maxRecDepth 100000
def RJ11 : String := "java/lang/Math"
abbrev cJ11_max : ByteArray := prog_21_method_65_code
def yJ11_max : MethodName := ⟨RJ11, "max", "(II)I"⟩
def dkwJ11_max_0 : List UInt8 := [26, 27, 161, 0, 7, 26, 167, 0, 4, 27, 172]
abbrev dktJ11_max_0 : List UInt8 := dkwJ11_max_0 ++ []
theorem dksJ11_max_0 : cJ11_max.data.toList.drop 0 = dktJ11_max_0 := by decide +kernel
theorem dJ11_max_0 : decode cJ11_max 0 = .ok (.iload_n 0, 1) := dk_26 (dk_at dksJ11_max_0 0 rfl rfl)
theorem dJ11_max_1 : decode cJ11_max 1 = .ok (.iload_n 1, 1) := dk_27 (dk_at dksJ11_max_0 1 rfl rfl)
theorem dJ11_max_2 : decode cJ11_max 2 = .ok (.if_icmp .lt 7, 3) := dk_161 0 7 (dk_at dksJ11_max_0 2 rfl rfl)
theorem dJ11_max_5 : decode cJ11_max 5 = .ok (.iload_n 0, 1) := dk_26 (dk_at dksJ11_max_0 5 rfl rfl)
theorem dJ11_max_6 : decode cJ11_max 6 = .ok (.goto 4, 3) := dk_167 0 4 (dk_at dksJ11_max_0 6 rfl rfl)
theorem dJ11_max_9 : decode cJ11_max 9 = .ok (.iload_n 1, 1) := dk_27 (dk_at dksJ11_max_0 9 rfl rfl)
theorem dJ11_max_10 : decode cJ11_max 10 = .ok (.ireturn, 1) := dk_172 (dk_at dksJ11_max_0 10 rfl rfl)
abbrev cJ11_min : ByteArray := prog_21_method_69_code
def yJ11_min : MethodName := ⟨RJ11, "min", "(II)I"⟩
def dkwJ11_min_0 : List UInt8 := [26, 27, 163, 0, 7, 26, 167, 0, 4, 27, 172]
abbrev dktJ11_min_0 : List UInt8 := dkwJ11_min_0 ++ []
theorem dksJ11_min_0 : cJ11_min.data.toList.drop 0 = dktJ11_min_0 := by decide +kernel
theorem dJ11_min_0 : decode cJ11_min 0 = .ok (.iload_n 0, 1) := dk_26 (dk_at dksJ11_min_0 0 rfl rfl)
theorem dJ11_min_1 : decode cJ11_min 1 = .ok (.iload_n 1, 1) := dk_27 (dk_at dksJ11_min_0 1 rfl rfl)
theorem dJ11_min_2 : decode cJ11_min 2 = .ok (.if_icmp .gt 7, 3) := dk_163 0 7 (dk_at dksJ11_min_0 2 rfl rfl)
theorem dJ11_min_5 : decode cJ11_min 5 = .ok (.iload_n 0, 1) := dk_26 (dk_at dksJ11_min_0 5 rfl rfl)
theorem dJ11_min_6 : decode cJ11_min 6 = .ok (.goto 4, 3) := dk_167 0 4 (dk_at dksJ11_min_0 6 rfl rfl)
theorem dJ11_min_9 : decode cJ11_min 9 = .ok (.iload_n 1, 1) := dk_27 (dk_at dksJ11_min_0 9 rfl rfl)
theorem dJ11_min_10 : decode cJ11_min 10 = .ok (.ireturn, 1) := dk_172 (dk_at dksJ11_min_0 10 rfl rfl)
theorem q97 : (Jvm.Cond.initialized "java/lang/Math") ∈ lw_all := lw_g (lw_at lw_m1 17 rfl) rfl
theorem q653 : (Jvm.Cond.static ({ cls := "java/lang/Math", name := "max", desc := "(II)I" } : Jvm.MethodName)) ∈ lw_all := lw_g (lw_at lw_m3 93 rfl) rfl
theorem q654 : (Jvm.Cond.code ({ cls := "java/lang/Math", name := "max", desc := "(II)I" } : Jvm.MethodName) prog_21_method_65_code (2 : Nat) (Option.some Jvm.ClassFile.FieldType.int)) ∈ lw_all := lw_g (lw_at lw_m3 94 rfl) rfl
theorem q686 : (Jvm.Cond.static ({ cls := "java/lang/Math", name := "min", desc := "(II)I" } : Jvm.MethodName)) ∈ lw_all := lw_g (lw_at lw_m3 126 rfl) rfl
theorem q687 : (Jvm.Cond.code ({ cls := "java/lang/Math", name := "min", desc := "(II)I" } : Jvm.MethodName) prog_21_method_69_code (2 : Nat) (Option.some Jvm.ClassFile.FieldType.int)) ∈ lw_all := lw_g (lw_at lw_m3 127 rfl) rfl
/-! java/util/Arrays -/
set_option maxRecDepth 100000
def RJ12 : String := "java/util/Arrays"
abbrev cJ12_copyOf : ByteArray := prog_34_method_119_code
def yJ12_copyOf : MethodName := ⟨RJ12, "copyOf", "([Ljava/lang/Object;I)[Ljava/lang/Object;"⟩
def dkwJ12_copyOf_0 : List UInt8 := [42, 27, 42, 182, 0, 86, 184, 1, 44, 176]
abbrev dktJ12_copyOf_0 : List UInt8 := dkwJ12_copyOf_0 ++ []
theorem dksJ12_copyOf_0 : cJ12_copyOf.data.toList.drop 0 = dktJ12_copyOf_0 := by decide +kernel
theorem dJ12_copyOf_0 : decode cJ12_copyOf 0 = .ok (.aload_n 0, 1) := dk_42 (dk_at dksJ12_copyOf_0 0 rfl rfl)
theorem dJ12_copyOf_1 : decode cJ12_copyOf 1 = .ok (.iload_n 1, 1) := dk_27 (dk_at dksJ12_copyOf_0 1 rfl rfl)
theorem dJ12_copyOf_2 : decode cJ12_copyOf 2 = .ok (.aload_n 0, 1) := dk_42 (dk_at dksJ12_copyOf_0 2 rfl rfl)
theorem dJ12_copyOf_3 : decode cJ12_copyOf 3 = .ok (.invokevirtual 86, 3) := dk_182 0 86 (dk_at dksJ12_copyOf_0 3 rfl rfl)
theorem dJ12_copyOf_6 : decode cJ12_copyOf 6 = .ok (.invokestatic 300, 3) := dk_184 1 44 (dk_at dksJ12_copyOf_0 6 rfl rfl)
theorem dJ12_copyOf_9 : decode cJ12_copyOf 9 = .ok (.areturn, 1) := dk_176 (dk_at dksJ12_copyOf_0 9 rfl rfl)
abbrev cJ12_copyOf_2 : ByteArray := prog_34_method_120_code
def yJ12_copyOf_2 : MethodName := ⟨RJ12, "copyOf", "([Ljava/lang/Object;ILjava/lang/Class;)[Ljava/lang/Object;"⟩
def dkwJ12_copyOf_2_1 : List UInt8 := [78, 42, 3, 45, 3, 42, 190, 27, 184, 1, 48, 184, 0, 150, 45, 176]
abbrev dktJ12_copyOf_2_1 : List UInt8 := dkwJ12_copyOf_2_1 ++ []
def dkwJ12_copyOf_2_0 : List UInt8 := [44, 18, 110, 166, 0, 10, 27, 189, 0, 2, 167, 0, 14, 44, 182, 0, 90, 27, 184, 0, 95, 192, 0, 110]
abbrev dktJ12_copyOf_2_0 : List UInt8 := dkwJ12_copyOf_2_0 ++ dktJ12_copyOf_2_1
theorem dksJ12_copyOf_2_0 : cJ12_copyOf_2.data.toList.drop 0 = dktJ12_copyOf_2_0 := by decide +kernel
theorem dksJ12_copyOf_2_1 : cJ12_copyOf_2.data.toList.drop 24 = dktJ12_copyOf_2_1 := dk_seg dksJ12_copyOf_2_0 24 rfl rfl
theorem dJ12_copyOf_2_0 : decode cJ12_copyOf_2 0 = .ok (.aload_n 2, 1) := dk_44 (dk_at dksJ12_copyOf_2_0 0 rfl rfl)
theorem dJ12_copyOf_2_1 : decode cJ12_copyOf_2 1 = .ok (.ldc 110, 2) := dk_18 110 (dk_at dksJ12_copyOf_2_0 1 rfl rfl)
theorem dJ12_copyOf_2_3 : decode cJ12_copyOf_2 3 = .ok (.if_acmp .ne 10, 3) := dk_166 0 10 (dk_at dksJ12_copyOf_2_0 3 rfl rfl)
theorem dJ12_copyOf_2_6 : decode cJ12_copyOf_2 6 = .ok (.iload_n 1, 1) := dk_27 (dk_at dksJ12_copyOf_2_0 6 rfl rfl)
theorem dJ12_copyOf_2_7 : decode cJ12_copyOf_2 7 = .ok (.anewarray 2, 3) := dk_189 0 2 (dk_at dksJ12_copyOf_2_0 7 rfl rfl)
theorem dJ12_copyOf_2_10 : decode cJ12_copyOf_2 10 = .ok (.goto 14, 3) := dk_167 0 14 (dk_at dksJ12_copyOf_2_0 10 rfl rfl)
theorem dJ12_copyOf_2_13 : decode cJ12_copyOf_2 13 = .ok (.aload_n 2, 1) := dk_44 (dk_at dksJ12_copyOf_2_0 13 rfl rfl)
theorem dJ12_copyOf_2_14 : decode cJ12_copyOf_2 14 = .ok (.invokevirtual 90, 3) := dk_182 0 90 (dk_at dksJ12_copyOf_2_0 14 rfl rfl)
theorem dJ12_copyOf_2_17 : decode cJ12_copyOf_2 17 = .ok (.iload_n 1, 1) := dk_27 (dk_at dksJ12_copyOf_2_0 17 rfl rfl)
theorem dJ12_copyOf_2_18 : decode cJ12_copyOf_2 18 = .ok (.invokestatic 95, 3) := dk_184 0 95 (dk_at dksJ12_copyOf_2_0 18 rfl rfl)
theorem dJ12_copyOf_2_21 : decode cJ12_copyOf_2 21 = .ok (.checkcast 110, 3) := dk_192 0 110 (dk_at dksJ12_copyOf_2_0 21 rfl rfl)
theorem dJ12_copyOf_2_24 : decode cJ12_copyOf_2 24 = .ok (.astore_n 3, 1) := dk_78 (dk_at dksJ12_copyOf_2_1 0 rfl rfl)
theorem dJ12_copyOf_2_25 : decode cJ12_copyOf_2 25 = .ok (.aload_n 0, 1) := dk_42 (dk_at dksJ12_copyOf_2_1 1 rfl rfl)
theorem dJ12_copyOf_2_26 : decode cJ12_copyOf_2 26 = .ok (.iconst 0, 1) := dk_3 (dk_at dksJ12_copyOf_2_1 2 rfl rfl)
theorem dJ12_copyOf_2_27 : decode cJ12_copyOf_2 27 = .ok (.aload_n 3, 1) := dk_45 (dk_at dksJ12_copyOf_2_1 3 rfl rfl)
theorem dJ12_copyOf_2_28 : decode cJ12_copyOf_2 28 = .ok (.iconst 0, 1) := dk_3 (dk_at dksJ12_copyOf_2_1 4 rfl rfl)
theorem dJ12_copyOf_2_29 : decode cJ12_copyOf_2 29 = .ok (.aload_n 0, 1) := dk_42 (dk_at dksJ12_copyOf_2_1 5 rfl rfl)
theorem dJ12_copyOf_2_30 : decode cJ12_copyOf_2 30 = .ok (.arraylength, 1) := dk_190 (dk_at dksJ12_copyOf_2_1 6 rfl rfl)
theorem dJ12_copyOf_2_31 : decode cJ12_copyOf_2 31 = .ok (.iload_n 1, 1) := dk_27 (dk_at dksJ12_copyOf_2_1 7 rfl rfl)
theorem dJ12_copyOf_2_32 : decode cJ12_copyOf_2 32 = .ok (.invokestatic 304, 3) := dk_184 1 48 (dk_at dksJ12_copyOf_2_1 8 rfl rfl)
theorem dJ12_copyOf_2_35 : decode cJ12_copyOf_2 35 = .ok (.invokestatic 150, 3) := dk_184 0 150 (dk_at dksJ12_copyOf_2_1 11 rfl rfl)
theorem dJ12_copyOf_2_38 : decode cJ12_copyOf_2 38 = .ok (.aload_n 3, 1) := dk_45 (dk_at dksJ12_copyOf_2_1 14 rfl rfl)
theorem dJ12_copyOf_2_39 : decode cJ12_copyOf_2 39 = .ok (.areturn, 1) := dk_176 (dk_at dksJ12_copyOf_2_1 15 rfl rfl)
theorem q98 : (Jvm.Cond.initialized "java/util/Arrays") ∈ lw_all := lw_g (lw_at lw_m1 18 rfl) rfl
theorem q660 : (Jvm.Cond.static ({ cls := "java/util/Arrays", name := "copyOf", desc := "([Ljava/lang/Object;I)[Ljava/lang/Object;" } : Jvm.MethodName)) ∈ lw_all := lw_g (lw_at lw_m3 100 rfl) rfl
theorem q661 : (Jvm.Cond.code ({ cls := "java/util/Arrays", name := "copyOf", desc := "([Ljava/lang/Object;I)[Ljava/lang/Object;" } : Jvm.MethodName) prog_34_method_119_code (2 : Nat) (Option.some (Jvm.ClassFile.FieldType.array (Jvm.ClassFile.FieldType.object "java/lang/Object")))) ∈ lw_all := lw_g (lw_at lw_m3 101 rfl) rfl
theorem q662 : (Jvm.Cond.methodLink "java/util/Arrays" (86 : Nat) ({ cls := "java/lang/Object", name := "getClass", desc := "()Ljava/lang/Class;" } : Jvm.MethodName)) ∈ lw_all := lw_g (lw_at lw_m3 102 rfl) rfl
theorem q680 : (Jvm.Cond.methodLink "java/util/Arrays" (300 : Nat) ({ cls := "java/util/Arrays", name := "copyOf", desc := "([Ljava/lang/Object;ILjava/lang/Class;)[Ljava/lang/Object;" } : Jvm.MethodName)) ∈ lw_all := lw_g (lw_at lw_m3 120 rfl) rfl
theorem q681 : (Jvm.Cond.static ({ cls := "java/util/Arrays", name := "copyOf", desc := "([Ljava/lang/Object;ILjava/lang/Class;)[Ljava/lang/Object;" } : Jvm.MethodName)) ∈ lw_all := lw_g (lw_at lw_m3 121 rfl) rfl
theorem q682 : (Jvm.Cond.code ({ cls := "java/util/Arrays", name := "copyOf", desc := "([Ljava/lang/Object;ILjava/lang/Class;)[Ljava/lang/Object;" } : Jvm.MethodName) prog_34_method_120_code (4 : Nat) (Option.some (Jvm.ClassFile.FieldType.array (Jvm.ClassFile.FieldType.object "java/lang/Object")))) ∈ lw_all := lw_g (lw_at lw_m3 122 rfl) rfl
theorem q683 : (Jvm.Cond.classLink "java/util/Arrays" (110 : Nat) "[Ljava/lang/Object;") ∈ lw_all := lw_g (lw_at lw_m3 123 rfl) rfl
theorem q684 : (Jvm.Cond.classLink "java/util/Arrays" (2 : Nat) "java/lang/Object") ∈ lw_all := lw_g (lw_at lw_m3 124 rfl) rfl
theorem q685 : (Jvm.Cond.methodLink "java/util/Arrays" (304 : Nat) ({ cls := "java/lang/Math", name := "min", desc := "(II)I" } : Jvm.MethodName)) ∈ lw_all := lw_g (lw_at lw_m3 125 rfl) rfl
theorem q688 : (Jvm.Cond.methodLink "java/util/Arrays" (150 : Nat) ({ cls := "java/lang/System", name := "arraycopy", desc := "(Ljava/lang/Object;ILjava/lang/Object;II)V" } : Jvm.MethodName)) ∈ lw_all := lw_g (lw_at lw_m3 128 rfl) rfl
/-! java/util/Objects -/
set_option maxRecDepth 100000
def RJ13 : String := "java/util/Objects"
abbrev cJ13_checkIndex : ByteArray := prog_37_method_17_code
def yJ13_checkIndex : MethodName := ⟨RJ13, "checkIndex", "(II)I"⟩
def dkwJ13_checkIndex_0 : List UInt8 := [26, 27, 1, 184, 0, 105, 172]
abbrev dktJ13_checkIndex_0 : List UInt8 := dkwJ13_checkIndex_0 ++ []
theorem dksJ13_checkIndex_0 : cJ13_checkIndex.data.toList.drop 0 = dktJ13_checkIndex_0 := by decide +kernel
theorem dJ13_checkIndex_0 : decode cJ13_checkIndex 0 = .ok (.iload_n 0, 1) := dk_26 (dk_at dksJ13_checkIndex_0 0 rfl rfl)
theorem dJ13_checkIndex_1 : decode cJ13_checkIndex 1 = .ok (.iload_n 1, 1) := dk_27 (dk_at dksJ13_checkIndex_0 1 rfl rfl)
theorem dJ13_checkIndex_2 : decode cJ13_checkIndex 2 = .ok (.aconst_null, 1) := dk_1 (dk_at dksJ13_checkIndex_0 2 rfl rfl)
theorem dJ13_checkIndex_3 : decode cJ13_checkIndex 3 = .ok (.invokestatic 105, 3) := dk_184 0 105 (dk_at dksJ13_checkIndex_0 3 rfl rfl)
theorem dJ13_checkIndex_6 : decode cJ13_checkIndex 6 = .ok (.ireturn, 1) := dk_172 (dk_at dksJ13_checkIndex_0 6 rfl rfl)
theorem q106 : (Jvm.Cond.initialized "java/util/Objects") ∈ lw_all := lw_g (lw_at lw_m1 26 rfl) rfl
theorem q894 : (Jvm.Cond.static ({ cls := "java/util/Objects", name := "checkIndex", desc := "(II)I" } : Jvm.MethodName)) ∈ lw_all := lw_g (lw_at lw_m4 94 rfl) rfl
theorem q895 : (Jvm.Cond.code ({ cls := "java/util/Objects", name := "checkIndex", desc := "(II)I" } : Jvm.MethodName) prog_37_method_17_code (2 : Nat) (Option.some Jvm.ClassFile.FieldType.int)) ∈ lw_all := lw_g (lw_at lw_m4 95 rfl) rfl
theorem q896 : (Jvm.Cond.methodLink "java/util/Objects" (105 : Nat) ({ cls := "jdk/internal/util/Preconditions", name := "checkIndex", desc := "(IILjava/util/function/BiFunction;)I" } : Jvm.MethodName)) ∈ lw_all := lw_g (lw_at lw_m4 96 rfl) rfl
/-! java/lang/Object -/
set_option maxRecDepth 100000
def RJ14 : String := "java/lang/Object"
abbrev cJ14_init : ByteArray := object_method_1_code
def yJ14_init : MethodName := ⟨RJ14, "<init>", "()V"⟩
theorem dJ14_init_0 : decode cJ14_init 0 = .ok (.return_, 1) := by decide +kernel
abbrev cJ14_equals : ByteArray := object_method_4_code
def yJ14_equals : MethodName := ⟨RJ14, "equals", "(Ljava/lang/Object;)Z"⟩
def dkwJ14_equals_0 : List UInt8 := [42, 43, 166, 0, 7, 4, 167, 0, 4, 3, 172]
abbrev dktJ14_equals_0 : List UInt8 := dkwJ14_equals_0 ++ []
theorem dksJ14_equals_0 : cJ14_equals.data.toList.drop 0 = dktJ14_equals_0 := by decide +kernel
theorem dJ14_equals_0 : decode cJ14_equals 0 = .ok (.aload_n 0, 1) := dk_42 (dk_at dksJ14_equals_0 0 rfl rfl)
theorem dJ14_equals_1 : decode cJ14_equals 1 = .ok (.aload_n 1, 1) := dk_43 (dk_at dksJ14_equals_0 1 rfl rfl)
theorem dJ14_equals_2 : decode cJ14_equals 2 = .ok (.if_acmp .ne 7, 3) := dk_166 0 7 (dk_at dksJ14_equals_0 2 rfl rfl)
theorem dJ14_equals_5 : decode cJ14_equals 5 = .ok (.iconst 1, 1) := dk_4 (dk_at dksJ14_equals_0 5 rfl rfl)
theorem dJ14_equals_6 : decode cJ14_equals 6 = .ok (.goto 4, 3) := dk_167 0 4 (dk_at dksJ14_equals_0 6 rfl rfl)
theorem dJ14_equals_9 : decode cJ14_equals 9 = .ok (.iconst 0, 1) := dk_3 (dk_at dksJ14_equals_0 9 rfl rfl)
theorem dJ14_equals_10 : decode cJ14_equals 10 = .ok (.ireturn, 1) := dk_172 (dk_at dksJ14_equals_0 10 rfl rfl)
theorem q115 : (Jvm.Cond.instanceMethod ({ cls := "java/lang/Object", name := "<init>", desc := "()V" } : Jvm.MethodName)) ∈ lw_all := lw_g (lw_at lw_m1 35 rfl) rfl
theorem q116 : (Jvm.Cond.code ({ cls := "java/lang/Object", name := "<init>", desc := "()V" } : Jvm.MethodName) object_method_1_code (1 : Nat) (Option.none : Option Jvm.ClassFile.FieldType)) ∈ lw_all := lw_g (lw_at lw_m1 36 rfl) rfl
theorem q663 : (Jvm.Cond.instanceMethod ({ cls := "java/lang/Object", name := "getClass", desc := "()Ljava/lang/Class;" } : Jvm.MethodName)) ∈ lw_all := lw_g (lw_at lw_m3 103 rfl) rfl
theorem q664 : (Jvm.Cond.sameMethod "java/lang/Object" "java/lang/Object" "getClass" "()Ljava/lang/Class;") ∈ lw_all := lw_g (lw_at lw_m3 104 rfl) rfl
theorem q679 : (Jvm.Cond.native ({ cls := "java/lang/Object", name := "getClass", desc := "()Ljava/lang/Class;" } : Jvm.MethodName)) ∈ lw_all := lw_g (lw_at lw_m3 119 rfl) rfl
theorem q909 : (Jvm.Cond.declares ({ cls := "java/lang/Object", name := "equals", desc := "(Ljava/lang/Object;)Z" } : Jvm.MethodName)) ∈ lw_tbl := lw_at lw_m4 109 rfl
theorem q911 : (Jvm.Cond.instanceMethod ({ cls := "java/lang/Object", name := "equals", desc := "(Ljava/lang/Object;)Z" } : Jvm.MethodName)) ∈ lw_all := lw_g (lw_at lw_m4 111 rfl) rfl
theorem q912 : (Jvm.Cond.sameMethod "java/lang/Object" "java/lang/Object" "equals" "(Ljava/lang/Object;)Z") ∈ lw_all := lw_g (lw_at lw_m4 112 rfl) rfl
theorem q926 : (Jvm.Cond.code ({ cls := "java/lang/Object", name := "equals", desc := "(Ljava/lang/Object;)Z" } : Jvm.MethodName) object_method_4_code (2 : Nat) (Option.some Jvm.ClassFile.FieldType.boolean)) ∈ lw_all := lw_g (lw_at lw_m4 126 rfl) rfl
theorem q1645 : (Jvm.Cond.initialized "java/lang/Object") ∈ lw_all := lw_g (lw_at lw_m7 125 rfl) rfl
theorem q1666 : (Jvm.Cond.declares ({ cls := "java/lang/Object", name := "getClass", desc := "()Ljava/lang/Class;" } : Jvm.MethodName)) ∈ lw_tbl := lw_at lw_m7 146 rfl
/-! java/lang/System$2 -/
set_option maxRecDepth 100000
def RJ15 : String := "java/lang/System$2"
abbrev cJ15_getUTF16Char : ByteArray := prog_27_method_45_code
def yJ15_getUTF16Char : MethodName := ⟨RJ15, "getUTF16Char", "([BI)C"⟩
def dkwJ15_getUTF16Char_0 : List UInt8 := [43, 28, 184, 0, 185, 172]
abbrev dktJ15_getUTF16Char_0 : List UInt8 := dkwJ15_getUTF16Char_0 ++ []
theorem dksJ15_getUTF16Char_0 : cJ15_getUTF16Char.data.toList.drop 0 = dktJ15_getUTF16Char_0 := by decide +kernel
theorem dJ15_getUTF16Char_0 : decode cJ15_getUTF16Char 0 = .ok (.aload_n 1, 1) := dk_43 (dk_at dksJ15_getUTF16Char_0 0 rfl rfl)
theorem dJ15_getUTF16Char_1 : decode cJ15_getUTF16Char 1 = .ok (.iload_n 2, 1) := dk_28 (dk_at dksJ15_getUTF16Char_0 1 rfl rfl)
theorem dJ15_getUTF16Char_2 : decode cJ15_getUTF16Char 2 = .ok (.invokestatic 185, 3) := dk_184 0 185 (dk_at dksJ15_getUTF16Char_0 2 rfl rfl)
theorem dJ15_getUTF16Char_5 : decode cJ15_getUTF16Char 5 = .ok (.ireturn, 1) := dk_172 (dk_at dksJ15_getUTF16Char_0 5 rfl rfl)
theorem q503 : (Jvm.Cond.castable "java/lang/System$2" "jdk/internal/access/JavaLangAccess") ∈ lw_tbl := lw_at lw_m2 183 rfl
theorem q504 : (Jvm.Cond.selects "java/lang/System$2" ({ cls := "jdk/internal/access/JavaLangAccess", name := "getUTF16Char", desc := "([BI)C" } : Jvm.MethodName) ({ cls := "java/lang/System$2", name := "getUTF16Char", desc := "([BI)C" } : Jvm.MethodName)) ∈ lw_all := lw_g (lw_at lw_m2 184 rfl) rfl
theorem q505 : (Jvm.Cond.unhidden "java/lang/System$2" "getUTF16Char" "([BI)C") ∈ lw_tbl := lw_at lw_m2 185 rfl
theorem q506 : (Jvm.Cond.instanceMethod ({ cls := "java/lang/System$2", name := "getUTF16Char", desc := "([BI)C" } : Jvm.MethodName)) ∈ lw_all := lw_g (lw_at lw_m2 186 rfl) rfl
theorem q507 : (Jvm.Cond.publicMethod ({ cls := "java/lang/System$2", name := "getUTF16Char", desc := "([BI)C" } : Jvm.MethodName)) ∈ lw_tbl := lw_at lw_m2 187 rfl
theorem q508 : (Jvm.Cond.code ({ cls := "java/lang/System$2", name := "getUTF16Char", desc := "([BI)C" } : Jvm.MethodName) prog_27_method_45_code (3 : Nat) (Option.some Jvm.ClassFile.FieldType.char)) ∈ lw_all := lw_g (lw_at lw_m2 188 rfl) rfl
theorem q509 : (Jvm.Cond.methodLink "java/lang/System$2" (185 : Nat) ({ cls := "java/lang/StringUTF16", name := "getChar", desc := "([BI)C" } : Jvm.MethodName)) ∈ lw_all := lw_g (lw_at lw_m2 189 rfl) rfl
theorem q677 : (Jvm.Cond.selects "java/lang/System$2" ({ cls := "java/lang/Object", name := "getClass", desc := "()Ljava/lang/Class;" } : Jvm.MethodName) ({ cls := "java/lang/Object", name := "getClass", desc := "()Ljava/lang/Class;" } : Jvm.MethodName)) ∈ lw_all := lw_g (lw_at lw_m3 117 rfl) rfl
theorem q925 : (Jvm.Cond.selects "java/lang/System$2" ({ cls := "java/lang/Object", name := "equals", desc := "(Ljava/lang/Object;)Z" } : Jvm.MethodName) ({ cls := "java/lang/Object", name := "equals", desc := "(Ljava/lang/Object;)Z" } : Jvm.MethodName)) ∈ lw_all := lw_g (lw_at lw_m4 125 rfl) rfl
theorem q1656 : (Jvm.Cond.castable "java/lang/System$2" "java/lang/Object") ∈ lw_tbl := lw_at lw_m7 136 rfl
theorem q80 : (Jvm.Cond.initialized "TableCatalogLaw") ∈ lw_all := lw_g (lw_at lw_m1 0 rfl) rfl
set_option maxRecDepth 100000
theorem q109 : (Jvm.Cond.classLink "TableCatalogLaw" (7 : Nat) "TableCatalog") ∈ lw_all := lw_g (lw_at lw_m1 29 rfl) rfl
theorem q111 : (Jvm.Cond.methodLink "TableCatalogLaw" (9 : Nat) ({ cls := "TableCatalog", name := "<init>", desc := "()V" } : Jvm.MethodName)) ∈ lw_all := lw_g (lw_at lw_m1 31 rfl) rfl
theorem q330 : (Jvm.Cond.methodLink "TableCatalogLaw" (13 : Nat) ({ cls := "TableCatalog", name := "feed", desc := "(IIIII)I" } : Jvm.MethodName)) ∈ lw_all := lw_g (lw_at lw_m2 10 rfl) rfl
theorem q338 : (Jvm.Cond.methodLink "TableCatalogLaw" (18 : Nat) ({ cls := "TableCatalog", name := "end", desc := "(I)Z" } : Jvm.MethodName)) ∈ lw_all := lw_g (lw_at lw_m2 18 rfl) rfl
theorem q342 : (Jvm.Cond.methodLink "TableCatalogLaw" (23 : Nat) ({ cls := "TableCatalog", name := "act", desc := "()I" } : Jvm.MethodName)) ∈ lw_all := lw_g (lw_at lw_m2 22 rfl) rfl
theorem q1002 : (Jvm.Cond.methodLink "TableCatalogLaw" (28 : Nat) ({ cls := "TableCatalog", name := "fault", desc := "(I)I" } : Jvm.MethodName)) ∈ lw_all := lw_g (lw_at lw_m4 202 rfl) rfl
theorem q1006 : (Jvm.Cond.methodLink "TableCatalogLaw" (33 : Nat) ({ cls := "TableCatalog", name := "named", desc := "()I" } : Jvm.MethodName)) ∈ lw_all := lw_g (lw_at lw_m4 206 rfl) rfl
theorem q1012 : (Jvm.Cond.methodLink "TableCatalogLaw" (37 : Nat) ({ cls := "TableCatalog", name := "table", desc := "(II)I" } : Jvm.MethodName)) ∈ lw_all := lw_g (lw_at lw_m4 212 rfl) rfl
theorem q1034 : (Jvm.Cond.methodLink "TableCatalogLaw" (42 : Nat) ({ cls := "TableCatalog", name := "type", desc := "(II)I" } : Jvm.MethodName)) ∈ lw_all := lw_g (lw_at lw_m4 234 rfl) rfl
theorem q1042 : (Jvm.Cond.methodLink "TableCatalogLaw" (46 : Nat) ({ cls := "TableCatalog", name := "from", desc := "(III)I" } : Jvm.MethodName)) ∈ lw_all := lw_g (lw_at lw_m5 2 rfl) rfl
theorem q1074 : (Jvm.Cond.methodLink "TableCatalogLaw" (51 : Nat) ({ cls := "TableCatalog", name := "touch", desc := "(II)I" } : Jvm.MethodName)) ∈ lw_all := lw_g (lw_at lw_m5 34 rfl) rfl
theorem q1090 : (Jvm.Cond.methodLink "TableCatalogLaw" (55 : Nat) ({ cls := "TableCatalog", name := "asked", desc := "(II)I" } : Jvm.MethodName)) ∈ lw_all := lw_g (lw_at lw_m5 50 rfl) rfl
theorem q1094 : (Jvm.Cond.methodLink "TableCatalogLaw" (59 : Nat) ({ cls := "TableCatalog", name := "found", desc := "(I)I" } : Jvm.MethodName)) ∈ lw_all := lw_g (lw_at lw_m5 54 rfl) rfl
theorem q1098 : (Jvm.Cond.methodLink "TableCatalogLaw" (63 : Nat) ({ cls := "TableCatalog", name := "retype", desc := "(III)I" } : Jvm.MethodName)) ∈ lw_all := lw_g (lw_at lw_m5 58 rfl) rfl
theorem q1106 : (Jvm.Cond.methodLink "TableCatalogLaw" (67 : Nat) ({ cls := "TableCatalog", name := "drop", desc := "(I)I" } : Jvm.MethodName)) ∈ lw_all := lw_g (lw_at lw_m5 66 rfl) rfl
theorem q1110 : (Jvm.Cond.methodLink "TableCatalogLaw" (71 : Nat) ({ cls := "TableCatalog", name := "freeze", desc := "(I)Z" } : Jvm.MethodName)) ∈ lw_all := lw_g (lw_at lw_m5 70 rfl) rfl
theorem q1114 : (Jvm.Cond.methodLink "TableCatalogLaw" (75 : Nat) ({ cls := "TableCatalog", name := "today", desc := "(I)Z" } : Jvm.MethodName)) ∈ lw_all := lw_g (lw_at lw_m5 74 rfl) rfl
theorem q1118 : (Jvm.Cond.methodLink "TableCatalogLaw" (79 : Nat) ({ cls := "TableCatalog", name := "fed", desc := "(III)Z" } : Jvm.MethodName)) ∈ lw_all := lw_g (lw_at lw_m5 78 rfl) rfl
theorem q1122 : (Jvm.Cond.methodLink "TableCatalogLaw" (84 : Nat) ({ cls := "TableCatalog", name := "run", desc := "(I)Z" } : Jvm.MethodName)) ∈ lw_all := lw_g (lw_at lw_m5 82 rfl) rfl
theorem q1126 : (Jvm.Cond.methodLink "TableCatalogLaw" (88 : Nat) ({ cls := "TableCatalog", name := "promise", desc := "(II)Z" } : Jvm.MethodName)) ∈ lw_all := lw_g (lw_at lw_m5 86 rfl) rfl
theorem q1130 : (Jvm.Cond.methodLink "TableCatalogLaw" (93 : Nat) ({ cls := "TableCatalog", name := "broken", desc := "()I" } : Jvm.MethodName)) ∈ lw_all := lw_g (lw_at lw_m5 90 rfl) rfl
theorem q1142 : (Jvm.Cond.methodLink "TableCatalogLaw" (97 : Nat) ({ cls := "TableCatalog", name := "late", desc := "(I)I" } : Jvm.MethodName)) ∈ lw_all := lw_g (lw_at lw_m5 102 rfl) rfl
theorem q1146 : (Jvm.Cond.methodLink "TableCatalogLaw" (101 : Nat) ({ cls := "TableCatalog", name := "own", desc := "(II)Z" } : Jvm.MethodName)) ∈ lw_all := lw_g (lw_at lw_m5 106 rfl) rfl
theorem q1150 : (Jvm.Cond.methodLink "TableCatalogLaw" (105 : Nat) ({ cls := "TableCatalog", name := "ask", desc := "(III)I" } : Jvm.MethodName)) ∈ lw_all := lw_g (lw_at lw_m5 110 rfl) rfl
theorem q1154 : (Jvm.Cond.methodLink "TableCatalogLaw" (109 : Nat) ({ cls := "TableCatalog", name := "unused", desc := "(I)I" } : Jvm.MethodName)) ∈ lw_all := lw_g (lw_at lw_m5 114 rfl) rfl
theorem q1158 : (Jvm.Cond.methodLink "TableCatalogLaw" (113 : Nat) ({ cls := "TableCatalog", name := "alike", desc := "(II)I" } : Jvm.MethodName)) ∈ lw_all := lw_g (lw_at lw_m5 118 rfl) rfl
theorem q1162 : (Jvm.Cond.classLink "TableCatalogLaw" (10 : Nat) "TableCatalogModel") ∈ lw_all := lw_g (lw_at lw_m5 122 rfl) rfl
theorem q1164 : (Jvm.Cond.methodLink "TableCatalogLaw" (12 : Nat) ({ cls := "TableCatalogModel", name := "<init>", desc := "()V" } : Jvm.MethodName)) ∈ lw_all := lw_g (lw_at lw_m5 124 rfl) rfl
theorem q1376 : (Jvm.Cond.methodLink "TableCatalogLaw" (17 : Nat) ({ cls := "TableCatalogModel", name := "feed", desc := "(IIIII)I" } : Jvm.MethodName)) ∈ lw_all := lw_g (lw_at lw_m6 96 rfl) rfl
theorem q1380 : (Jvm.Cond.methodLink "TableCatalogLaw" (22 : Nat) ({ cls := "TableCatalogModel", name := "end", desc := "(I)Z" } : Jvm.MethodName)) ∈ lw_all := lw_g (lw_at lw_m6 100 rfl) rfl
theorem q1384 : (Jvm.Cond.methodLink "TableCatalogLaw" (27 : Nat) ({ cls := "TableCatalogModel", name := "act", desc := "()I" } : Jvm.MethodName)) ∈ lw_all := lw_g (lw_at lw_m6 104 rfl) rfl
theorem q1496 : (Jvm.Cond.methodLink "TableCatalogLaw" (32 : Nat) ({ cls := "TableCatalogModel", name := "fault", desc := "(I)I" } : Jvm.MethodName)) ∈ lw_all := lw_g (lw_at lw_m6 216 rfl) rfl
theorem q1500 : (Jvm.Cond.methodLink "TableCatalogLaw" (36 : Nat) ({ cls := "TableCatalogModel", name := "named", desc := "()I" } : Jvm.MethodName)) ∈ lw_all := lw_g (lw_at lw_m6 220 rfl) rfl
theorem q1504 : (Jvm.Cond.methodLink "TableCatalogLaw" (41 : Nat) ({ cls := "TableCatalogModel", name := "table", desc := "(II)I" } : Jvm.MethodName)) ∈ lw_all := lw_g (lw_at lw_m6 224 rfl) rfl
theorem q1524 : (Jvm.Cond.methodLink "TableCatalogLaw" (45 : Nat) ({ cls := "TableCatalogModel", name := "type", desc := "(II)I" } : Jvm.MethodName)) ∈ lw_all := lw_g (lw_at lw_m7 4 rfl) rfl
theorem q1532 : (Jvm.Cond.methodLink "TableCatalogLaw" (62 : Nat) ({ cls := "TableCatalogModel", name := "found", desc := "(I)I" } : Jvm.MethodName)) ∈ lw_all := lw_g (lw_at lw_m7 12 rfl) rfl
theorem q1536 : (Jvm.Cond.methodLink "TableCatalogLaw" (50 : Nat) ({ cls := "TableCatalogModel", name := "from", desc := "(III)I" } : Jvm.MethodName)) ∈ lw_all := lw_g (lw_at lw_m7 16 rfl) rfl
theorem q1560 : (Jvm.Cond.methodLink "TableCatalogLaw" (54 : Nat) ({ cls := "TableCatalogModel", name := "touch", desc := "(II)I" } : Jvm.MethodName)) ∈ lw_all := lw_g (lw_at lw_m7 40 rfl) rfl
theorem q1572 : (Jvm.Cond.methodLink "TableCatalogLaw" (58 : Nat) ({ cls := "TableCatalogModel", name := "asked", desc := "(II)I" } : Jvm.MethodName)) ∈ lw_all := lw_g (lw_at lw_m7 52 rfl) rfl
theorem q1576 : (Jvm.Cond.methodLink "TableCatalogLaw" (108 : Nat) ({ cls := "TableCatalogModel", name := "ask", desc := "(III)I" } : Jvm.MethodName)) ∈ lw_all := lw_g (lw_at lw_m7 56 rfl) rfl
theorem q1580 : (Jvm.Cond.methodLink "TableCatalogLaw" (66 : Nat) ({ cls := "TableCatalogModel", name := "retype", desc := "(III)I" } : Jvm.MethodName)) ∈ lw_all := lw_g (lw_at lw_m7 60 rfl) rfl
theorem q1588 : (Jvm.Cond.methodLink "TableCatalogLaw" (70 : Nat) ({ cls := "TableCatalogModel", name := "drop", desc := "(I)I" } : Jvm.MethodName)) ∈ lw_all := lw_g (lw_at lw_m7 68 rfl) rfl
theorem q1596 : (Jvm.Cond.methodLink "TableCatalogLaw" (74 : Nat) ({ cls := "TableCatalogModel", name := "freeze", desc := "(I)Z" } : Jvm.MethodName)) ∈ lw_all := lw_g (lw_at lw_m7 76 rfl) rfl
theorem q1600 : (Jvm.Cond.methodLink "TableCatalogLaw" (78 : Nat) ({ cls := "TableCatalogModel", name := "today", desc := "(I)Z" } : Jvm.MethodName)) ∈ lw_all := lw_g (lw_at lw_m7 80 rfl) rfl
theorem q1604 : (Jvm.Cond.methodLink "TableCatalogLaw" (83 : Nat) ({ cls := "TableCatalogModel", name := "fed", desc := "(III)Z" } : Jvm.MethodName)) ∈ lw_all := lw_g (lw_at lw_m7 84 rfl) rfl
theorem q1608 : (Jvm.Cond.methodLink "TableCatalogLaw" (87 : Nat) ({ cls := "TableCatalogModel", name := "run", desc := "(I)Z" } : Jvm.MethodName)) ∈ lw_all := lw_g (lw_at lw_m7 88 rfl) rfl
theorem q1612 : (Jvm.Cond.methodLink "TableCatalogLaw" (92 : Nat) ({ cls := "TableCatalogModel", name := "promise", desc := "(II)Z" } : Jvm.MethodName)) ∈ lw_all := lw_g (lw_at lw_m7 92 rfl) rfl
theorem q1616 : (Jvm.Cond.methodLink "TableCatalogLaw" (96 : Nat) ({ cls := "TableCatalogModel", name := "broken", desc := "()I" } : Jvm.MethodName)) ∈ lw_all := lw_g (lw_at lw_m7 96 rfl) rfl
theorem q1624 : (Jvm.Cond.methodLink "TableCatalogLaw" (100 : Nat) ({ cls := "TableCatalogModel", name := "late", desc := "(I)I" } : Jvm.MethodName)) ∈ lw_all := lw_g (lw_at lw_m7 104 rfl) rfl
theorem q1628 : (Jvm.Cond.methodLink "TableCatalogLaw" (104 : Nat) ({ cls := "TableCatalogModel", name := "own", desc := "(II)Z" } : Jvm.MethodName)) ∈ lw_all := lw_g (lw_at lw_m7 108 rfl) rfl
theorem q1632 : (Jvm.Cond.methodLink "TableCatalogLaw" (112 : Nat) ({ cls := "TableCatalogModel", name := "unused", desc := "(I)I" } : Jvm.MethodName)) ∈ lw_all := lw_g (lw_at lw_m7 112 rfl) rfl
theorem q1636 : (Jvm.Cond.methodLink "TableCatalogLaw" (116 : Nat) ({ cls := "TableCatalogModel", name := "alike", desc := "(II)I" } : Jvm.MethodName)) ∈ lw_all := lw_g (lw_at lw_m7 116 rfl) rfl
theorem q1669 : (Jvm.Cond.castable "[B" "java/lang/Object") ∈ lw_tbl := lw_at lw_m7 149 rfl
set_option maxRecDepth 100000
theorem q1671 : (Jvm.Cond.castable "[C" "java/lang/Object") ∈ lw_tbl := lw_at lw_m7 151 rfl
set_option maxRecDepth 100000
theorem q1670 : (Jvm.Cond.castable "[I" "java/lang/Object") ∈ lw_tbl := lw_at lw_m7 150 rfl
set_option maxRecDepth 100000
theorem q1674 : (Jvm.Cond.castable "[J" "java/lang/Object") ∈ lw_tbl := lw_at lw_m7 154 rfl
set_option maxRecDepth 100000
theorem q1667 : (Jvm.Cond.castable "[LTableCatalog$Table;" "java/lang/Object") ∈ lw_tbl := lw_at lw_m7 147 rfl
set_option maxRecDepth 100000
theorem q1664 : (Jvm.Cond.sameMethod "[Ljava/lang/Object;" "java/lang/Object" "getClass" "()Ljava/lang/Class;") ∈ lw_all := lw_g (lw_at lw_m7 144 rfl) rfl
set_option maxRecDepth 100000
theorem q1665 : (Jvm.Cond.selects "[Ljava/lang/Object;" ({ cls := "java/lang/Object", name := "getClass", desc := "()Ljava/lang/Class;" } : Jvm.MethodName) ({ cls := "java/lang/Object", name := "getClass", desc := "()Ljava/lang/Class;" } : Jvm.MethodName)) ∈ lw_all := lw_g (lw_at lw_m7 145 rfl) rfl
theorem q1673 : (Jvm.Cond.castable "[Ljava/lang/Object;" "java/lang/Object") ∈ lw_tbl := lw_at lw_m7 153 rfl
theorem q1672 : (Jvm.Cond.castable "[Z" "java/lang/Object") ∈ lw_tbl := lw_at lw_m7 152 rfl
set_option maxRecDepth 100000
theorem q1668 : (Jvm.Cond.castable "[[I" "java/lang/Object") ∈ lw_tbl := lw_at lw_m7 148 rfl
set_option maxRecDepth 100000
theorem q99 : (Jvm.Cond.initialized "java/lang/System") ∈ lw_all := lw_g (lw_at lw_m1 19 rfl) rfl
set_option maxRecDepth 100000
theorem q689 : (Jvm.Cond.static ({ cls := "java/lang/System", name := "arraycopy", desc := "(Ljava/lang/Object;ILjava/lang/Object;II)V" } : Jvm.MethodName)) ∈ lw_all := lw_g (lw_at lw_m3 129 rfl) rfl
theorem q690 : (Jvm.Cond.native ({ cls := "java/lang/System", name := "arraycopy", desc := "(Ljava/lang/Object;ILjava/lang/Object;II)V" } : Jvm.MethodName)) ∈ lw_all := lw_g (lw_at lw_m3 130 rfl) rfl
theorem q501 : (Jvm.Cond.interfaceMethod "jdk/internal/access/JavaLangAccess" "jdk/internal/access/JavaLangAccess" "getUTF16Char" "([BI)C") ∈ lw_tbl := lw_at lw_m2 181 rfl
set_option maxRecDepth 100000
theorem q502 : (Jvm.Cond.declares ({ cls := "jdk/internal/access/JavaLangAccess", name := "getUTF16Char", desc := "([BI)C" } : Jvm.MethodName)) ∈ lw_tbl := lw_at lw_m2 182 rfl
theorem q118 : (Jvm.Cond.arrayOver (Jvm.ClassFile.FieldType.object "TableCatalog$Table")) ∈ lw_tbl := lw_at lw_m1 38 rfl
set_option maxRecDepth 100000
theorem q120 : (Jvm.Cond.arrayOver (Jvm.ClassFile.FieldType.array Jvm.ClassFile.FieldType.int)) ∈ lw_tbl := lw_at lw_m1 40 rfl
theorem q199 : (Jvm.Cond.arrayClass Jvm.ClassFile.FieldType.byte) ∈ lw_all := lw_g (lw_at lw_m1 119 rfl) rfl
theorem q200 : (Jvm.Cond.arrayClass Jvm.ClassFile.FieldType.int) ∈ lw_all := lw_g (lw_at lw_m1 120 rfl) rfl
theorem q281 : (Jvm.Cond.arrayClass Jvm.ClassFile.FieldType.char) ∈ lw_all := lw_g (lw_at lw_m1 201 rfl) rfl
theorem q329 : (Jvm.Cond.arrayClass Jvm.ClassFile.FieldType.boolean) ∈ lw_all := lw_g (lw_at lw_m2 9 rfl) rfl
theorem q548 : (Jvm.Cond.arrayOver (Jvm.ClassFile.FieldType.object "java/lang/Object")) ∈ lw_tbl := lw_at lw_m2 228 rfl
theorem q1375 : (Jvm.Cond.arrayClass Jvm.ClassFile.FieldType.long) ∈ lw_all := lw_g (lw_at lw_m6 95 rfl) rfl
theorem q1675 : (Jvm.Cond.arrayClass Jvm.ClassFile.FieldType.short) ∈ lw_all := lw_g (lw_at lw_m7 155 rfl) rfl
