/-! TableCatalog$Fault -/
set_option maxRecDepth 100000
def RX2 : String := "TableCatalog$Fault"
def TX2 : u_T := fun k => match k with
  | 0 => ("java/lang/Throwable", "cause", "Ljava/lang/Throwable;", false)
  | 1 => ("java/lang/Throwable", "stackTrace", "[Ljava/lang/StackTraceElement;", false)
  | 2 => ("java/lang/Throwable", "suppressedExceptions", "Ljava/util/List;", false)
  | 3 => ("java/lang/Throwable", "detailMessage", "Ljava/lang/String;", false)
  | 4 => ("java/lang/Throwable", "backtrace", "Ljava/lang/Object;", false)
  | 5 => ("java/lang/Throwable", "depth", "I", false)
  | 6 => ("TableCatalog$Fault", "kind", "I", false)
  | _ => ("TableCatalog$Fault", "place", "I", false)
def tyX2 : Nat → FieldType := fun k => match k with
  | 0 => .object "java/lang/Throwable"
  | 1 => .array (.object "java/lang/StackTraceElement")
  | 2 => .object "java/util/List"
  | 3 => .object "java/lang/String"
  | 4 => .object "java/lang/Object"
  | 5 => .int
  | 6 => .int
  | _ => .int
abbrev wsX20 : List Cond := u_ws RX2 TX2 8
theorem nmX2 : ∀ a, a < 8 → ∀ b, b < 8 → a ≠ b → (TX2 a).2.1 ≠ (TX2 b).2.1 := by decide +kernel
theorem tyX2_ok : ∀ k, k < 8 → parseFieldDescriptor (TX2 k).2.2.1 = some (tyX2 k) := by decide +kernel
abbrev cX2_init : ByteArray := prog_4_method_1_code
def yX2_init : MethodName := ⟨RX2, "<init>", "()V"⟩
def dkwX2_init_0 : List UInt8 := [42, 1, 1, 3, 3, 183, 0, 1, 177]
abbrev dktX2_init_0 : List UInt8 := dkwX2_init_0 ++ []
theorem dksX2_init_0 : cX2_init.data.toList.drop 0 = dktX2_init_0 := by decide +kernel
theorem dX2_init_0 : decode cX2_init 0 = .ok (.aload_n 0, 1) := dk_42 (dk_at dksX2_init_0 0 rfl rfl)
theorem dX2_init_1 : decode cX2_init 1 = .ok (.aconst_null, 1) := dk_1 (dk_at dksX2_init_0 1 rfl rfl)
theorem dX2_init_2 : decode cX2_init 2 = .ok (.aconst_null, 1) := dk_1 (dk_at dksX2_init_0 2 rfl rfl)
theorem dX2_init_3 : decode cX2_init 3 = .ok (.iconst 0, 1) := dk_3 (dk_at dksX2_init_0 3 rfl rfl)
theorem dX2_init_4 : decode cX2_init 4 = .ok (.iconst 0, 1) := dk_3 (dk_at dksX2_init_0 4 rfl rfl)
theorem dX2_init_5 : decode cX2_init 5 = .ok (.invokespecial 1, 3) := dk_183 0 1 (dk_at dksX2_init_0 5 rfl rfl)
theorem dX2_init_8 : decode cX2_init 8 = .ok (.return_, 1) := dk_177 (dk_at dksX2_init_0 8 rfl rfl)
theorem q86 : (Jvm.Cond.initialized "TableCatalog$Fault") ∈ lw_all := lw_g (lw_at lw_m1 6 rfl) rfl
theorem q128 : (Jvm.Cond.instantiable "TableCatalog$Fault" (8 : Nat)) ∈ lw_all := lw_g (lw_at lw_m1 48 rfl) rfl
theorem q129 : (Jvm.Cond.castable "TableCatalog$Fault" "TableCatalog$Fault") ∈ lw_tbl := lw_at lw_m1 49 rfl
theorem q136 : (Jvm.Cond.selects "TableCatalog$Fault" ({ cls := "java/lang/Throwable", name := "fillInStackTrace", desc := "(I)Ljava/lang/Throwable;" } : Jvm.MethodName) ({ cls := "java/lang/Throwable", name := "fillInStackTrace", desc := "(I)Ljava/lang/Throwable;" } : Jvm.MethodName)) ∈ lw_all := lw_g (lw_at lw_m1 56 rfl) rfl
theorem q137 : (Jvm.Cond.selects "TableCatalog$Fault" ({ cls := "java/lang/Throwable", name := "fillInStackTrace", desc := "()Ljava/lang/Throwable;" } : Jvm.MethodName) ({ cls := "java/lang/Throwable", name := "fillInStackTrace", desc := "()Ljava/lang/Throwable;" } : Jvm.MethodName)) ∈ lw_all := lw_g (lw_at lw_m1 57 rfl) rfl
theorem q138 : (Jvm.Cond.lays "TableCatalog$Fault" "java/lang/Throwable" "cause" "Ljava/lang/Throwable;") ∈ lw_all := lw_g (lw_at lw_m1 58 rfl) rfl
theorem q140 : (Jvm.Cond.lays "TableCatalog$Fault" "java/lang/Throwable" "stackTrace" "[Ljava/lang/StackTraceElement;") ∈ lw_all := lw_g (lw_at lw_m1 60 rfl) rfl
theorem q142 : (Jvm.Cond.lays "TableCatalog$Fault" "java/lang/Throwable" "suppressedExceptions" "Ljava/util/List;") ∈ lw_all := lw_g (lw_at lw_m1 62 rfl) rfl
theorem q144 : (Jvm.Cond.lays "TableCatalog$Fault" "java/lang/Throwable" "detailMessage" "Ljava/lang/String;") ∈ lw_all := lw_g (lw_at lw_m1 64 rfl) rfl
theorem q146 : (Jvm.Cond.lays "TableCatalog$Fault" "java/lang/Throwable" "backtrace" "Ljava/lang/Object;") ∈ lw_all := lw_g (lw_at lw_m1 66 rfl) rfl
theorem q167 : (Jvm.Cond.instanceMethod ({ cls := "TableCatalog$Fault", name := "<init>", desc := "()V" } : Jvm.MethodName)) ∈ lw_all := lw_g (lw_at lw_m1 87 rfl) rfl
theorem q168 : (Jvm.Cond.code ({ cls := "TableCatalog$Fault", name := "<init>", desc := "()V" } : Jvm.MethodName) prog_4_method_1_code (1 : Nat) (Option.none : Option Jvm.ClassFile.FieldType)) ∈ lw_all := lw_g (lw_at lw_m1 88 rfl) rfl
theorem q169 : (Jvm.Cond.methodLink "TableCatalog$Fault" (1 : Nat) ({ cls := "java/lang/RuntimeException", name := "<init>", desc := "(Ljava/lang/String;Ljava/lang/Throwable;ZZ)V" } : Jvm.MethodName)) ∈ lw_all := lw_g (lw_at lw_m1 89 rfl) rfl
theorem q187 : (Jvm.Cond.lays "TableCatalog$Fault" "TableCatalog$Fault" "kind" "I") ∈ lw_all := lw_g (lw_at lw_m1 107 rfl) rfl
theorem q188 : (Jvm.Cond.soleField "TableCatalog$Fault" "kind") ∈ lw_all := lw_g (lw_at lw_m1 108 rfl) rfl
theorem q189 : (Jvm.Cond.lays "TableCatalog$Fault" "TableCatalog$Fault" "place" "I") ∈ lw_all := lw_g (lw_at lw_m1 109 rfl) rfl
theorem q190 : (Jvm.Cond.soleField "TableCatalog$Fault" "place") ∈ lw_all := lw_g (lw_at lw_m1 110 rfl) rfl
theorem q195 : (Jvm.Cond.lays "TableCatalog$Fault" "java/lang/Throwable" "depth" "I") ∈ lw_all := lw_g (lw_at lw_m1 115 rfl) rfl
theorem q198 : (Jvm.Cond.superclass "TableCatalog$Fault" "java/lang/RuntimeException") ∈ lw_all := lw_g (lw_at lw_m1 118 rfl) rfl
theorem q667 : (Jvm.Cond.selects "TableCatalog$Fault" ({ cls := "java/lang/Object", name := "getClass", desc := "()Ljava/lang/Class;" } : Jvm.MethodName) ({ cls := "java/lang/Object", name := "getClass", desc := "()Ljava/lang/Class;" } : Jvm.MethodName)) ∈ lw_all := lw_g (lw_at lw_m3 107 rfl) rfl
theorem q915 : (Jvm.Cond.selects "TableCatalog$Fault" ({ cls := "java/lang/Object", name := "equals", desc := "(Ljava/lang/Object;)Z" } : Jvm.MethodName) ({ cls := "java/lang/Object", name := "equals", desc := "(Ljava/lang/Object;)Z" } : Jvm.MethodName)) ∈ lw_all := lw_g (lw_at lw_m4 115 rfl) rfl
theorem q1652 : (Jvm.Cond.castable "TableCatalog$Fault" "java/lang/Object") ∈ lw_tbl := lw_at lw_m7 132 rfl
theorem in_X2 : ∀ w ∈ wsX20, w ∈ lw_all := lw_in wsX20 [138, 140, 142, 144, 146, 195, 187, 189] (by decide +kernel) (by decide +kernel)
/-! TableCatalog$Table -/
set_option maxRecDepth 100000
def RX4 : String := "TableCatalog$Table"
def TX4 : u_T := fun k => match k with
  | 0 => ("TableCatalog$Table", "name", "Ljava/lang/String;", true)
  | 1 => ("TableCatalog$Table", "is", "I", false)
  | 2 => ("TableCatalog$Table", "columns", "Ljava/util/ArrayList;", true)
  | 3 => ("TableCatalog$Table", "formulas", "Ljava/util/ArrayList;", true)
  | 4 => ("TableCatalog$Table", "types", "[C", true)
  | 5 => ("TableCatalog$Table", "from", "[I", true)
  | 6 => ("TableCatalog$Table", "froms", "I", false)
  | 7 => ("TableCatalog$Table", "left", "LTableCatalog$Formula;", false)
  | 8 => ("TableCatalog$Table", "right", "LTableCatalog$Formula;", false)
  | 9 => ("TableCatalog$Table", "sign", "I", false)
  | 10 => ("TableCatalog$Table", "text", "Ljava/lang/String;", false)
  | 11 => ("TableCatalog$Table", "oldest", "I", false)
  | 12 => ("TableCatalog$Table", "newest", "I", false)
  | 13 => ("TableCatalog$Table", "owner", "I", false)
  | _ => ("TableCatalog$Table", "lag", "I", false)
def tyX4 : Nat → FieldType := fun k => match k with
  | 0 => .object "java/lang/String"
  | 1 => .int
  | 2 => .object "java/util/ArrayList"
  | 3 => .object "java/util/ArrayList"
  | 4 => .array .char
  | 5 => .array .int
  | 6 => .int
  | 7 => .object "TableCatalog$Formula"
  | 8 => .object "TableCatalog$Formula"
  | 9 => .int
  | 10 => .object "java/lang/String"
  | 11 => .int
  | 12 => .int
  | 13 => .int
  | _ => .int
abbrev wsX40 : List Cond := u_ws RX4 TX4 15
set_option maxRecDepth 100000 in
theorem nmX4 : ∀ a, a < 15 → ∀ b, b < 15 → a ≠ b → (TX4 a).2.1 ≠ (TX4 b).2.1 := by decide +kernel
set_option maxRecDepth 100000 in
theorem tyX4_ok : ∀ k, k < 15 → parseFieldDescriptor (TX4 k).2.2.1 = some (tyX4 k) := by decide +kernel
abbrev cX4_init : ByteArray := prog_10_method_1_code
def yX4_init : MethodName := ⟨RX4, "<init>", "(Ljava/lang/String;I)V"⟩
def dkwX4_init_3 : List UInt8 := [43, 181, 0, 50, 42, 28, 181, 0, 53, 177]
abbrev dktX4_init_3 : List UInt8 := dkwX4_init_3 ++ []
def dkwX4_init_2 : List UInt8 := [181, 0, 33, 42, 2, 181, 0, 37, 42, 2, 181, 0, 41, 42, 2, 181, 0, 44, 42, 2, 181, 0, 47, 42]
abbrev dktX4_init_2 : List UInt8 := dkwX4_init_2 ++ dktX4_init_3
def dkwX4_init_1 : List UInt8 := [183, 0, 11, 181, 0, 20, 42, 16, 6, 188, 5, 181, 0, 23, 42, 6, 188, 10, 181, 0, 27, 42, 18, 31]
abbrev dktX4_init_1 : List UInt8 := dkwX4_init_1 ++ dktX4_init_2
def dkwX4_init_0 : List UInt8 := [42, 183, 0, 3, 42, 187, 0, 9, 89, 4, 183, 0, 11, 181, 0, 14, 42, 187, 0, 9, 89, 3]
abbrev dktX4_init_0 : List UInt8 := dkwX4_init_0 ++ dktX4_init_1
theorem dksX4_init_0 : cX4_init.data.toList.drop 0 = dktX4_init_0 := by decide +kernel
theorem dksX4_init_1 : cX4_init.data.toList.drop 22 = dktX4_init_1 := dk_seg dksX4_init_0 22 rfl rfl
theorem dksX4_init_2 : cX4_init.data.toList.drop 46 = dktX4_init_2 := dk_seg dksX4_init_1 24 rfl rfl
theorem dksX4_init_3 : cX4_init.data.toList.drop 70 = dktX4_init_3 := dk_seg dksX4_init_2 24 rfl rfl
theorem dX4_init_0 : decode cX4_init 0 = .ok (.aload_n 0, 1) := dk_42 (dk_at dksX4_init_0 0 rfl rfl)
theorem dX4_init_1 : decode cX4_init 1 = .ok (.invokespecial 3, 3) := dk_183 0 3 (dk_at dksX4_init_0 1 rfl rfl)
theorem dX4_init_4 : decode cX4_init 4 = .ok (.aload_n 0, 1) := dk_42 (dk_at dksX4_init_0 4 rfl rfl)
theorem dX4_init_5 : decode cX4_init 5 = .ok (.new 9, 3) := dk_187 0 9 (dk_at dksX4_init_0 5 rfl rfl)
theorem dX4_init_8 : decode cX4_init 8 = .ok (.dup, 1) := dk_89 (dk_at dksX4_init_0 8 rfl rfl)
theorem dX4_init_9 : decode cX4_init 9 = .ok (.iconst 1, 1) := dk_4 (dk_at dksX4_init_0 9 rfl rfl)
theorem dX4_init_10 : decode cX4_init 10 = .ok (.invokespecial 11, 3) := dk_183 0 11 (dk_at dksX4_init_0 10 rfl rfl)
theorem dX4_init_13 : decode cX4_init 13 = .ok (.putfield 14, 3) := dk_181 0 14 (dk_at dksX4_init_0 13 rfl rfl)
theorem dX4_init_16 : decode cX4_init 16 = .ok (.aload_n 0, 1) := dk_42 (dk_at dksX4_init_0 16 rfl rfl)
theorem dX4_init_17 : decode cX4_init 17 = .ok (.new 9, 3) := dk_187 0 9 (dk_at dksX4_init_0 17 rfl rfl)
theorem dX4_init_20 : decode cX4_init 20 = .ok (.dup, 1) := dk_89 (dk_at dksX4_init_0 20 rfl rfl)
theorem dX4_init_21 : decode cX4_init 21 = .ok (.iconst 0, 1) := dk_3 (dk_at dksX4_init_0 21 rfl rfl)
theorem dX4_init_22 : decode cX4_init 22 = .ok (.invokespecial 11, 3) := dk_183 0 11 (dk_at dksX4_init_1 0 rfl rfl)
theorem dX4_init_25 : decode cX4_init 25 = .ok (.putfield 20, 3) := dk_181 0 20 (dk_at dksX4_init_1 3 rfl rfl)
theorem dX4_init_28 : decode cX4_init 28 = .ok (.aload_n 0, 1) := dk_42 (dk_at dksX4_init_1 6 rfl rfl)
theorem dX4_init_29 : decode cX4_init 29 = .ok (.bipush 6, 2) := dk_16 6 (dk_at dksX4_init_1 7 rfl rfl)
theorem dX4_init_31 : decode cX4_init 31 = .ok (.newarray .char, 2) := dk_188_5 (dk_at dksX4_init_1 9 rfl rfl)
theorem dX4_init_33 : decode cX4_init 33 = .ok (.putfield 23, 3) := dk_181 0 23 (dk_at dksX4_init_1 11 rfl rfl)
theorem dX4_init_36 : decode cX4_init 36 = .ok (.aload_n 0, 1) := dk_42 (dk_at dksX4_init_1 14 rfl rfl)
theorem dX4_init_37 : decode cX4_init 37 = .ok (.iconst 3, 1) := dk_6 (dk_at dksX4_init_1 15 rfl rfl)
theorem dX4_init_38 : decode cX4_init 38 = .ok (.newarray .int, 2) := dk_188_10 (dk_at dksX4_init_1 16 rfl rfl)
theorem dX4_init_40 : decode cX4_init 40 = .ok (.putfield 27, 3) := dk_181 0 27 (dk_at dksX4_init_1 18 rfl rfl)
theorem dX4_init_43 : decode cX4_init 43 = .ok (.aload_n 0, 1) := dk_42 (dk_at dksX4_init_1 21 rfl rfl)
theorem dX4_init_44 : decode cX4_init 44 = .ok (.ldc 31, 2) := dk_18 31 (dk_at dksX4_init_1 22 rfl rfl)
theorem dX4_init_46 : decode cX4_init 46 = .ok (.putfield 33, 3) := dk_181 0 33 (dk_at dksX4_init_2 0 rfl rfl)
theorem dX4_init_49 : decode cX4_init 49 = .ok (.aload_n 0, 1) := dk_42 (dk_at dksX4_init_2 3 rfl rfl)
theorem dX4_init_50 : decode cX4_init 50 = .ok (.iconst (-1), 1) := dk_2 (dk_at dksX4_init_2 4 rfl rfl)
theorem dX4_init_51 : decode cX4_init 51 = .ok (.putfield 37, 3) := dk_181 0 37 (dk_at dksX4_init_2 5 rfl rfl)
theorem dX4_init_54 : decode cX4_init 54 = .ok (.aload_n 0, 1) := dk_42 (dk_at dksX4_init_2 8 rfl rfl)
theorem dX4_init_55 : decode cX4_init 55 = .ok (.iconst (-1), 1) := dk_2 (dk_at dksX4_init_2 9 rfl rfl)
theorem dX4_init_56 : decode cX4_init 56 = .ok (.putfield 41, 3) := dk_181 0 41 (dk_at dksX4_init_2 10 rfl rfl)
theorem dX4_init_59 : decode cX4_init 59 = .ok (.aload_n 0, 1) := dk_42 (dk_at dksX4_init_2 13 rfl rfl)
theorem dX4_init_60 : decode cX4_init 60 = .ok (.iconst (-1), 1) := dk_2 (dk_at dksX4_init_2 14 rfl rfl)
theorem dX4_init_61 : decode cX4_init 61 = .ok (.putfield 44, 3) := dk_181 0 44 (dk_at dksX4_init_2 15 rfl rfl)
theorem dX4_init_64 : decode cX4_init 64 = .ok (.aload_n 0, 1) := dk_42 (dk_at dksX4_init_2 18 rfl rfl)
theorem dX4_init_65 : decode cX4_init 65 = .ok (.iconst (-1), 1) := dk_2 (dk_at dksX4_init_2 19 rfl rfl)
theorem dX4_init_66 : decode cX4_init 66 = .ok (.putfield 47, 3) := dk_181 0 47 (dk_at dksX4_init_2 20 rfl rfl)
theorem dX4_init_69 : decode cX4_init 69 = .ok (.aload_n 0, 1) := dk_42 (dk_at dksX4_init_2 23 rfl rfl)
theorem dX4_init_70 : decode cX4_init 70 = .ok (.aload_n 1, 1) := dk_43 (dk_at dksX4_init_3 0 rfl rfl)
theorem dX4_init_71 : decode cX4_init 71 = .ok (.putfield 50, 3) := dk_181 0 50 (dk_at dksX4_init_3 1 rfl rfl)
theorem dX4_init_74 : decode cX4_init 74 = .ok (.aload_n 0, 1) := dk_42 (dk_at dksX4_init_3 4 rfl rfl)
theorem dX4_init_75 : decode cX4_init 75 = .ok (.iload_n 2, 1) := dk_28 (dk_at dksX4_init_3 5 rfl rfl)
theorem dX4_init_76 : decode cX4_init 76 = .ok (.putfield 53, 3) := dk_181 0 53 (dk_at dksX4_init_3 6 rfl rfl)
theorem dX4_init_79 : decode cX4_init 79 = .ok (.return_, 1) := dk_177 (dk_at dksX4_init_3 9 rfl rfl)
abbrev cX4_isMade : ByteArray := prog_10_method_2_code
def yX4_isMade : MethodName := ⟨RX4, "isMade", "()Z"⟩
def dkwX4_isMade_0 : List UInt8 := [42, 180, 0, 53, 4, 159, 0, 11, 42, 180, 0, 53, 5, 160, 0, 7, 4, 167, 0, 4, 3, 172]
abbrev dktX4_isMade_0 : List UInt8 := dkwX4_isMade_0 ++ []
theorem dksX4_isMade_0 : cX4_isMade.data.toList.drop 0 = dktX4_isMade_0 := by decide +kernel
theorem dX4_isMade_0 : decode cX4_isMade 0 = .ok (.aload_n 0, 1) := dk_42 (dk_at dksX4_isMade_0 0 rfl rfl)
theorem dX4_isMade_1 : decode cX4_isMade 1 = .ok (.getfield 53, 3) := dk_180 0 53 (dk_at dksX4_isMade_0 1 rfl rfl)
theorem dX4_isMade_4 : decode cX4_isMade 4 = .ok (.iconst 1, 1) := dk_4 (dk_at dksX4_isMade_0 4 rfl rfl)
theorem dX4_isMade_5 : decode cX4_isMade 5 = .ok (.if_icmp .eq 11, 3) := dk_159 0 11 (dk_at dksX4_isMade_0 5 rfl rfl)
theorem dX4_isMade_8 : decode cX4_isMade 8 = .ok (.aload_n 0, 1) := dk_42 (dk_at dksX4_isMade_0 8 rfl rfl)
theorem dX4_isMade_9 : decode cX4_isMade 9 = .ok (.getfield 53, 3) := dk_180 0 53 (dk_at dksX4_isMade_0 9 rfl rfl)
theorem dX4_isMade_12 : decode cX4_isMade 12 = .ok (.iconst 2, 1) := dk_5 (dk_at dksX4_isMade_0 12 rfl rfl)
theorem dX4_isMade_13 : decode cX4_isMade 13 = .ok (.if_icmp .ne 7, 3) := dk_160 0 7 (dk_at dksX4_isMade_0 13 rfl rfl)
theorem dX4_isMade_16 : decode cX4_isMade 16 = .ok (.iconst 1, 1) := dk_4 (dk_at dksX4_isMade_0 16 rfl rfl)
theorem dX4_isMade_17 : decode cX4_isMade 17 = .ok (.goto 4, 3) := dk_167 0 4 (dk_at dksX4_isMade_0 17 rfl rfl)
theorem dX4_isMade_20 : decode cX4_isMade 20 = .ok (.iconst 0, 1) := dk_3 (dk_at dksX4_isMade_0 20 rfl rfl)
theorem dX4_isMade_21 : decode cX4_isMade 21 = .ok (.ireturn, 1) := dk_172 (dk_at dksX4_isMade_0 21 rfl rfl)
theorem q96 : (Jvm.Cond.initialized "TableCatalog$Table") ∈ lw_all := lw_g (lw_at lw_m1 16 rfl) rfl
theorem q538 : (Jvm.Cond.instantiable "TableCatalog$Table" (15 : Nat)) ∈ lw_all := lw_g (lw_at lw_m2 218 rfl) rfl
theorem q540 : (Jvm.Cond.instanceMethod ({ cls := "TableCatalog$Table", name := "<init>", desc := "(Ljava/lang/String;I)V" } : Jvm.MethodName)) ∈ lw_all := lw_g (lw_at lw_m2 220 rfl) rfl
theorem q541 : (Jvm.Cond.code ({ cls := "TableCatalog$Table", name := "<init>", desc := "(Ljava/lang/String;I)V" } : Jvm.MethodName) prog_10_method_1_code (3 : Nat) (Option.none : Option Jvm.ClassFile.FieldType)) ∈ lw_all := lw_g (lw_at lw_m2 221 rfl) rfl
theorem q542 : (Jvm.Cond.methodLink "TableCatalog$Table" (3 : Nat) ({ cls := "java/lang/Object", name := "<init>", desc := "()V" } : Jvm.MethodName)) ∈ lw_all := lw_g (lw_at lw_m2 222 rfl) rfl
theorem q543 : (Jvm.Cond.classLink "TableCatalog$Table" (9 : Nat) "java/util/ArrayList") ∈ lw_all := lw_g (lw_at lw_m2 223 rfl) rfl
theorem q544 : (Jvm.Cond.methodLink "TableCatalog$Table" (11 : Nat) ({ cls := "java/util/ArrayList", name := "<init>", desc := "(I)V" } : Jvm.MethodName)) ∈ lw_all := lw_g (lw_at lw_m2 224 rfl) rfl
theorem q551 : (Jvm.Cond.stringRef "TableCatalog$Table" (31 : Nat) "") ∈ lw_tbl := lw_at lw_m2 231 rfl
theorem q552 : (Jvm.Cond.fieldLink "TableCatalog$Table" (50 : Nat) "TableCatalog$Table" "name" "Ljava/lang/String;") ∈ lw_all := lw_g (lw_at lw_m2 232 rfl) rfl
theorem q554 : (Jvm.Cond.fieldLink "TableCatalog$Table" (53 : Nat) "TableCatalog$Table" "is" "I") ∈ lw_all := lw_g (lw_at lw_m2 234 rfl) rfl
theorem q556 : (Jvm.Cond.fieldLink "TableCatalog$Table" (14 : Nat) "TableCatalog$Table" "columns" "Ljava/util/ArrayList;") ∈ lw_all := lw_g (lw_at lw_m2 236 rfl) rfl
theorem q559 : (Jvm.Cond.fieldLink "TableCatalog$Table" (20 : Nat) "TableCatalog$Table" "formulas" "Ljava/util/ArrayList;") ∈ lw_all := lw_g (lw_at lw_m2 239 rfl) rfl
theorem q562 : (Jvm.Cond.fieldLink "TableCatalog$Table" (23 : Nat) "TableCatalog$Table" "types" "[C") ∈ lw_all := lw_g (lw_at lw_m3 2 rfl) rfl
theorem q566 : (Jvm.Cond.fieldLink "TableCatalog$Table" (27 : Nat) "TableCatalog$Table" "from" "[I") ∈ lw_all := lw_g (lw_at lw_m3 6 rfl) rfl
theorem q575 : (Jvm.Cond.fieldLink "TableCatalog$Table" (33 : Nat) "TableCatalog$Table" "text" "Ljava/lang/String;") ∈ lw_all := lw_g (lw_at lw_m3 15 rfl) rfl
theorem q578 : (Jvm.Cond.fieldLink "TableCatalog$Table" (37 : Nat) "TableCatalog$Table" "oldest" "I") ∈ lw_all := lw_g (lw_at lw_m3 18 rfl) rfl
theorem q580 : (Jvm.Cond.fieldLink "TableCatalog$Table" (41 : Nat) "TableCatalog$Table" "newest" "I") ∈ lw_all := lw_g (lw_at lw_m3 20 rfl) rfl
theorem q582 : (Jvm.Cond.fieldLink "TableCatalog$Table" (44 : Nat) "TableCatalog$Table" "owner" "I") ∈ lw_all := lw_g (lw_at lw_m3 22 rfl) rfl
theorem q584 : (Jvm.Cond.fieldLink "TableCatalog$Table" (47 : Nat) "TableCatalog$Table" "lag" "I") ∈ lw_all := lw_g (lw_at lw_m3 24 rfl) rfl
theorem q586 : (Jvm.Cond.laysFinal "TableCatalog$Table" "TableCatalog$Table" "name" "Ljava/lang/String;") ∈ lw_all := lw_g (lw_at lw_m3 26 rfl) rfl
theorem q587 : (Jvm.Cond.soleField "TableCatalog$Table" "name") ∈ lw_all := lw_g (lw_at lw_m3 27 rfl) rfl
theorem q588 : (Jvm.Cond.lays "TableCatalog$Table" "TableCatalog$Table" "is" "I") ∈ lw_all := lw_g (lw_at lw_m3 28 rfl) rfl
theorem q589 : (Jvm.Cond.soleField "TableCatalog$Table" "is") ∈ lw_all := lw_g (lw_at lw_m3 29 rfl) rfl
theorem q590 : (Jvm.Cond.laysFinal "TableCatalog$Table" "TableCatalog$Table" "columns" "Ljava/util/ArrayList;") ∈ lw_all := lw_g (lw_at lw_m3 30 rfl) rfl
theorem q591 : (Jvm.Cond.soleField "TableCatalog$Table" "columns") ∈ lw_all := lw_g (lw_at lw_m3 31 rfl) rfl
theorem q592 : (Jvm.Cond.laysFinal "TableCatalog$Table" "TableCatalog$Table" "formulas" "Ljava/util/ArrayList;") ∈ lw_all := lw_g (lw_at lw_m3 32 rfl) rfl
theorem q593 : (Jvm.Cond.soleField "TableCatalog$Table" "formulas") ∈ lw_all := lw_g (lw_at lw_m3 33 rfl) rfl
theorem q594 : (Jvm.Cond.laysFinal "TableCatalog$Table" "TableCatalog$Table" "types" "[C") ∈ lw_all := lw_g (lw_at lw_m3 34 rfl) rfl
theorem q595 : (Jvm.Cond.soleField "TableCatalog$Table" "types") ∈ lw_all := lw_g (lw_at lw_m3 35 rfl) rfl
theorem q596 : (Jvm.Cond.laysFinal "TableCatalog$Table" "TableCatalog$Table" "from" "[I") ∈ lw_all := lw_g (lw_at lw_m3 36 rfl) rfl
theorem q597 : (Jvm.Cond.soleField "TableCatalog$Table" "from") ∈ lw_all := lw_g (lw_at lw_m3 37 rfl) rfl
theorem q598 : (Jvm.Cond.lays "TableCatalog$Table" "TableCatalog$Table" "froms" "I") ∈ lw_all := lw_g (lw_at lw_m3 38 rfl) rfl
theorem q599 : (Jvm.Cond.soleField "TableCatalog$Table" "froms") ∈ lw_all := lw_g (lw_at lw_m3 39 rfl) rfl
theorem q600 : (Jvm.Cond.lays "TableCatalog$Table" "TableCatalog$Table" "left" "LTableCatalog$Formula;") ∈ lw_all := lw_g (lw_at lw_m3 40 rfl) rfl
theorem q601 : (Jvm.Cond.soleField "TableCatalog$Table" "left") ∈ lw_all := lw_g (lw_at lw_m3 41 rfl) rfl
theorem q602 : (Jvm.Cond.lays "TableCatalog$Table" "TableCatalog$Table" "right" "LTableCatalog$Formula;") ∈ lw_all := lw_g (lw_at lw_m3 42 rfl) rfl
theorem q603 : (Jvm.Cond.soleField "TableCatalog$Table" "right") ∈ lw_all := lw_g (lw_at lw_m3 43 rfl) rfl
theorem q604 : (Jvm.Cond.lays "TableCatalog$Table" "TableCatalog$Table" "sign" "I") ∈ lw_all := lw_g (lw_at lw_m3 44 rfl) rfl
theorem q605 : (Jvm.Cond.soleField "TableCatalog$Table" "sign") ∈ lw_all := lw_g (lw_at lw_m3 45 rfl) rfl
theorem q606 : (Jvm.Cond.lays "TableCatalog$Table" "TableCatalog$Table" "text" "Ljava/lang/String;") ∈ lw_all := lw_g (lw_at lw_m3 46 rfl) rfl
theorem q607 : (Jvm.Cond.soleField "TableCatalog$Table" "text") ∈ lw_all := lw_g (lw_at lw_m3 47 rfl) rfl
theorem q608 : (Jvm.Cond.lays "TableCatalog$Table" "TableCatalog$Table" "oldest" "I") ∈ lw_all := lw_g (lw_at lw_m3 48 rfl) rfl
theorem q609 : (Jvm.Cond.soleField "TableCatalog$Table" "oldest") ∈ lw_all := lw_g (lw_at lw_m3 49 rfl) rfl
theorem q610 : (Jvm.Cond.lays "TableCatalog$Table" "TableCatalog$Table" "newest" "I") ∈ lw_all := lw_g (lw_at lw_m3 50 rfl) rfl
theorem q611 : (Jvm.Cond.soleField "TableCatalog$Table" "newest") ∈ lw_all := lw_g (lw_at lw_m3 51 rfl) rfl
theorem q612 : (Jvm.Cond.lays "TableCatalog$Table" "TableCatalog$Table" "owner" "I") ∈ lw_all := lw_g (lw_at lw_m3 52 rfl) rfl
theorem q613 : (Jvm.Cond.soleField "TableCatalog$Table" "owner") ∈ lw_all := lw_g (lw_at lw_m3 53 rfl) rfl
theorem q614 : (Jvm.Cond.lays "TableCatalog$Table" "TableCatalog$Table" "lag" "I") ∈ lw_all := lw_g (lw_at lw_m3 54 rfl) rfl
theorem q615 : (Jvm.Cond.soleField "TableCatalog$Table" "lag") ∈ lw_all := lw_g (lw_at lw_m3 55 rfl) rfl
theorem q616 : (Jvm.Cond.superclass "TableCatalog$Table" "java/lang/Object") ∈ lw_all := lw_g (lw_at lw_m3 56 rfl) rfl
theorem q673 : (Jvm.Cond.selects "TableCatalog$Table" ({ cls := "java/lang/Object", name := "getClass", desc := "()Ljava/lang/Class;" } : Jvm.MethodName) ({ cls := "java/lang/Object", name := "getClass", desc := "()Ljava/lang/Class;" } : Jvm.MethodName)) ∈ lw_all := lw_g (lw_at lw_m3 113 rfl) rfl
theorem q921 : (Jvm.Cond.selects "TableCatalog$Table" ({ cls := "java/lang/Object", name := "equals", desc := "(Ljava/lang/Object;)Z" } : Jvm.MethodName) ({ cls := "java/lang/Object", name := "equals", desc := "(Ljava/lang/Object;)Z" } : Jvm.MethodName)) ∈ lw_all := lw_g (lw_at lw_m4 121 rfl) rfl
theorem q934 : (Jvm.Cond.instanceMethod ({ cls := "TableCatalog$Table", name := "isMade", desc := "()Z" } : Jvm.MethodName)) ∈ lw_all := lw_g (lw_at lw_m4 134 rfl) rfl
theorem q935 : (Jvm.Cond.selects "TableCatalog$Table" ({ cls := "TableCatalog$Table", name := "isMade", desc := "()Z" } : Jvm.MethodName) ({ cls := "TableCatalog$Table", name := "isMade", desc := "()Z" } : Jvm.MethodName)) ∈ lw_all := lw_g (lw_at lw_m4 135 rfl) rfl
theorem q936 : (Jvm.Cond.code ({ cls := "TableCatalog$Table", name := "isMade", desc := "()Z" } : Jvm.MethodName) prog_10_method_2_code (1 : Nat) (Option.some Jvm.ClassFile.FieldType.boolean)) ∈ lw_all := lw_g (lw_at lw_m4 136 rfl) rfl
theorem q1649 : (Jvm.Cond.castable "TableCatalog$Table" "java/lang/Object") ∈ lw_tbl := lw_at lw_m7 129 rfl
theorem in_X4 : ∀ w ∈ wsX40, w ∈ lw_all := lw_in wsX40 [586, 588, 590, 592, 594, 596, 598, 600, 602, 604, 606, 608, 610, 612, 614] (by decide +kernel) (by decide +kernel)
/-! TableCatalog$Formula -/
set_option maxRecDepth 100000
def RX5 : String := "TableCatalog$Formula"
def TX5 : u_T := fun k => match k with
  | 0 => ("TableCatalog$Formula", "terms", "Ljava/util/ArrayList;", true)
  | 1 => ("TableCatalog$Formula", "signs", "[I", true)
  | _ => ("TableCatalog$Formula", "places", "[I", true)
def tyX5 : Nat → FieldType := fun k => match k with
  | 0 => .object "java/util/ArrayList"
  | 1 => .array .int
  | _ => .array .int
abbrev wsX50 : List Cond := u_ws RX5 TX5 3
theorem nmX5 : ∀ a, a < 3 → ∀ b, b < 3 → a ≠ b → (TX5 a).2.1 ≠ (TX5 b).2.1 := by decide +kernel
theorem tyX5_ok : ∀ k, k < 3 → parseFieldDescriptor (TX5 k).2.2.1 = some (tyX5 k) := by decide +kernel
abbrev cX5_init : ByteArray := prog_5_method_1_code
def yX5_init : MethodName := ⟨RX5, "<init>", "()V"⟩
def dkwX5_init_1 : List UInt8 := [42, 16, 6, 188, 10, 181, 0, 24, 177]
abbrev dktX5_init_1 : List UInt8 := dkwX5_init_1 ++ []
def dkwX5_init_0 : List UInt8 := [42, 183, 0, 3, 42, 187, 0, 9, 89, 4, 183, 0, 11, 181, 0, 14, 42, 16, 6, 188, 10, 181, 0, 20]
abbrev dktX5_init_0 : List UInt8 := dkwX5_init_0 ++ dktX5_init_1
theorem dksX5_init_0 : cX5_init.data.toList.drop 0 = dktX5_init_0 := by decide +kernel
theorem dksX5_init_1 : cX5_init.data.toList.drop 24 = dktX5_init_1 := dk_seg dksX5_init_0 24 rfl rfl
theorem dX5_init_0 : decode cX5_init 0 = .ok (.aload_n 0, 1) := dk_42 (dk_at dksX5_init_0 0 rfl rfl)
theorem dX5_init_1 : decode cX5_init 1 = .ok (.invokespecial 3, 3) := dk_183 0 3 (dk_at dksX5_init_0 1 rfl rfl)
theorem dX5_init_4 : decode cX5_init 4 = .ok (.aload_n 0, 1) := dk_42 (dk_at dksX5_init_0 4 rfl rfl)
theorem dX5_init_5 : decode cX5_init 5 = .ok (.new 9, 3) := dk_187 0 9 (dk_at dksX5_init_0 5 rfl rfl)
theorem dX5_init_8 : decode cX5_init 8 = .ok (.dup, 1) := dk_89 (dk_at dksX5_init_0 8 rfl rfl)
theorem dX5_init_9 : decode cX5_init 9 = .ok (.iconst 1, 1) := dk_4 (dk_at dksX5_init_0 9 rfl rfl)
theorem dX5_init_10 : decode cX5_init 10 = .ok (.invokespecial 11, 3) := dk_183 0 11 (dk_at dksX5_init_0 10 rfl rfl)
theorem dX5_init_13 : decode cX5_init 13 = .ok (.putfield 14, 3) := dk_181 0 14 (dk_at dksX5_init_0 13 rfl rfl)
theorem dX5_init_16 : decode cX5_init 16 = .ok (.aload_n 0, 1) := dk_42 (dk_at dksX5_init_0 16 rfl rfl)
theorem dX5_init_17 : decode cX5_init 17 = .ok (.bipush 6, 2) := dk_16 6 (dk_at dksX5_init_0 17 rfl rfl)
theorem dX5_init_19 : decode cX5_init 19 = .ok (.newarray .int, 2) := dk_188_10 (dk_at dksX5_init_0 19 rfl rfl)
theorem dX5_init_21 : decode cX5_init 21 = .ok (.putfield 20, 3) := dk_181 0 20 (dk_at dksX5_init_0 21 rfl rfl)
theorem dX5_init_24 : decode cX5_init 24 = .ok (.aload_n 0, 1) := dk_42 (dk_at dksX5_init_1 0 rfl rfl)
theorem dX5_init_25 : decode cX5_init 25 = .ok (.bipush 6, 2) := dk_16 6 (dk_at dksX5_init_1 1 rfl rfl)
theorem dX5_init_27 : decode cX5_init 27 = .ok (.newarray .int, 2) := dk_188_10 (dk_at dksX5_init_1 3 rfl rfl)
theorem dX5_init_29 : decode cX5_init 29 = .ok (.putfield 24, 3) := dk_181 0 24 (dk_at dksX5_init_1 5 rfl rfl)
theorem dX5_init_32 : decode cX5_init 32 = .ok (.return_, 1) := dk_177 (dk_at dksX5_init_1 8 rfl rfl)
abbrev cX5_type : ByteArray := prog_5_method_2_code
def yX5_type : MethodName := ⟨RX5, "type", "(LTableCatalog$Checker;)C"⟩
def dkwX5_type_3 : List UInt8 := [29, 46, 182, 0, 45, 16, 63, 61, 132, 3, 1, 167, 255, 192, 28, 172]
abbrev dktX5_type_3 : List UInt8 := dkwX5_type_3 ++ []
def dkwX5_type_2 : List UInt8 := [42, 180, 0, 20, 29, 46, 21, 4, 184, 0, 41, 61, 28, 153, 0, 6, 167, 0, 16, 43, 42, 180, 0, 24]
abbrev dktX5_type_2 : List UInt8 := dkwX5_type_2 ++ dktX5_type_3
def dkwX5_type_1 : List UInt8 := [182, 0, 37, 162, 0, 59, 42, 180, 0, 14, 29, 182, 0, 27, 192, 0, 31, 43, 182, 0, 33, 54, 4, 28]
abbrev dktX5_type_1 : List UInt8 := dkwX5_type_1 ++ dktX5_type_2
def dkwX5_type_0 : List UInt8 := [42, 180, 0, 14, 3, 182, 0, 27, 192, 0, 31, 43, 182, 0, 33, 61, 4, 62, 29, 42, 180, 0, 14]
abbrev dktX5_type_0 : List UInt8 := dkwX5_type_0 ++ dktX5_type_1
theorem dksX5_type_0 : cX5_type.data.toList.drop 0 = dktX5_type_0 := by decide +kernel
theorem dksX5_type_1 : cX5_type.data.toList.drop 23 = dktX5_type_1 := dk_seg dksX5_type_0 23 rfl rfl
theorem dksX5_type_2 : cX5_type.data.toList.drop 47 = dktX5_type_2 := dk_seg dksX5_type_1 24 rfl rfl
theorem dksX5_type_3 : cX5_type.data.toList.drop 71 = dktX5_type_3 := dk_seg dksX5_type_2 24 rfl rfl
theorem dX5_type_0 : decode cX5_type 0 = .ok (.aload_n 0, 1) := dk_42 (dk_at dksX5_type_0 0 rfl rfl)
theorem dX5_type_1 : decode cX5_type 1 = .ok (.getfield 14, 3) := dk_180 0 14 (dk_at dksX5_type_0 1 rfl rfl)
theorem dX5_type_4 : decode cX5_type 4 = .ok (.iconst 0, 1) := dk_3 (dk_at dksX5_type_0 4 rfl rfl)
theorem dX5_type_5 : decode cX5_type 5 = .ok (.invokevirtual 27, 3) := dk_182 0 27 (dk_at dksX5_type_0 5 rfl rfl)
theorem dX5_type_8 : decode cX5_type 8 = .ok (.checkcast 31, 3) := dk_192 0 31 (dk_at dksX5_type_0 8 rfl rfl)
theorem dX5_type_11 : decode cX5_type 11 = .ok (.aload_n 1, 1) := dk_43 (dk_at dksX5_type_0 11 rfl rfl)
theorem dX5_type_12 : decode cX5_type 12 = .ok (.invokevirtual 33, 3) := dk_182 0 33 (dk_at dksX5_type_0 12 rfl rfl)
theorem dX5_type_15 : decode cX5_type 15 = .ok (.istore_n 2, 1) := dk_61 (dk_at dksX5_type_0 15 rfl rfl)
theorem dX5_type_16 : decode cX5_type 16 = .ok (.iconst 1, 1) := dk_4 (dk_at dksX5_type_0 16 rfl rfl)
theorem dX5_type_17 : decode cX5_type 17 = .ok (.istore_n 3, 1) := dk_62 (dk_at dksX5_type_0 17 rfl rfl)
theorem dX5_type_18 : decode cX5_type 18 = .ok (.iload_n 3, 1) := dk_29 (dk_at dksX5_type_0 18 rfl rfl)
theorem dX5_type_19 : decode cX5_type 19 = .ok (.aload_n 0, 1) := dk_42 (dk_at dksX5_type_0 19 rfl rfl)
theorem dX5_type_20 : decode cX5_type 20 = .ok (.getfield 14, 3) := dk_180 0 14 (dk_at dksX5_type_0 20 rfl rfl)
theorem dX5_type_23 : decode cX5_type 23 = .ok (.invokevirtual 37, 3) := dk_182 0 37 (dk_at dksX5_type_1 0 rfl rfl)
theorem dX5_type_26 : decode cX5_type 26 = .ok (.if_icmp .ge 59, 3) := dk_162 0 59 (dk_at dksX5_type_1 3 rfl rfl)
theorem dX5_type_29 : decode cX5_type 29 = .ok (.aload_n 0, 1) := dk_42 (dk_at dksX5_type_1 6 rfl rfl)
theorem dX5_type_30 : decode cX5_type 30 = .ok (.getfield 14, 3) := dk_180 0 14 (dk_at dksX5_type_1 7 rfl rfl)
theorem dX5_type_33 : decode cX5_type 33 = .ok (.iload_n 3, 1) := dk_29 (dk_at dksX5_type_1 10 rfl rfl)
theorem dX5_type_34 : decode cX5_type 34 = .ok (.invokevirtual 27, 3) := dk_182 0 27 (dk_at dksX5_type_1 11 rfl rfl)
theorem dX5_type_37 : decode cX5_type 37 = .ok (.checkcast 31, 3) := dk_192 0 31 (dk_at dksX5_type_1 14 rfl rfl)
theorem dX5_type_40 : decode cX5_type 40 = .ok (.aload_n 1, 1) := dk_43 (dk_at dksX5_type_1 17 rfl rfl)
theorem dX5_type_41 : decode cX5_type 41 = .ok (.invokevirtual 33, 3) := dk_182 0 33 (dk_at dksX5_type_1 18 rfl rfl)
theorem dX5_type_44 : decode cX5_type 44 = .ok (.istore 4, 2) := dk_54 4 (dk_at dksX5_type_1 21 rfl rfl)
theorem dX5_type_46 : decode cX5_type 46 = .ok (.iload_n 2, 1) := dk_28 (dk_at dksX5_type_1 23 rfl rfl)
theorem dX5_type_47 : decode cX5_type 47 = .ok (.aload_n 0, 1) := dk_42 (dk_at dksX5_type_2 0 rfl rfl)
theorem dX5_type_48 : decode cX5_type 48 = .ok (.getfield 20, 3) := dk_180 0 20 (dk_at dksX5_type_2 1 rfl rfl)
theorem dX5_type_51 : decode cX5_type 51 = .ok (.iload_n 3, 1) := dk_29 (dk_at dksX5_type_2 4 rfl rfl)
theorem dX5_type_52 : decode cX5_type 52 = .ok (.iaload, 1) := dk_46 (dk_at dksX5_type_2 5 rfl rfl)
theorem dX5_type_53 : decode cX5_type 53 = .ok (.iload 4, 2) := dk_21 4 (dk_at dksX5_type_2 6 rfl rfl)
theorem dX5_type_55 : decode cX5_type 55 = .ok (.invokestatic 41, 3) := dk_184 0 41 (dk_at dksX5_type_2 8 rfl rfl)
theorem dX5_type_58 : decode cX5_type 58 = .ok (.istore_n 2, 1) := dk_61 (dk_at dksX5_type_2 11 rfl rfl)
theorem dX5_type_59 : decode cX5_type 59 = .ok (.iload_n 2, 1) := dk_28 (dk_at dksX5_type_2 12 rfl rfl)
theorem dX5_type_60 : decode cX5_type 60 = .ok (.ifCond .eq 6, 3) := dk_153 0 6 (dk_at dksX5_type_2 13 rfl rfl)
theorem dX5_type_63 : decode cX5_type 63 = .ok (.goto 16, 3) := dk_167 0 16 (dk_at dksX5_type_2 16 rfl rfl)
theorem dX5_type_66 : decode cX5_type 66 = .ok (.aload_n 1, 1) := dk_43 (dk_at dksX5_type_2 19 rfl rfl)
theorem dX5_type_67 : decode cX5_type 67 = .ok (.aload_n 0, 1) := dk_42 (dk_at dksX5_type_2 20 rfl rfl)
theorem dX5_type_68 : decode cX5_type 68 = .ok (.getfield 24, 3) := dk_180 0 24 (dk_at dksX5_type_2 21 rfl rfl)
theorem dX5_type_71 : decode cX5_type 71 = .ok (.iload_n 3, 1) := dk_29 (dk_at dksX5_type_3 0 rfl rfl)
theorem dX5_type_72 : decode cX5_type 72 = .ok (.iaload, 1) := dk_46 (dk_at dksX5_type_3 1 rfl rfl)
theorem dX5_type_73 : decode cX5_type 73 = .ok (.invokevirtual 45, 3) := dk_182 0 45 (dk_at dksX5_type_3 2 rfl rfl)
theorem dX5_type_76 : decode cX5_type 76 = .ok (.bipush 63, 2) := dk_16 63 (dk_at dksX5_type_3 5 rfl rfl)
theorem dX5_type_78 : decode cX5_type 78 = .ok (.istore_n 2, 1) := dk_61 (dk_at dksX5_type_3 7 rfl rfl)
theorem dX5_type_79 : decode cX5_type 79 = .ok (.iinc 3 1, 3) := dk_132 3 1 (dk_at dksX5_type_3 8 rfl rfl)
theorem dX5_type_82 : decode cX5_type 82 = .ok (.goto (-64), 3) := dk_167 255 192 (dk_at dksX5_type_3 11 rfl rfl)
theorem dX5_type_85 : decode cX5_type 85 = .ok (.iload_n 2, 1) := dk_28 (dk_at dksX5_type_3 14 rfl rfl)
theorem dX5_type_86 : decode cX5_type 86 = .ok (.ireturn, 1) := dk_172 (dk_at dksX5_type_3 15 rfl rfl)
abbrev cX5_joined : ByteArray := prog_5_method_3_code
def yX5_joined : MethodName := ⟨RX5, "joined", "(CIC)C"⟩
def dkwX5_joined_3 : List UInt8 := [16, 100, 160, 0, 20, 28, 16, 100, 160, 0, 14, 27, 16, 45, 160, 0, 8, 16, 110, 167, 0, 4, 3, 172]
abbrev dktX5_joined_3 : List UInt8 := dkwX5_joined_3 ++ []
def dkwX5_joined_2 : List UInt8 := [16, 110, 160, 0, 6, 16, 110, 172, 26, 16, 100, 160, 0, 12, 28, 16, 110, 160, 0, 6, 16, 100, 172, 26]
abbrev dktX5_joined_2 : List UInt8 := dkwX5_joined_2 ++ dktX5_joined_3
def dkwX5_joined_1 : List UInt8 := [160, 0, 14, 28, 16, 116, 160, 0, 8, 16, 116, 167, 0, 4, 3, 172, 26, 16, 110, 160, 0, 12, 28]
abbrev dktX5_joined_1 : List UInt8 := dkwX5_joined_1 ++ dktX5_joined_2
def dkwX5_joined_0 : List UInt8 := [26, 16, 63, 159, 0, 9, 28, 16, 63, 160, 0, 6, 16, 63, 172, 27, 16, 38, 160, 0, 22, 26, 16, 116]
abbrev dktX5_joined_0 : List UInt8 := dkwX5_joined_0 ++ dktX5_joined_1
theorem dksX5_joined_0 : cX5_joined.data.toList.drop 0 = dktX5_joined_0 := by decide +kernel
theorem dksX5_joined_1 : cX5_joined.data.toList.drop 24 = dktX5_joined_1 := dk_seg dksX5_joined_0 24 rfl rfl
theorem dksX5_joined_2 : cX5_joined.data.toList.drop 47 = dktX5_joined_2 := dk_seg dksX5_joined_1 23 rfl rfl
theorem dksX5_joined_3 : cX5_joined.data.toList.drop 71 = dktX5_joined_3 := dk_seg dksX5_joined_2 24 rfl rfl
theorem dX5_joined_0 : decode cX5_joined 0 = .ok (.iload_n 0, 1) := dk_26 (dk_at dksX5_joined_0 0 rfl rfl)
theorem dX5_joined_1 : decode cX5_joined 1 = .ok (.bipush 63, 2) := dk_16 63 (dk_at dksX5_joined_0 1 rfl rfl)
theorem dX5_joined_3 : decode cX5_joined 3 = .ok (.if_icmp .eq 9, 3) := dk_159 0 9 (dk_at dksX5_joined_0 3 rfl rfl)
theorem dX5_joined_6 : decode cX5_joined 6 = .ok (.iload_n 2, 1) := dk_28 (dk_at dksX5_joined_0 6 rfl rfl)
theorem dX5_joined_7 : decode cX5_joined 7 = .ok (.bipush 63, 2) := dk_16 63 (dk_at dksX5_joined_0 7 rfl rfl)
theorem dX5_joined_9 : decode cX5_joined 9 = .ok (.if_icmp .ne 6, 3) := dk_160 0 6 (dk_at dksX5_joined_0 9 rfl rfl)
theorem dX5_joined_12 : decode cX5_joined 12 = .ok (.bipush 63, 2) := dk_16 63 (dk_at dksX5_joined_0 12 rfl rfl)
theorem dX5_joined_14 : decode cX5_joined 14 = .ok (.ireturn, 1) := dk_172 (dk_at dksX5_joined_0 14 rfl rfl)
theorem dX5_joined_15 : decode cX5_joined 15 = .ok (.iload_n 1, 1) := dk_27 (dk_at dksX5_joined_0 15 rfl rfl)
theorem dX5_joined_16 : decode cX5_joined 16 = .ok (.bipush 38, 2) := dk_16 38 (dk_at dksX5_joined_0 16 rfl rfl)
theorem dX5_joined_18 : decode cX5_joined 18 = .ok (.if_icmp .ne 22, 3) := dk_160 0 22 (dk_at dksX5_joined_0 18 rfl rfl)
theorem dX5_joined_21 : decode cX5_joined 21 = .ok (.iload_n 0, 1) := dk_26 (dk_at dksX5_joined_0 21 rfl rfl)
theorem dX5_joined_22 : decode cX5_joined 22 = .ok (.bipush 116, 2) := dk_16 116 (dk_at dksX5_joined_0 22 rfl rfl)
theorem dX5_joined_24 : decode cX5_joined 24 = .ok (.if_icmp .ne 14, 3) := dk_160 0 14 (dk_at dksX5_joined_1 0 rfl rfl)
theorem dX5_joined_27 : decode cX5_joined 27 = .ok (.iload_n 2, 1) := dk_28 (dk_at dksX5_joined_1 3 rfl rfl)
theorem dX5_joined_28 : decode cX5_joined 28 = .ok (.bipush 116, 2) := dk_16 116 (dk_at dksX5_joined_1 4 rfl rfl)
theorem dX5_joined_30 : decode cX5_joined 30 = .ok (.if_icmp .ne 8, 3) := dk_160 0 8 (dk_at dksX5_joined_1 6 rfl rfl)
theorem dX5_joined_33 : decode cX5_joined 33 = .ok (.bipush 116, 2) := dk_16 116 (dk_at dksX5_joined_1 9 rfl rfl)
theorem dX5_joined_35 : decode cX5_joined 35 = .ok (.goto 4, 3) := dk_167 0 4 (dk_at dksX5_joined_1 11 rfl rfl)
theorem dX5_joined_38 : decode cX5_joined 38 = .ok (.iconst 0, 1) := dk_3 (dk_at dksX5_joined_1 14 rfl rfl)
theorem dX5_joined_39 : decode cX5_joined 39 = .ok (.ireturn, 1) := dk_172 (dk_at dksX5_joined_1 15 rfl rfl)
theorem dX5_joined_40 : decode cX5_joined 40 = .ok (.iload_n 0, 1) := dk_26 (dk_at dksX5_joined_1 16 rfl rfl)
theorem dX5_joined_41 : decode cX5_joined 41 = .ok (.bipush 110, 2) := dk_16 110 (dk_at dksX5_joined_1 17 rfl rfl)
theorem dX5_joined_43 : decode cX5_joined 43 = .ok (.if_icmp .ne 12, 3) := dk_160 0 12 (dk_at dksX5_joined_1 19 rfl rfl)
theorem dX5_joined_46 : decode cX5_joined 46 = .ok (.iload_n 2, 1) := dk_28 (dk_at dksX5_joined_1 22 rfl rfl)
theorem dX5_joined_47 : decode cX5_joined 47 = .ok (.bipush 110, 2) := dk_16 110 (dk_at dksX5_joined_2 0 rfl rfl)
theorem dX5_joined_49 : decode cX5_joined 49 = .ok (.if_icmp .ne 6, 3) := dk_160 0 6 (dk_at dksX5_joined_2 2 rfl rfl)
theorem dX5_joined_52 : decode cX5_joined 52 = .ok (.bipush 110, 2) := dk_16 110 (dk_at dksX5_joined_2 5 rfl rfl)
theorem dX5_joined_54 : decode cX5_joined 54 = .ok (.ireturn, 1) := dk_172 (dk_at dksX5_joined_2 7 rfl rfl)
theorem dX5_joined_55 : decode cX5_joined 55 = .ok (.iload_n 0, 1) := dk_26 (dk_at dksX5_joined_2 8 rfl rfl)
theorem dX5_joined_56 : decode cX5_joined 56 = .ok (.bipush 100, 2) := dk_16 100 (dk_at dksX5_joined_2 9 rfl rfl)
theorem dX5_joined_58 : decode cX5_joined 58 = .ok (.if_icmp .ne 12, 3) := dk_160 0 12 (dk_at dksX5_joined_2 11 rfl rfl)
theorem dX5_joined_61 : decode cX5_joined 61 = .ok (.iload_n 2, 1) := dk_28 (dk_at dksX5_joined_2 14 rfl rfl)
theorem dX5_joined_62 : decode cX5_joined 62 = .ok (.bipush 110, 2) := dk_16 110 (dk_at dksX5_joined_2 15 rfl rfl)
theorem dX5_joined_64 : decode cX5_joined 64 = .ok (.if_icmp .ne 6, 3) := dk_160 0 6 (dk_at dksX5_joined_2 17 rfl rfl)
theorem dX5_joined_67 : decode cX5_joined 67 = .ok (.bipush 100, 2) := dk_16 100 (dk_at dksX5_joined_2 20 rfl rfl)
theorem dX5_joined_69 : decode cX5_joined 69 = .ok (.ireturn, 1) := dk_172 (dk_at dksX5_joined_2 22 rfl rfl)
theorem dX5_joined_70 : decode cX5_joined 70 = .ok (.iload_n 0, 1) := dk_26 (dk_at dksX5_joined_2 23 rfl rfl)
theorem dX5_joined_71 : decode cX5_joined 71 = .ok (.bipush 100, 2) := dk_16 100 (dk_at dksX5_joined_3 0 rfl rfl)
theorem dX5_joined_73 : decode cX5_joined 73 = .ok (.if_icmp .ne 20, 3) := dk_160 0 20 (dk_at dksX5_joined_3 2 rfl rfl)
theorem dX5_joined_76 : decode cX5_joined 76 = .ok (.iload_n 2, 1) := dk_28 (dk_at dksX5_joined_3 5 rfl rfl)
theorem dX5_joined_77 : decode cX5_joined 77 = .ok (.bipush 100, 2) := dk_16 100 (dk_at dksX5_joined_3 6 rfl rfl)
theorem dX5_joined_79 : decode cX5_joined 79 = .ok (.if_icmp .ne 14, 3) := dk_160 0 14 (dk_at dksX5_joined_3 8 rfl rfl)
theorem dX5_joined_82 : decode cX5_joined 82 = .ok (.iload_n 1, 1) := dk_27 (dk_at dksX5_joined_3 11 rfl rfl)
theorem dX5_joined_83 : decode cX5_joined 83 = .ok (.bipush 45, 2) := dk_16 45 (dk_at dksX5_joined_3 12 rfl rfl)
theorem dX5_joined_85 : decode cX5_joined 85 = .ok (.if_icmp .ne 8, 3) := dk_160 0 8 (dk_at dksX5_joined_3 14 rfl rfl)
theorem dX5_joined_88 : decode cX5_joined 88 = .ok (.bipush 110, 2) := dk_16 110 (dk_at dksX5_joined_3 17 rfl rfl)
theorem dX5_joined_90 : decode cX5_joined 90 = .ok (.goto 4, 3) := dk_167 0 4 (dk_at dksX5_joined_3 19 rfl rfl)
theorem dX5_joined_93 : decode cX5_joined 93 = .ok (.iconst 0, 1) := dk_3 (dk_at dksX5_joined_3 22 rfl rfl)
theorem dX5_joined_94 : decode cX5_joined 94 = .ok (.ireturn, 1) := dk_172 (dk_at dksX5_joined_3 23 rfl rfl)
abbrev cX5_uses : ByteArray := prog_5_method_4_code
def yX5_uses : MethodName := ⟨RX5, "uses", "([Z)V"⟩
def dkwX5_uses_1 : List UInt8 := [43, 182, 0, 50, 132, 2, 1, 167, 255, 227, 177]
abbrev dktX5_uses_1 : List UInt8 := dkwX5_uses_1 ++ []
def dkwX5_uses_0 : List UInt8 := [3, 61, 28, 42, 180, 0, 14, 182, 0, 37, 162, 0, 24, 42, 180, 0, 14, 28, 182, 0, 27, 192, 0, 31]
abbrev dktX5_uses_0 : List UInt8 := dkwX5_uses_0 ++ dktX5_uses_1
theorem dksX5_uses_0 : cX5_uses.data.toList.drop 0 = dktX5_uses_0 := by decide +kernel
theorem dksX5_uses_1 : cX5_uses.data.toList.drop 24 = dktX5_uses_1 := dk_seg dksX5_uses_0 24 rfl rfl
theorem dX5_uses_0 : decode cX5_uses 0 = .ok (.iconst 0, 1) := dk_3 (dk_at dksX5_uses_0 0 rfl rfl)
theorem dX5_uses_1 : decode cX5_uses 1 = .ok (.istore_n 2, 1) := dk_61 (dk_at dksX5_uses_0 1 rfl rfl)
theorem dX5_uses_2 : decode cX5_uses 2 = .ok (.iload_n 2, 1) := dk_28 (dk_at dksX5_uses_0 2 rfl rfl)
theorem dX5_uses_3 : decode cX5_uses 3 = .ok (.aload_n 0, 1) := dk_42 (dk_at dksX5_uses_0 3 rfl rfl)
theorem dX5_uses_4 : decode cX5_uses 4 = .ok (.getfield 14, 3) := dk_180 0 14 (dk_at dksX5_uses_0 4 rfl rfl)
theorem dX5_uses_7 : decode cX5_uses 7 = .ok (.invokevirtual 37, 3) := dk_182 0 37 (dk_at dksX5_uses_0 7 rfl rfl)
theorem dX5_uses_10 : decode cX5_uses 10 = .ok (.if_icmp .ge 24, 3) := dk_162 0 24 (dk_at dksX5_uses_0 10 rfl rfl)
theorem dX5_uses_13 : decode cX5_uses 13 = .ok (.aload_n 0, 1) := dk_42 (dk_at dksX5_uses_0 13 rfl rfl)
theorem dX5_uses_14 : decode cX5_uses 14 = .ok (.getfield 14, 3) := dk_180 0 14 (dk_at dksX5_uses_0 14 rfl rfl)
theorem dX5_uses_17 : decode cX5_uses 17 = .ok (.iload_n 2, 1) := dk_28 (dk_at dksX5_uses_0 17 rfl rfl)
theorem dX5_uses_18 : decode cX5_uses 18 = .ok (.invokevirtual 27, 3) := dk_182 0 27 (dk_at dksX5_uses_0 18 rfl rfl)
theorem dX5_uses_21 : decode cX5_uses 21 = .ok (.checkcast 31, 3) := dk_192 0 31 (dk_at dksX5_uses_0 21 rfl rfl)
theorem dX5_uses_24 : decode cX5_uses 24 = .ok (.aload_n 1, 1) := dk_43 (dk_at dksX5_uses_1 0 rfl rfl)
theorem dX5_uses_25 : decode cX5_uses 25 = .ok (.invokevirtual 50, 3) := dk_182 0 50 (dk_at dksX5_uses_1 1 rfl rfl)
theorem dX5_uses_28 : decode cX5_uses 28 = .ok (.iinc 2 1, 3) := dk_132 2 1 (dk_at dksX5_uses_1 4 rfl rfl)
theorem dX5_uses_31 : decode cX5_uses 31 = .ok (.goto (-29), 3) := dk_167 255 227 (dk_at dksX5_uses_1 7 rfl rfl)
theorem dX5_uses_34 : decode cX5_uses 34 = .ok (.return_, 1) := dk_177 (dk_at dksX5_uses_1 10 rfl rfl)
theorem q100 : (Jvm.Cond.initialized "TableCatalog$Formula") ∈ lw_all := lw_g (lw_at lw_m1 20 rfl) rfl
theorem q668 : (Jvm.Cond.selects "TableCatalog$Formula" ({ cls := "java/lang/Object", name := "getClass", desc := "()Ljava/lang/Class;" } : Jvm.MethodName) ({ cls := "java/lang/Object", name := "getClass", desc := "()Ljava/lang/Class;" } : Jvm.MethodName)) ∈ lw_all := lw_g (lw_at lw_m3 108 rfl) rfl
theorem q737 : (Jvm.Cond.instantiable "TableCatalog$Formula" (3 : Nat)) ∈ lw_all := lw_g (lw_at lw_m3 177 rfl) rfl
theorem q739 : (Jvm.Cond.instanceMethod ({ cls := "TableCatalog$Formula", name := "<init>", desc := "()V" } : Jvm.MethodName)) ∈ lw_all := lw_g (lw_at lw_m3 179 rfl) rfl
theorem q740 : (Jvm.Cond.code ({ cls := "TableCatalog$Formula", name := "<init>", desc := "()V" } : Jvm.MethodName) prog_5_method_1_code (1 : Nat) (Option.none : Option Jvm.ClassFile.FieldType)) ∈ lw_all := lw_g (lw_at lw_m3 180 rfl) rfl
theorem q741 : (Jvm.Cond.methodLink "TableCatalog$Formula" (3 : Nat) ({ cls := "java/lang/Object", name := "<init>", desc := "()V" } : Jvm.MethodName)) ∈ lw_all := lw_g (lw_at lw_m3 181 rfl) rfl
theorem q742 : (Jvm.Cond.classLink "TableCatalog$Formula" (9 : Nat) "java/util/ArrayList") ∈ lw_all := lw_g (lw_at lw_m3 182 rfl) rfl
theorem q743 : (Jvm.Cond.methodLink "TableCatalog$Formula" (11 : Nat) ({ cls := "java/util/ArrayList", name := "<init>", desc := "(I)V" } : Jvm.MethodName)) ∈ lw_all := lw_g (lw_at lw_m3 183 rfl) rfl
theorem q744 : (Jvm.Cond.fieldLink "TableCatalog$Formula" (14 : Nat) "TableCatalog$Formula" "terms" "Ljava/util/ArrayList;") ∈ lw_all := lw_g (lw_at lw_m3 184 rfl) rfl
theorem q746 : (Jvm.Cond.fieldLink "TableCatalog$Formula" (20 : Nat) "TableCatalog$Formula" "signs" "[I") ∈ lw_all := lw_g (lw_at lw_m3 186 rfl) rfl
theorem q748 : (Jvm.Cond.fieldLink "TableCatalog$Formula" (24 : Nat) "TableCatalog$Formula" "places" "[I") ∈ lw_all := lw_g (lw_at lw_m3 188 rfl) rfl
theorem q750 : (Jvm.Cond.laysFinal "TableCatalog$Formula" "TableCatalog$Formula" "terms" "Ljava/util/ArrayList;") ∈ lw_all := lw_g (lw_at lw_m3 190 rfl) rfl
theorem q751 : (Jvm.Cond.soleField "TableCatalog$Formula" "terms") ∈ lw_all := lw_g (lw_at lw_m3 191 rfl) rfl
theorem q752 : (Jvm.Cond.laysFinal "TableCatalog$Formula" "TableCatalog$Formula" "signs" "[I") ∈ lw_all := lw_g (lw_at lw_m3 192 rfl) rfl
theorem q753 : (Jvm.Cond.soleField "TableCatalog$Formula" "signs") ∈ lw_all := lw_g (lw_at lw_m3 193 rfl) rfl
theorem q754 : (Jvm.Cond.laysFinal "TableCatalog$Formula" "TableCatalog$Formula" "places" "[I") ∈ lw_all := lw_g (lw_at lw_m3 194 rfl) rfl
theorem q755 : (Jvm.Cond.soleField "TableCatalog$Formula" "places") ∈ lw_all := lw_g (lw_at lw_m3 195 rfl) rfl
theorem q756 : (Jvm.Cond.superclass "TableCatalog$Formula" "java/lang/Object") ∈ lw_all := lw_g (lw_at lw_m3 196 rfl) rfl
theorem q916 : (Jvm.Cond.selects "TableCatalog$Formula" ({ cls := "java/lang/Object", name := "equals", desc := "(Ljava/lang/Object;)Z" } : Jvm.MethodName) ({ cls := "java/lang/Object", name := "equals", desc := "(Ljava/lang/Object;)Z" } : Jvm.MethodName)) ∈ lw_all := lw_g (lw_at lw_m4 116 rfl) rfl
theorem q961 : (Jvm.Cond.instanceMethod ({ cls := "TableCatalog$Formula", name := "type", desc := "(LTableCatalog$Checker;)C" } : Jvm.MethodName)) ∈ lw_all := lw_g (lw_at lw_m4 161 rfl) rfl
theorem q962 : (Jvm.Cond.selects "TableCatalog$Formula" ({ cls := "TableCatalog$Formula", name := "type", desc := "(LTableCatalog$Checker;)C" } : Jvm.MethodName) ({ cls := "TableCatalog$Formula", name := "type", desc := "(LTableCatalog$Checker;)C" } : Jvm.MethodName)) ∈ lw_all := lw_g (lw_at lw_m4 162 rfl) rfl
theorem q963 : (Jvm.Cond.code ({ cls := "TableCatalog$Formula", name := "type", desc := "(LTableCatalog$Checker;)C" } : Jvm.MethodName) prog_5_method_2_code (5 : Nat) (Option.some Jvm.ClassFile.FieldType.char)) ∈ lw_all := lw_g (lw_at lw_m4 163 rfl) rfl
theorem q964 : (Jvm.Cond.methodLink "TableCatalog$Formula" (27 : Nat) ({ cls := "java/util/ArrayList", name := "get", desc := "(I)Ljava/lang/Object;" } : Jvm.MethodName)) ∈ lw_all := lw_g (lw_at lw_m4 164 rfl) rfl
theorem q965 : (Jvm.Cond.classLink "TableCatalog$Formula" (31 : Nat) "TableCatalog$Term") ∈ lw_all := lw_g (lw_at lw_m4 165 rfl) rfl
theorem q966 : (Jvm.Cond.methodLink "TableCatalog$Formula" (33 : Nat) ({ cls := "TableCatalog$Term", name := "type", desc := "(LTableCatalog$Checker;)C" } : Jvm.MethodName)) ∈ lw_all := lw_g (lw_at lw_m4 166 rfl) rfl
theorem q991 : (Jvm.Cond.methodLink "TableCatalog$Formula" (37 : Nat) ({ cls := "java/util/ArrayList", name := "size", desc := "()I" } : Jvm.MethodName)) ∈ lw_all := lw_g (lw_at lw_m4 191 rfl) rfl
theorem q992 : (Jvm.Cond.methodLink "TableCatalog$Formula" (41 : Nat) ({ cls := "TableCatalog$Formula", name := "joined", desc := "(CIC)C" } : Jvm.MethodName)) ∈ lw_all := lw_g (lw_at lw_m4 192 rfl) rfl
theorem q993 : (Jvm.Cond.static ({ cls := "TableCatalog$Formula", name := "joined", desc := "(CIC)C" } : Jvm.MethodName)) ∈ lw_all := lw_g (lw_at lw_m4 193 rfl) rfl
theorem q994 : (Jvm.Cond.code ({ cls := "TableCatalog$Formula", name := "joined", desc := "(CIC)C" } : Jvm.MethodName) prog_5_method_3_code (3 : Nat) (Option.some Jvm.ClassFile.FieldType.char)) ∈ lw_all := lw_g (lw_at lw_m4 194 rfl) rfl
theorem q995 : (Jvm.Cond.methodLink "TableCatalog$Formula" (45 : Nat) ({ cls := "TableCatalog$Checker", name := "wrong", desc := "(I)V" } : Jvm.MethodName)) ∈ lw_all := lw_g (lw_at lw_m4 195 rfl) rfl
theorem q1055 : (Jvm.Cond.instanceMethod ({ cls := "TableCatalog$Formula", name := "uses", desc := "([Z)V" } : Jvm.MethodName)) ∈ lw_all := lw_g (lw_at lw_m5 15 rfl) rfl
theorem q1056 : (Jvm.Cond.selects "TableCatalog$Formula" ({ cls := "TableCatalog$Formula", name := "uses", desc := "([Z)V" } : Jvm.MethodName) ({ cls := "TableCatalog$Formula", name := "uses", desc := "([Z)V" } : Jvm.MethodName)) ∈ lw_all := lw_g (lw_at lw_m5 16 rfl) rfl
theorem q1057 : (Jvm.Cond.code ({ cls := "TableCatalog$Formula", name := "uses", desc := "([Z)V" } : Jvm.MethodName) prog_5_method_4_code (3 : Nat) (Option.none : Option Jvm.ClassFile.FieldType)) ∈ lw_all := lw_g (lw_at lw_m5 17 rfl) rfl
theorem q1058 : (Jvm.Cond.methodLink "TableCatalog$Formula" (50 : Nat) ({ cls := "TableCatalog$Term", name := "uses", desc := "([Z)V" } : Jvm.MethodName)) ∈ lw_all := lw_g (lw_at lw_m5 18 rfl) rfl
theorem q1657 : (Jvm.Cond.castable "TableCatalog$Formula" "java/lang/Object") ∈ lw_tbl := lw_at lw_m7 137 rfl
theorem in_X5 : ∀ w ∈ wsX50, w ∈ lw_all := lw_in wsX50 [750, 752, 754] (by decide +kernel) (by decide +kernel)
/-! TableCatalog$Term -/
set_option maxRecDepth 100000
def RX6 : String := "TableCatalog$Term"
abbrev cX6_init : ByteArray := prog_11_method_1_code
def yX6_init : MethodName := ⟨RX6, "<init>", "(I)V"⟩
def dkwX6_init_0 : List UInt8 := [42, 183, 0, 1, 42, 27, 181, 0, 7, 177]
abbrev dktX6_init_0 : List UInt8 := dkwX6_init_0 ++ []
theorem dksX6_init_0 : cX6_init.data.toList.drop 0 = dktX6_init_0 := by decide +kernel
theorem dX6_init_0 : decode cX6_init 0 = .ok (.aload_n 0, 1) := dk_42 (dk_at dksX6_init_0 0 rfl rfl)
theorem dX6_init_1 : decode cX6_init 1 = .ok (.invokespecial 1, 3) := dk_183 0 1 (dk_at dksX6_init_0 1 rfl rfl)
theorem dX6_init_4 : decode cX6_init 4 = .ok (.aload_n 0, 1) := dk_42 (dk_at dksX6_init_0 4 rfl rfl)
theorem dX6_init_5 : decode cX6_init 5 = .ok (.iload_n 1, 1) := dk_27 (dk_at dksX6_init_0 5 rfl rfl)
theorem dX6_init_6 : decode cX6_init 6 = .ok (.putfield 7, 3) := dk_181 0 7 (dk_at dksX6_init_0 6 rfl rfl)
theorem dX6_init_9 : decode cX6_init 9 = .ok (.return_, 1) := dk_177 (dk_at dksX6_init_0 9 rfl rfl)
abbrev cX6_uses : ByteArray := prog_11_method_3_code
def yX6_uses : MethodName := ⟨RX6, "uses", "([Z)V"⟩
theorem dX6_uses_0 : decode cX6_uses 0 = .ok (.return_, 1) := by decide +kernel
theorem q101 : (Jvm.Cond.initialized "TableCatalog$Term") ∈ lw_all := lw_g (lw_at lw_m1 21 rfl) rfl
theorem q774 : (Jvm.Cond.instanceMethod ({ cls := "TableCatalog$Term", name := "<init>", desc := "(I)V" } : Jvm.MethodName)) ∈ lw_all := lw_g (lw_at lw_m3 214 rfl) rfl
theorem q775 : (Jvm.Cond.code ({ cls := "TableCatalog$Term", name := "<init>", desc := "(I)V" } : Jvm.MethodName) prog_11_method_1_code (2 : Nat) (Option.none : Option Jvm.ClassFile.FieldType)) ∈ lw_all := lw_g (lw_at lw_m3 215 rfl) rfl
theorem q776 : (Jvm.Cond.methodLink "TableCatalog$Term" (1 : Nat) ({ cls := "java/lang/Object", name := "<init>", desc := "()V" } : Jvm.MethodName)) ∈ lw_all := lw_g (lw_at lw_m3 216 rfl) rfl
theorem q778 : (Jvm.Cond.fieldLink "TableCatalog$Term" (7 : Nat) "TableCatalog$Term" "place" "I") ∈ lw_all := lw_g (lw_at lw_m3 218 rfl) rfl
theorem q786 : (Jvm.Cond.soleField "TableCatalog$Term" "place") ∈ lw_all := lw_g (lw_at lw_m3 226 rfl) rfl
theorem q967 : (Jvm.Cond.declares ({ cls := "TableCatalog$Term", name := "type", desc := "(LTableCatalog$Checker;)C" } : Jvm.MethodName)) ∈ lw_tbl := lw_at lw_m4 167 rfl
theorem q968 : (Jvm.Cond.sameMethod "TableCatalog$Term" "TableCatalog$Term" "type" "(LTableCatalog$Checker;)C") ∈ lw_all := lw_g (lw_at lw_m4 168 rfl) rfl
theorem q1059 : (Jvm.Cond.instanceMethod ({ cls := "TableCatalog$Term", name := "uses", desc := "([Z)V" } : Jvm.MethodName)) ∈ lw_all := lw_g (lw_at lw_m5 19 rfl) rfl
theorem q1060 : (Jvm.Cond.sameMethod "TableCatalog$Term" "TableCatalog$Term" "uses" "([Z)V") ∈ lw_all := lw_g (lw_at lw_m5 20 rfl) rfl
theorem q1069 : (Jvm.Cond.code ({ cls := "TableCatalog$Term", name := "uses", desc := "([Z)V" } : Jvm.MethodName) prog_11_method_3_code (2 : Nat) (Option.none : Option Jvm.ClassFile.FieldType)) ∈ lw_all := lw_g (lw_at lw_m5 29 rfl) rfl
/-! TableCatalog$Given -/
set_option maxRecDepth 100000
def RX7 : String := "TableCatalog$Given"
def TX7 : u_T := fun k => match k with
  | 0 => ("TableCatalog$Term", "place", "I", true)
  | _ => ("TableCatalog$Given", "type", "C", true)
def tyX7 : Nat → FieldType := fun k => match k with
  | 0 => .int
  | _ => .char
abbrev wsX70 : List Cond := u_ws RX7 TX7 2
theorem nmX7 : ∀ a, a < 2 → ∀ b, b < 2 → a ≠ b → (TX7 a).2.1 ≠ (TX7 b).2.1 := by decide +kernel
theorem tyX7_ok : ∀ k, k < 2 → parseFieldDescriptor (TX7 k).2.2.1 = some (tyX7 k) := by decide +kernel
abbrev cX7_init : ByteArray := prog_6_method_1_code
def yX7_init : MethodName := ⟨RX7, "<init>", "(IC)V"⟩
def dkwX7_init_0 : List UInt8 := [42, 27, 183, 0, 1, 42, 28, 181, 0, 7, 177]
abbrev dktX7_init_0 : List UInt8 := dkwX7_init_0 ++ []
theorem dksX7_init_0 : cX7_init.data.toList.drop 0 = dktX7_init_0 := by decide +kernel
theorem dX7_init_0 : decode cX7_init 0 = .ok (.aload_n 0, 1) := dk_42 (dk_at dksX7_init_0 0 rfl rfl)
theorem dX7_init_1 : decode cX7_init 1 = .ok (.iload_n 1, 1) := dk_27 (dk_at dksX7_init_0 1 rfl rfl)
theorem dX7_init_2 : decode cX7_init 2 = .ok (.invokespecial 1, 3) := dk_183 0 1 (dk_at dksX7_init_0 2 rfl rfl)
theorem dX7_init_5 : decode cX7_init 5 = .ok (.aload_n 0, 1) := dk_42 (dk_at dksX7_init_0 5 rfl rfl)
theorem dX7_init_6 : decode cX7_init 6 = .ok (.iload_n 2, 1) := dk_28 (dk_at dksX7_init_0 6 rfl rfl)
theorem dX7_init_7 : decode cX7_init 7 = .ok (.putfield 7, 3) := dk_181 0 7 (dk_at dksX7_init_0 7 rfl rfl)
theorem dX7_init_10 : decode cX7_init 10 = .ok (.return_, 1) := dk_177 (dk_at dksX7_init_0 10 rfl rfl)
abbrev cX7_type : ByteArray := prog_6_method_2_code
def yX7_type : MethodName := ⟨RX7, "type", "(LTableCatalog$Checker;)C"⟩
theorem dX7_type_0 : decode cX7_type 0 = .ok (.aload_n 0, 1) := by decide +kernel
theorem dX7_type_1 : decode cX7_type 1 = .ok (.getfield 7, 3) := by decide +kernel
theorem dX7_type_4 : decode cX7_type 4 = .ok (.ireturn, 1) := by decide +kernel
theorem q102 : (Jvm.Cond.initialized "TableCatalog$Given") ∈ lw_all := lw_g (lw_at lw_m1 22 rfl) rfl
theorem q669 : (Jvm.Cond.selects "TableCatalog$Given" ({ cls := "java/lang/Object", name := "getClass", desc := "()Ljava/lang/Class;" } : Jvm.MethodName) ({ cls := "java/lang/Object", name := "getClass", desc := "()Ljava/lang/Class;" } : Jvm.MethodName)) ∈ lw_all := lw_g (lw_at lw_m3 109 rfl) rfl
theorem q769 : (Jvm.Cond.instantiable "TableCatalog$Given" (2 : Nat)) ∈ lw_all := lw_g (lw_at lw_m3 209 rfl) rfl
theorem q771 : (Jvm.Cond.instanceMethod ({ cls := "TableCatalog$Given", name := "<init>", desc := "(IC)V" } : Jvm.MethodName)) ∈ lw_all := lw_g (lw_at lw_m3 211 rfl) rfl
theorem q772 : (Jvm.Cond.code ({ cls := "TableCatalog$Given", name := "<init>", desc := "(IC)V" } : Jvm.MethodName) prog_6_method_1_code (3 : Nat) (Option.none : Option Jvm.ClassFile.FieldType)) ∈ lw_all := lw_g (lw_at lw_m3 212 rfl) rfl
theorem q773 : (Jvm.Cond.methodLink "TableCatalog$Given" (1 : Nat) ({ cls := "TableCatalog$Term", name := "<init>", desc := "(I)V" } : Jvm.MethodName)) ∈ lw_all := lw_g (lw_at lw_m3 213 rfl) rfl
theorem q777 : (Jvm.Cond.fieldLink "TableCatalog$Given" (7 : Nat) "TableCatalog$Given" "type" "C") ∈ lw_all := lw_g (lw_at lw_m3 217 rfl) rfl
theorem q783 : (Jvm.Cond.laysFinal "TableCatalog$Given" "TableCatalog$Given" "type" "C") ∈ lw_all := lw_g (lw_at lw_m3 223 rfl) rfl
theorem q784 : (Jvm.Cond.soleField "TableCatalog$Given" "type") ∈ lw_all := lw_g (lw_at lw_m3 224 rfl) rfl
theorem q785 : (Jvm.Cond.laysFinal "TableCatalog$Given" "TableCatalog$Term" "place" "I") ∈ lw_all := lw_g (lw_at lw_m3 225 rfl) rfl
theorem q787 : (Jvm.Cond.superclass "TableCatalog$Given" "TableCatalog$Term") ∈ lw_all := lw_g (lw_at lw_m3 227 rfl) rfl
theorem q917 : (Jvm.Cond.selects "TableCatalog$Given" ({ cls := "java/lang/Object", name := "equals", desc := "(Ljava/lang/Object;)Z" } : Jvm.MethodName) ({ cls := "java/lang/Object", name := "equals", desc := "(Ljava/lang/Object;)Z" } : Jvm.MethodName)) ∈ lw_all := lw_g (lw_at lw_m4 117 rfl) rfl
theorem q979 : (Jvm.Cond.selects "TableCatalog$Given" ({ cls := "TableCatalog$Term", name := "type", desc := "(LTableCatalog$Checker;)C" } : Jvm.MethodName) ({ cls := "TableCatalog$Given", name := "type", desc := "(LTableCatalog$Checker;)C" } : Jvm.MethodName)) ∈ lw_all := lw_g (lw_at lw_m4 179 rfl) rfl
theorem q980 : (Jvm.Cond.instanceMethod ({ cls := "TableCatalog$Given", name := "type", desc := "(LTableCatalog$Checker;)C" } : Jvm.MethodName)) ∈ lw_all := lw_g (lw_at lw_m4 180 rfl) rfl
theorem q981 : (Jvm.Cond.code ({ cls := "TableCatalog$Given", name := "type", desc := "(LTableCatalog$Checker;)C" } : Jvm.MethodName) prog_6_method_2_code (2 : Nat) (Option.some Jvm.ClassFile.FieldType.char)) ∈ lw_all := lw_g (lw_at lw_m4 181 rfl) rfl
theorem q1065 : (Jvm.Cond.selects "TableCatalog$Given" ({ cls := "TableCatalog$Term", name := "uses", desc := "([Z)V" } : Jvm.MethodName) ({ cls := "TableCatalog$Term", name := "uses", desc := "([Z)V" } : Jvm.MethodName)) ∈ lw_all := lw_g (lw_at lw_m5 25 rfl) rfl
theorem q1647 : (Jvm.Cond.castable "TableCatalog$Given" "TableCatalog$Term") ∈ lw_tbl := lw_at lw_m7 127 rfl
theorem q1658 : (Jvm.Cond.castable "TableCatalog$Given" "java/lang/Object") ∈ lw_tbl := lw_at lw_m7 138 rfl
theorem in_X7 : ∀ w ∈ wsX70, w ∈ lw_all := lw_in wsX70 [785, 783] (by decide +kernel) (by decide +kernel)
/-! TableCatalog$Call -/
set_option maxRecDepth 100000
def RX8 : String := "TableCatalog$Call"
def TX8 : u_T := fun k => match k with
  | 0 => ("TableCatalog$Term", "place", "I", true)
  | 1 => ("TableCatalog$Call", "asks", "C", true)
  | 2 => ("TableCatalog$Call", "makes", "C", true)
  | _ => ("TableCatalog$Call", "inner", "LTableCatalog$Formula;", true)
def tyX8 : Nat → FieldType := fun k => match k with
  | 0 => .int
  | 1 => .char
  | 2 => .char
  | _ => .object "TableCatalog$Formula"
abbrev wsX80 : List Cond := u_ws RX8 TX8 4
theorem nmX8 : ∀ a, a < 4 → ∀ b, b < 4 → a ≠ b → (TX8 a).2.1 ≠ (TX8 b).2.1 := by decide +kernel
theorem tyX8_ok : ∀ k, k < 4 → parseFieldDescriptor (TX8 k).2.2.1 = some (tyX8 k) := by decide +kernel
abbrev cX8_init : ByteArray := prog_2_method_1_code
def yX8_init : MethodName := ⟨RX8, "<init>", "(ICCLTableCatalog$Formula;)V"⟩
def dkwX8_init_0 : List UInt8 := [42, 27, 183, 0, 3, 42, 28, 181, 0, 9, 42, 29, 181, 0, 15, 42, 25, 4, 181, 0, 18, 177]
abbrev dktX8_init_0 : List UInt8 := dkwX8_init_0 ++ []
theorem dksX8_init_0 : cX8_init.data.toList.drop 0 = dktX8_init_0 := by decide +kernel
theorem dX8_init_0 : decode cX8_init 0 = .ok (.aload_n 0, 1) := dk_42 (dk_at dksX8_init_0 0 rfl rfl)
theorem dX8_init_1 : decode cX8_init 1 = .ok (.iload_n 1, 1) := dk_27 (dk_at dksX8_init_0 1 rfl rfl)
theorem dX8_init_2 : decode cX8_init 2 = .ok (.invokespecial 3, 3) := dk_183 0 3 (dk_at dksX8_init_0 2 rfl rfl)
theorem dX8_init_5 : decode cX8_init 5 = .ok (.aload_n 0, 1) := dk_42 (dk_at dksX8_init_0 5 rfl rfl)
theorem dX8_init_6 : decode cX8_init 6 = .ok (.iload_n 2, 1) := dk_28 (dk_at dksX8_init_0 6 rfl rfl)
theorem dX8_init_7 : decode cX8_init 7 = .ok (.putfield 9, 3) := dk_181 0 9 (dk_at dksX8_init_0 7 rfl rfl)
theorem dX8_init_10 : decode cX8_init 10 = .ok (.aload_n 0, 1) := dk_42 (dk_at dksX8_init_0 10 rfl rfl)
theorem dX8_init_11 : decode cX8_init 11 = .ok (.iload_n 3, 1) := dk_29 (dk_at dksX8_init_0 11 rfl rfl)
theorem dX8_init_12 : decode cX8_init 12 = .ok (.putfield 15, 3) := dk_181 0 15 (dk_at dksX8_init_0 12 rfl rfl)
theorem dX8_init_15 : decode cX8_init 15 = .ok (.aload_n 0, 1) := dk_42 (dk_at dksX8_init_0 15 rfl rfl)
theorem dX8_init_16 : decode cX8_init 16 = .ok (.aload 4, 2) := dk_25 4 (dk_at dksX8_init_0 16 rfl rfl)
theorem dX8_init_18 : decode cX8_init 18 = .ok (.putfield 18, 3) := dk_181 0 18 (dk_at dksX8_init_0 18 rfl rfl)
theorem dX8_init_21 : decode cX8_init 21 = .ok (.return_, 1) := dk_177 (dk_at dksX8_init_0 21 rfl rfl)
abbrev cX8_type : ByteArray := prog_2_method_2_code
def yX8_type : MethodName := ⟨RX8, "type", "(LTableCatalog$Checker;)C"⟩
def dkwX8_type_1 : List UInt8 := [42, 180, 0, 28, 182, 0, 32, 42, 180, 0, 15, 172]
abbrev dktX8_type_1 : List UInt8 := dkwX8_type_1 ++ []
def dkwX8_type_0 : List UInt8 := [42, 180, 0, 18, 43, 182, 0, 22, 61, 28, 42, 180, 0, 9, 159, 0, 17, 28, 16, 63, 159, 0, 11, 43]
abbrev dktX8_type_0 : List UInt8 := dkwX8_type_0 ++ dktX8_type_1
theorem dksX8_type_0 : cX8_type.data.toList.drop 0 = dktX8_type_0 := by decide +kernel
theorem dksX8_type_1 : cX8_type.data.toList.drop 24 = dktX8_type_1 := dk_seg dksX8_type_0 24 rfl rfl
theorem dX8_type_0 : decode cX8_type 0 = .ok (.aload_n 0, 1) := dk_42 (dk_at dksX8_type_0 0 rfl rfl)
theorem dX8_type_1 : decode cX8_type 1 = .ok (.getfield 18, 3) := dk_180 0 18 (dk_at dksX8_type_0 1 rfl rfl)
theorem dX8_type_4 : decode cX8_type 4 = .ok (.aload_n 1, 1) := dk_43 (dk_at dksX8_type_0 4 rfl rfl)
theorem dX8_type_5 : decode cX8_type 5 = .ok (.invokevirtual 22, 3) := dk_182 0 22 (dk_at dksX8_type_0 5 rfl rfl)
theorem dX8_type_8 : decode cX8_type 8 = .ok (.istore_n 2, 1) := dk_61 (dk_at dksX8_type_0 8 rfl rfl)
theorem dX8_type_9 : decode cX8_type 9 = .ok (.iload_n 2, 1) := dk_28 (dk_at dksX8_type_0 9 rfl rfl)
theorem dX8_type_10 : decode cX8_type 10 = .ok (.aload_n 0, 1) := dk_42 (dk_at dksX8_type_0 10 rfl rfl)
theorem dX8_type_11 : decode cX8_type 11 = .ok (.getfield 9, 3) := dk_180 0 9 (dk_at dksX8_type_0 11 rfl rfl)
theorem dX8_type_14 : decode cX8_type 14 = .ok (.if_icmp .eq 17, 3) := dk_159 0 17 (dk_at dksX8_type_0 14 rfl rfl)
theorem dX8_type_17 : decode cX8_type 17 = .ok (.iload_n 2, 1) := dk_28 (dk_at dksX8_type_0 17 rfl rfl)
theorem dX8_type_18 : decode cX8_type 18 = .ok (.bipush 63, 2) := dk_16 63 (dk_at dksX8_type_0 18 rfl rfl)
theorem dX8_type_20 : decode cX8_type 20 = .ok (.if_icmp .eq 11, 3) := dk_159 0 11 (dk_at dksX8_type_0 20 rfl rfl)
theorem dX8_type_23 : decode cX8_type 23 = .ok (.aload_n 1, 1) := dk_43 (dk_at dksX8_type_0 23 rfl rfl)
theorem dX8_type_24 : decode cX8_type 24 = .ok (.aload_n 0, 1) := dk_42 (dk_at dksX8_type_1 0 rfl rfl)
theorem dX8_type_25 : decode cX8_type 25 = .ok (.getfield 28, 3) := dk_180 0 28 (dk_at dksX8_type_1 1 rfl rfl)
theorem dX8_type_28 : decode cX8_type 28 = .ok (.invokevirtual 32, 3) := dk_182 0 32 (dk_at dksX8_type_1 4 rfl rfl)
theorem dX8_type_31 : decode cX8_type 31 = .ok (.aload_n 0, 1) := dk_42 (dk_at dksX8_type_1 7 rfl rfl)
theorem dX8_type_32 : decode cX8_type 32 = .ok (.getfield 15, 3) := dk_180 0 15 (dk_at dksX8_type_1 8 rfl rfl)
theorem dX8_type_35 : decode cX8_type 35 = .ok (.ireturn, 1) := dk_172 (dk_at dksX8_type_1 11 rfl rfl)
abbrev cX8_uses : ByteArray := prog_2_method_3_code
def yX8_uses : MethodName := ⟨RX8, "uses", "([Z)V"⟩
def dkwX8_uses_0 : List UInt8 := [42, 180, 0, 18, 43, 182, 0, 37, 177]
abbrev dktX8_uses_0 : List UInt8 := dkwX8_uses_0 ++ []
theorem dksX8_uses_0 : cX8_uses.data.toList.drop 0 = dktX8_uses_0 := by decide +kernel
theorem dX8_uses_0 : decode cX8_uses 0 = .ok (.aload_n 0, 1) := dk_42 (dk_at dksX8_uses_0 0 rfl rfl)
theorem dX8_uses_1 : decode cX8_uses 1 = .ok (.getfield 18, 3) := dk_180 0 18 (dk_at dksX8_uses_0 1 rfl rfl)
theorem dX8_uses_4 : decode cX8_uses 4 = .ok (.aload_n 1, 1) := dk_43 (dk_at dksX8_uses_0 4 rfl rfl)
theorem dX8_uses_5 : decode cX8_uses 5 = .ok (.invokevirtual 37, 3) := dk_182 0 37 (dk_at dksX8_uses_0 5 rfl rfl)
theorem dX8_uses_8 : decode cX8_uses 8 = .ok (.return_, 1) := dk_177 (dk_at dksX8_uses_0 8 rfl rfl)
theorem q103 : (Jvm.Cond.initialized "TableCatalog$Call") ∈ lw_all := lw_g (lw_at lw_m1 23 rfl) rfl
theorem q666 : (Jvm.Cond.selects "TableCatalog$Call" ({ cls := "java/lang/Object", name := "getClass", desc := "()Ljava/lang/Class;" } : Jvm.MethodName) ({ cls := "java/lang/Object", name := "getClass", desc := "()Ljava/lang/Class;" } : Jvm.MethodName)) ∈ lw_all := lw_g (lw_at lw_m3 106 rfl) rfl
theorem q779 : (Jvm.Cond.fieldLink "TableCatalog$Call" (28 : Nat) "TableCatalog$Call" "place" "I") ∈ lw_all := lw_g (lw_at lw_m3 219 rfl) rfl
theorem q780 : (Jvm.Cond.sameField "TableCatalog$Call" "TableCatalog$Term" "place" "I") ∈ lw_all := lw_g (lw_at lw_m3 220 rfl) rfl
theorem q799 : (Jvm.Cond.instantiable "TableCatalog$Call" (4 : Nat)) ∈ lw_all := lw_g (lw_at lw_m3 239 rfl) rfl
theorem q801 : (Jvm.Cond.instanceMethod ({ cls := "TableCatalog$Call", name := "<init>", desc := "(ICCLTableCatalog$Formula;)V" } : Jvm.MethodName)) ∈ lw_all := lw_g (lw_at lw_m4 1 rfl) rfl
theorem q802 : (Jvm.Cond.code ({ cls := "TableCatalog$Call", name := "<init>", desc := "(ICCLTableCatalog$Formula;)V" } : Jvm.MethodName) prog_2_method_1_code (5 : Nat) (Option.none : Option Jvm.ClassFile.FieldType)) ∈ lw_all := lw_g (lw_at lw_m4 2 rfl) rfl
theorem q803 : (Jvm.Cond.methodLink "TableCatalog$Call" (3 : Nat) ({ cls := "TableCatalog$Term", name := "<init>", desc := "(I)V" } : Jvm.MethodName)) ∈ lw_all := lw_g (lw_at lw_m4 3 rfl) rfl
theorem q804 : (Jvm.Cond.fieldLink "TableCatalog$Call" (9 : Nat) "TableCatalog$Call" "asks" "C") ∈ lw_all := lw_g (lw_at lw_m4 4 rfl) rfl
theorem q805 : (Jvm.Cond.fieldLink "TableCatalog$Call" (15 : Nat) "TableCatalog$Call" "makes" "C") ∈ lw_all := lw_g (lw_at lw_m4 5 rfl) rfl
theorem q806 : (Jvm.Cond.fieldLink "TableCatalog$Call" (18 : Nat) "TableCatalog$Call" "inner" "LTableCatalog$Formula;") ∈ lw_all := lw_g (lw_at lw_m4 6 rfl) rfl
theorem q807 : (Jvm.Cond.laysFinal "TableCatalog$Call" "TableCatalog$Call" "asks" "C") ∈ lw_all := lw_g (lw_at lw_m4 7 rfl) rfl
theorem q808 : (Jvm.Cond.soleField "TableCatalog$Call" "asks") ∈ lw_all := lw_g (lw_at lw_m4 8 rfl) rfl
theorem q809 : (Jvm.Cond.laysFinal "TableCatalog$Call" "TableCatalog$Call" "makes" "C") ∈ lw_all := lw_g (lw_at lw_m4 9 rfl) rfl
theorem q810 : (Jvm.Cond.soleField "TableCatalog$Call" "makes") ∈ lw_all := lw_g (lw_at lw_m4 10 rfl) rfl
theorem q811 : (Jvm.Cond.laysFinal "TableCatalog$Call" "TableCatalog$Call" "inner" "LTableCatalog$Formula;") ∈ lw_all := lw_g (lw_at lw_m4 11 rfl) rfl
theorem q812 : (Jvm.Cond.soleField "TableCatalog$Call" "inner") ∈ lw_all := lw_g (lw_at lw_m4 12 rfl) rfl
theorem q813 : (Jvm.Cond.laysFinal "TableCatalog$Call" "TableCatalog$Term" "place" "I") ∈ lw_all := lw_g (lw_at lw_m4 13 rfl) rfl
theorem q814 : (Jvm.Cond.superclass "TableCatalog$Call" "TableCatalog$Term") ∈ lw_all := lw_g (lw_at lw_m4 14 rfl) rfl
theorem q914 : (Jvm.Cond.selects "TableCatalog$Call" ({ cls := "java/lang/Object", name := "equals", desc := "(Ljava/lang/Object;)Z" } : Jvm.MethodName) ({ cls := "java/lang/Object", name := "equals", desc := "(Ljava/lang/Object;)Z" } : Jvm.MethodName)) ∈ lw_all := lw_g (lw_at lw_m4 114 rfl) rfl
theorem q969 : (Jvm.Cond.selects "TableCatalog$Call" ({ cls := "TableCatalog$Term", name := "type", desc := "(LTableCatalog$Checker;)C" } : Jvm.MethodName) ({ cls := "TableCatalog$Call", name := "type", desc := "(LTableCatalog$Checker;)C" } : Jvm.MethodName)) ∈ lw_all := lw_g (lw_at lw_m4 169 rfl) rfl
theorem q970 : (Jvm.Cond.instanceMethod ({ cls := "TableCatalog$Call", name := "type", desc := "(LTableCatalog$Checker;)C" } : Jvm.MethodName)) ∈ lw_all := lw_g (lw_at lw_m4 170 rfl) rfl
theorem q971 : (Jvm.Cond.code ({ cls := "TableCatalog$Call", name := "type", desc := "(LTableCatalog$Checker;)C" } : Jvm.MethodName) prog_2_method_2_code (3 : Nat) (Option.some Jvm.ClassFile.FieldType.char)) ∈ lw_all := lw_g (lw_at lw_m4 171 rfl) rfl
theorem q972 : (Jvm.Cond.methodLink "TableCatalog$Call" (22 : Nat) ({ cls := "TableCatalog$Formula", name := "type", desc := "(LTableCatalog$Checker;)C" } : Jvm.MethodName)) ∈ lw_all := lw_g (lw_at lw_m4 172 rfl) rfl
theorem q973 : (Jvm.Cond.methodLink "TableCatalog$Call" (32 : Nat) ({ cls := "TableCatalog$Checker", name := "wrong", desc := "(I)V" } : Jvm.MethodName)) ∈ lw_all := lw_g (lw_at lw_m4 173 rfl) rfl
theorem q1061 : (Jvm.Cond.selects "TableCatalog$Call" ({ cls := "TableCatalog$Term", name := "uses", desc := "([Z)V" } : Jvm.MethodName) ({ cls := "TableCatalog$Call", name := "uses", desc := "([Z)V" } : Jvm.MethodName)) ∈ lw_all := lw_g (lw_at lw_m5 21 rfl) rfl
theorem q1062 : (Jvm.Cond.instanceMethod ({ cls := "TableCatalog$Call", name := "uses", desc := "([Z)V" } : Jvm.MethodName)) ∈ lw_all := lw_g (lw_at lw_m5 22 rfl) rfl
theorem q1063 : (Jvm.Cond.code ({ cls := "TableCatalog$Call", name := "uses", desc := "([Z)V" } : Jvm.MethodName) prog_2_method_3_code (2 : Nat) (Option.none : Option Jvm.ClassFile.FieldType)) ∈ lw_all := lw_g (lw_at lw_m5 23 rfl) rfl
theorem q1064 : (Jvm.Cond.methodLink "TableCatalog$Call" (37 : Nat) ({ cls := "TableCatalog$Formula", name := "uses", desc := "([Z)V" } : Jvm.MethodName)) ∈ lw_all := lw_g (lw_at lw_m5 24 rfl) rfl
theorem q1646 : (Jvm.Cond.castable "TableCatalog$Call" "TableCatalog$Term") ∈ lw_tbl := lw_at lw_m7 126 rfl
theorem q1659 : (Jvm.Cond.castable "TableCatalog$Call" "java/lang/Object") ∈ lw_tbl := lw_at lw_m7 139 rfl
theorem in_X8 : ∀ w ∈ wsX80, w ∈ lw_all := lw_in wsX80 [813, 807, 809, 811] (by decide +kernel) (by decide +kernel)
/-! TableCatalog$Part -/
set_option maxRecDepth 100000
def RX9 : String := "TableCatalog$Part"
def TX9 : u_T := fun k => match k with
  | 0 => ("TableCatalog$Term", "place", "I", true)
  | 1 => ("TableCatalog$Part", "table", "Ljava/lang/String;", true)
  | 2 => ("TableCatalog$Part", "column", "Ljava/lang/String;", true)
  | 3 => ("TableCatalog$Part", "columnPlace", "I", true)
  | _ => ("TableCatalog$Part", "code", "I", false)
def tyX9 : Nat → FieldType := fun k => match k with
  | 0 => .int
  | 1 => .object "java/lang/String"
  | 2 => .object "java/lang/String"
  | 3 => .int
  | _ => .int
abbrev wsX90 : List Cond := u_ws RX9 TX9 5
theorem nmX9 : ∀ a, a < 5 → ∀ b, b < 5 → a ≠ b → (TX9 a).2.1 ≠ (TX9 b).2.1 := by decide +kernel
theorem tyX9_ok : ∀ k, k < 5 → parseFieldDescriptor (TX9 k).2.2.1 = some (tyX9 k) := by decide +kernel
abbrev cX9_init : ByteArray := prog_8_method_1_code
def yX9_init : MethodName := ⟨RX9, "<init>", "(ILjava/lang/String;ILjava/lang/String;)V"⟩
def dkwX9_init_1 : List UInt8 := [181, 0, 22, 177]
abbrev dktX9_init_1 : List UInt8 := dkwX9_init_1 ++ []
def dkwX9_init_0 : List UInt8 := [42, 27, 183, 0, 3, 42, 2, 181, 0, 9, 42, 44, 181, 0, 15, 42, 25, 4, 181, 0, 19, 42, 29]
abbrev dktX9_init_0 : List UInt8 := dkwX9_init_0 ++ dktX9_init_1
theorem dksX9_init_0 : cX9_init.data.toList.drop 0 = dktX9_init_0 := by decide +kernel
theorem dksX9_init_1 : cX9_init.data.toList.drop 23 = dktX9_init_1 := dk_seg dksX9_init_0 23 rfl rfl
theorem dX9_init_0 : decode cX9_init 0 = .ok (.aload_n 0, 1) := dk_42 (dk_at dksX9_init_0 0 rfl rfl)
theorem dX9_init_1 : decode cX9_init 1 = .ok (.iload_n 1, 1) := dk_27 (dk_at dksX9_init_0 1 rfl rfl)
theorem dX9_init_2 : decode cX9_init 2 = .ok (.invokespecial 3, 3) := dk_183 0 3 (dk_at dksX9_init_0 2 rfl rfl)
theorem dX9_init_5 : decode cX9_init 5 = .ok (.aload_n 0, 1) := dk_42 (dk_at dksX9_init_0 5 rfl rfl)
theorem dX9_init_6 : decode cX9_init 6 = .ok (.iconst (-1), 1) := dk_2 (dk_at dksX9_init_0 6 rfl rfl)
theorem dX9_init_7 : decode cX9_init 7 = .ok (.putfield 9, 3) := dk_181 0 9 (dk_at dksX9_init_0 7 rfl rfl)
theorem dX9_init_10 : decode cX9_init 10 = .ok (.aload_n 0, 1) := dk_42 (dk_at dksX9_init_0 10 rfl rfl)
theorem dX9_init_11 : decode cX9_init 11 = .ok (.aload_n 2, 1) := dk_44 (dk_at dksX9_init_0 11 rfl rfl)
theorem dX9_init_12 : decode cX9_init 12 = .ok (.putfield 15, 3) := dk_181 0 15 (dk_at dksX9_init_0 12 rfl rfl)
theorem dX9_init_15 : decode cX9_init 15 = .ok (.aload_n 0, 1) := dk_42 (dk_at dksX9_init_0 15 rfl rfl)
theorem dX9_init_16 : decode cX9_init 16 = .ok (.aload 4, 2) := dk_25 4 (dk_at dksX9_init_0 16 rfl rfl)
theorem dX9_init_18 : decode cX9_init 18 = .ok (.putfield 19, 3) := dk_181 0 19 (dk_at dksX9_init_0 18 rfl rfl)
theorem dX9_init_21 : decode cX9_init 21 = .ok (.aload_n 0, 1) := dk_42 (dk_at dksX9_init_0 21 rfl rfl)
theorem dX9_init_22 : decode cX9_init 22 = .ok (.iload_n 3, 1) := dk_29 (dk_at dksX9_init_0 22 rfl rfl)
theorem dX9_init_23 : decode cX9_init 23 = .ok (.putfield 22, 3) := dk_181 0 22 (dk_at dksX9_init_1 0 rfl rfl)
theorem dX9_init_26 : decode cX9_init 26 = .ok (.return_, 1) := dk_177 (dk_at dksX9_init_1 3 rfl rfl)
abbrev cX9_type : ByteArray := prog_8_method_2_code
def yX9_type : MethodName := ⟨RX9, "type", "(LTableCatalog$Checker;)C"⟩
def dkwX9_type_0 : List UInt8 := [42, 180, 0, 9, 2, 160, 0, 8, 16, 63, 167, 0, 11, 43, 42, 180, 0, 9, 182, 0, 25, 172]
abbrev dktX9_type_0 : List UInt8 := dkwX9_type_0 ++ []
theorem dksX9_type_0 : cX9_type.data.toList.drop 0 = dktX9_type_0 := by decide +kernel
theorem dX9_type_0 : decode cX9_type 0 = .ok (.aload_n 0, 1) := dk_42 (dk_at dksX9_type_0 0 rfl rfl)
theorem dX9_type_1 : decode cX9_type 1 = .ok (.getfield 9, 3) := dk_180 0 9 (dk_at dksX9_type_0 1 rfl rfl)
theorem dX9_type_4 : decode cX9_type 4 = .ok (.iconst (-1), 1) := dk_2 (dk_at dksX9_type_0 4 rfl rfl)
theorem dX9_type_5 : decode cX9_type 5 = .ok (.if_icmp .ne 8, 3) := dk_160 0 8 (dk_at dksX9_type_0 5 rfl rfl)
theorem dX9_type_8 : decode cX9_type 8 = .ok (.bipush 63, 2) := dk_16 63 (dk_at dksX9_type_0 8 rfl rfl)
theorem dX9_type_10 : decode cX9_type 10 = .ok (.goto 11, 3) := dk_167 0 11 (dk_at dksX9_type_0 10 rfl rfl)
theorem dX9_type_13 : decode cX9_type 13 = .ok (.aload_n 1, 1) := dk_43 (dk_at dksX9_type_0 13 rfl rfl)
theorem dX9_type_14 : decode cX9_type 14 = .ok (.aload_n 0, 1) := dk_42 (dk_at dksX9_type_0 14 rfl rfl)
theorem dX9_type_15 : decode cX9_type 15 = .ok (.getfield 9, 3) := dk_180 0 9 (dk_at dksX9_type_0 15 rfl rfl)
theorem dX9_type_18 : decode cX9_type 18 = .ok (.invokevirtual 25, 3) := dk_182 0 25 (dk_at dksX9_type_0 18 rfl rfl)
theorem dX9_type_21 : decode cX9_type 21 = .ok (.ireturn, 1) := dk_172 (dk_at dksX9_type_0 21 rfl rfl)
abbrev cX9_uses : ByteArray := prog_8_method_3_code
def yX9_uses : MethodName := ⟨RX9, "uses", "([Z)V"⟩
def dkwX9_uses_0 : List UInt8 := [43, 42, 180, 0, 9, 4, 84, 177]
abbrev dktX9_uses_0 : List UInt8 := dkwX9_uses_0 ++ []
theorem dksX9_uses_0 : cX9_uses.data.toList.drop 0 = dktX9_uses_0 := by decide +kernel
theorem dX9_uses_0 : decode cX9_uses 0 = .ok (.aload_n 1, 1) := dk_43 (dk_at dksX9_uses_0 0 rfl rfl)
theorem dX9_uses_1 : decode cX9_uses 1 = .ok (.aload_n 0, 1) := dk_42 (dk_at dksX9_uses_0 1 rfl rfl)
theorem dX9_uses_2 : decode cX9_uses 2 = .ok (.getfield 9, 3) := dk_180 0 9 (dk_at dksX9_uses_0 2 rfl rfl)
theorem dX9_uses_5 : decode cX9_uses 5 = .ok (.iconst 1, 1) := dk_4 (dk_at dksX9_uses_0 5 rfl rfl)
theorem dX9_uses_6 : decode cX9_uses 6 = .ok (.bastore, 1) := dk_84 (dk_at dksX9_uses_0 6 rfl rfl)
theorem dX9_uses_7 : decode cX9_uses 7 = .ok (.return_, 1) := dk_177 (dk_at dksX9_uses_0 7 rfl rfl)
theorem q104 : (Jvm.Cond.initialized "TableCatalog$Part") ∈ lw_all := lw_g (lw_at lw_m1 24 rfl) rfl
theorem q671 : (Jvm.Cond.selects "TableCatalog$Part" ({ cls := "java/lang/Object", name := "getClass", desc := "()Ljava/lang/Class;" } : Jvm.MethodName) ({ cls := "java/lang/Object", name := "getClass", desc := "()Ljava/lang/Class;" } : Jvm.MethodName)) ∈ lw_all := lw_g (lw_at lw_m3 111 rfl) rfl
theorem q782 : (Jvm.Cond.sameField "TableCatalog$Part" "TableCatalog$Term" "place" "I") ∈ lw_all := lw_g (lw_at lw_m3 222 rfl) rfl
theorem q817 : (Jvm.Cond.instantiable "TableCatalog$Part" (5 : Nat)) ∈ lw_all := lw_g (lw_at lw_m4 17 rfl) rfl
theorem q819 : (Jvm.Cond.instanceMethod ({ cls := "TableCatalog$Part", name := "<init>", desc := "(ILjava/lang/String;ILjava/lang/String;)V" } : Jvm.MethodName)) ∈ lw_all := lw_g (lw_at lw_m4 19 rfl) rfl
theorem q820 : (Jvm.Cond.code ({ cls := "TableCatalog$Part", name := "<init>", desc := "(ILjava/lang/String;ILjava/lang/String;)V" } : Jvm.MethodName) prog_8_method_1_code (5 : Nat) (Option.none : Option Jvm.ClassFile.FieldType)) ∈ lw_all := lw_g (lw_at lw_m4 20 rfl) rfl
theorem q821 : (Jvm.Cond.methodLink "TableCatalog$Part" (3 : Nat) ({ cls := "TableCatalog$Term", name := "<init>", desc := "(I)V" } : Jvm.MethodName)) ∈ lw_all := lw_g (lw_at lw_m4 21 rfl) rfl
theorem q822 : (Jvm.Cond.fieldLink "TableCatalog$Part" (15 : Nat) "TableCatalog$Part" "table" "Ljava/lang/String;") ∈ lw_all := lw_g (lw_at lw_m4 22 rfl) rfl
theorem q824 : (Jvm.Cond.fieldLink "TableCatalog$Part" (19 : Nat) "TableCatalog$Part" "column" "Ljava/lang/String;") ∈ lw_all := lw_g (lw_at lw_m4 24 rfl) rfl
theorem q826 : (Jvm.Cond.fieldLink "TableCatalog$Part" (22 : Nat) "TableCatalog$Part" "columnPlace" "I") ∈ lw_all := lw_g (lw_at lw_m4 26 rfl) rfl
theorem q828 : (Jvm.Cond.fieldLink "TableCatalog$Part" (9 : Nat) "TableCatalog$Part" "code" "I") ∈ lw_all := lw_g (lw_at lw_m4 28 rfl) rfl
theorem q830 : (Jvm.Cond.laysFinal "TableCatalog$Part" "TableCatalog$Part" "table" "Ljava/lang/String;") ∈ lw_all := lw_g (lw_at lw_m4 30 rfl) rfl
theorem q831 : (Jvm.Cond.soleField "TableCatalog$Part" "table") ∈ lw_all := lw_g (lw_at lw_m4 31 rfl) rfl
theorem q832 : (Jvm.Cond.laysFinal "TableCatalog$Part" "TableCatalog$Part" "column" "Ljava/lang/String;") ∈ lw_all := lw_g (lw_at lw_m4 32 rfl) rfl
theorem q833 : (Jvm.Cond.soleField "TableCatalog$Part" "column") ∈ lw_all := lw_g (lw_at lw_m4 33 rfl) rfl
theorem q834 : (Jvm.Cond.laysFinal "TableCatalog$Part" "TableCatalog$Part" "columnPlace" "I") ∈ lw_all := lw_g (lw_at lw_m4 34 rfl) rfl
theorem q835 : (Jvm.Cond.soleField "TableCatalog$Part" "columnPlace") ∈ lw_all := lw_g (lw_at lw_m4 35 rfl) rfl
theorem q836 : (Jvm.Cond.lays "TableCatalog$Part" "TableCatalog$Part" "code" "I") ∈ lw_all := lw_g (lw_at lw_m4 36 rfl) rfl
theorem q837 : (Jvm.Cond.soleField "TableCatalog$Part" "code") ∈ lw_all := lw_g (lw_at lw_m4 37 rfl) rfl
theorem q838 : (Jvm.Cond.laysFinal "TableCatalog$Part" "TableCatalog$Term" "place" "I") ∈ lw_all := lw_g (lw_at lw_m4 38 rfl) rfl
theorem q839 : (Jvm.Cond.superclass "TableCatalog$Part" "TableCatalog$Term") ∈ lw_all := lw_g (lw_at lw_m4 39 rfl) rfl
theorem q919 : (Jvm.Cond.selects "TableCatalog$Part" ({ cls := "java/lang/Object", name := "equals", desc := "(Ljava/lang/Object;)Z" } : Jvm.MethodName) ({ cls := "java/lang/Object", name := "equals", desc := "(Ljava/lang/Object;)Z" } : Jvm.MethodName)) ∈ lw_all := lw_g (lw_at lw_m4 119 rfl) rfl
theorem q982 : (Jvm.Cond.selects "TableCatalog$Part" ({ cls := "TableCatalog$Term", name := "type", desc := "(LTableCatalog$Checker;)C" } : Jvm.MethodName) ({ cls := "TableCatalog$Part", name := "type", desc := "(LTableCatalog$Checker;)C" } : Jvm.MethodName)) ∈ lw_all := lw_g (lw_at lw_m4 182 rfl) rfl
theorem q983 : (Jvm.Cond.instanceMethod ({ cls := "TableCatalog$Part", name := "type", desc := "(LTableCatalog$Checker;)C" } : Jvm.MethodName)) ∈ lw_all := lw_g (lw_at lw_m4 183 rfl) rfl
theorem q984 : (Jvm.Cond.code ({ cls := "TableCatalog$Part", name := "type", desc := "(LTableCatalog$Checker;)C" } : Jvm.MethodName) prog_8_method_2_code (2 : Nat) (Option.some Jvm.ClassFile.FieldType.char)) ∈ lw_all := lw_g (lw_at lw_m4 184 rfl) rfl
theorem q985 : (Jvm.Cond.methodLink "TableCatalog$Part" (25 : Nat) ({ cls := "TableCatalog$Checker", name := "typeOf", desc := "(I)C" } : Jvm.MethodName)) ∈ lw_all := lw_g (lw_at lw_m4 185 rfl) rfl
theorem q1066 : (Jvm.Cond.selects "TableCatalog$Part" ({ cls := "TableCatalog$Term", name := "uses", desc := "([Z)V" } : Jvm.MethodName) ({ cls := "TableCatalog$Part", name := "uses", desc := "([Z)V" } : Jvm.MethodName)) ∈ lw_all := lw_g (lw_at lw_m5 26 rfl) rfl
theorem q1067 : (Jvm.Cond.instanceMethod ({ cls := "TableCatalog$Part", name := "uses", desc := "([Z)V" } : Jvm.MethodName)) ∈ lw_all := lw_g (lw_at lw_m5 27 rfl) rfl
theorem q1068 : (Jvm.Cond.code ({ cls := "TableCatalog$Part", name := "uses", desc := "([Z)V" } : Jvm.MethodName) prog_8_method_3_code (2 : Nat) (Option.none : Option Jvm.ClassFile.FieldType)) ∈ lw_all := lw_g (lw_at lw_m5 28 rfl) rfl
theorem q1648 : (Jvm.Cond.castable "TableCatalog$Part" "TableCatalog$Term") ∈ lw_tbl := lw_at lw_m7 128 rfl
theorem q1660 : (Jvm.Cond.castable "TableCatalog$Part" "java/lang/Object") ∈ lw_tbl := lw_at lw_m7 140 rfl
theorem in_X9 : ∀ w ∈ wsX90, w ∈ lw_all := lw_in wsX90 [838, 830, 832, 834, 836] (by decide +kernel) (by decide +kernel)
/-! TableCatalog$Wrongs -/
set_option maxRecDepth 100000
def RX10 : String := "TableCatalog$Wrongs"
def TX10 : u_T := fun k => match k with
  | 0 => ("TableCatalog$Wrongs", "kind", "I", false)
  | 1 => ("TableCatalog$Wrongs", "place", "I", false)
  | _ => ("TableCatalog$Wrongs", "this$0", "LTableCatalog;", true)
def tyX10 : Nat → FieldType := fun k => match k with
  | 0 => .int
  | 1 => .int
  | _ => .object "TableCatalog"
abbrev wsX100 : List Cond := u_ws RX10 TX10 3
theorem nmX10 : ∀ a, a < 3 → ∀ b, b < 3 → a ≠ b → (TX10 a).2.1 ≠ (TX10 b).2.1 := by decide +kernel
theorem tyX10_ok : ∀ k, k < 3 → parseFieldDescriptor (TX10 k).2.2.1 = some (tyX10 k) := by decide +kernel
abbrev cX10_init : ByteArray := prog_12_method_1_code
def yX10_init : MethodName := ⟨RX10, "<init>", "(LTableCatalog;)V"⟩
def dkwX10_init_0 : List UInt8 := [42, 43, 181, 0, 1, 42, 183, 0, 7, 42, 18, 15, 181, 0, 16, 177]
abbrev dktX10_init_0 : List UInt8 := dkwX10_init_0 ++ []
theorem dksX10_init_0 : cX10_init.data.toList.drop 0 = dktX10_init_0 := by decide +kernel
theorem dX10_init_0 : decode cX10_init 0 = .ok (.aload_n 0, 1) := dk_42 (dk_at dksX10_init_0 0 rfl rfl)
theorem dX10_init_1 : decode cX10_init 1 = .ok (.aload_n 1, 1) := dk_43 (dk_at dksX10_init_0 1 rfl rfl)
theorem dX10_init_2 : decode cX10_init 2 = .ok (.putfield 1, 3) := dk_181 0 1 (dk_at dksX10_init_0 2 rfl rfl)
theorem dX10_init_5 : decode cX10_init 5 = .ok (.aload_n 0, 1) := dk_42 (dk_at dksX10_init_0 5 rfl rfl)
theorem dX10_init_6 : decode cX10_init 6 = .ok (.invokespecial 7, 3) := dk_183 0 7 (dk_at dksX10_init_0 6 rfl rfl)
theorem dX10_init_9 : decode cX10_init 9 = .ok (.aload_n 0, 1) := dk_42 (dk_at dksX10_init_0 9 rfl rfl)
theorem dX10_init_10 : decode cX10_init 10 = .ok (.ldc 15, 2) := dk_18 15 (dk_at dksX10_init_0 10 rfl rfl)
theorem dX10_init_12 : decode cX10_init 12 = .ok (.putfield 16, 3) := dk_181 0 16 (dk_at dksX10_init_0 12 rfl rfl)
theorem dX10_init_15 : decode cX10_init 15 = .ok (.return_, 1) := dk_177 (dk_at dksX10_init_0 15 rfl rfl)
abbrev cX10_is : ByteArray := prog_12_method_2_code
def yX10_is : MethodName := ⟨RX10, "is", "(II)V"⟩
def dkwX10_is_0 : List UInt8 := [28, 42, 180, 0, 16, 161, 0, 4, 177, 42, 27, 181, 0, 20, 42, 28, 181, 0, 16, 177]
abbrev dktX10_is_0 : List UInt8 := dkwX10_is_0 ++ []
theorem dksX10_is_0 : cX10_is.data.toList.drop 0 = dktX10_is_0 := by decide +kernel
theorem dX10_is_0 : decode cX10_is 0 = .ok (.iload_n 2, 1) := dk_28 (dk_at dksX10_is_0 0 rfl rfl)
theorem dX10_is_1 : decode cX10_is 1 = .ok (.aload_n 0, 1) := dk_42 (dk_at dksX10_is_0 1 rfl rfl)
theorem dX10_is_2 : decode cX10_is 2 = .ok (.getfield 16, 3) := dk_180 0 16 (dk_at dksX10_is_0 2 rfl rfl)
theorem dX10_is_5 : decode cX10_is 5 = .ok (.if_icmp .lt 4, 3) := dk_161 0 4 (dk_at dksX10_is_0 5 rfl rfl)
theorem dX10_is_8 : decode cX10_is 8 = .ok (.return_, 1) := dk_177 (dk_at dksX10_is_0 8 rfl rfl)
theorem dX10_is_9 : decode cX10_is 9 = .ok (.aload_n 0, 1) := dk_42 (dk_at dksX10_is_0 9 rfl rfl)
theorem dX10_is_10 : decode cX10_is 10 = .ok (.iload_n 1, 1) := dk_27 (dk_at dksX10_is_0 10 rfl rfl)
theorem dX10_is_11 : decode cX10_is 11 = .ok (.putfield 20, 3) := dk_181 0 20 (dk_at dksX10_is_0 11 rfl rfl)
theorem dX10_is_14 : decode cX10_is 14 = .ok (.aload_n 0, 1) := dk_42 (dk_at dksX10_is_0 14 rfl rfl)
theorem dX10_is_15 : decode cX10_is 15 = .ok (.iload_n 2, 1) := dk_28 (dk_at dksX10_is_0 15 rfl rfl)
theorem dX10_is_16 : decode cX10_is 16 = .ok (.putfield 16, 3) := dk_181 0 16 (dk_at dksX10_is_0 16 rfl rfl)
theorem dX10_is_19 : decode cX10_is 19 = .ok (.return_, 1) := dk_177 (dk_at dksX10_is_0 19 rfl rfl)
theorem q105 : (Jvm.Cond.initialized "TableCatalog$Wrongs") ∈ lw_all := lw_g (lw_at lw_m1 25 rfl) rfl
theorem q674 : (Jvm.Cond.selects "TableCatalog$Wrongs" ({ cls := "java/lang/Object", name := "getClass", desc := "()Ljava/lang/Class;" } : Jvm.MethodName) ({ cls := "java/lang/Object", name := "getClass", desc := "()Ljava/lang/Class;" } : Jvm.MethodName)) ∈ lw_all := lw_g (lw_at lw_m3 114 rfl) rfl
theorem q858 : (Jvm.Cond.instantiable "TableCatalog$Wrongs" (3 : Nat)) ∈ lw_all := lw_g (lw_at lw_m4 58 rfl) rfl
theorem q860 : (Jvm.Cond.instanceMethod ({ cls := "TableCatalog$Wrongs", name := "<init>", desc := "(LTableCatalog;)V" } : Jvm.MethodName)) ∈ lw_all := lw_g (lw_at lw_m4 60 rfl) rfl
theorem q861 : (Jvm.Cond.code ({ cls := "TableCatalog$Wrongs", name := "<init>", desc := "(LTableCatalog;)V" } : Jvm.MethodName) prog_12_method_1_code (2 : Nat) (Option.none : Option Jvm.ClassFile.FieldType)) ∈ lw_all := lw_g (lw_at lw_m4 61 rfl) rfl
theorem q862 : (Jvm.Cond.methodLink "TableCatalog$Wrongs" (7 : Nat) ({ cls := "java/lang/Object", name := "<init>", desc := "()V" } : Jvm.MethodName)) ∈ lw_all := lw_g (lw_at lw_m4 62 rfl) rfl
theorem q863 : (Jvm.Cond.constant "TableCatalog$Wrongs" (15 : Nat) (2147483647 : Int32)) ∈ lw_all := lw_g (lw_at lw_m4 63 rfl) rfl
theorem q864 : (Jvm.Cond.fieldLink "TableCatalog$Wrongs" (20 : Nat) "TableCatalog$Wrongs" "kind" "I") ∈ lw_all := lw_g (lw_at lw_m4 64 rfl) rfl
theorem q866 : (Jvm.Cond.fieldLink "TableCatalog$Wrongs" (16 : Nat) "TableCatalog$Wrongs" "place" "I") ∈ lw_all := lw_g (lw_at lw_m4 66 rfl) rfl
theorem q868 : (Jvm.Cond.fieldLink "TableCatalog$Wrongs" (1 : Nat) "TableCatalog$Wrongs" "this$0" "LTableCatalog;") ∈ lw_all := lw_g (lw_at lw_m4 68 rfl) rfl
theorem q869 : (Jvm.Cond.lays "TableCatalog$Wrongs" "TableCatalog$Wrongs" "kind" "I") ∈ lw_all := lw_g (lw_at lw_m4 69 rfl) rfl
theorem q870 : (Jvm.Cond.soleField "TableCatalog$Wrongs" "kind") ∈ lw_all := lw_g (lw_at lw_m4 70 rfl) rfl
theorem q871 : (Jvm.Cond.lays "TableCatalog$Wrongs" "TableCatalog$Wrongs" "place" "I") ∈ lw_all := lw_g (lw_at lw_m4 71 rfl) rfl
theorem q872 : (Jvm.Cond.soleField "TableCatalog$Wrongs" "place") ∈ lw_all := lw_g (lw_at lw_m4 72 rfl) rfl
theorem q873 : (Jvm.Cond.laysFinal "TableCatalog$Wrongs" "TableCatalog$Wrongs" "this$0" "LTableCatalog;") ∈ lw_all := lw_g (lw_at lw_m4 73 rfl) rfl
theorem q874 : (Jvm.Cond.soleField "TableCatalog$Wrongs" "this$0") ∈ lw_all := lw_g (lw_at lw_m4 74 rfl) rfl
theorem q875 : (Jvm.Cond.superclass "TableCatalog$Wrongs" "java/lang/Object") ∈ lw_all := lw_g (lw_at lw_m4 75 rfl) rfl
theorem q885 : (Jvm.Cond.instanceMethod ({ cls := "TableCatalog$Wrongs", name := "is", desc := "(II)V" } : Jvm.MethodName)) ∈ lw_all := lw_g (lw_at lw_m4 85 rfl) rfl
theorem q886 : (Jvm.Cond.selects "TableCatalog$Wrongs" ({ cls := "TableCatalog$Wrongs", name := "is", desc := "(II)V" } : Jvm.MethodName) ({ cls := "TableCatalog$Wrongs", name := "is", desc := "(II)V" } : Jvm.MethodName)) ∈ lw_all := lw_g (lw_at lw_m4 86 rfl) rfl
theorem q887 : (Jvm.Cond.code ({ cls := "TableCatalog$Wrongs", name := "is", desc := "(II)V" } : Jvm.MethodName) prog_12_method_2_code (3 : Nat) (Option.none : Option Jvm.ClassFile.FieldType)) ∈ lw_all := lw_g (lw_at lw_m4 87 rfl) rfl
theorem q922 : (Jvm.Cond.selects "TableCatalog$Wrongs" ({ cls := "java/lang/Object", name := "equals", desc := "(Ljava/lang/Object;)Z" } : Jvm.MethodName) ({ cls := "java/lang/Object", name := "equals", desc := "(Ljava/lang/Object;)Z" } : Jvm.MethodName)) ∈ lw_all := lw_g (lw_at lw_m4 122 rfl) rfl
theorem q1661 : (Jvm.Cond.castable "TableCatalog$Wrongs" "java/lang/Object") ∈ lw_tbl := lw_at lw_m7 141 rfl
theorem in_X10 : ∀ w ∈ wsX100, w ∈ lw_all := lw_in wsX100 [869, 871, 873] (by decide +kernel) (by decide +kernel)
/-! TableCatalog$Checker -/
set_option maxRecDepth 100000
def RX11 : String := "TableCatalog$Checker"
abbrev cX11_init : ByteArray := prog_3_method_1_code
def yX11_init : MethodName := ⟨RX11, "<init>", "()V"⟩
def dkwX11_init_0 : List UInt8 := [42, 183, 0, 1, 42, 18, 9, 181, 0, 10, 177]
abbrev dktX11_init_0 : List UInt8 := dkwX11_init_0 ++ []
theorem dksX11_init_0 : cX11_init.data.toList.drop 0 = dktX11_init_0 := by decide +kernel
theorem dX11_init_0 : decode cX11_init 0 = .ok (.aload_n 0, 1) := dk_42 (dk_at dksX11_init_0 0 rfl rfl)
theorem dX11_init_1 : decode cX11_init 1 = .ok (.invokespecial 1, 3) := dk_183 0 1 (dk_at dksX11_init_0 1 rfl rfl)
theorem dX11_init_4 : decode cX11_init 4 = .ok (.aload_n 0, 1) := dk_42 (dk_at dksX11_init_0 4 rfl rfl)
theorem dX11_init_5 : decode cX11_init 5 = .ok (.ldc 9, 2) := dk_18 9 (dk_at dksX11_init_0 5 rfl rfl)
theorem dX11_init_7 : decode cX11_init 7 = .ok (.putfield 10, 3) := dk_181 0 10 (dk_at dksX11_init_0 7 rfl rfl)
theorem dX11_init_10 : decode cX11_init 10 = .ok (.return_, 1) := dk_177 (dk_at dksX11_init_0 10 rfl rfl)
abbrev cX11_wrong : ByteArray := prog_3_method_3_code
def yX11_wrong : MethodName := ⟨RX11, "wrong", "(I)V"⟩
def dkwX11_wrong_0 : List UInt8 := [42, 42, 180, 0, 10, 27, 184, 0, 16, 181, 0, 10, 177]
abbrev dktX11_wrong_0 : List UInt8 := dkwX11_wrong_0 ++ []
theorem dksX11_wrong_0 : cX11_wrong.data.toList.drop 0 = dktX11_wrong_0 := by decide +kernel
theorem dX11_wrong_0 : decode cX11_wrong 0 = .ok (.aload_n 0, 1) := dk_42 (dk_at dksX11_wrong_0 0 rfl rfl)
theorem dX11_wrong_1 : decode cX11_wrong 1 = .ok (.aload_n 0, 1) := dk_42 (dk_at dksX11_wrong_0 1 rfl rfl)
theorem dX11_wrong_2 : decode cX11_wrong 2 = .ok (.getfield 10, 3) := dk_180 0 10 (dk_at dksX11_wrong_0 2 rfl rfl)
theorem dX11_wrong_5 : decode cX11_wrong 5 = .ok (.iload_n 1, 1) := dk_27 (dk_at dksX11_wrong_0 5 rfl rfl)
theorem dX11_wrong_6 : decode cX11_wrong 6 = .ok (.invokestatic 16, 3) := dk_184 0 16 (dk_at dksX11_wrong_0 6 rfl rfl)
theorem dX11_wrong_9 : decode cX11_wrong 9 = .ok (.putfield 10, 3) := dk_181 0 10 (dk_at dksX11_wrong_0 9 rfl rfl)
theorem dX11_wrong_12 : decode cX11_wrong 12 = .ok (.return_, 1) := dk_177 (dk_at dksX11_wrong_0 12 rfl rfl)
abbrev cX11_isWrong : ByteArray := prog_3_method_4_code
def yX11_isWrong : MethodName := ⟨RX11, "isWrong", "()Z"⟩
def dkwX11_isWrong_0 : List UInt8 := [42, 180, 0, 10, 18, 9, 159, 0, 7, 4, 167, 0, 4, 3, 172]
abbrev dktX11_isWrong_0 : List UInt8 := dkwX11_isWrong_0 ++ []
theorem dksX11_isWrong_0 : cX11_isWrong.data.toList.drop 0 = dktX11_isWrong_0 := by decide +kernel
theorem dX11_isWrong_0 : decode cX11_isWrong 0 = .ok (.aload_n 0, 1) := dk_42 (dk_at dksX11_isWrong_0 0 rfl rfl)
theorem dX11_isWrong_1 : decode cX11_isWrong 1 = .ok (.getfield 10, 3) := dk_180 0 10 (dk_at dksX11_isWrong_0 1 rfl rfl)
theorem dX11_isWrong_4 : decode cX11_isWrong 4 = .ok (.ldc 9, 2) := dk_18 9 (dk_at dksX11_isWrong_0 4 rfl rfl)
theorem dX11_isWrong_6 : decode cX11_isWrong 6 = .ok (.if_icmp .eq 7, 3) := dk_159 0 7 (dk_at dksX11_isWrong_0 6 rfl rfl)
theorem dX11_isWrong_9 : decode cX11_isWrong 9 = .ok (.iconst 1, 1) := dk_4 (dk_at dksX11_isWrong_0 9 rfl rfl)
theorem dX11_isWrong_10 : decode cX11_isWrong 10 = .ok (.goto 4, 3) := dk_167 0 4 (dk_at dksX11_isWrong_0 10 rfl rfl)
theorem dX11_isWrong_13 : decode cX11_isWrong 13 = .ok (.iconst 0, 1) := dk_3 (dk_at dksX11_isWrong_0 13 rfl rfl)
theorem dX11_isWrong_14 : decode cX11_isWrong 14 = .ok (.ireturn, 1) := dk_172 (dk_at dksX11_isWrong_0 14 rfl rfl)
theorem q107 : (Jvm.Cond.initialized "TableCatalog$Checker") ∈ lw_all := lw_g (lw_at lw_m1 27 rfl) rfl
theorem q948 : (Jvm.Cond.instanceMethod ({ cls := "TableCatalog$Checker", name := "<init>", desc := "()V" } : Jvm.MethodName)) ∈ lw_all := lw_g (lw_at lw_m4 148 rfl) rfl
theorem q949 : (Jvm.Cond.code ({ cls := "TableCatalog$Checker", name := "<init>", desc := "()V" } : Jvm.MethodName) prog_3_method_1_code (1 : Nat) (Option.none : Option Jvm.ClassFile.FieldType)) ∈ lw_all := lw_g (lw_at lw_m4 149 rfl) rfl
theorem q950 : (Jvm.Cond.methodLink "TableCatalog$Checker" (1 : Nat) ({ cls := "java/lang/Object", name := "<init>", desc := "()V" } : Jvm.MethodName)) ∈ lw_all := lw_g (lw_at lw_m4 150 rfl) rfl
theorem q951 : (Jvm.Cond.constant "TableCatalog$Checker" (9 : Nat) (2147483647 : Int32)) ∈ lw_all := lw_g (lw_at lw_m4 151 rfl) rfl
theorem q953 : (Jvm.Cond.fieldLink "TableCatalog$Checker" (10 : Nat) "TableCatalog$Checker" "first" "I") ∈ lw_all := lw_g (lw_at lw_m4 153 rfl) rfl
theorem q958 : (Jvm.Cond.soleField "TableCatalog$Checker" "first") ∈ lw_all := lw_g (lw_at lw_m4 158 rfl) rfl
theorem q974 : (Jvm.Cond.instanceMethod ({ cls := "TableCatalog$Checker", name := "wrong", desc := "(I)V" } : Jvm.MethodName)) ∈ lw_all := lw_g (lw_at lw_m4 174 rfl) rfl
theorem q975 : (Jvm.Cond.sameMethod "TableCatalog$Checker" "TableCatalog$Checker" "wrong" "(I)V") ∈ lw_all := lw_g (lw_at lw_m4 175 rfl) rfl
theorem q977 : (Jvm.Cond.code ({ cls := "TableCatalog$Checker", name := "wrong", desc := "(I)V" } : Jvm.MethodName) prog_3_method_3_code (2 : Nat) (Option.none : Option Jvm.ClassFile.FieldType)) ∈ lw_all := lw_g (lw_at lw_m4 177 rfl) rfl
theorem q978 : (Jvm.Cond.methodLink "TableCatalog$Checker" (16 : Nat) ({ cls := "java/lang/Math", name := "min", desc := "(II)I" } : Jvm.MethodName)) ∈ lw_all := lw_g (lw_at lw_m4 178 rfl) rfl
theorem q986 : (Jvm.Cond.declares ({ cls := "TableCatalog$Checker", name := "typeOf", desc := "(I)C" } : Jvm.MethodName)) ∈ lw_tbl := lw_at lw_m4 186 rfl
theorem q987 : (Jvm.Cond.sameMethod "TableCatalog$Checker" "TableCatalog$Checker" "typeOf" "(I)C") ∈ lw_all := lw_g (lw_at lw_m4 187 rfl) rfl
theorem q997 : (Jvm.Cond.instanceMethod ({ cls := "TableCatalog$Checker", name := "isWrong", desc := "()Z" } : Jvm.MethodName)) ∈ lw_all := lw_g (lw_at lw_m4 197 rfl) rfl
theorem q998 : (Jvm.Cond.sameMethod "TableCatalog$Checker" "TableCatalog$Checker" "isWrong" "()Z") ∈ lw_all := lw_g (lw_at lw_m4 198 rfl) rfl
theorem q1000 : (Jvm.Cond.code ({ cls := "TableCatalog$Checker", name := "isWrong", desc := "()Z" } : Jvm.MethodName) prog_3_method_4_code (1 : Nat) (Option.some Jvm.ClassFile.FieldType.boolean)) ∈ lw_all := lw_g (lw_at lw_m4 200 rfl) rfl
/-! TableCatalog$Known -/
set_option maxRecDepth 100000
def RX12 : String := "TableCatalog$Known"
def TX12 : u_T := fun k => match k with
  | 0 => ("TableCatalog$Checker", "first", "I", false)
  | _ => ("TableCatalog$Known", "this$0", "LTableCatalog;", true)
def tyX12 : Nat → FieldType := fun k => match k with
  | 0 => .int
  | _ => .object "TableCatalog"
abbrev wsX120 : List Cond := u_ws RX12 TX12 2
theorem nmX12 : ∀ a, a < 2 → ∀ b, b < 2 → a ≠ b → (TX12 a).2.1 ≠ (TX12 b).2.1 := by decide +kernel
theorem tyX12_ok : ∀ k, k < 2 → parseFieldDescriptor (TX12 k).2.2.1 = some (tyX12 k) := by decide +kernel
abbrev cX12_init : ByteArray := prog_7_method_1_code
def yX12_init : MethodName := ⟨RX12, "<init>", "(LTableCatalog;)V"⟩
def dkwX12_init_0 : List UInt8 := [42, 43, 181, 0, 1, 42, 183, 0, 7, 177]
abbrev dktX12_init_0 : List UInt8 := dkwX12_init_0 ++ []
theorem dksX12_init_0 : cX12_init.data.toList.drop 0 = dktX12_init_0 := by decide +kernel
theorem dX12_init_0 : decode cX12_init 0 = .ok (.aload_n 0, 1) := dk_42 (dk_at dksX12_init_0 0 rfl rfl)
theorem dX12_init_1 : decode cX12_init 1 = .ok (.aload_n 1, 1) := dk_43 (dk_at dksX12_init_0 1 rfl rfl)
theorem dX12_init_2 : decode cX12_init 2 = .ok (.putfield 1, 3) := dk_181 0 1 (dk_at dksX12_init_0 2 rfl rfl)
theorem dX12_init_5 : decode cX12_init 5 = .ok (.aload_n 0, 1) := dk_42 (dk_at dksX12_init_0 5 rfl rfl)
theorem dX12_init_6 : decode cX12_init 6 = .ok (.invokespecial 7, 3) := dk_183 0 7 (dk_at dksX12_init_0 6 rfl rfl)
theorem dX12_init_9 : decode cX12_init 9 = .ok (.return_, 1) := dk_177 (dk_at dksX12_init_0 9 rfl rfl)
abbrev cX12_typeOf : ByteArray := prog_7_method_2_code
def yX12_typeOf : MethodName := ⟨RX12, "typeOf", "(I)C"⟩
def dkwX12_typeOf_0 : List UInt8 := [42, 180, 0, 1, 180, 0, 13, 27, 6, 122, 50, 180, 0, 19, 27, 16, 7, 126, 52, 172]
abbrev dktX12_typeOf_0 : List UInt8 := dkwX12_typeOf_0 ++ []
theorem dksX12_typeOf_0 : cX12_typeOf.data.toList.drop 0 = dktX12_typeOf_0 := by decide +kernel
theorem dX12_typeOf_0 : decode cX12_typeOf 0 = .ok (.aload_n 0, 1) := dk_42 (dk_at dksX12_typeOf_0 0 rfl rfl)
theorem dX12_typeOf_1 : decode cX12_typeOf 1 = .ok (.getfield 1, 3) := dk_180 0 1 (dk_at dksX12_typeOf_0 1 rfl rfl)
theorem dX12_typeOf_4 : decode cX12_typeOf 4 = .ok (.getfield 13, 3) := dk_180 0 13 (dk_at dksX12_typeOf_0 4 rfl rfl)
theorem dX12_typeOf_7 : decode cX12_typeOf 7 = .ok (.iload_n 1, 1) := dk_27 (dk_at dksX12_typeOf_0 7 rfl rfl)
theorem dX12_typeOf_8 : decode cX12_typeOf 8 = .ok (.iconst 3, 1) := dk_6 (dk_at dksX12_typeOf_0 8 rfl rfl)
theorem dX12_typeOf_9 : decode cX12_typeOf 9 = .ok (.ishr, 1) := dk_122 (dk_at dksX12_typeOf_0 9 rfl rfl)
theorem dX12_typeOf_10 : decode cX12_typeOf 10 = .ok (.aaload, 1) := dk_50 (dk_at dksX12_typeOf_0 10 rfl rfl)
theorem dX12_typeOf_11 : decode cX12_typeOf 11 = .ok (.getfield 19, 3) := dk_180 0 19 (dk_at dksX12_typeOf_0 11 rfl rfl)
theorem dX12_typeOf_14 : decode cX12_typeOf 14 = .ok (.iload_n 1, 1) := dk_27 (dk_at dksX12_typeOf_0 14 rfl rfl)
theorem dX12_typeOf_15 : decode cX12_typeOf 15 = .ok (.bipush 7, 2) := dk_16 7 (dk_at dksX12_typeOf_0 15 rfl rfl)
theorem dX12_typeOf_17 : decode cX12_typeOf 17 = .ok (.iand, 1) := dk_126 (dk_at dksX12_typeOf_0 17 rfl rfl)
theorem dX12_typeOf_18 : decode cX12_typeOf 18 = .ok (.caload, 1) := dk_52 (dk_at dksX12_typeOf_0 18 rfl rfl)
theorem dX12_typeOf_19 : decode cX12_typeOf 19 = .ok (.ireturn, 1) := dk_172 (dk_at dksX12_typeOf_0 19 rfl rfl)
theorem q108 : (Jvm.Cond.initialized "TableCatalog$Known") ∈ lw_all := lw_g (lw_at lw_m1 28 rfl) rfl
theorem q282 : (Jvm.Cond.fieldLinkNest "TableCatalog$Known" (13 : Nat) "TableCatalog" "tables" "[LTableCatalog$Table;" "TableCatalog") ∈ lw_tbl := lw_at lw_m1 202 rfl
theorem q563 : (Jvm.Cond.fieldLinkNest "TableCatalog$Known" (19 : Nat) "TableCatalog$Table" "types" "[C" "TableCatalog") ∈ lw_tbl := lw_at lw_m3 3 rfl
theorem q670 : (Jvm.Cond.selects "TableCatalog$Known" ({ cls := "java/lang/Object", name := "getClass", desc := "()Ljava/lang/Class;" } : Jvm.MethodName) ({ cls := "java/lang/Object", name := "getClass", desc := "()Ljava/lang/Class;" } : Jvm.MethodName)) ∈ lw_all := lw_g (lw_at lw_m3 110 rfl) rfl
theorem q918 : (Jvm.Cond.selects "TableCatalog$Known" ({ cls := "java/lang/Object", name := "equals", desc := "(Ljava/lang/Object;)Z" } : Jvm.MethodName) ({ cls := "java/lang/Object", name := "equals", desc := "(Ljava/lang/Object;)Z" } : Jvm.MethodName)) ∈ lw_all := lw_g (lw_at lw_m4 118 rfl) rfl
theorem q943 : (Jvm.Cond.instantiable "TableCatalog$Known" (2 : Nat)) ∈ lw_all := lw_g (lw_at lw_m4 143 rfl) rfl
theorem q945 : (Jvm.Cond.instanceMethod ({ cls := "TableCatalog$Known", name := "<init>", desc := "(LTableCatalog;)V" } : Jvm.MethodName)) ∈ lw_all := lw_g (lw_at lw_m4 145 rfl) rfl
theorem q946 : (Jvm.Cond.code ({ cls := "TableCatalog$Known", name := "<init>", desc := "(LTableCatalog;)V" } : Jvm.MethodName) prog_7_method_1_code (2 : Nat) (Option.none : Option Jvm.ClassFile.FieldType)) ∈ lw_all := lw_g (lw_at lw_m4 146 rfl) rfl
theorem q947 : (Jvm.Cond.methodLinkNest "TableCatalog$Known" (7 : Nat) ({ cls := "TableCatalog$Checker", name := "<init>", desc := "()V" } : Jvm.MethodName) "TableCatalog") ∈ lw_tbl := lw_at lw_m4 147 rfl
theorem q952 : (Jvm.Cond.fieldLink "TableCatalog$Known" (1 : Nat) "TableCatalog$Known" "this$0" "LTableCatalog;") ∈ lw_all := lw_g (lw_at lw_m4 152 rfl) rfl
theorem q955 : (Jvm.Cond.laysFinal "TableCatalog$Known" "TableCatalog$Known" "this$0" "LTableCatalog;") ∈ lw_all := lw_g (lw_at lw_m4 155 rfl) rfl
theorem q956 : (Jvm.Cond.soleField "TableCatalog$Known" "this$0") ∈ lw_all := lw_g (lw_at lw_m4 156 rfl) rfl
theorem q957 : (Jvm.Cond.lays "TableCatalog$Known" "TableCatalog$Checker" "first" "I") ∈ lw_all := lw_g (lw_at lw_m4 157 rfl) rfl
theorem q959 : (Jvm.Cond.superclass "TableCatalog$Known" "TableCatalog$Checker") ∈ lw_all := lw_g (lw_at lw_m4 159 rfl) rfl
theorem q976 : (Jvm.Cond.selects "TableCatalog$Known" ({ cls := "TableCatalog$Checker", name := "wrong", desc := "(I)V" } : Jvm.MethodName) ({ cls := "TableCatalog$Checker", name := "wrong", desc := "(I)V" } : Jvm.MethodName)) ∈ lw_all := lw_g (lw_at lw_m4 176 rfl) rfl
theorem q988 : (Jvm.Cond.selects "TableCatalog$Known" ({ cls := "TableCatalog$Checker", name := "typeOf", desc := "(I)C" } : Jvm.MethodName) ({ cls := "TableCatalog$Known", name := "typeOf", desc := "(I)C" } : Jvm.MethodName)) ∈ lw_all := lw_g (lw_at lw_m4 188 rfl) rfl
theorem q989 : (Jvm.Cond.instanceMethod ({ cls := "TableCatalog$Known", name := "typeOf", desc := "(I)C" } : Jvm.MethodName)) ∈ lw_all := lw_g (lw_at lw_m4 189 rfl) rfl
theorem q990 : (Jvm.Cond.code ({ cls := "TableCatalog$Known", name := "typeOf", desc := "(I)C" } : Jvm.MethodName) prog_7_method_2_code (2 : Nat) (Option.some Jvm.ClassFile.FieldType.char)) ∈ lw_all := lw_g (lw_at lw_m4 190 rfl) rfl
theorem q999 : (Jvm.Cond.selects "TableCatalog$Known" ({ cls := "TableCatalog$Checker", name := "isWrong", desc := "()Z" } : Jvm.MethodName) ({ cls := "TableCatalog$Checker", name := "isWrong", desc := "()Z" } : Jvm.MethodName)) ∈ lw_all := lw_g (lw_at lw_m4 199 rfl) rfl
theorem q1662 : (Jvm.Cond.castable "TableCatalog$Known" "java/lang/Object") ∈ lw_tbl := lw_at lw_m7 142 rfl
theorem in_X12 : ∀ w ∈ wsX120, w ∈ lw_all := lw_in wsX120 [957, 955] (by decide +kernel) (by decide +kernel)
/-! the law's own entry -/
set_option maxRecDepth 100000
abbrev cL_law : ByteArray := code
def dkwL_law_33 : List UInt8 := [3, 172, 132, 3, 6, 167, 252, 183, 4, 172]
abbrev dktL_law_33 : List UInt8 := dkwL_law_33 ++ []
def dkwL_law_32 : List UInt8 := [29, 5, 96, 46, 182, 0, 113, 44, 42, 29, 4, 96, 46, 42, 29, 5, 96, 46, 182, 0, 116, 159, 0, 5]
abbrev dktL_law_32 : List UInt8 := dkwL_law_32 ++ dktL_law_33
def dkwL_law_31 : List UInt8 := [182, 0, 109, 44, 42, 29, 4, 96, 46, 182, 0, 112, 159, 0, 38, 3, 172, 43, 42, 29, 4, 96, 46, 42]
abbrev dktL_law_31 : List UInt8 := dkwL_law_31 ++ dktL_law_32
def dkwL_law_30 : List UInt8 := [42, 29, 5, 96, 46, 42, 29, 6, 96, 46, 182, 0, 108, 159, 0, 61, 3, 172, 43, 42, 29, 4, 96, 46]
abbrev dktL_law_30 : List UInt8 := dkwL_law_30 ++ dktL_law_31
def dkwL_law_29 : List UInt8 := [42, 29, 4, 96, 46, 42, 29, 5, 96, 46, 42, 29, 6, 96, 46, 182, 0, 105, 44, 42, 29, 4, 96, 46]
abbrev dktL_law_29 : List UInt8 := dkwL_law_29 ++ dktL_law_30
def dkwL_law_28 : List UInt8 := [46, 182, 0, 101, 44, 42, 29, 4, 96, 46, 42, 29, 5, 96, 46, 182, 0, 104, 159, 0, 104, 3, 172, 43]
abbrev dktL_law_28 : List UInt8 := dkwL_law_28 ++ dktL_law_29
def dkwL_law_27 : List UInt8 := [44, 42, 29, 4, 96, 46, 182, 0, 100, 159, 0, 137, 3, 172, 43, 42, 29, 4, 96, 46, 42, 29, 5, 96]
abbrev dktL_law_27 : List UInt8 := dkwL_law_27 ++ dktL_law_28
def dkwL_law_26 : List UInt8 := [3, 172, 43, 182, 0, 93, 44, 182, 0, 96, 159, 0, 160, 3, 172, 43, 42, 29, 4, 96, 46, 182, 0, 97]
abbrev dktL_law_26 : List UInt8 := dkwL_law_26 ++ dktL_law_27
def dkwL_law_25 : List UInt8 := [29, 5, 96, 46, 182, 0, 88, 44, 42, 29, 4, 96, 46, 42, 29, 5, 96, 46, 182, 0, 92, 159, 0, 173]
abbrev dktL_law_25 : List UInt8 := dkwL_law_25 ++ dktL_law_26
def dkwL_law_24 : List UInt8 := [182, 0, 84, 44, 42, 29, 4, 96, 46, 182, 0, 87, 159, 0, 206, 3, 172, 43, 42, 29, 4, 96, 46, 42]
abbrev dktL_law_24 : List UInt8 := dkwL_law_24 ++ dktL_law_25
def dkwL_law_23 : List UInt8 := [5, 96, 46, 42, 29, 6, 96, 46, 182, 0, 83, 159, 0, 229, 3, 172, 43, 42, 29, 4, 96, 46]
abbrev dktL_law_23 : List UInt8 := dkwL_law_23 ++ dktL_law_24
def dkwL_law_22 : List UInt8 := [4, 96, 46, 42, 29, 5, 96, 46, 42, 29, 6, 96, 46, 182, 0, 79, 44, 42, 29, 4, 96, 46, 42, 29]
abbrev dktL_law_22 : List UInt8 := dkwL_law_22 ++ dktL_law_23
def dkwL_law_21 : List UInt8 := [29, 4, 96, 46, 182, 0, 75, 44, 42, 29, 4, 96, 46, 182, 0, 78, 159, 1, 16, 3, 172, 43, 42, 29]
abbrev dktL_law_21 : List UInt8 := dkwL_law_21 ++ dktL_law_22
def dkwL_law_20 : List UInt8 := [42, 29, 4, 96, 46, 182, 0, 71, 44, 42, 29, 4, 96, 46, 182, 0, 74, 159, 1, 39, 3, 172, 43, 42]
abbrev dktL_law_20 : List UInt8 := dkwL_law_20 ++ dktL_law_21
def dkwL_law_19 : List UInt8 := [43, 42, 29, 4, 96, 46, 182, 0, 67, 44, 42, 29, 4, 96, 46, 182, 0, 70, 159, 1, 62, 3, 172, 43]
abbrev dktL_law_19 : List UInt8 := dkwL_law_19 ++ dktL_law_20
def dkwL_law_18 : List UInt8 := [44, 42, 29, 4, 96, 46, 42, 29, 5, 96, 46, 42, 29, 6, 96, 46, 182, 0, 66, 159, 1, 85, 3, 172]
abbrev dktL_law_18 : List UInt8 := dkwL_law_18 ++ dktL_law_19
def dkwL_law_17 : List UInt8 := [159, 1, 128, 3, 172, 43, 42, 29, 4, 96, 46, 42, 29, 5, 96, 46, 42, 29, 6, 96, 46, 182, 0, 63]
abbrev dktL_law_17 : List UInt8 := dkwL_law_17 ++ dktL_law_18
def dkwL_law_16 : List UInt8 := [159, 1, 151, 3, 172, 43, 42, 29, 4, 96, 46, 182, 0, 59, 44, 42, 29, 4, 96, 46, 182, 0, 62]
abbrev dktL_law_16 : List UInt8 := dkwL_law_16 ++ dktL_law_17
def dkwL_law_15 : List UInt8 := [42, 29, 5, 96, 46, 182, 0, 55, 44, 42, 29, 4, 96, 46, 42, 29, 5, 96, 46, 182, 0, 58]
abbrev dktL_law_15 : List UInt8 := dkwL_law_15 ++ dktL_law_16
def dkwL_law_14 : List UInt8 := [42, 29, 4, 96, 46, 42, 29, 5, 96, 46, 182, 0, 54, 159, 1, 184, 3, 172, 43, 42, 29, 4, 96, 46]
abbrev dktL_law_14 : List UInt8 := dkwL_law_14 ++ dktL_law_15
def dkwL_law_13 : List UInt8 := [46, 182, 0, 50, 159, 1, 217, 3, 172, 43, 42, 29, 4, 96, 46, 42, 29, 5, 96, 46, 182, 0, 51, 44]
abbrev dktL_law_13 : List UInt8 := dkwL_law_13 ++ dktL_law_14
def dkwL_law_12 : List UInt8 := [46, 42, 29, 6, 96, 46, 182, 0, 46, 44, 42, 29, 4, 96, 46, 42, 29, 5, 96, 46, 42, 29, 6, 96]
abbrev dktL_law_12 : List UInt8 := dkwL_law_12 ++ dktL_law_13
def dkwL_law_11 : List UInt8 := [46, 42, 29, 5, 96, 46, 182, 0, 45, 159, 2, 4, 3, 172, 43, 42, 29, 4, 96, 46, 42, 29, 5, 96]
abbrev dktL_law_11 : List UInt8 := dkwL_law_11 ++ dktL_law_12
def dkwL_law_10 : List UInt8 := [159, 2, 37, 3, 172, 43, 42, 29, 4, 96, 46, 42, 29, 5, 96, 46, 182, 0, 42, 44, 42, 29, 4, 96]
abbrev dktL_law_10 : List UInt8 := dkwL_law_10 ++ dktL_law_11
def dkwL_law_9 : List UInt8 := [42, 29, 5, 96, 46, 182, 0, 37, 44, 42, 29, 4, 96, 46, 42, 29, 5, 96, 46, 182, 0, 41]
abbrev dktL_law_9 : List UInt8 := dkwL_law_9 ++ dktL_law_10
def dkwL_law_8 : List UInt8 := [159, 2, 83, 3, 172, 43, 182, 0, 33, 44, 182, 0, 36, 159, 2, 70, 3, 172, 43, 42, 29, 4, 96, 46]
abbrev dktL_law_8 : List UInt8 := dkwL_law_8 ++ dktL_law_9
def dkwL_law_7 : List UInt8 := [159, 2, 106, 3, 172, 43, 42, 29, 4, 96, 46, 182, 0, 28, 44, 42, 29, 4, 96, 46, 182, 0, 32]
abbrev dktL_law_7 : List UInt8 := dkwL_law_7 ++ dktL_law_8
def dkwL_law_6 : List UInt8 := [44, 42, 29, 4, 96, 46, 182, 0, 22, 159, 2, 119, 3, 172, 43, 182, 0, 23, 44, 182, 0, 27]
abbrev dktL_law_6 : List UInt8 := dkwL_law_6 ++ dktL_law_7
def dkwL_law_5 : List UInt8 := [96, 46, 42, 29, 8, 96, 46, 182, 0, 17, 159, 2, 142, 3, 172, 43, 42, 29, 4, 96, 46, 182, 0, 18]
abbrev dktL_law_5 : List UInt8 := dkwL_law_5 ++ dktL_law_6
def dkwL_law_4 : List UInt8 := [96, 46, 182, 0, 13, 44, 42, 29, 4, 96, 46, 42, 29, 5, 96, 46, 42, 29, 6, 96, 46, 42, 29, 7]
abbrev dktL_law_4 : List UInt8 := dkwL_law_4 ++ dktL_law_5
def dkwL_law_3 : List UInt8 := [43, 42, 29, 4, 96, 46, 42, 29, 5, 96, 46, 42, 29, 6, 96, 46, 42, 29, 7, 96, 46, 42, 29, 8]
abbrev dktL_law_3 : List UInt8 := dkwL_law_3 ++ dktL_law_4
def dkwL_law_2 : List UInt8 := [170, 0, 0, 0, 0, 3, 55, 0, 0, 0, 0, 0, 0, 0, 23, 0, 0, 0, 111, 0, 0, 0, 174, 0, 0, 0, 197, 0, 0, 0, 210, 0, 0, 0, 233, 0, 0, 0, 246, 0, 0, 1, 23, 0, 0, 1, 56, 0, 0, 1, 99, 0, 0, 1, 132, 0, 0, 1, 165, 0, 0, 1, 188, 0, 0, 1, 231, 0, 0, 1, 254, 0, 0, 2, 21, 0, 0, 2, 44, 0, 0, 2, 87, 0, 0, 2, 110, 0, 0, 2, 143, 0, 0, 2, 156, 0, 0, 2, 179, 0, 0, 2, 212, 0, 0, 2, 255, 0, 0, 3, 22]
abbrev dktL_law_2 : List UInt8 := dkwL_law_2 ++ dktL_law_3
def dkwL_law_1 : List UInt8 := [163, 3, 70, 42, 29, 46, 16, 31, 126]
abbrev dktL_law_1 : List UInt8 := dkwL_law_1 ++ dktL_law_2
def dkwL_law_0 : List UInt8 := [187, 0, 7, 89, 183, 0, 9, 76, 187, 0, 10, 89, 183, 0, 12, 77, 3, 62, 29, 42, 190, 16, 6, 100]
abbrev dktL_law_0 : List UInt8 := dkwL_law_0 ++ dktL_law_1
theorem dksL_law_0 : cL_law.data.toList.drop 0 = dktL_law_0 := by decide +kernel
theorem dksL_law_1 : cL_law.data.toList.drop 24 = dktL_law_1 := dk_seg dksL_law_0 24 rfl rfl
theorem dksL_law_2 : cL_law.data.toList.drop 33 = dktL_law_2 := dk_seg dksL_law_1 9 rfl rfl
theorem dksL_law_3 : cL_law.data.toList.drop 144 = dktL_law_3 := dk_seg dksL_law_2 111 rfl rfl
theorem dksL_law_4 : cL_law.data.toList.drop 168 = dktL_law_4 := dk_seg dksL_law_3 24 rfl rfl
theorem dksL_law_5 : cL_law.data.toList.drop 192 = dktL_law_5 := dk_seg dksL_law_4 24 rfl rfl
theorem dksL_law_6 : cL_law.data.toList.drop 216 = dktL_law_6 := dk_seg dksL_law_5 24 rfl rfl
theorem dksL_law_7 : cL_law.data.toList.drop 238 = dktL_law_7 := dk_seg dksL_law_6 22 rfl rfl
theorem dksL_law_8 : cL_law.data.toList.drop 261 = dktL_law_8 := dk_seg dksL_law_7 23 rfl rfl
theorem dksL_law_9 : cL_law.data.toList.drop 285 = dktL_law_9 := dk_seg dksL_law_8 24 rfl rfl
theorem dksL_law_10 : cL_law.data.toList.drop 307 = dktL_law_10 := dk_seg dksL_law_9 22 rfl rfl
theorem dksL_law_11 : cL_law.data.toList.drop 331 = dktL_law_11 := dk_seg dksL_law_10 24 rfl rfl
theorem dksL_law_12 : cL_law.data.toList.drop 355 = dktL_law_12 := dk_seg dksL_law_11 24 rfl rfl
theorem dksL_law_13 : cL_law.data.toList.drop 379 = dktL_law_13 := dk_seg dksL_law_12 24 rfl rfl
theorem dksL_law_14 : cL_law.data.toList.drop 403 = dktL_law_14 := dk_seg dksL_law_13 24 rfl rfl
theorem dksL_law_15 : cL_law.data.toList.drop 427 = dktL_law_15 := dk_seg dksL_law_14 24 rfl rfl
theorem dksL_law_16 : cL_law.data.toList.drop 449 = dktL_law_16 := dk_seg dksL_law_15 22 rfl rfl
theorem dksL_law_17 : cL_law.data.toList.drop 472 = dktL_law_17 := dk_seg dksL_law_16 23 rfl rfl
theorem dksL_law_18 : cL_law.data.toList.drop 496 = dktL_law_18 := dk_seg dksL_law_17 24 rfl rfl
theorem dksL_law_19 : cL_law.data.toList.drop 520 = dktL_law_19 := dk_seg dksL_law_18 24 rfl rfl
theorem dksL_law_20 : cL_law.data.toList.drop 544 = dktL_law_20 := dk_seg dksL_law_19 24 rfl rfl
theorem dksL_law_21 : cL_law.data.toList.drop 568 = dktL_law_21 := dk_seg dksL_law_20 24 rfl rfl
theorem dksL_law_22 : cL_law.data.toList.drop 592 = dktL_law_22 := dk_seg dksL_law_21 24 rfl rfl
theorem dksL_law_23 : cL_law.data.toList.drop 616 = dktL_law_23 := dk_seg dksL_law_22 24 rfl rfl
theorem dksL_law_24 : cL_law.data.toList.drop 638 = dktL_law_24 := dk_seg dksL_law_23 22 rfl rfl
theorem dksL_law_25 : cL_law.data.toList.drop 662 = dktL_law_25 := dk_seg dksL_law_24 24 rfl rfl
theorem dksL_law_26 : cL_law.data.toList.drop 686 = dktL_law_26 := dk_seg dksL_law_25 24 rfl rfl
theorem dksL_law_27 : cL_law.data.toList.drop 710 = dktL_law_27 := dk_seg dksL_law_26 24 rfl rfl
theorem dksL_law_28 : cL_law.data.toList.drop 734 = dktL_law_28 := dk_seg dksL_law_27 24 rfl rfl
theorem dksL_law_29 : cL_law.data.toList.drop 758 = dktL_law_29 := dk_seg dksL_law_28 24 rfl rfl
theorem dksL_law_30 : cL_law.data.toList.drop 782 = dktL_law_30 := dk_seg dksL_law_29 24 rfl rfl
theorem dksL_law_31 : cL_law.data.toList.drop 806 = dktL_law_31 := dk_seg dksL_law_30 24 rfl rfl
theorem dksL_law_32 : cL_law.data.toList.drop 830 = dktL_law_32 := dk_seg dksL_law_31 24 rfl rfl
theorem dksL_law_33 : cL_law.data.toList.drop 854 = dktL_law_33 := dk_seg dksL_law_32 24 rfl rfl
theorem dL_law_0 : decode cL_law 0 = .ok (.new 7, 3) := dk_187 0 7 (dk_at dksL_law_0 0 rfl rfl)
theorem dL_law_3 : decode cL_law 3 = .ok (.dup, 1) := dk_89 (dk_at dksL_law_0 3 rfl rfl)
theorem dL_law_4 : decode cL_law 4 = .ok (.invokespecial 9, 3) := dk_183 0 9 (dk_at dksL_law_0 4 rfl rfl)
theorem dL_law_7 : decode cL_law 7 = .ok (.astore_n 1, 1) := dk_76 (dk_at dksL_law_0 7 rfl rfl)
theorem dL_law_8 : decode cL_law 8 = .ok (.new 10, 3) := dk_187 0 10 (dk_at dksL_law_0 8 rfl rfl)
theorem dL_law_11 : decode cL_law 11 = .ok (.dup, 1) := dk_89 (dk_at dksL_law_0 11 rfl rfl)
theorem dL_law_12 : decode cL_law 12 = .ok (.invokespecial 12, 3) := dk_183 0 12 (dk_at dksL_law_0 12 rfl rfl)
theorem dL_law_15 : decode cL_law 15 = .ok (.astore_n 2, 1) := dk_77 (dk_at dksL_law_0 15 rfl rfl)
theorem dL_law_16 : decode cL_law 16 = .ok (.iconst 0, 1) := dk_3 (dk_at dksL_law_0 16 rfl rfl)
theorem dL_law_17 : decode cL_law 17 = .ok (.istore_n 3, 1) := dk_62 (dk_at dksL_law_0 17 rfl rfl)
theorem dL_law_18 : decode cL_law 18 = .ok (.iload_n 3, 1) := dk_29 (dk_at dksL_law_0 18 rfl rfl)
theorem dL_law_19 : decode cL_law 19 = .ok (.aload_n 0, 1) := dk_42 (dk_at dksL_law_0 19 rfl rfl)
theorem dL_law_20 : decode cL_law 20 = .ok (.arraylength, 1) := dk_190 (dk_at dksL_law_0 20 rfl rfl)
theorem dL_law_21 : decode cL_law 21 = .ok (.bipush 6, 2) := dk_16 6 (dk_at dksL_law_0 21 rfl rfl)
theorem dL_law_23 : decode cL_law 23 = .ok (.isub, 1) := dk_100 (dk_at dksL_law_0 23 rfl rfl)
theorem dL_law_24 : decode cL_law 24 = .ok (.if_icmp .gt 838, 3) := dk_163 3 70 (dk_at dksL_law_1 0 rfl rfl)
theorem dL_law_27 : decode cL_law 27 = .ok (.aload_n 0, 1) := dk_42 (dk_at dksL_law_1 3 rfl rfl)
theorem dL_law_28 : decode cL_law 28 = .ok (.iload_n 3, 1) := dk_29 (dk_at dksL_law_1 4 rfl rfl)
theorem dL_law_29 : decode cL_law 29 = .ok (.iaload, 1) := dk_46 (dk_at dksL_law_1 5 rfl rfl)
theorem dL_law_30 : decode cL_law 30 = .ok (.bipush 31, 2) := dk_16 31 (dk_at dksL_law_1 6 rfl rfl)
theorem dL_law_32 : decode cL_law 32 = .ok (.iand, 1) := dk_126 (dk_at dksL_law_1 8 rfl rfl)
theorem dL_law_33 : decode cL_law 33 = .ok (.tableswitch 823 0 23 #[111, 174, 197, 210, 233, 246, 279, 312, 355, 388, 421, 444, 487, 510, 533, 556, 599, 622, 655, 668, 691, 724, 767, 790], 111) := by decide +kernel
theorem dL_law_144 : decode cL_law 144 = .ok (.aload_n 1, 1) := dk_43 (dk_at dksL_law_3 0 rfl rfl)
theorem dL_law_145 : decode cL_law 145 = .ok (.aload_n 0, 1) := dk_42 (dk_at dksL_law_3 1 rfl rfl)
theorem dL_law_146 : decode cL_law 146 = .ok (.iload_n 3, 1) := dk_29 (dk_at dksL_law_3 2 rfl rfl)
theorem dL_law_147 : decode cL_law 147 = .ok (.iconst 1, 1) := dk_4 (dk_at dksL_law_3 3 rfl rfl)
theorem dL_law_148 : decode cL_law 148 = .ok (.iadd, 1) := dk_96 (dk_at dksL_law_3 4 rfl rfl)
theorem dL_law_149 : decode cL_law 149 = .ok (.iaload, 1) := dk_46 (dk_at dksL_law_3 5 rfl rfl)
theorem dL_law_150 : decode cL_law 150 = .ok (.aload_n 0, 1) := dk_42 (dk_at dksL_law_3 6 rfl rfl)
theorem dL_law_151 : decode cL_law 151 = .ok (.iload_n 3, 1) := dk_29 (dk_at dksL_law_3 7 rfl rfl)
theorem dL_law_152 : decode cL_law 152 = .ok (.iconst 2, 1) := dk_5 (dk_at dksL_law_3 8 rfl rfl)
theorem dL_law_153 : decode cL_law 153 = .ok (.iadd, 1) := dk_96 (dk_at dksL_law_3 9 rfl rfl)
theorem dL_law_154 : decode cL_law 154 = .ok (.iaload, 1) := dk_46 (dk_at dksL_law_3 10 rfl rfl)
theorem dL_law_155 : decode cL_law 155 = .ok (.aload_n 0, 1) := dk_42 (dk_at dksL_law_3 11 rfl rfl)
theorem dL_law_156 : decode cL_law 156 = .ok (.iload_n 3, 1) := dk_29 (dk_at dksL_law_3 12 rfl rfl)
theorem dL_law_157 : decode cL_law 157 = .ok (.iconst 3, 1) := dk_6 (dk_at dksL_law_3 13 rfl rfl)
theorem dL_law_158 : decode cL_law 158 = .ok (.iadd, 1) := dk_96 (dk_at dksL_law_3 14 rfl rfl)
theorem dL_law_159 : decode cL_law 159 = .ok (.iaload, 1) := dk_46 (dk_at dksL_law_3 15 rfl rfl)
theorem dL_law_160 : decode cL_law 160 = .ok (.aload_n 0, 1) := dk_42 (dk_at dksL_law_3 16 rfl rfl)
theorem dL_law_161 : decode cL_law 161 = .ok (.iload_n 3, 1) := dk_29 (dk_at dksL_law_3 17 rfl rfl)
theorem dL_law_162 : decode cL_law 162 = .ok (.iconst 4, 1) := dk_7 (dk_at dksL_law_3 18 rfl rfl)
theorem dL_law_163 : decode cL_law 163 = .ok (.iadd, 1) := dk_96 (dk_at dksL_law_3 19 rfl rfl)
theorem dL_law_164 : decode cL_law 164 = .ok (.iaload, 1) := dk_46 (dk_at dksL_law_3 20 rfl rfl)
theorem dL_law_165 : decode cL_law 165 = .ok (.aload_n 0, 1) := dk_42 (dk_at dksL_law_3 21 rfl rfl)
theorem dL_law_166 : decode cL_law 166 = .ok (.iload_n 3, 1) := dk_29 (dk_at dksL_law_3 22 rfl rfl)
theorem dL_law_167 : decode cL_law 167 = .ok (.iconst 5, 1) := dk_8 (dk_at dksL_law_3 23 rfl rfl)
theorem dL_law_168 : decode cL_law 168 = .ok (.iadd, 1) := dk_96 (dk_at dksL_law_4 0 rfl rfl)
theorem dL_law_169 : decode cL_law 169 = .ok (.iaload, 1) := dk_46 (dk_at dksL_law_4 1 rfl rfl)
theorem dL_law_170 : decode cL_law 170 = .ok (.invokevirtual 13, 3) := dk_182 0 13 (dk_at dksL_law_4 2 rfl rfl)
theorem dL_law_173 : decode cL_law 173 = .ok (.aload_n 2, 1) := dk_44 (dk_at dksL_law_4 5 rfl rfl)
theorem dL_law_174 : decode cL_law 174 = .ok (.aload_n 0, 1) := dk_42 (dk_at dksL_law_4 6 rfl rfl)
theorem dL_law_175 : decode cL_law 175 = .ok (.iload_n 3, 1) := dk_29 (dk_at dksL_law_4 7 rfl rfl)
theorem dL_law_176 : decode cL_law 176 = .ok (.iconst 1, 1) := dk_4 (dk_at dksL_law_4 8 rfl rfl)
theorem dL_law_177 : decode cL_law 177 = .ok (.iadd, 1) := dk_96 (dk_at dksL_law_4 9 rfl rfl)
theorem dL_law_178 : decode cL_law 178 = .ok (.iaload, 1) := dk_46 (dk_at dksL_law_4 10 rfl rfl)
theorem dL_law_179 : decode cL_law 179 = .ok (.aload_n 0, 1) := dk_42 (dk_at dksL_law_4 11 rfl rfl)
theorem dL_law_180 : decode cL_law 180 = .ok (.iload_n 3, 1) := dk_29 (dk_at dksL_law_4 12 rfl rfl)
theorem dL_law_181 : decode cL_law 181 = .ok (.iconst 2, 1) := dk_5 (dk_at dksL_law_4 13 rfl rfl)
theorem dL_law_182 : decode cL_law 182 = .ok (.iadd, 1) := dk_96 (dk_at dksL_law_4 14 rfl rfl)
theorem dL_law_183 : decode cL_law 183 = .ok (.iaload, 1) := dk_46 (dk_at dksL_law_4 15 rfl rfl)
theorem dL_law_184 : decode cL_law 184 = .ok (.aload_n 0, 1) := dk_42 (dk_at dksL_law_4 16 rfl rfl)
theorem dL_law_185 : decode cL_law 185 = .ok (.iload_n 3, 1) := dk_29 (dk_at dksL_law_4 17 rfl rfl)
theorem dL_law_186 : decode cL_law 186 = .ok (.iconst 3, 1) := dk_6 (dk_at dksL_law_4 18 rfl rfl)
theorem dL_law_187 : decode cL_law 187 = .ok (.iadd, 1) := dk_96 (dk_at dksL_law_4 19 rfl rfl)
theorem dL_law_188 : decode cL_law 188 = .ok (.iaload, 1) := dk_46 (dk_at dksL_law_4 20 rfl rfl)
theorem dL_law_189 : decode cL_law 189 = .ok (.aload_n 0, 1) := dk_42 (dk_at dksL_law_4 21 rfl rfl)
theorem dL_law_190 : decode cL_law 190 = .ok (.iload_n 3, 1) := dk_29 (dk_at dksL_law_4 22 rfl rfl)
theorem dL_law_191 : decode cL_law 191 = .ok (.iconst 4, 1) := dk_7 (dk_at dksL_law_4 23 rfl rfl)
theorem dL_law_192 : decode cL_law 192 = .ok (.iadd, 1) := dk_96 (dk_at dksL_law_5 0 rfl rfl)
theorem dL_law_193 : decode cL_law 193 = .ok (.iaload, 1) := dk_46 (dk_at dksL_law_5 1 rfl rfl)
theorem dL_law_194 : decode cL_law 194 = .ok (.aload_n 0, 1) := dk_42 (dk_at dksL_law_5 2 rfl rfl)
theorem dL_law_195 : decode cL_law 195 = .ok (.iload_n 3, 1) := dk_29 (dk_at dksL_law_5 3 rfl rfl)
theorem dL_law_196 : decode cL_law 196 = .ok (.iconst 5, 1) := dk_8 (dk_at dksL_law_5 4 rfl rfl)
theorem dL_law_197 : decode cL_law 197 = .ok (.iadd, 1) := dk_96 (dk_at dksL_law_5 5 rfl rfl)
theorem dL_law_198 : decode cL_law 198 = .ok (.iaload, 1) := dk_46 (dk_at dksL_law_5 6 rfl rfl)
theorem dL_law_199 : decode cL_law 199 = .ok (.invokevirtual 17, 3) := dk_182 0 17 (dk_at dksL_law_5 7 rfl rfl)
theorem dL_law_202 : decode cL_law 202 = .ok (.if_icmp .eq 654, 3) := dk_159 2 142 (dk_at dksL_law_5 10 rfl rfl)
theorem dL_law_205 : decode cL_law 205 = .ok (.iconst 0, 1) := dk_3 (dk_at dksL_law_5 13 rfl rfl)
theorem dL_law_206 : decode cL_law 206 = .ok (.ireturn, 1) := dk_172 (dk_at dksL_law_5 14 rfl rfl)
theorem dL_law_207 : decode cL_law 207 = .ok (.aload_n 1, 1) := dk_43 (dk_at dksL_law_5 15 rfl rfl)
theorem dL_law_208 : decode cL_law 208 = .ok (.aload_n 0, 1) := dk_42 (dk_at dksL_law_5 16 rfl rfl)
theorem dL_law_209 : decode cL_law 209 = .ok (.iload_n 3, 1) := dk_29 (dk_at dksL_law_5 17 rfl rfl)
theorem dL_law_210 : decode cL_law 210 = .ok (.iconst 1, 1) := dk_4 (dk_at dksL_law_5 18 rfl rfl)
theorem dL_law_211 : decode cL_law 211 = .ok (.iadd, 1) := dk_96 (dk_at dksL_law_5 19 rfl rfl)
theorem dL_law_212 : decode cL_law 212 = .ok (.iaload, 1) := dk_46 (dk_at dksL_law_5 20 rfl rfl)
theorem dL_law_213 : decode cL_law 213 = .ok (.invokevirtual 18, 3) := dk_182 0 18 (dk_at dksL_law_5 21 rfl rfl)
theorem dL_law_216 : decode cL_law 216 = .ok (.aload_n 2, 1) := dk_44 (dk_at dksL_law_6 0 rfl rfl)
theorem dL_law_217 : decode cL_law 217 = .ok (.aload_n 0, 1) := dk_42 (dk_at dksL_law_6 1 rfl rfl)
theorem dL_law_218 : decode cL_law 218 = .ok (.iload_n 3, 1) := dk_29 (dk_at dksL_law_6 2 rfl rfl)
theorem dL_law_219 : decode cL_law 219 = .ok (.iconst 1, 1) := dk_4 (dk_at dksL_law_6 3 rfl rfl)
theorem dL_law_220 : decode cL_law 220 = .ok (.iadd, 1) := dk_96 (dk_at dksL_law_6 4 rfl rfl)
theorem dL_law_221 : decode cL_law 221 = .ok (.iaload, 1) := dk_46 (dk_at dksL_law_6 5 rfl rfl)
theorem dL_law_222 : decode cL_law 222 = .ok (.invokevirtual 22, 3) := dk_182 0 22 (dk_at dksL_law_6 6 rfl rfl)
theorem dL_law_225 : decode cL_law 225 = .ok (.if_icmp .eq 631, 3) := dk_159 2 119 (dk_at dksL_law_6 9 rfl rfl)
theorem dL_law_228 : decode cL_law 228 = .ok (.iconst 0, 1) := dk_3 (dk_at dksL_law_6 12 rfl rfl)
theorem dL_law_229 : decode cL_law 229 = .ok (.ireturn, 1) := dk_172 (dk_at dksL_law_6 13 rfl rfl)
theorem dL_law_230 : decode cL_law 230 = .ok (.aload_n 1, 1) := dk_43 (dk_at dksL_law_6 14 rfl rfl)
theorem dL_law_231 : decode cL_law 231 = .ok (.invokevirtual 23, 3) := dk_182 0 23 (dk_at dksL_law_6 15 rfl rfl)
theorem dL_law_234 : decode cL_law 234 = .ok (.aload_n 2, 1) := dk_44 (dk_at dksL_law_6 18 rfl rfl)
theorem dL_law_235 : decode cL_law 235 = .ok (.invokevirtual 27, 3) := dk_182 0 27 (dk_at dksL_law_6 19 rfl rfl)
theorem dL_law_238 : decode cL_law 238 = .ok (.if_icmp .eq 618, 3) := dk_159 2 106 (dk_at dksL_law_7 0 rfl rfl)
theorem dL_law_241 : decode cL_law 241 = .ok (.iconst 0, 1) := dk_3 (dk_at dksL_law_7 3 rfl rfl)
theorem dL_law_242 : decode cL_law 242 = .ok (.ireturn, 1) := dk_172 (dk_at dksL_law_7 4 rfl rfl)
theorem dL_law_243 : decode cL_law 243 = .ok (.aload_n 1, 1) := dk_43 (dk_at dksL_law_7 5 rfl rfl)
theorem dL_law_244 : decode cL_law 244 = .ok (.aload_n 0, 1) := dk_42 (dk_at dksL_law_7 6 rfl rfl)
theorem dL_law_245 : decode cL_law 245 = .ok (.iload_n 3, 1) := dk_29 (dk_at dksL_law_7 7 rfl rfl)
theorem dL_law_246 : decode cL_law 246 = .ok (.iconst 1, 1) := dk_4 (dk_at dksL_law_7 8 rfl rfl)
theorem dL_law_247 : decode cL_law 247 = .ok (.iadd, 1) := dk_96 (dk_at dksL_law_7 9 rfl rfl)
theorem dL_law_248 : decode cL_law 248 = .ok (.iaload, 1) := dk_46 (dk_at dksL_law_7 10 rfl rfl)
theorem dL_law_249 : decode cL_law 249 = .ok (.invokevirtual 28, 3) := dk_182 0 28 (dk_at dksL_law_7 11 rfl rfl)
theorem dL_law_252 : decode cL_law 252 = .ok (.aload_n 2, 1) := dk_44 (dk_at dksL_law_7 14 rfl rfl)
theorem dL_law_253 : decode cL_law 253 = .ok (.aload_n 0, 1) := dk_42 (dk_at dksL_law_7 15 rfl rfl)
theorem dL_law_254 : decode cL_law 254 = .ok (.iload_n 3, 1) := dk_29 (dk_at dksL_law_7 16 rfl rfl)
theorem dL_law_255 : decode cL_law 255 = .ok (.iconst 1, 1) := dk_4 (dk_at dksL_law_7 17 rfl rfl)
theorem dL_law_256 : decode cL_law 256 = .ok (.iadd, 1) := dk_96 (dk_at dksL_law_7 18 rfl rfl)
theorem dL_law_257 : decode cL_law 257 = .ok (.iaload, 1) := dk_46 (dk_at dksL_law_7 19 rfl rfl)
theorem dL_law_258 : decode cL_law 258 = .ok (.invokevirtual 32, 3) := dk_182 0 32 (dk_at dksL_law_7 20 rfl rfl)
theorem dL_law_261 : decode cL_law 261 = .ok (.if_icmp .eq 595, 3) := dk_159 2 83 (dk_at dksL_law_8 0 rfl rfl)
theorem dL_law_264 : decode cL_law 264 = .ok (.iconst 0, 1) := dk_3 (dk_at dksL_law_8 3 rfl rfl)
theorem dL_law_265 : decode cL_law 265 = .ok (.ireturn, 1) := dk_172 (dk_at dksL_law_8 4 rfl rfl)
theorem dL_law_266 : decode cL_law 266 = .ok (.aload_n 1, 1) := dk_43 (dk_at dksL_law_8 5 rfl rfl)
theorem dL_law_267 : decode cL_law 267 = .ok (.invokevirtual 33, 3) := dk_182 0 33 (dk_at dksL_law_8 6 rfl rfl)
theorem dL_law_270 : decode cL_law 270 = .ok (.aload_n 2, 1) := dk_44 (dk_at dksL_law_8 9 rfl rfl)
theorem dL_law_271 : decode cL_law 271 = .ok (.invokevirtual 36, 3) := dk_182 0 36 (dk_at dksL_law_8 10 rfl rfl)
theorem dL_law_274 : decode cL_law 274 = .ok (.if_icmp .eq 582, 3) := dk_159 2 70 (dk_at dksL_law_8 13 rfl rfl)
theorem dL_law_277 : decode cL_law 277 = .ok (.iconst 0, 1) := dk_3 (dk_at dksL_law_8 16 rfl rfl)
theorem dL_law_278 : decode cL_law 278 = .ok (.ireturn, 1) := dk_172 (dk_at dksL_law_8 17 rfl rfl)
theorem dL_law_279 : decode cL_law 279 = .ok (.aload_n 1, 1) := dk_43 (dk_at dksL_law_8 18 rfl rfl)
theorem dL_law_280 : decode cL_law 280 = .ok (.aload_n 0, 1) := dk_42 (dk_at dksL_law_8 19 rfl rfl)
theorem dL_law_281 : decode cL_law 281 = .ok (.iload_n 3, 1) := dk_29 (dk_at dksL_law_8 20 rfl rfl)
theorem dL_law_282 : decode cL_law 282 = .ok (.iconst 1, 1) := dk_4 (dk_at dksL_law_8 21 rfl rfl)
theorem dL_law_283 : decode cL_law 283 = .ok (.iadd, 1) := dk_96 (dk_at dksL_law_8 22 rfl rfl)
theorem dL_law_284 : decode cL_law 284 = .ok (.iaload, 1) := dk_46 (dk_at dksL_law_8 23 rfl rfl)
theorem dL_law_285 : decode cL_law 285 = .ok (.aload_n 0, 1) := dk_42 (dk_at dksL_law_9 0 rfl rfl)
theorem dL_law_286 : decode cL_law 286 = .ok (.iload_n 3, 1) := dk_29 (dk_at dksL_law_9 1 rfl rfl)
theorem dL_law_287 : decode cL_law 287 = .ok (.iconst 2, 1) := dk_5 (dk_at dksL_law_9 2 rfl rfl)
theorem dL_law_288 : decode cL_law 288 = .ok (.iadd, 1) := dk_96 (dk_at dksL_law_9 3 rfl rfl)
theorem dL_law_289 : decode cL_law 289 = .ok (.iaload, 1) := dk_46 (dk_at dksL_law_9 4 rfl rfl)
theorem dL_law_290 : decode cL_law 290 = .ok (.invokevirtual 37, 3) := dk_182 0 37 (dk_at dksL_law_9 5 rfl rfl)
theorem dL_law_293 : decode cL_law 293 = .ok (.aload_n 2, 1) := dk_44 (dk_at dksL_law_9 8 rfl rfl)
theorem dL_law_294 : decode cL_law 294 = .ok (.aload_n 0, 1) := dk_42 (dk_at dksL_law_9 9 rfl rfl)
theorem dL_law_295 : decode cL_law 295 = .ok (.iload_n 3, 1) := dk_29 (dk_at dksL_law_9 10 rfl rfl)
theorem dL_law_296 : decode cL_law 296 = .ok (.iconst 1, 1) := dk_4 (dk_at dksL_law_9 11 rfl rfl)
theorem dL_law_297 : decode cL_law 297 = .ok (.iadd, 1) := dk_96 (dk_at dksL_law_9 12 rfl rfl)
theorem dL_law_298 : decode cL_law 298 = .ok (.iaload, 1) := dk_46 (dk_at dksL_law_9 13 rfl rfl)
theorem dL_law_299 : decode cL_law 299 = .ok (.aload_n 0, 1) := dk_42 (dk_at dksL_law_9 14 rfl rfl)
theorem dL_law_300 : decode cL_law 300 = .ok (.iload_n 3, 1) := dk_29 (dk_at dksL_law_9 15 rfl rfl)
theorem dL_law_301 : decode cL_law 301 = .ok (.iconst 2, 1) := dk_5 (dk_at dksL_law_9 16 rfl rfl)
theorem dL_law_302 : decode cL_law 302 = .ok (.iadd, 1) := dk_96 (dk_at dksL_law_9 17 rfl rfl)
theorem dL_law_303 : decode cL_law 303 = .ok (.iaload, 1) := dk_46 (dk_at dksL_law_9 18 rfl rfl)
theorem dL_law_304 : decode cL_law 304 = .ok (.invokevirtual 41, 3) := dk_182 0 41 (dk_at dksL_law_9 19 rfl rfl)
theorem dL_law_307 : decode cL_law 307 = .ok (.if_icmp .eq 549, 3) := dk_159 2 37 (dk_at dksL_law_10 0 rfl rfl)
theorem dL_law_310 : decode cL_law 310 = .ok (.iconst 0, 1) := dk_3 (dk_at dksL_law_10 3 rfl rfl)
theorem dL_law_311 : decode cL_law 311 = .ok (.ireturn, 1) := dk_172 (dk_at dksL_law_10 4 rfl rfl)
theorem dL_law_312 : decode cL_law 312 = .ok (.aload_n 1, 1) := dk_43 (dk_at dksL_law_10 5 rfl rfl)
theorem dL_law_313 : decode cL_law 313 = .ok (.aload_n 0, 1) := dk_42 (dk_at dksL_law_10 6 rfl rfl)
theorem dL_law_314 : decode cL_law 314 = .ok (.iload_n 3, 1) := dk_29 (dk_at dksL_law_10 7 rfl rfl)
theorem dL_law_315 : decode cL_law 315 = .ok (.iconst 1, 1) := dk_4 (dk_at dksL_law_10 8 rfl rfl)
theorem dL_law_316 : decode cL_law 316 = .ok (.iadd, 1) := dk_96 (dk_at dksL_law_10 9 rfl rfl)
theorem dL_law_317 : decode cL_law 317 = .ok (.iaload, 1) := dk_46 (dk_at dksL_law_10 10 rfl rfl)
theorem dL_law_318 : decode cL_law 318 = .ok (.aload_n 0, 1) := dk_42 (dk_at dksL_law_10 11 rfl rfl)
theorem dL_law_319 : decode cL_law 319 = .ok (.iload_n 3, 1) := dk_29 (dk_at dksL_law_10 12 rfl rfl)
theorem dL_law_320 : decode cL_law 320 = .ok (.iconst 2, 1) := dk_5 (dk_at dksL_law_10 13 rfl rfl)
theorem dL_law_321 : decode cL_law 321 = .ok (.iadd, 1) := dk_96 (dk_at dksL_law_10 14 rfl rfl)
theorem dL_law_322 : decode cL_law 322 = .ok (.iaload, 1) := dk_46 (dk_at dksL_law_10 15 rfl rfl)
theorem dL_law_323 : decode cL_law 323 = .ok (.invokevirtual 42, 3) := dk_182 0 42 (dk_at dksL_law_10 16 rfl rfl)
theorem dL_law_326 : decode cL_law 326 = .ok (.aload_n 2, 1) := dk_44 (dk_at dksL_law_10 19 rfl rfl)
theorem dL_law_327 : decode cL_law 327 = .ok (.aload_n 0, 1) := dk_42 (dk_at dksL_law_10 20 rfl rfl)
theorem dL_law_328 : decode cL_law 328 = .ok (.iload_n 3, 1) := dk_29 (dk_at dksL_law_10 21 rfl rfl)
theorem dL_law_329 : decode cL_law 329 = .ok (.iconst 1, 1) := dk_4 (dk_at dksL_law_10 22 rfl rfl)
theorem dL_law_330 : decode cL_law 330 = .ok (.iadd, 1) := dk_96 (dk_at dksL_law_10 23 rfl rfl)
theorem dL_law_331 : decode cL_law 331 = .ok (.iaload, 1) := dk_46 (dk_at dksL_law_11 0 rfl rfl)
theorem dL_law_332 : decode cL_law 332 = .ok (.aload_n 0, 1) := dk_42 (dk_at dksL_law_11 1 rfl rfl)
theorem dL_law_333 : decode cL_law 333 = .ok (.iload_n 3, 1) := dk_29 (dk_at dksL_law_11 2 rfl rfl)
theorem dL_law_334 : decode cL_law 334 = .ok (.iconst 2, 1) := dk_5 (dk_at dksL_law_11 3 rfl rfl)
theorem dL_law_335 : decode cL_law 335 = .ok (.iadd, 1) := dk_96 (dk_at dksL_law_11 4 rfl rfl)
theorem dL_law_336 : decode cL_law 336 = .ok (.iaload, 1) := dk_46 (dk_at dksL_law_11 5 rfl rfl)
theorem dL_law_337 : decode cL_law 337 = .ok (.invokevirtual 45, 3) := dk_182 0 45 (dk_at dksL_law_11 6 rfl rfl)
theorem dL_law_340 : decode cL_law 340 = .ok (.if_icmp .eq 516, 3) := dk_159 2 4 (dk_at dksL_law_11 9 rfl rfl)
theorem dL_law_343 : decode cL_law 343 = .ok (.iconst 0, 1) := dk_3 (dk_at dksL_law_11 12 rfl rfl)
theorem dL_law_344 : decode cL_law 344 = .ok (.ireturn, 1) := dk_172 (dk_at dksL_law_11 13 rfl rfl)
theorem dL_law_345 : decode cL_law 345 = .ok (.aload_n 1, 1) := dk_43 (dk_at dksL_law_11 14 rfl rfl)
theorem dL_law_346 : decode cL_law 346 = .ok (.aload_n 0, 1) := dk_42 (dk_at dksL_law_11 15 rfl rfl)
theorem dL_law_347 : decode cL_law 347 = .ok (.iload_n 3, 1) := dk_29 (dk_at dksL_law_11 16 rfl rfl)
theorem dL_law_348 : decode cL_law 348 = .ok (.iconst 1, 1) := dk_4 (dk_at dksL_law_11 17 rfl rfl)
theorem dL_law_349 : decode cL_law 349 = .ok (.iadd, 1) := dk_96 (dk_at dksL_law_11 18 rfl rfl)
theorem dL_law_350 : decode cL_law 350 = .ok (.iaload, 1) := dk_46 (dk_at dksL_law_11 19 rfl rfl)
theorem dL_law_351 : decode cL_law 351 = .ok (.aload_n 0, 1) := dk_42 (dk_at dksL_law_11 20 rfl rfl)
theorem dL_law_352 : decode cL_law 352 = .ok (.iload_n 3, 1) := dk_29 (dk_at dksL_law_11 21 rfl rfl)
theorem dL_law_353 : decode cL_law 353 = .ok (.iconst 2, 1) := dk_5 (dk_at dksL_law_11 22 rfl rfl)
theorem dL_law_354 : decode cL_law 354 = .ok (.iadd, 1) := dk_96 (dk_at dksL_law_11 23 rfl rfl)
theorem dL_law_355 : decode cL_law 355 = .ok (.iaload, 1) := dk_46 (dk_at dksL_law_12 0 rfl rfl)
theorem dL_law_356 : decode cL_law 356 = .ok (.aload_n 0, 1) := dk_42 (dk_at dksL_law_12 1 rfl rfl)
theorem dL_law_357 : decode cL_law 357 = .ok (.iload_n 3, 1) := dk_29 (dk_at dksL_law_12 2 rfl rfl)
theorem dL_law_358 : decode cL_law 358 = .ok (.iconst 3, 1) := dk_6 (dk_at dksL_law_12 3 rfl rfl)
theorem dL_law_359 : decode cL_law 359 = .ok (.iadd, 1) := dk_96 (dk_at dksL_law_12 4 rfl rfl)
theorem dL_law_360 : decode cL_law 360 = .ok (.iaload, 1) := dk_46 (dk_at dksL_law_12 5 rfl rfl)
theorem dL_law_361 : decode cL_law 361 = .ok (.invokevirtual 46, 3) := dk_182 0 46 (dk_at dksL_law_12 6 rfl rfl)
theorem dL_law_364 : decode cL_law 364 = .ok (.aload_n 2, 1) := dk_44 (dk_at dksL_law_12 9 rfl rfl)
theorem dL_law_365 : decode cL_law 365 = .ok (.aload_n 0, 1) := dk_42 (dk_at dksL_law_12 10 rfl rfl)
theorem dL_law_366 : decode cL_law 366 = .ok (.iload_n 3, 1) := dk_29 (dk_at dksL_law_12 11 rfl rfl)
theorem dL_law_367 : decode cL_law 367 = .ok (.iconst 1, 1) := dk_4 (dk_at dksL_law_12 12 rfl rfl)
theorem dL_law_368 : decode cL_law 368 = .ok (.iadd, 1) := dk_96 (dk_at dksL_law_12 13 rfl rfl)
theorem dL_law_369 : decode cL_law 369 = .ok (.iaload, 1) := dk_46 (dk_at dksL_law_12 14 rfl rfl)
theorem dL_law_370 : decode cL_law 370 = .ok (.aload_n 0, 1) := dk_42 (dk_at dksL_law_12 15 rfl rfl)
theorem dL_law_371 : decode cL_law 371 = .ok (.iload_n 3, 1) := dk_29 (dk_at dksL_law_12 16 rfl rfl)
theorem dL_law_372 : decode cL_law 372 = .ok (.iconst 2, 1) := dk_5 (dk_at dksL_law_12 17 rfl rfl)
theorem dL_law_373 : decode cL_law 373 = .ok (.iadd, 1) := dk_96 (dk_at dksL_law_12 18 rfl rfl)
theorem dL_law_374 : decode cL_law 374 = .ok (.iaload, 1) := dk_46 (dk_at dksL_law_12 19 rfl rfl)
theorem dL_law_375 : decode cL_law 375 = .ok (.aload_n 0, 1) := dk_42 (dk_at dksL_law_12 20 rfl rfl)
theorem dL_law_376 : decode cL_law 376 = .ok (.iload_n 3, 1) := dk_29 (dk_at dksL_law_12 21 rfl rfl)
theorem dL_law_377 : decode cL_law 377 = .ok (.iconst 3, 1) := dk_6 (dk_at dksL_law_12 22 rfl rfl)
theorem dL_law_378 : decode cL_law 378 = .ok (.iadd, 1) := dk_96 (dk_at dksL_law_12 23 rfl rfl)
theorem dL_law_379 : decode cL_law 379 = .ok (.iaload, 1) := dk_46 (dk_at dksL_law_13 0 rfl rfl)
theorem dL_law_380 : decode cL_law 380 = .ok (.invokevirtual 50, 3) := dk_182 0 50 (dk_at dksL_law_13 1 rfl rfl)
theorem dL_law_383 : decode cL_law 383 = .ok (.if_icmp .eq 473, 3) := dk_159 1 217 (dk_at dksL_law_13 4 rfl rfl)
theorem dL_law_386 : decode cL_law 386 = .ok (.iconst 0, 1) := dk_3 (dk_at dksL_law_13 7 rfl rfl)
theorem dL_law_387 : decode cL_law 387 = .ok (.ireturn, 1) := dk_172 (dk_at dksL_law_13 8 rfl rfl)
theorem dL_law_388 : decode cL_law 388 = .ok (.aload_n 1, 1) := dk_43 (dk_at dksL_law_13 9 rfl rfl)
theorem dL_law_389 : decode cL_law 389 = .ok (.aload_n 0, 1) := dk_42 (dk_at dksL_law_13 10 rfl rfl)
theorem dL_law_390 : decode cL_law 390 = .ok (.iload_n 3, 1) := dk_29 (dk_at dksL_law_13 11 rfl rfl)
theorem dL_law_391 : decode cL_law 391 = .ok (.iconst 1, 1) := dk_4 (dk_at dksL_law_13 12 rfl rfl)
theorem dL_law_392 : decode cL_law 392 = .ok (.iadd, 1) := dk_96 (dk_at dksL_law_13 13 rfl rfl)
theorem dL_law_393 : decode cL_law 393 = .ok (.iaload, 1) := dk_46 (dk_at dksL_law_13 14 rfl rfl)
theorem dL_law_394 : decode cL_law 394 = .ok (.aload_n 0, 1) := dk_42 (dk_at dksL_law_13 15 rfl rfl)
theorem dL_law_395 : decode cL_law 395 = .ok (.iload_n 3, 1) := dk_29 (dk_at dksL_law_13 16 rfl rfl)
theorem dL_law_396 : decode cL_law 396 = .ok (.iconst 2, 1) := dk_5 (dk_at dksL_law_13 17 rfl rfl)
theorem dL_law_397 : decode cL_law 397 = .ok (.iadd, 1) := dk_96 (dk_at dksL_law_13 18 rfl rfl)
theorem dL_law_398 : decode cL_law 398 = .ok (.iaload, 1) := dk_46 (dk_at dksL_law_13 19 rfl rfl)
theorem dL_law_399 : decode cL_law 399 = .ok (.invokevirtual 51, 3) := dk_182 0 51 (dk_at dksL_law_13 20 rfl rfl)
theorem dL_law_402 : decode cL_law 402 = .ok (.aload_n 2, 1) := dk_44 (dk_at dksL_law_13 23 rfl rfl)
theorem dL_law_403 : decode cL_law 403 = .ok (.aload_n 0, 1) := dk_42 (dk_at dksL_law_14 0 rfl rfl)
theorem dL_law_404 : decode cL_law 404 = .ok (.iload_n 3, 1) := dk_29 (dk_at dksL_law_14 1 rfl rfl)
theorem dL_law_405 : decode cL_law 405 = .ok (.iconst 1, 1) := dk_4 (dk_at dksL_law_14 2 rfl rfl)
theorem dL_law_406 : decode cL_law 406 = .ok (.iadd, 1) := dk_96 (dk_at dksL_law_14 3 rfl rfl)
theorem dL_law_407 : decode cL_law 407 = .ok (.iaload, 1) := dk_46 (dk_at dksL_law_14 4 rfl rfl)
theorem dL_law_408 : decode cL_law 408 = .ok (.aload_n 0, 1) := dk_42 (dk_at dksL_law_14 5 rfl rfl)
theorem dL_law_409 : decode cL_law 409 = .ok (.iload_n 3, 1) := dk_29 (dk_at dksL_law_14 6 rfl rfl)
theorem dL_law_410 : decode cL_law 410 = .ok (.iconst 2, 1) := dk_5 (dk_at dksL_law_14 7 rfl rfl)
theorem dL_law_411 : decode cL_law 411 = .ok (.iadd, 1) := dk_96 (dk_at dksL_law_14 8 rfl rfl)
theorem dL_law_412 : decode cL_law 412 = .ok (.iaload, 1) := dk_46 (dk_at dksL_law_14 9 rfl rfl)
theorem dL_law_413 : decode cL_law 413 = .ok (.invokevirtual 54, 3) := dk_182 0 54 (dk_at dksL_law_14 10 rfl rfl)
theorem dL_law_416 : decode cL_law 416 = .ok (.if_icmp .eq 440, 3) := dk_159 1 184 (dk_at dksL_law_14 13 rfl rfl)
theorem dL_law_419 : decode cL_law 419 = .ok (.iconst 0, 1) := dk_3 (dk_at dksL_law_14 16 rfl rfl)
theorem dL_law_420 : decode cL_law 420 = .ok (.ireturn, 1) := dk_172 (dk_at dksL_law_14 17 rfl rfl)
theorem dL_law_421 : decode cL_law 421 = .ok (.aload_n 1, 1) := dk_43 (dk_at dksL_law_14 18 rfl rfl)
theorem dL_law_422 : decode cL_law 422 = .ok (.aload_n 0, 1) := dk_42 (dk_at dksL_law_14 19 rfl rfl)
theorem dL_law_423 : decode cL_law 423 = .ok (.iload_n 3, 1) := dk_29 (dk_at dksL_law_14 20 rfl rfl)
theorem dL_law_424 : decode cL_law 424 = .ok (.iconst 1, 1) := dk_4 (dk_at dksL_law_14 21 rfl rfl)
theorem dL_law_425 : decode cL_law 425 = .ok (.iadd, 1) := dk_96 (dk_at dksL_law_14 22 rfl rfl)
theorem dL_law_426 : decode cL_law 426 = .ok (.iaload, 1) := dk_46 (dk_at dksL_law_14 23 rfl rfl)
theorem dL_law_427 : decode cL_law 427 = .ok (.aload_n 0, 1) := dk_42 (dk_at dksL_law_15 0 rfl rfl)
theorem dL_law_428 : decode cL_law 428 = .ok (.iload_n 3, 1) := dk_29 (dk_at dksL_law_15 1 rfl rfl)
theorem dL_law_429 : decode cL_law 429 = .ok (.iconst 2, 1) := dk_5 (dk_at dksL_law_15 2 rfl rfl)
theorem dL_law_430 : decode cL_law 430 = .ok (.iadd, 1) := dk_96 (dk_at dksL_law_15 3 rfl rfl)
theorem dL_law_431 : decode cL_law 431 = .ok (.iaload, 1) := dk_46 (dk_at dksL_law_15 4 rfl rfl)
theorem dL_law_432 : decode cL_law 432 = .ok (.invokevirtual 55, 3) := dk_182 0 55 (dk_at dksL_law_15 5 rfl rfl)
theorem dL_law_435 : decode cL_law 435 = .ok (.aload_n 2, 1) := dk_44 (dk_at dksL_law_15 8 rfl rfl)
theorem dL_law_436 : decode cL_law 436 = .ok (.aload_n 0, 1) := dk_42 (dk_at dksL_law_15 9 rfl rfl)
theorem dL_law_437 : decode cL_law 437 = .ok (.iload_n 3, 1) := dk_29 (dk_at dksL_law_15 10 rfl rfl)
theorem dL_law_438 : decode cL_law 438 = .ok (.iconst 1, 1) := dk_4 (dk_at dksL_law_15 11 rfl rfl)
theorem dL_law_439 : decode cL_law 439 = .ok (.iadd, 1) := dk_96 (dk_at dksL_law_15 12 rfl rfl)
theorem dL_law_440 : decode cL_law 440 = .ok (.iaload, 1) := dk_46 (dk_at dksL_law_15 13 rfl rfl)
theorem dL_law_441 : decode cL_law 441 = .ok (.aload_n 0, 1) := dk_42 (dk_at dksL_law_15 14 rfl rfl)
theorem dL_law_442 : decode cL_law 442 = .ok (.iload_n 3, 1) := dk_29 (dk_at dksL_law_15 15 rfl rfl)
theorem dL_law_443 : decode cL_law 443 = .ok (.iconst 2, 1) := dk_5 (dk_at dksL_law_15 16 rfl rfl)
theorem dL_law_444 : decode cL_law 444 = .ok (.iadd, 1) := dk_96 (dk_at dksL_law_15 17 rfl rfl)
theorem dL_law_445 : decode cL_law 445 = .ok (.iaload, 1) := dk_46 (dk_at dksL_law_15 18 rfl rfl)
theorem dL_law_446 : decode cL_law 446 = .ok (.invokevirtual 58, 3) := dk_182 0 58 (dk_at dksL_law_15 19 rfl rfl)
theorem dL_law_449 : decode cL_law 449 = .ok (.if_icmp .eq 407, 3) := dk_159 1 151 (dk_at dksL_law_16 0 rfl rfl)
theorem dL_law_452 : decode cL_law 452 = .ok (.iconst 0, 1) := dk_3 (dk_at dksL_law_16 3 rfl rfl)
theorem dL_law_453 : decode cL_law 453 = .ok (.ireturn, 1) := dk_172 (dk_at dksL_law_16 4 rfl rfl)
theorem dL_law_454 : decode cL_law 454 = .ok (.aload_n 1, 1) := dk_43 (dk_at dksL_law_16 5 rfl rfl)
theorem dL_law_455 : decode cL_law 455 = .ok (.aload_n 0, 1) := dk_42 (dk_at dksL_law_16 6 rfl rfl)
theorem dL_law_456 : decode cL_law 456 = .ok (.iload_n 3, 1) := dk_29 (dk_at dksL_law_16 7 rfl rfl)
theorem dL_law_457 : decode cL_law 457 = .ok (.iconst 1, 1) := dk_4 (dk_at dksL_law_16 8 rfl rfl)
theorem dL_law_458 : decode cL_law 458 = .ok (.iadd, 1) := dk_96 (dk_at dksL_law_16 9 rfl rfl)
theorem dL_law_459 : decode cL_law 459 = .ok (.iaload, 1) := dk_46 (dk_at dksL_law_16 10 rfl rfl)
theorem dL_law_460 : decode cL_law 460 = .ok (.invokevirtual 59, 3) := dk_182 0 59 (dk_at dksL_law_16 11 rfl rfl)
theorem dL_law_463 : decode cL_law 463 = .ok (.aload_n 2, 1) := dk_44 (dk_at dksL_law_16 14 rfl rfl)
theorem dL_law_464 : decode cL_law 464 = .ok (.aload_n 0, 1) := dk_42 (dk_at dksL_law_16 15 rfl rfl)
theorem dL_law_465 : decode cL_law 465 = .ok (.iload_n 3, 1) := dk_29 (dk_at dksL_law_16 16 rfl rfl)
theorem dL_law_466 : decode cL_law 466 = .ok (.iconst 1, 1) := dk_4 (dk_at dksL_law_16 17 rfl rfl)
theorem dL_law_467 : decode cL_law 467 = .ok (.iadd, 1) := dk_96 (dk_at dksL_law_16 18 rfl rfl)
theorem dL_law_468 : decode cL_law 468 = .ok (.iaload, 1) := dk_46 (dk_at dksL_law_16 19 rfl rfl)
theorem dL_law_469 : decode cL_law 469 = .ok (.invokevirtual 62, 3) := dk_182 0 62 (dk_at dksL_law_16 20 rfl rfl)
theorem dL_law_472 : decode cL_law 472 = .ok (.if_icmp .eq 384, 3) := dk_159 1 128 (dk_at dksL_law_17 0 rfl rfl)
theorem dL_law_475 : decode cL_law 475 = .ok (.iconst 0, 1) := dk_3 (dk_at dksL_law_17 3 rfl rfl)
theorem dL_law_476 : decode cL_law 476 = .ok (.ireturn, 1) := dk_172 (dk_at dksL_law_17 4 rfl rfl)
theorem dL_law_477 : decode cL_law 477 = .ok (.aload_n 1, 1) := dk_43 (dk_at dksL_law_17 5 rfl rfl)
theorem dL_law_478 : decode cL_law 478 = .ok (.aload_n 0, 1) := dk_42 (dk_at dksL_law_17 6 rfl rfl)
theorem dL_law_479 : decode cL_law 479 = .ok (.iload_n 3, 1) := dk_29 (dk_at dksL_law_17 7 rfl rfl)
theorem dL_law_480 : decode cL_law 480 = .ok (.iconst 1, 1) := dk_4 (dk_at dksL_law_17 8 rfl rfl)
theorem dL_law_481 : decode cL_law 481 = .ok (.iadd, 1) := dk_96 (dk_at dksL_law_17 9 rfl rfl)
theorem dL_law_482 : decode cL_law 482 = .ok (.iaload, 1) := dk_46 (dk_at dksL_law_17 10 rfl rfl)
theorem dL_law_483 : decode cL_law 483 = .ok (.aload_n 0, 1) := dk_42 (dk_at dksL_law_17 11 rfl rfl)
theorem dL_law_484 : decode cL_law 484 = .ok (.iload_n 3, 1) := dk_29 (dk_at dksL_law_17 12 rfl rfl)
theorem dL_law_485 : decode cL_law 485 = .ok (.iconst 2, 1) := dk_5 (dk_at dksL_law_17 13 rfl rfl)
theorem dL_law_486 : decode cL_law 486 = .ok (.iadd, 1) := dk_96 (dk_at dksL_law_17 14 rfl rfl)
theorem dL_law_487 : decode cL_law 487 = .ok (.iaload, 1) := dk_46 (dk_at dksL_law_17 15 rfl rfl)
theorem dL_law_488 : decode cL_law 488 = .ok (.aload_n 0, 1) := dk_42 (dk_at dksL_law_17 16 rfl rfl)
theorem dL_law_489 : decode cL_law 489 = .ok (.iload_n 3, 1) := dk_29 (dk_at dksL_law_17 17 rfl rfl)
theorem dL_law_490 : decode cL_law 490 = .ok (.iconst 3, 1) := dk_6 (dk_at dksL_law_17 18 rfl rfl)
theorem dL_law_491 : decode cL_law 491 = .ok (.iadd, 1) := dk_96 (dk_at dksL_law_17 19 rfl rfl)
theorem dL_law_492 : decode cL_law 492 = .ok (.iaload, 1) := dk_46 (dk_at dksL_law_17 20 rfl rfl)
theorem dL_law_493 : decode cL_law 493 = .ok (.invokevirtual 63, 3) := dk_182 0 63 (dk_at dksL_law_17 21 rfl rfl)
theorem dL_law_496 : decode cL_law 496 = .ok (.aload_n 2, 1) := dk_44 (dk_at dksL_law_18 0 rfl rfl)
theorem dL_law_497 : decode cL_law 497 = .ok (.aload_n 0, 1) := dk_42 (dk_at dksL_law_18 1 rfl rfl)
theorem dL_law_498 : decode cL_law 498 = .ok (.iload_n 3, 1) := dk_29 (dk_at dksL_law_18 2 rfl rfl)
theorem dL_law_499 : decode cL_law 499 = .ok (.iconst 1, 1) := dk_4 (dk_at dksL_law_18 3 rfl rfl)
theorem dL_law_500 : decode cL_law 500 = .ok (.iadd, 1) := dk_96 (dk_at dksL_law_18 4 rfl rfl)
theorem dL_law_501 : decode cL_law 501 = .ok (.iaload, 1) := dk_46 (dk_at dksL_law_18 5 rfl rfl)
theorem dL_law_502 : decode cL_law 502 = .ok (.aload_n 0, 1) := dk_42 (dk_at dksL_law_18 6 rfl rfl)
theorem dL_law_503 : decode cL_law 503 = .ok (.iload_n 3, 1) := dk_29 (dk_at dksL_law_18 7 rfl rfl)
theorem dL_law_504 : decode cL_law 504 = .ok (.iconst 2, 1) := dk_5 (dk_at dksL_law_18 8 rfl rfl)
theorem dL_law_505 : decode cL_law 505 = .ok (.iadd, 1) := dk_96 (dk_at dksL_law_18 9 rfl rfl)
theorem dL_law_506 : decode cL_law 506 = .ok (.iaload, 1) := dk_46 (dk_at dksL_law_18 10 rfl rfl)
theorem dL_law_507 : decode cL_law 507 = .ok (.aload_n 0, 1) := dk_42 (dk_at dksL_law_18 11 rfl rfl)
theorem dL_law_508 : decode cL_law 508 = .ok (.iload_n 3, 1) := dk_29 (dk_at dksL_law_18 12 rfl rfl)
theorem dL_law_509 : decode cL_law 509 = .ok (.iconst 3, 1) := dk_6 (dk_at dksL_law_18 13 rfl rfl)
theorem dL_law_510 : decode cL_law 510 = .ok (.iadd, 1) := dk_96 (dk_at dksL_law_18 14 rfl rfl)
theorem dL_law_511 : decode cL_law 511 = .ok (.iaload, 1) := dk_46 (dk_at dksL_law_18 15 rfl rfl)
theorem dL_law_512 : decode cL_law 512 = .ok (.invokevirtual 66, 3) := dk_182 0 66 (dk_at dksL_law_18 16 rfl rfl)
theorem dL_law_515 : decode cL_law 515 = .ok (.if_icmp .eq 341, 3) := dk_159 1 85 (dk_at dksL_law_18 19 rfl rfl)
theorem dL_law_518 : decode cL_law 518 = .ok (.iconst 0, 1) := dk_3 (dk_at dksL_law_18 22 rfl rfl)
theorem dL_law_519 : decode cL_law 519 = .ok (.ireturn, 1) := dk_172 (dk_at dksL_law_18 23 rfl rfl)
theorem dL_law_520 : decode cL_law 520 = .ok (.aload_n 1, 1) := dk_43 (dk_at dksL_law_19 0 rfl rfl)
theorem dL_law_521 : decode cL_law 521 = .ok (.aload_n 0, 1) := dk_42 (dk_at dksL_law_19 1 rfl rfl)
theorem dL_law_522 : decode cL_law 522 = .ok (.iload_n 3, 1) := dk_29 (dk_at dksL_law_19 2 rfl rfl)
theorem dL_law_523 : decode cL_law 523 = .ok (.iconst 1, 1) := dk_4 (dk_at dksL_law_19 3 rfl rfl)
theorem dL_law_524 : decode cL_law 524 = .ok (.iadd, 1) := dk_96 (dk_at dksL_law_19 4 rfl rfl)
theorem dL_law_525 : decode cL_law 525 = .ok (.iaload, 1) := dk_46 (dk_at dksL_law_19 5 rfl rfl)
theorem dL_law_526 : decode cL_law 526 = .ok (.invokevirtual 67, 3) := dk_182 0 67 (dk_at dksL_law_19 6 rfl rfl)
theorem dL_law_529 : decode cL_law 529 = .ok (.aload_n 2, 1) := dk_44 (dk_at dksL_law_19 9 rfl rfl)
theorem dL_law_530 : decode cL_law 530 = .ok (.aload_n 0, 1) := dk_42 (dk_at dksL_law_19 10 rfl rfl)
theorem dL_law_531 : decode cL_law 531 = .ok (.iload_n 3, 1) := dk_29 (dk_at dksL_law_19 11 rfl rfl)
theorem dL_law_532 : decode cL_law 532 = .ok (.iconst 1, 1) := dk_4 (dk_at dksL_law_19 12 rfl rfl)
theorem dL_law_533 : decode cL_law 533 = .ok (.iadd, 1) := dk_96 (dk_at dksL_law_19 13 rfl rfl)
theorem dL_law_534 : decode cL_law 534 = .ok (.iaload, 1) := dk_46 (dk_at dksL_law_19 14 rfl rfl)
theorem dL_law_535 : decode cL_law 535 = .ok (.invokevirtual 70, 3) := dk_182 0 70 (dk_at dksL_law_19 15 rfl rfl)
theorem dL_law_538 : decode cL_law 538 = .ok (.if_icmp .eq 318, 3) := dk_159 1 62 (dk_at dksL_law_19 18 rfl rfl)
theorem dL_law_541 : decode cL_law 541 = .ok (.iconst 0, 1) := dk_3 (dk_at dksL_law_19 21 rfl rfl)
theorem dL_law_542 : decode cL_law 542 = .ok (.ireturn, 1) := dk_172 (dk_at dksL_law_19 22 rfl rfl)
theorem dL_law_543 : decode cL_law 543 = .ok (.aload_n 1, 1) := dk_43 (dk_at dksL_law_19 23 rfl rfl)
theorem dL_law_544 : decode cL_law 544 = .ok (.aload_n 0, 1) := dk_42 (dk_at dksL_law_20 0 rfl rfl)
theorem dL_law_545 : decode cL_law 545 = .ok (.iload_n 3, 1) := dk_29 (dk_at dksL_law_20 1 rfl rfl)
theorem dL_law_546 : decode cL_law 546 = .ok (.iconst 1, 1) := dk_4 (dk_at dksL_law_20 2 rfl rfl)
theorem dL_law_547 : decode cL_law 547 = .ok (.iadd, 1) := dk_96 (dk_at dksL_law_20 3 rfl rfl)
theorem dL_law_548 : decode cL_law 548 = .ok (.iaload, 1) := dk_46 (dk_at dksL_law_20 4 rfl rfl)
theorem dL_law_549 : decode cL_law 549 = .ok (.invokevirtual 71, 3) := dk_182 0 71 (dk_at dksL_law_20 5 rfl rfl)
theorem dL_law_552 : decode cL_law 552 = .ok (.aload_n 2, 1) := dk_44 (dk_at dksL_law_20 8 rfl rfl)
theorem dL_law_553 : decode cL_law 553 = .ok (.aload_n 0, 1) := dk_42 (dk_at dksL_law_20 9 rfl rfl)
theorem dL_law_554 : decode cL_law 554 = .ok (.iload_n 3, 1) := dk_29 (dk_at dksL_law_20 10 rfl rfl)
theorem dL_law_555 : decode cL_law 555 = .ok (.iconst 1, 1) := dk_4 (dk_at dksL_law_20 11 rfl rfl)
theorem dL_law_556 : decode cL_law 556 = .ok (.iadd, 1) := dk_96 (dk_at dksL_law_20 12 rfl rfl)
theorem dL_law_557 : decode cL_law 557 = .ok (.iaload, 1) := dk_46 (dk_at dksL_law_20 13 rfl rfl)
theorem dL_law_558 : decode cL_law 558 = .ok (.invokevirtual 74, 3) := dk_182 0 74 (dk_at dksL_law_20 14 rfl rfl)
theorem dL_law_561 : decode cL_law 561 = .ok (.if_icmp .eq 295, 3) := dk_159 1 39 (dk_at dksL_law_20 17 rfl rfl)
theorem dL_law_564 : decode cL_law 564 = .ok (.iconst 0, 1) := dk_3 (dk_at dksL_law_20 20 rfl rfl)
theorem dL_law_565 : decode cL_law 565 = .ok (.ireturn, 1) := dk_172 (dk_at dksL_law_20 21 rfl rfl)
theorem dL_law_566 : decode cL_law 566 = .ok (.aload_n 1, 1) := dk_43 (dk_at dksL_law_20 22 rfl rfl)
theorem dL_law_567 : decode cL_law 567 = .ok (.aload_n 0, 1) := dk_42 (dk_at dksL_law_20 23 rfl rfl)
theorem dL_law_568 : decode cL_law 568 = .ok (.iload_n 3, 1) := dk_29 (dk_at dksL_law_21 0 rfl rfl)
theorem dL_law_569 : decode cL_law 569 = .ok (.iconst 1, 1) := dk_4 (dk_at dksL_law_21 1 rfl rfl)
theorem dL_law_570 : decode cL_law 570 = .ok (.iadd, 1) := dk_96 (dk_at dksL_law_21 2 rfl rfl)
theorem dL_law_571 : decode cL_law 571 = .ok (.iaload, 1) := dk_46 (dk_at dksL_law_21 3 rfl rfl)
theorem dL_law_572 : decode cL_law 572 = .ok (.invokevirtual 75, 3) := dk_182 0 75 (dk_at dksL_law_21 4 rfl rfl)
theorem dL_law_575 : decode cL_law 575 = .ok (.aload_n 2, 1) := dk_44 (dk_at dksL_law_21 7 rfl rfl)
theorem dL_law_576 : decode cL_law 576 = .ok (.aload_n 0, 1) := dk_42 (dk_at dksL_law_21 8 rfl rfl)
theorem dL_law_577 : decode cL_law 577 = .ok (.iload_n 3, 1) := dk_29 (dk_at dksL_law_21 9 rfl rfl)
theorem dL_law_578 : decode cL_law 578 = .ok (.iconst 1, 1) := dk_4 (dk_at dksL_law_21 10 rfl rfl)
theorem dL_law_579 : decode cL_law 579 = .ok (.iadd, 1) := dk_96 (dk_at dksL_law_21 11 rfl rfl)
theorem dL_law_580 : decode cL_law 580 = .ok (.iaload, 1) := dk_46 (dk_at dksL_law_21 12 rfl rfl)
theorem dL_law_581 : decode cL_law 581 = .ok (.invokevirtual 78, 3) := dk_182 0 78 (dk_at dksL_law_21 13 rfl rfl)
theorem dL_law_584 : decode cL_law 584 = .ok (.if_icmp .eq 272, 3) := dk_159 1 16 (dk_at dksL_law_21 16 rfl rfl)
theorem dL_law_587 : decode cL_law 587 = .ok (.iconst 0, 1) := dk_3 (dk_at dksL_law_21 19 rfl rfl)
theorem dL_law_588 : decode cL_law 588 = .ok (.ireturn, 1) := dk_172 (dk_at dksL_law_21 20 rfl rfl)
theorem dL_law_589 : decode cL_law 589 = .ok (.aload_n 1, 1) := dk_43 (dk_at dksL_law_21 21 rfl rfl)
theorem dL_law_590 : decode cL_law 590 = .ok (.aload_n 0, 1) := dk_42 (dk_at dksL_law_21 22 rfl rfl)
theorem dL_law_591 : decode cL_law 591 = .ok (.iload_n 3, 1) := dk_29 (dk_at dksL_law_21 23 rfl rfl)
theorem dL_law_592 : decode cL_law 592 = .ok (.iconst 1, 1) := dk_4 (dk_at dksL_law_22 0 rfl rfl)
theorem dL_law_593 : decode cL_law 593 = .ok (.iadd, 1) := dk_96 (dk_at dksL_law_22 1 rfl rfl)
theorem dL_law_594 : decode cL_law 594 = .ok (.iaload, 1) := dk_46 (dk_at dksL_law_22 2 rfl rfl)
theorem dL_law_595 : decode cL_law 595 = .ok (.aload_n 0, 1) := dk_42 (dk_at dksL_law_22 3 rfl rfl)
theorem dL_law_596 : decode cL_law 596 = .ok (.iload_n 3, 1) := dk_29 (dk_at dksL_law_22 4 rfl rfl)
theorem dL_law_597 : decode cL_law 597 = .ok (.iconst 2, 1) := dk_5 (dk_at dksL_law_22 5 rfl rfl)
theorem dL_law_598 : decode cL_law 598 = .ok (.iadd, 1) := dk_96 (dk_at dksL_law_22 6 rfl rfl)
theorem dL_law_599 : decode cL_law 599 = .ok (.iaload, 1) := dk_46 (dk_at dksL_law_22 7 rfl rfl)
theorem dL_law_600 : decode cL_law 600 = .ok (.aload_n 0, 1) := dk_42 (dk_at dksL_law_22 8 rfl rfl)
theorem dL_law_601 : decode cL_law 601 = .ok (.iload_n 3, 1) := dk_29 (dk_at dksL_law_22 9 rfl rfl)
theorem dL_law_602 : decode cL_law 602 = .ok (.iconst 3, 1) := dk_6 (dk_at dksL_law_22 10 rfl rfl)
theorem dL_law_603 : decode cL_law 603 = .ok (.iadd, 1) := dk_96 (dk_at dksL_law_22 11 rfl rfl)
theorem dL_law_604 : decode cL_law 604 = .ok (.iaload, 1) := dk_46 (dk_at dksL_law_22 12 rfl rfl)
theorem dL_law_605 : decode cL_law 605 = .ok (.invokevirtual 79, 3) := dk_182 0 79 (dk_at dksL_law_22 13 rfl rfl)
theorem dL_law_608 : decode cL_law 608 = .ok (.aload_n 2, 1) := dk_44 (dk_at dksL_law_22 16 rfl rfl)
theorem dL_law_609 : decode cL_law 609 = .ok (.aload_n 0, 1) := dk_42 (dk_at dksL_law_22 17 rfl rfl)
theorem dL_law_610 : decode cL_law 610 = .ok (.iload_n 3, 1) := dk_29 (dk_at dksL_law_22 18 rfl rfl)
theorem dL_law_611 : decode cL_law 611 = .ok (.iconst 1, 1) := dk_4 (dk_at dksL_law_22 19 rfl rfl)
theorem dL_law_612 : decode cL_law 612 = .ok (.iadd, 1) := dk_96 (dk_at dksL_law_22 20 rfl rfl)
theorem dL_law_613 : decode cL_law 613 = .ok (.iaload, 1) := dk_46 (dk_at dksL_law_22 21 rfl rfl)
theorem dL_law_614 : decode cL_law 614 = .ok (.aload_n 0, 1) := dk_42 (dk_at dksL_law_22 22 rfl rfl)
theorem dL_law_615 : decode cL_law 615 = .ok (.iload_n 3, 1) := dk_29 (dk_at dksL_law_22 23 rfl rfl)
theorem dL_law_616 : decode cL_law 616 = .ok (.iconst 2, 1) := dk_5 (dk_at dksL_law_23 0 rfl rfl)
theorem dL_law_617 : decode cL_law 617 = .ok (.iadd, 1) := dk_96 (dk_at dksL_law_23 1 rfl rfl)
theorem dL_law_618 : decode cL_law 618 = .ok (.iaload, 1) := dk_46 (dk_at dksL_law_23 2 rfl rfl)
theorem dL_law_619 : decode cL_law 619 = .ok (.aload_n 0, 1) := dk_42 (dk_at dksL_law_23 3 rfl rfl)
theorem dL_law_620 : decode cL_law 620 = .ok (.iload_n 3, 1) := dk_29 (dk_at dksL_law_23 4 rfl rfl)
theorem dL_law_621 : decode cL_law 621 = .ok (.iconst 3, 1) := dk_6 (dk_at dksL_law_23 5 rfl rfl)
theorem dL_law_622 : decode cL_law 622 = .ok (.iadd, 1) := dk_96 (dk_at dksL_law_23 6 rfl rfl)
theorem dL_law_623 : decode cL_law 623 = .ok (.iaload, 1) := dk_46 (dk_at dksL_law_23 7 rfl rfl)
theorem dL_law_624 : decode cL_law 624 = .ok (.invokevirtual 83, 3) := dk_182 0 83 (dk_at dksL_law_23 8 rfl rfl)
theorem dL_law_627 : decode cL_law 627 = .ok (.if_icmp .eq 229, 3) := dk_159 0 229 (dk_at dksL_law_23 11 rfl rfl)
theorem dL_law_630 : decode cL_law 630 = .ok (.iconst 0, 1) := dk_3 (dk_at dksL_law_23 14 rfl rfl)
theorem dL_law_631 : decode cL_law 631 = .ok (.ireturn, 1) := dk_172 (dk_at dksL_law_23 15 rfl rfl)
theorem dL_law_632 : decode cL_law 632 = .ok (.aload_n 1, 1) := dk_43 (dk_at dksL_law_23 16 rfl rfl)
theorem dL_law_633 : decode cL_law 633 = .ok (.aload_n 0, 1) := dk_42 (dk_at dksL_law_23 17 rfl rfl)
theorem dL_law_634 : decode cL_law 634 = .ok (.iload_n 3, 1) := dk_29 (dk_at dksL_law_23 18 rfl rfl)
theorem dL_law_635 : decode cL_law 635 = .ok (.iconst 1, 1) := dk_4 (dk_at dksL_law_23 19 rfl rfl)
theorem dL_law_636 : decode cL_law 636 = .ok (.iadd, 1) := dk_96 (dk_at dksL_law_23 20 rfl rfl)
theorem dL_law_637 : decode cL_law 637 = .ok (.iaload, 1) := dk_46 (dk_at dksL_law_23 21 rfl rfl)
theorem dL_law_638 : decode cL_law 638 = .ok (.invokevirtual 84, 3) := dk_182 0 84 (dk_at dksL_law_24 0 rfl rfl)
theorem dL_law_641 : decode cL_law 641 = .ok (.aload_n 2, 1) := dk_44 (dk_at dksL_law_24 3 rfl rfl)
theorem dL_law_642 : decode cL_law 642 = .ok (.aload_n 0, 1) := dk_42 (dk_at dksL_law_24 4 rfl rfl)
theorem dL_law_643 : decode cL_law 643 = .ok (.iload_n 3, 1) := dk_29 (dk_at dksL_law_24 5 rfl rfl)
theorem dL_law_644 : decode cL_law 644 = .ok (.iconst 1, 1) := dk_4 (dk_at dksL_law_24 6 rfl rfl)
theorem dL_law_645 : decode cL_law 645 = .ok (.iadd, 1) := dk_96 (dk_at dksL_law_24 7 rfl rfl)
theorem dL_law_646 : decode cL_law 646 = .ok (.iaload, 1) := dk_46 (dk_at dksL_law_24 8 rfl rfl)
theorem dL_law_647 : decode cL_law 647 = .ok (.invokevirtual 87, 3) := dk_182 0 87 (dk_at dksL_law_24 9 rfl rfl)
theorem dL_law_650 : decode cL_law 650 = .ok (.if_icmp .eq 206, 3) := dk_159 0 206 (dk_at dksL_law_24 12 rfl rfl)
theorem dL_law_653 : decode cL_law 653 = .ok (.iconst 0, 1) := dk_3 (dk_at dksL_law_24 15 rfl rfl)
theorem dL_law_654 : decode cL_law 654 = .ok (.ireturn, 1) := dk_172 (dk_at dksL_law_24 16 rfl rfl)
theorem dL_law_655 : decode cL_law 655 = .ok (.aload_n 1, 1) := dk_43 (dk_at dksL_law_24 17 rfl rfl)
theorem dL_law_656 : decode cL_law 656 = .ok (.aload_n 0, 1) := dk_42 (dk_at dksL_law_24 18 rfl rfl)
theorem dL_law_657 : decode cL_law 657 = .ok (.iload_n 3, 1) := dk_29 (dk_at dksL_law_24 19 rfl rfl)
theorem dL_law_658 : decode cL_law 658 = .ok (.iconst 1, 1) := dk_4 (dk_at dksL_law_24 20 rfl rfl)
theorem dL_law_659 : decode cL_law 659 = .ok (.iadd, 1) := dk_96 (dk_at dksL_law_24 21 rfl rfl)
theorem dL_law_660 : decode cL_law 660 = .ok (.iaload, 1) := dk_46 (dk_at dksL_law_24 22 rfl rfl)
theorem dL_law_661 : decode cL_law 661 = .ok (.aload_n 0, 1) := dk_42 (dk_at dksL_law_24 23 rfl rfl)
theorem dL_law_662 : decode cL_law 662 = .ok (.iload_n 3, 1) := dk_29 (dk_at dksL_law_25 0 rfl rfl)
theorem dL_law_663 : decode cL_law 663 = .ok (.iconst 2, 1) := dk_5 (dk_at dksL_law_25 1 rfl rfl)
theorem dL_law_664 : decode cL_law 664 = .ok (.iadd, 1) := dk_96 (dk_at dksL_law_25 2 rfl rfl)
theorem dL_law_665 : decode cL_law 665 = .ok (.iaload, 1) := dk_46 (dk_at dksL_law_25 3 rfl rfl)
theorem dL_law_666 : decode cL_law 666 = .ok (.invokevirtual 88, 3) := dk_182 0 88 (dk_at dksL_law_25 4 rfl rfl)
theorem dL_law_669 : decode cL_law 669 = .ok (.aload_n 2, 1) := dk_44 (dk_at dksL_law_25 7 rfl rfl)
theorem dL_law_670 : decode cL_law 670 = .ok (.aload_n 0, 1) := dk_42 (dk_at dksL_law_25 8 rfl rfl)
theorem dL_law_671 : decode cL_law 671 = .ok (.iload_n 3, 1) := dk_29 (dk_at dksL_law_25 9 rfl rfl)
theorem dL_law_672 : decode cL_law 672 = .ok (.iconst 1, 1) := dk_4 (dk_at dksL_law_25 10 rfl rfl)
theorem dL_law_673 : decode cL_law 673 = .ok (.iadd, 1) := dk_96 (dk_at dksL_law_25 11 rfl rfl)
theorem dL_law_674 : decode cL_law 674 = .ok (.iaload, 1) := dk_46 (dk_at dksL_law_25 12 rfl rfl)
theorem dL_law_675 : decode cL_law 675 = .ok (.aload_n 0, 1) := dk_42 (dk_at dksL_law_25 13 rfl rfl)
theorem dL_law_676 : decode cL_law 676 = .ok (.iload_n 3, 1) := dk_29 (dk_at dksL_law_25 14 rfl rfl)
theorem dL_law_677 : decode cL_law 677 = .ok (.iconst 2, 1) := dk_5 (dk_at dksL_law_25 15 rfl rfl)
theorem dL_law_678 : decode cL_law 678 = .ok (.iadd, 1) := dk_96 (dk_at dksL_law_25 16 rfl rfl)
theorem dL_law_679 : decode cL_law 679 = .ok (.iaload, 1) := dk_46 (dk_at dksL_law_25 17 rfl rfl)
theorem dL_law_680 : decode cL_law 680 = .ok (.invokevirtual 92, 3) := dk_182 0 92 (dk_at dksL_law_25 18 rfl rfl)
theorem dL_law_683 : decode cL_law 683 = .ok (.if_icmp .eq 173, 3) := dk_159 0 173 (dk_at dksL_law_25 21 rfl rfl)
theorem dL_law_686 : decode cL_law 686 = .ok (.iconst 0, 1) := dk_3 (dk_at dksL_law_26 0 rfl rfl)
theorem dL_law_687 : decode cL_law 687 = .ok (.ireturn, 1) := dk_172 (dk_at dksL_law_26 1 rfl rfl)
theorem dL_law_688 : decode cL_law 688 = .ok (.aload_n 1, 1) := dk_43 (dk_at dksL_law_26 2 rfl rfl)
theorem dL_law_689 : decode cL_law 689 = .ok (.invokevirtual 93, 3) := dk_182 0 93 (dk_at dksL_law_26 3 rfl rfl)
theorem dL_law_692 : decode cL_law 692 = .ok (.aload_n 2, 1) := dk_44 (dk_at dksL_law_26 6 rfl rfl)
theorem dL_law_693 : decode cL_law 693 = .ok (.invokevirtual 96, 3) := dk_182 0 96 (dk_at dksL_law_26 7 rfl rfl)
theorem dL_law_696 : decode cL_law 696 = .ok (.if_icmp .eq 160, 3) := dk_159 0 160 (dk_at dksL_law_26 10 rfl rfl)
theorem dL_law_699 : decode cL_law 699 = .ok (.iconst 0, 1) := dk_3 (dk_at dksL_law_26 13 rfl rfl)
theorem dL_law_700 : decode cL_law 700 = .ok (.ireturn, 1) := dk_172 (dk_at dksL_law_26 14 rfl rfl)
theorem dL_law_701 : decode cL_law 701 = .ok (.aload_n 1, 1) := dk_43 (dk_at dksL_law_26 15 rfl rfl)
theorem dL_law_702 : decode cL_law 702 = .ok (.aload_n 0, 1) := dk_42 (dk_at dksL_law_26 16 rfl rfl)
theorem dL_law_703 : decode cL_law 703 = .ok (.iload_n 3, 1) := dk_29 (dk_at dksL_law_26 17 rfl rfl)
theorem dL_law_704 : decode cL_law 704 = .ok (.iconst 1, 1) := dk_4 (dk_at dksL_law_26 18 rfl rfl)
theorem dL_law_705 : decode cL_law 705 = .ok (.iadd, 1) := dk_96 (dk_at dksL_law_26 19 rfl rfl)
theorem dL_law_706 : decode cL_law 706 = .ok (.iaload, 1) := dk_46 (dk_at dksL_law_26 20 rfl rfl)
theorem dL_law_707 : decode cL_law 707 = .ok (.invokevirtual 97, 3) := dk_182 0 97 (dk_at dksL_law_26 21 rfl rfl)
theorem dL_law_710 : decode cL_law 710 = .ok (.aload_n 2, 1) := dk_44 (dk_at dksL_law_27 0 rfl rfl)
theorem dL_law_711 : decode cL_law 711 = .ok (.aload_n 0, 1) := dk_42 (dk_at dksL_law_27 1 rfl rfl)
theorem dL_law_712 : decode cL_law 712 = .ok (.iload_n 3, 1) := dk_29 (dk_at dksL_law_27 2 rfl rfl)
theorem dL_law_713 : decode cL_law 713 = .ok (.iconst 1, 1) := dk_4 (dk_at dksL_law_27 3 rfl rfl)
theorem dL_law_714 : decode cL_law 714 = .ok (.iadd, 1) := dk_96 (dk_at dksL_law_27 4 rfl rfl)
theorem dL_law_715 : decode cL_law 715 = .ok (.iaload, 1) := dk_46 (dk_at dksL_law_27 5 rfl rfl)
theorem dL_law_716 : decode cL_law 716 = .ok (.invokevirtual 100, 3) := dk_182 0 100 (dk_at dksL_law_27 6 rfl rfl)
theorem dL_law_719 : decode cL_law 719 = .ok (.if_icmp .eq 137, 3) := dk_159 0 137 (dk_at dksL_law_27 9 rfl rfl)
theorem dL_law_722 : decode cL_law 722 = .ok (.iconst 0, 1) := dk_3 (dk_at dksL_law_27 12 rfl rfl)
theorem dL_law_723 : decode cL_law 723 = .ok (.ireturn, 1) := dk_172 (dk_at dksL_law_27 13 rfl rfl)
theorem dL_law_724 : decode cL_law 724 = .ok (.aload_n 1, 1) := dk_43 (dk_at dksL_law_27 14 rfl rfl)
theorem dL_law_725 : decode cL_law 725 = .ok (.aload_n 0, 1) := dk_42 (dk_at dksL_law_27 15 rfl rfl)
theorem dL_law_726 : decode cL_law 726 = .ok (.iload_n 3, 1) := dk_29 (dk_at dksL_law_27 16 rfl rfl)
theorem dL_law_727 : decode cL_law 727 = .ok (.iconst 1, 1) := dk_4 (dk_at dksL_law_27 17 rfl rfl)
theorem dL_law_728 : decode cL_law 728 = .ok (.iadd, 1) := dk_96 (dk_at dksL_law_27 18 rfl rfl)
theorem dL_law_729 : decode cL_law 729 = .ok (.iaload, 1) := dk_46 (dk_at dksL_law_27 19 rfl rfl)
theorem dL_law_730 : decode cL_law 730 = .ok (.aload_n 0, 1) := dk_42 (dk_at dksL_law_27 20 rfl rfl)
theorem dL_law_731 : decode cL_law 731 = .ok (.iload_n 3, 1) := dk_29 (dk_at dksL_law_27 21 rfl rfl)
theorem dL_law_732 : decode cL_law 732 = .ok (.iconst 2, 1) := dk_5 (dk_at dksL_law_27 22 rfl rfl)
theorem dL_law_733 : decode cL_law 733 = .ok (.iadd, 1) := dk_96 (dk_at dksL_law_27 23 rfl rfl)
theorem dL_law_734 : decode cL_law 734 = .ok (.iaload, 1) := dk_46 (dk_at dksL_law_28 0 rfl rfl)
theorem dL_law_735 : decode cL_law 735 = .ok (.invokevirtual 101, 3) := dk_182 0 101 (dk_at dksL_law_28 1 rfl rfl)
theorem dL_law_738 : decode cL_law 738 = .ok (.aload_n 2, 1) := dk_44 (dk_at dksL_law_28 4 rfl rfl)
theorem dL_law_739 : decode cL_law 739 = .ok (.aload_n 0, 1) := dk_42 (dk_at dksL_law_28 5 rfl rfl)
theorem dL_law_740 : decode cL_law 740 = .ok (.iload_n 3, 1) := dk_29 (dk_at dksL_law_28 6 rfl rfl)
theorem dL_law_741 : decode cL_law 741 = .ok (.iconst 1, 1) := dk_4 (dk_at dksL_law_28 7 rfl rfl)
theorem dL_law_742 : decode cL_law 742 = .ok (.iadd, 1) := dk_96 (dk_at dksL_law_28 8 rfl rfl)
theorem dL_law_743 : decode cL_law 743 = .ok (.iaload, 1) := dk_46 (dk_at dksL_law_28 9 rfl rfl)
theorem dL_law_744 : decode cL_law 744 = .ok (.aload_n 0, 1) := dk_42 (dk_at dksL_law_28 10 rfl rfl)
theorem dL_law_745 : decode cL_law 745 = .ok (.iload_n 3, 1) := dk_29 (dk_at dksL_law_28 11 rfl rfl)
theorem dL_law_746 : decode cL_law 746 = .ok (.iconst 2, 1) := dk_5 (dk_at dksL_law_28 12 rfl rfl)
theorem dL_law_747 : decode cL_law 747 = .ok (.iadd, 1) := dk_96 (dk_at dksL_law_28 13 rfl rfl)
theorem dL_law_748 : decode cL_law 748 = .ok (.iaload, 1) := dk_46 (dk_at dksL_law_28 14 rfl rfl)
theorem dL_law_749 : decode cL_law 749 = .ok (.invokevirtual 104, 3) := dk_182 0 104 (dk_at dksL_law_28 15 rfl rfl)
theorem dL_law_752 : decode cL_law 752 = .ok (.if_icmp .eq 104, 3) := dk_159 0 104 (dk_at dksL_law_28 18 rfl rfl)
theorem dL_law_755 : decode cL_law 755 = .ok (.iconst 0, 1) := dk_3 (dk_at dksL_law_28 21 rfl rfl)
theorem dL_law_756 : decode cL_law 756 = .ok (.ireturn, 1) := dk_172 (dk_at dksL_law_28 22 rfl rfl)
theorem dL_law_757 : decode cL_law 757 = .ok (.aload_n 1, 1) := dk_43 (dk_at dksL_law_28 23 rfl rfl)
theorem dL_law_758 : decode cL_law 758 = .ok (.aload_n 0, 1) := dk_42 (dk_at dksL_law_29 0 rfl rfl)
theorem dL_law_759 : decode cL_law 759 = .ok (.iload_n 3, 1) := dk_29 (dk_at dksL_law_29 1 rfl rfl)
theorem dL_law_760 : decode cL_law 760 = .ok (.iconst 1, 1) := dk_4 (dk_at dksL_law_29 2 rfl rfl)
theorem dL_law_761 : decode cL_law 761 = .ok (.iadd, 1) := dk_96 (dk_at dksL_law_29 3 rfl rfl)
theorem dL_law_762 : decode cL_law 762 = .ok (.iaload, 1) := dk_46 (dk_at dksL_law_29 4 rfl rfl)
theorem dL_law_763 : decode cL_law 763 = .ok (.aload_n 0, 1) := dk_42 (dk_at dksL_law_29 5 rfl rfl)
theorem dL_law_764 : decode cL_law 764 = .ok (.iload_n 3, 1) := dk_29 (dk_at dksL_law_29 6 rfl rfl)
theorem dL_law_765 : decode cL_law 765 = .ok (.iconst 2, 1) := dk_5 (dk_at dksL_law_29 7 rfl rfl)
theorem dL_law_766 : decode cL_law 766 = .ok (.iadd, 1) := dk_96 (dk_at dksL_law_29 8 rfl rfl)
theorem dL_law_767 : decode cL_law 767 = .ok (.iaload, 1) := dk_46 (dk_at dksL_law_29 9 rfl rfl)
theorem dL_law_768 : decode cL_law 768 = .ok (.aload_n 0, 1) := dk_42 (dk_at dksL_law_29 10 rfl rfl)
theorem dL_law_769 : decode cL_law 769 = .ok (.iload_n 3, 1) := dk_29 (dk_at dksL_law_29 11 rfl rfl)
theorem dL_law_770 : decode cL_law 770 = .ok (.iconst 3, 1) := dk_6 (dk_at dksL_law_29 12 rfl rfl)
theorem dL_law_771 : decode cL_law 771 = .ok (.iadd, 1) := dk_96 (dk_at dksL_law_29 13 rfl rfl)
theorem dL_law_772 : decode cL_law 772 = .ok (.iaload, 1) := dk_46 (dk_at dksL_law_29 14 rfl rfl)
theorem dL_law_773 : decode cL_law 773 = .ok (.invokevirtual 105, 3) := dk_182 0 105 (dk_at dksL_law_29 15 rfl rfl)
theorem dL_law_776 : decode cL_law 776 = .ok (.aload_n 2, 1) := dk_44 (dk_at dksL_law_29 18 rfl rfl)
theorem dL_law_777 : decode cL_law 777 = .ok (.aload_n 0, 1) := dk_42 (dk_at dksL_law_29 19 rfl rfl)
theorem dL_law_778 : decode cL_law 778 = .ok (.iload_n 3, 1) := dk_29 (dk_at dksL_law_29 20 rfl rfl)
theorem dL_law_779 : decode cL_law 779 = .ok (.iconst 1, 1) := dk_4 (dk_at dksL_law_29 21 rfl rfl)
theorem dL_law_780 : decode cL_law 780 = .ok (.iadd, 1) := dk_96 (dk_at dksL_law_29 22 rfl rfl)
theorem dL_law_781 : decode cL_law 781 = .ok (.iaload, 1) := dk_46 (dk_at dksL_law_29 23 rfl rfl)
theorem dL_law_782 : decode cL_law 782 = .ok (.aload_n 0, 1) := dk_42 (dk_at dksL_law_30 0 rfl rfl)
theorem dL_law_783 : decode cL_law 783 = .ok (.iload_n 3, 1) := dk_29 (dk_at dksL_law_30 1 rfl rfl)
theorem dL_law_784 : decode cL_law 784 = .ok (.iconst 2, 1) := dk_5 (dk_at dksL_law_30 2 rfl rfl)
theorem dL_law_785 : decode cL_law 785 = .ok (.iadd, 1) := dk_96 (dk_at dksL_law_30 3 rfl rfl)
theorem dL_law_786 : decode cL_law 786 = .ok (.iaload, 1) := dk_46 (dk_at dksL_law_30 4 rfl rfl)
theorem dL_law_787 : decode cL_law 787 = .ok (.aload_n 0, 1) := dk_42 (dk_at dksL_law_30 5 rfl rfl)
theorem dL_law_788 : decode cL_law 788 = .ok (.iload_n 3, 1) := dk_29 (dk_at dksL_law_30 6 rfl rfl)
theorem dL_law_789 : decode cL_law 789 = .ok (.iconst 3, 1) := dk_6 (dk_at dksL_law_30 7 rfl rfl)
theorem dL_law_790 : decode cL_law 790 = .ok (.iadd, 1) := dk_96 (dk_at dksL_law_30 8 rfl rfl)
theorem dL_law_791 : decode cL_law 791 = .ok (.iaload, 1) := dk_46 (dk_at dksL_law_30 9 rfl rfl)
theorem dL_law_792 : decode cL_law 792 = .ok (.invokevirtual 108, 3) := dk_182 0 108 (dk_at dksL_law_30 10 rfl rfl)
theorem dL_law_795 : decode cL_law 795 = .ok (.if_icmp .eq 61, 3) := dk_159 0 61 (dk_at dksL_law_30 13 rfl rfl)
theorem dL_law_798 : decode cL_law 798 = .ok (.iconst 0, 1) := dk_3 (dk_at dksL_law_30 16 rfl rfl)
theorem dL_law_799 : decode cL_law 799 = .ok (.ireturn, 1) := dk_172 (dk_at dksL_law_30 17 rfl rfl)
theorem dL_law_800 : decode cL_law 800 = .ok (.aload_n 1, 1) := dk_43 (dk_at dksL_law_30 18 rfl rfl)
theorem dL_law_801 : decode cL_law 801 = .ok (.aload_n 0, 1) := dk_42 (dk_at dksL_law_30 19 rfl rfl)
theorem dL_law_802 : decode cL_law 802 = .ok (.iload_n 3, 1) := dk_29 (dk_at dksL_law_30 20 rfl rfl)
theorem dL_law_803 : decode cL_law 803 = .ok (.iconst 1, 1) := dk_4 (dk_at dksL_law_30 21 rfl rfl)
theorem dL_law_804 : decode cL_law 804 = .ok (.iadd, 1) := dk_96 (dk_at dksL_law_30 22 rfl rfl)
theorem dL_law_805 : decode cL_law 805 = .ok (.iaload, 1) := dk_46 (dk_at dksL_law_30 23 rfl rfl)
theorem dL_law_806 : decode cL_law 806 = .ok (.invokevirtual 109, 3) := dk_182 0 109 (dk_at dksL_law_31 0 rfl rfl)
theorem dL_law_809 : decode cL_law 809 = .ok (.aload_n 2, 1) := dk_44 (dk_at dksL_law_31 3 rfl rfl)
theorem dL_law_810 : decode cL_law 810 = .ok (.aload_n 0, 1) := dk_42 (dk_at dksL_law_31 4 rfl rfl)
theorem dL_law_811 : decode cL_law 811 = .ok (.iload_n 3, 1) := dk_29 (dk_at dksL_law_31 5 rfl rfl)
theorem dL_law_812 : decode cL_law 812 = .ok (.iconst 1, 1) := dk_4 (dk_at dksL_law_31 6 rfl rfl)
theorem dL_law_813 : decode cL_law 813 = .ok (.iadd, 1) := dk_96 (dk_at dksL_law_31 7 rfl rfl)
theorem dL_law_814 : decode cL_law 814 = .ok (.iaload, 1) := dk_46 (dk_at dksL_law_31 8 rfl rfl)
theorem dL_law_815 : decode cL_law 815 = .ok (.invokevirtual 112, 3) := dk_182 0 112 (dk_at dksL_law_31 9 rfl rfl)
theorem dL_law_818 : decode cL_law 818 = .ok (.if_icmp .eq 38, 3) := dk_159 0 38 (dk_at dksL_law_31 12 rfl rfl)
theorem dL_law_821 : decode cL_law 821 = .ok (.iconst 0, 1) := dk_3 (dk_at dksL_law_31 15 rfl rfl)
theorem dL_law_822 : decode cL_law 822 = .ok (.ireturn, 1) := dk_172 (dk_at dksL_law_31 16 rfl rfl)
theorem dL_law_823 : decode cL_law 823 = .ok (.aload_n 1, 1) := dk_43 (dk_at dksL_law_31 17 rfl rfl)
theorem dL_law_824 : decode cL_law 824 = .ok (.aload_n 0, 1) := dk_42 (dk_at dksL_law_31 18 rfl rfl)
theorem dL_law_825 : decode cL_law 825 = .ok (.iload_n 3, 1) := dk_29 (dk_at dksL_law_31 19 rfl rfl)
theorem dL_law_826 : decode cL_law 826 = .ok (.iconst 1, 1) := dk_4 (dk_at dksL_law_31 20 rfl rfl)
theorem dL_law_827 : decode cL_law 827 = .ok (.iadd, 1) := dk_96 (dk_at dksL_law_31 21 rfl rfl)
theorem dL_law_828 : decode cL_law 828 = .ok (.iaload, 1) := dk_46 (dk_at dksL_law_31 22 rfl rfl)
theorem dL_law_829 : decode cL_law 829 = .ok (.aload_n 0, 1) := dk_42 (dk_at dksL_law_31 23 rfl rfl)
theorem dL_law_830 : decode cL_law 830 = .ok (.iload_n 3, 1) := dk_29 (dk_at dksL_law_32 0 rfl rfl)
theorem dL_law_831 : decode cL_law 831 = .ok (.iconst 2, 1) := dk_5 (dk_at dksL_law_32 1 rfl rfl)
theorem dL_law_832 : decode cL_law 832 = .ok (.iadd, 1) := dk_96 (dk_at dksL_law_32 2 rfl rfl)
theorem dL_law_833 : decode cL_law 833 = .ok (.iaload, 1) := dk_46 (dk_at dksL_law_32 3 rfl rfl)
theorem dL_law_834 : decode cL_law 834 = .ok (.invokevirtual 113, 3) := dk_182 0 113 (dk_at dksL_law_32 4 rfl rfl)
theorem dL_law_837 : decode cL_law 837 = .ok (.aload_n 2, 1) := dk_44 (dk_at dksL_law_32 7 rfl rfl)
theorem dL_law_838 : decode cL_law 838 = .ok (.aload_n 0, 1) := dk_42 (dk_at dksL_law_32 8 rfl rfl)
theorem dL_law_839 : decode cL_law 839 = .ok (.iload_n 3, 1) := dk_29 (dk_at dksL_law_32 9 rfl rfl)
theorem dL_law_840 : decode cL_law 840 = .ok (.iconst 1, 1) := dk_4 (dk_at dksL_law_32 10 rfl rfl)
theorem dL_law_841 : decode cL_law 841 = .ok (.iadd, 1) := dk_96 (dk_at dksL_law_32 11 rfl rfl)
theorem dL_law_842 : decode cL_law 842 = .ok (.iaload, 1) := dk_46 (dk_at dksL_law_32 12 rfl rfl)
theorem dL_law_843 : decode cL_law 843 = .ok (.aload_n 0, 1) := dk_42 (dk_at dksL_law_32 13 rfl rfl)
theorem dL_law_844 : decode cL_law 844 = .ok (.iload_n 3, 1) := dk_29 (dk_at dksL_law_32 14 rfl rfl)
theorem dL_law_845 : decode cL_law 845 = .ok (.iconst 2, 1) := dk_5 (dk_at dksL_law_32 15 rfl rfl)
theorem dL_law_846 : decode cL_law 846 = .ok (.iadd, 1) := dk_96 (dk_at dksL_law_32 16 rfl rfl)
theorem dL_law_847 : decode cL_law 847 = .ok (.iaload, 1) := dk_46 (dk_at dksL_law_32 17 rfl rfl)
theorem dL_law_848 : decode cL_law 848 = .ok (.invokevirtual 116, 3) := dk_182 0 116 (dk_at dksL_law_32 18 rfl rfl)
theorem dL_law_851 : decode cL_law 851 = .ok (.if_icmp .eq 5, 3) := dk_159 0 5 (dk_at dksL_law_32 21 rfl rfl)
theorem dL_law_854 : decode cL_law 854 = .ok (.iconst 0, 1) := dk_3 (dk_at dksL_law_33 0 rfl rfl)
theorem dL_law_855 : decode cL_law 855 = .ok (.ireturn, 1) := dk_172 (dk_at dksL_law_33 1 rfl rfl)
theorem dL_law_856 : decode cL_law 856 = .ok (.iinc 3 6, 3) := dk_132 3 6 (dk_at dksL_law_33 2 rfl rfl)
theorem dL_law_859 : decode cL_law 859 = .ok (.goto (-841), 3) := dk_167 252 183 (dk_at dksL_law_33 5 rfl rfl)
theorem dL_law_862 : decode cL_law 862 = .ok (.iconst 1, 1) := dk_4 (dk_at dksL_law_33 8 rfl rfl)
theorem dL_law_863 : decode cL_law 863 = .ok (.ireturn, 1) := dk_172 (dk_at dksL_law_33 9 rfl rfl)
