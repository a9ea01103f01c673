/-! TableCatalog$Reader -/
set_option maxRecDepth 100000
def RX1 : String := "TableCatalog$Reader"
def TX1 : u_T := fun k => match k with
  | 0 => ("TableCatalog$Reader", "fault", "LTableCatalog$Fault;", true)
  | 1 => ("TableCatalog$Reader", "text", "[B", false)
  | 2 => ("TableCatalog$Reader", "size", "I", false)
  | 3 => ("TableCatalog$Reader", "at", "I", false)
  | 4 => ("TableCatalog$Reader", "begin", "I", false)
  | 5 => ("TableCatalog$Reader", "open", "I", false)
  | 6 => ("TableCatalog$Reader", "made", "LTableCatalog$Table;", false)
  | 7 => ("TableCatalog$Reader", "parts", "Ljava/util/ArrayList;", true)
  | 8 => ("TableCatalog$Reader", "froms", "Ljava/util/ArrayList;", true)
  | 9 => ("TableCatalog$Reader", "fromPlaces", "[I", true)
  | 10 => ("TableCatalog$Reader", "columnPlaces", "[I", true)
  | 11 => ("TableCatalog$Reader", "namePlace", "I", false)
  | 12 => ("TableCatalog$Reader", "told", "[C", true)
  | 13 => ("TableCatalog$Reader", "toldSize", "I", false)
  | _ => ("TableCatalog$Reader", "this$0", "LTableCatalog;", true)
def tyX1 : Nat → FieldType := fun k => match k with
  | 0 => .object "TableCatalog$Fault"
  | 1 => .array .byte
  | 2 => .int
  | 3 => .int
  | 4 => .int
  | 5 => .int
  | 6 => .object "TableCatalog$Table"
  | 7 => .object "java/util/ArrayList"
  | 8 => .object "java/util/ArrayList"
  | 9 => .array .int
  | 10 => .array .int
  | 11 => .int
  | 12 => .array .char
  | 13 => .int
  | _ => .object "TableCatalog"
abbrev wsX10 : List Cond := u_ws RX1 TX1 15
set_option maxRecDepth 100000 in
theorem nmX1 : ∀ a, a < 15 → ∀ b, b < 15 → a ≠ b → (TX1 a).2.1 ≠ (TX1 b).2.1 := by decide +kernel
set_option maxRecDepth 100000 in
theorem tyX1_ok : ∀ k, k < 15 → parseFieldDescriptor (TX1 k).2.2.1 = some (tyX1 k) := by decide +kernel
abbrev cX1_init : ByteArray := prog_9_method_1_code
def yX1_init : MethodName := ⟨RX1, "<init>", "(LTableCatalog;)V"⟩
def dkwX1_init_2 : List UInt8 := [181, 0, 32, 42, 16, 6, 188, 10, 181, 0, 36, 42, 17, 4, 176, 188, 5, 181, 0, 39, 177]
abbrev dktX1_init_2 : List UInt8 := dkwX1_init_2 ++ []
def dkwX1_init_1 : List UInt8 := [89, 183, 0, 24, 181, 0, 25, 42, 187, 0, 22, 89, 183, 0, 24, 181, 0, 29, 42, 6, 188, 10]
abbrev dktX1_init_1 : List UInt8 := dkwX1_init_1 ++ dktX1_init_2
def dkwX1_init_0 : List UInt8 := [42, 43, 181, 0, 3, 42, 183, 0, 9, 42, 187, 0, 15, 89, 183, 0, 17, 181, 0, 18, 42, 187, 0, 22]
abbrev dktX1_init_0 : List UInt8 := dkwX1_init_0 ++ dktX1_init_1
theorem dksX1_init_0 : cX1_init.data.toList.drop 0 = dktX1_init_0 := by decide +kernel
theorem dksX1_init_1 : cX1_init.data.toList.drop 24 = dktX1_init_1 := dk_seg dksX1_init_0 24 rfl rfl
theorem dksX1_init_2 : cX1_init.data.toList.drop 46 = dktX1_init_2 := dk_seg dksX1_init_1 22 rfl rfl
theorem dX1_init_0 : decode cX1_init 0 = .ok (.aload_n 0, 1) := dk_42 (dk_at dksX1_init_0 0 rfl rfl)
theorem dX1_init_1 : decode cX1_init 1 = .ok (.aload_n 1, 1) := dk_43 (dk_at dksX1_init_0 1 rfl rfl)
theorem dX1_init_2 : decode cX1_init 2 = .ok (.putfield 3, 3) := dk_181 0 3 (dk_at dksX1_init_0 2 rfl rfl)
theorem dX1_init_5 : decode cX1_init 5 = .ok (.aload_n 0, 1) := dk_42 (dk_at dksX1_init_0 5 rfl rfl)
theorem dX1_init_6 : decode cX1_init 6 = .ok (.invokespecial 9, 3) := dk_183 0 9 (dk_at dksX1_init_0 6 rfl rfl)
theorem dX1_init_9 : decode cX1_init 9 = .ok (.aload_n 0, 1) := dk_42 (dk_at dksX1_init_0 9 rfl rfl)
theorem dX1_init_10 : decode cX1_init 10 = .ok (.new 15, 3) := dk_187 0 15 (dk_at dksX1_init_0 10 rfl rfl)
theorem dX1_init_13 : decode cX1_init 13 = .ok (.dup, 1) := dk_89 (dk_at dksX1_init_0 13 rfl rfl)
theorem dX1_init_14 : decode cX1_init 14 = .ok (.invokespecial 17, 3) := dk_183 0 17 (dk_at dksX1_init_0 14 rfl rfl)
theorem dX1_init_17 : decode cX1_init 17 = .ok (.putfield 18, 3) := dk_181 0 18 (dk_at dksX1_init_0 17 rfl rfl)
theorem dX1_init_20 : decode cX1_init 20 = .ok (.aload_n 0, 1) := dk_42 (dk_at dksX1_init_0 20 rfl rfl)
theorem dX1_init_21 : decode cX1_init 21 = .ok (.new 22, 3) := dk_187 0 22 (dk_at dksX1_init_0 21 rfl rfl)
theorem dX1_init_24 : decode cX1_init 24 = .ok (.dup, 1) := dk_89 (dk_at dksX1_init_1 0 rfl rfl)
theorem dX1_init_25 : decode cX1_init 25 = .ok (.invokespecial 24, 3) := dk_183 0 24 (dk_at dksX1_init_1 1 rfl rfl)
theorem dX1_init_28 : decode cX1_init 28 = .ok (.putfield 25, 3) := dk_181 0 25 (dk_at dksX1_init_1 4 rfl rfl)
theorem dX1_init_31 : decode cX1_init 31 = .ok (.aload_n 0, 1) := dk_42 (dk_at dksX1_init_1 7 rfl rfl)
theorem dX1_init_32 : decode cX1_init 32 = .ok (.new 22, 3) := dk_187 0 22 (dk_at dksX1_init_1 8 rfl rfl)
theorem dX1_init_35 : decode cX1_init 35 = .ok (.dup, 1) := dk_89 (dk_at dksX1_init_1 11 rfl rfl)
theorem dX1_init_36 : decode cX1_init 36 = .ok (.invokespecial 24, 3) := dk_183 0 24 (dk_at dksX1_init_1 12 rfl rfl)
theorem dX1_init_39 : decode cX1_init 39 = .ok (.putfield 29, 3) := dk_181 0 29 (dk_at dksX1_init_1 15 rfl rfl)
theorem dX1_init_42 : decode cX1_init 42 = .ok (.aload_n 0, 1) := dk_42 (dk_at dksX1_init_1 18 rfl rfl)
theorem dX1_init_43 : decode cX1_init 43 = .ok (.iconst 3, 1) := dk_6 (dk_at dksX1_init_1 19 rfl rfl)
theorem dX1_init_44 : decode cX1_init 44 = .ok (.newarray .int, 2) := dk_188_10 (dk_at dksX1_init_1 20 rfl rfl)
theorem dX1_init_46 : decode cX1_init 46 = .ok (.putfield 32, 3) := dk_181 0 32 (dk_at dksX1_init_2 0 rfl rfl)
theorem dX1_init_49 : decode cX1_init 49 = .ok (.aload_n 0, 1) := dk_42 (dk_at dksX1_init_2 3 rfl rfl)
theorem dX1_init_50 : decode cX1_init 50 = .ok (.bipush 6, 2) := dk_16 6 (dk_at dksX1_init_2 4 rfl rfl)
theorem dX1_init_52 : decode cX1_init 52 = .ok (.newarray .int, 2) := dk_188_10 (dk_at dksX1_init_2 6 rfl rfl)
theorem dX1_init_54 : decode cX1_init 54 = .ok (.putfield 36, 3) := dk_181 0 36 (dk_at dksX1_init_2 8 rfl rfl)
theorem dX1_init_57 : decode cX1_init 57 = .ok (.aload_n 0, 1) := dk_42 (dk_at dksX1_init_2 11 rfl rfl)
theorem dX1_init_58 : decode cX1_init 58 = .ok (.sipush 1200, 3) := dk_17 4 176 (dk_at dksX1_init_2 12 rfl rfl)
theorem dX1_init_61 : decode cX1_init 61 = .ok (.newarray .char, 2) := dk_188_5 (dk_at dksX1_init_2 15 rfl rfl)
theorem dX1_init_63 : decode cX1_init 63 = .ok (.putfield 39, 3) := dk_181 0 39 (dk_at dksX1_init_2 17 rfl rfl)
theorem dX1_init_66 : decode cX1_init 66 = .ok (.return_, 1) := dk_177 (dk_at dksX1_init_2 20 rfl rfl)
abbrev cX1_all : ByteArray := prog_9_method_9_code
def yX1_all : MethodName := ⟨RX1, "all", "([BI)LTableCatalog$Table;"⟩
def dkwX1_all_7 : List UInt8 := [42, 182, 0, 63, 2, 159, 0, 13, 42, 4, 42, 180, 0, 50, 182, 0, 67, 191, 42, 180, 0, 127, 176]
abbrev dktX1_all_7 : List UInt8 := dkwX1_all_7 ++ []
def dkwX1_all_6 : List UInt8 := [180, 0, 127, 42, 180, 0, 39, 3, 42, 180, 0, 96, 184, 0, 141, 181, 0, 144, 42, 16, 59, 182, 0, 134]
abbrev dktX1_all_6 : List UInt8 := dkwX1_all_6 ++ dktX1_all_7
def dkwX1_all_5 : List UInt8 := [42, 182, 0, 131, 167, 0, 37, 42, 16, 61, 182, 0, 134, 42, 3, 181, 0, 96, 42, 182, 0, 138, 42]
abbrev dktX1_all_5 : List UInt8 := dkwX1_all_5 ++ dktX1_all_6
def dkwX1_all_4 : List UInt8 := [180, 0, 60, 181, 0, 119, 42, 187, 0, 122, 89, 25, 4, 29, 183, 0, 124, 181, 0, 127, 29, 154, 0, 10]
abbrev dktX1_all_4 : List UInt8 := dkwX1_all_4 ++ dktX1_all_5
def dkwX1_all_3 : List UInt8 := [62, 29, 2, 160, 0, 13, 42, 4, 42, 180, 0, 60, 182, 0, 67, 191, 42, 182, 0, 115, 58, 4, 42, 42]
abbrev dktX1_all_3 : List UInt8 := dkwX1_all_3 ++ dktX1_all_4
def dkwX1_all_2 : List UInt8 := [182, 0, 108, 153, 0, 7, 4, 167, 0, 17, 42, 18, 113, 182, 0, 108, 153, 0, 7, 5, 167, 0, 4, 2]
abbrev dktX1_all_2 : List UInt8 := dkwX1_all_2 ++ dktX1_all_3
def dkwX1_all_1 : List UInt8 := [180, 0, 29, 182, 0, 103, 42, 18, 106, 182, 0, 108, 153, 0, 7, 3, 167, 0, 30, 42, 18, 111]
abbrev dktX1_all_1 : List UInt8 := dkwX1_all_1 ++ dktX1_all_2
def dkwX1_all_0 : List UInt8 := [42, 43, 181, 0, 56, 42, 28, 181, 0, 53, 42, 3, 181, 0, 50, 42, 180, 0, 25, 182, 0, 103, 42]
abbrev dktX1_all_0 : List UInt8 := dkwX1_all_0 ++ dktX1_all_1
theorem dksX1_all_0 : cX1_all.data.toList.drop 0 = dktX1_all_0 := by decide +kernel
theorem dksX1_all_1 : cX1_all.data.toList.drop 23 = dktX1_all_1 := dk_seg dksX1_all_0 23 rfl rfl
theorem dksX1_all_2 : cX1_all.data.toList.drop 45 = dktX1_all_2 := dk_seg dksX1_all_1 22 rfl rfl
theorem dksX1_all_3 : cX1_all.data.toList.drop 69 = dktX1_all_3 := dk_seg dksX1_all_2 24 rfl rfl
theorem dksX1_all_4 : cX1_all.data.toList.drop 93 = dktX1_all_4 := dk_seg dksX1_all_3 24 rfl rfl
theorem dksX1_all_5 : cX1_all.data.toList.drop 117 = dktX1_all_5 := dk_seg dksX1_all_4 24 rfl rfl
theorem dksX1_all_6 : cX1_all.data.toList.drop 140 = dktX1_all_6 := dk_seg dksX1_all_5 23 rfl rfl
theorem dksX1_all_7 : cX1_all.data.toList.drop 164 = dktX1_all_7 := dk_seg dksX1_all_6 24 rfl rfl
theorem dX1_all_0 : decode cX1_all 0 = .ok (.aload_n 0, 1) := dk_42 (dk_at dksX1_all_0 0 rfl rfl)
theorem dX1_all_1 : decode cX1_all 1 = .ok (.aload_n 1, 1) := dk_43 (dk_at dksX1_all_0 1 rfl rfl)
theorem dX1_all_2 : decode cX1_all 2 = .ok (.putfield 56, 3) := dk_181 0 56 (dk_at dksX1_all_0 2 rfl rfl)
theorem dX1_all_5 : decode cX1_all 5 = .ok (.aload_n 0, 1) := dk_42 (dk_at dksX1_all_0 5 rfl rfl)
theorem dX1_all_6 : decode cX1_all 6 = .ok (.iload_n 2, 1) := dk_28 (dk_at dksX1_all_0 6 rfl rfl)
theorem dX1_all_7 : decode cX1_all 7 = .ok (.putfield 53, 3) := dk_181 0 53 (dk_at dksX1_all_0 7 rfl rfl)
theorem dX1_all_10 : decode cX1_all 10 = .ok (.aload_n 0, 1) := dk_42 (dk_at dksX1_all_0 10 rfl rfl)
theorem dX1_all_11 : decode cX1_all 11 = .ok (.iconst 0, 1) := dk_3 (dk_at dksX1_all_0 11 rfl rfl)
theorem dX1_all_12 : decode cX1_all 12 = .ok (.putfield 50, 3) := dk_181 0 50 (dk_at dksX1_all_0 12 rfl rfl)
theorem dX1_all_15 : decode cX1_all 15 = .ok (.aload_n 0, 1) := dk_42 (dk_at dksX1_all_0 15 rfl rfl)
theorem dX1_all_16 : decode cX1_all 16 = .ok (.getfield 25, 3) := dk_180 0 25 (dk_at dksX1_all_0 16 rfl rfl)
theorem dX1_all_19 : decode cX1_all 19 = .ok (.invokevirtual 103, 3) := dk_182 0 103 (dk_at dksX1_all_0 19 rfl rfl)
theorem dX1_all_22 : decode cX1_all 22 = .ok (.aload_n 0, 1) := dk_42 (dk_at dksX1_all_0 22 rfl rfl)
theorem dX1_all_23 : decode cX1_all 23 = .ok (.getfield 29, 3) := dk_180 0 29 (dk_at dksX1_all_1 0 rfl rfl)
theorem dX1_all_26 : decode cX1_all 26 = .ok (.invokevirtual 103, 3) := dk_182 0 103 (dk_at dksX1_all_1 3 rfl rfl)
theorem dX1_all_29 : decode cX1_all 29 = .ok (.aload_n 0, 1) := dk_42 (dk_at dksX1_all_1 6 rfl rfl)
theorem dX1_all_30 : decode cX1_all 30 = .ok (.ldc 106, 2) := dk_18 106 (dk_at dksX1_all_1 7 rfl rfl)
theorem dX1_all_32 : decode cX1_all 32 = .ok (.invokevirtual 108, 3) := dk_182 0 108 (dk_at dksX1_all_1 9 rfl rfl)
theorem dX1_all_35 : decode cX1_all 35 = .ok (.ifCond .eq 7, 3) := dk_153 0 7 (dk_at dksX1_all_1 12 rfl rfl)
theorem dX1_all_38 : decode cX1_all 38 = .ok (.iconst 0, 1) := dk_3 (dk_at dksX1_all_1 15 rfl rfl)
theorem dX1_all_39 : decode cX1_all 39 = .ok (.goto 30, 3) := dk_167 0 30 (dk_at dksX1_all_1 16 rfl rfl)
theorem dX1_all_42 : decode cX1_all 42 = .ok (.aload_n 0, 1) := dk_42 (dk_at dksX1_all_1 19 rfl rfl)
theorem dX1_all_43 : decode cX1_all 43 = .ok (.ldc 111, 2) := dk_18 111 (dk_at dksX1_all_1 20 rfl rfl)
theorem dX1_all_45 : decode cX1_all 45 = .ok (.invokevirtual 108, 3) := dk_182 0 108 (dk_at dksX1_all_2 0 rfl rfl)
theorem dX1_all_48 : decode cX1_all 48 = .ok (.ifCond .eq 7, 3) := dk_153 0 7 (dk_at dksX1_all_2 3 rfl rfl)
theorem dX1_all_51 : decode cX1_all 51 = .ok (.iconst 1, 1) := dk_4 (dk_at dksX1_all_2 6 rfl rfl)
theorem dX1_all_52 : decode cX1_all 52 = .ok (.goto 17, 3) := dk_167 0 17 (dk_at dksX1_all_2 7 rfl rfl)
theorem dX1_all_55 : decode cX1_all 55 = .ok (.aload_n 0, 1) := dk_42 (dk_at dksX1_all_2 10 rfl rfl)
theorem dX1_all_56 : decode cX1_all 56 = .ok (.ldc 113, 2) := dk_18 113 (dk_at dksX1_all_2 11 rfl rfl)
theorem dX1_all_58 : decode cX1_all 58 = .ok (.invokevirtual 108, 3) := dk_182 0 108 (dk_at dksX1_all_2 13 rfl rfl)
theorem dX1_all_61 : decode cX1_all 61 = .ok (.ifCond .eq 7, 3) := dk_153 0 7 (dk_at dksX1_all_2 16 rfl rfl)
theorem dX1_all_64 : decode cX1_all 64 = .ok (.iconst 2, 1) := dk_5 (dk_at dksX1_all_2 19 rfl rfl)
theorem dX1_all_65 : decode cX1_all 65 = .ok (.goto 4, 3) := dk_167 0 4 (dk_at dksX1_all_2 20 rfl rfl)
theorem dX1_all_68 : decode cX1_all 68 = .ok (.iconst (-1), 1) := dk_2 (dk_at dksX1_all_2 23 rfl rfl)
theorem dX1_all_69 : decode cX1_all 69 = .ok (.istore_n 3, 1) := dk_62 (dk_at dksX1_all_3 0 rfl rfl)
theorem dX1_all_70 : decode cX1_all 70 = .ok (.iload_n 3, 1) := dk_29 (dk_at dksX1_all_3 1 rfl rfl)
theorem dX1_all_71 : decode cX1_all 71 = .ok (.iconst (-1), 1) := dk_2 (dk_at dksX1_all_3 2 rfl rfl)
theorem dX1_all_72 : decode cX1_all 72 = .ok (.if_icmp .ne 13, 3) := dk_160 0 13 (dk_at dksX1_all_3 3 rfl rfl)
theorem dX1_all_75 : decode cX1_all 75 = .ok (.aload_n 0, 1) := dk_42 (dk_at dksX1_all_3 6 rfl rfl)
theorem dX1_all_76 : decode cX1_all 76 = .ok (.iconst 1, 1) := dk_4 (dk_at dksX1_all_3 7 rfl rfl)
theorem dX1_all_77 : decode cX1_all 77 = .ok (.aload_n 0, 1) := dk_42 (dk_at dksX1_all_3 8 rfl rfl)
theorem dX1_all_78 : decode cX1_all 78 = .ok (.getfield 60, 3) := dk_180 0 60 (dk_at dksX1_all_3 9 rfl rfl)
theorem dX1_all_81 : decode cX1_all 81 = .ok (.invokevirtual 67, 3) := dk_182 0 67 (dk_at dksX1_all_3 12 rfl rfl)
theorem dX1_all_84 : decode cX1_all 84 = .ok (.athrow, 1) := dk_191 (dk_at dksX1_all_3 15 rfl rfl)
theorem dX1_all_85 : decode cX1_all 85 = .ok (.aload_n 0, 1) := dk_42 (dk_at dksX1_all_3 16 rfl rfl)
theorem dX1_all_86 : decode cX1_all 86 = .ok (.invokevirtual 115, 3) := dk_182 0 115 (dk_at dksX1_all_3 17 rfl rfl)
theorem dX1_all_89 : decode cX1_all 89 = .ok (.astore 4, 2) := dk_58 4 (dk_at dksX1_all_3 20 rfl rfl)
theorem dX1_all_91 : decode cX1_all 91 = .ok (.aload_n 0, 1) := dk_42 (dk_at dksX1_all_3 22 rfl rfl)
theorem dX1_all_92 : decode cX1_all 92 = .ok (.aload_n 0, 1) := dk_42 (dk_at dksX1_all_3 23 rfl rfl)
theorem dX1_all_93 : decode cX1_all 93 = .ok (.getfield 60, 3) := dk_180 0 60 (dk_at dksX1_all_4 0 rfl rfl)
theorem dX1_all_96 : decode cX1_all 96 = .ok (.putfield 119, 3) := dk_181 0 119 (dk_at dksX1_all_4 3 rfl rfl)
theorem dX1_all_99 : decode cX1_all 99 = .ok (.aload_n 0, 1) := dk_42 (dk_at dksX1_all_4 6 rfl rfl)
theorem dX1_all_100 : decode cX1_all 100 = .ok (.new 122, 3) := dk_187 0 122 (dk_at dksX1_all_4 7 rfl rfl)
theorem dX1_all_103 : decode cX1_all 103 = .ok (.dup, 1) := dk_89 (dk_at dksX1_all_4 10 rfl rfl)
theorem dX1_all_104 : decode cX1_all 104 = .ok (.aload 4, 2) := dk_25 4 (dk_at dksX1_all_4 11 rfl rfl)
theorem dX1_all_106 : decode cX1_all 106 = .ok (.iload_n 3, 1) := dk_29 (dk_at dksX1_all_4 13 rfl rfl)
theorem dX1_all_107 : decode cX1_all 107 = .ok (.invokespecial 124, 3) := dk_183 0 124 (dk_at dksX1_all_4 14 rfl rfl)
theorem dX1_all_110 : decode cX1_all 110 = .ok (.putfield 127, 3) := dk_181 0 127 (dk_at dksX1_all_4 17 rfl rfl)
theorem dX1_all_113 : decode cX1_all 113 = .ok (.iload_n 3, 1) := dk_29 (dk_at dksX1_all_4 20 rfl rfl)
theorem dX1_all_114 : decode cX1_all 114 = .ok (.ifCond .ne 10, 3) := dk_154 0 10 (dk_at dksX1_all_4 21 rfl rfl)
theorem dX1_all_117 : decode cX1_all 117 = .ok (.aload_n 0, 1) := dk_42 (dk_at dksX1_all_5 0 rfl rfl)
theorem dX1_all_118 : decode cX1_all 118 = .ok (.invokevirtual 131, 3) := dk_182 0 131 (dk_at dksX1_all_5 1 rfl rfl)
theorem dX1_all_121 : decode cX1_all 121 = .ok (.goto 37, 3) := dk_167 0 37 (dk_at dksX1_all_5 4 rfl rfl)
theorem dX1_all_124 : decode cX1_all 124 = .ok (.aload_n 0, 1) := dk_42 (dk_at dksX1_all_5 7 rfl rfl)
theorem dX1_all_125 : decode cX1_all 125 = .ok (.bipush 61, 2) := dk_16 61 (dk_at dksX1_all_5 8 rfl rfl)
theorem dX1_all_127 : decode cX1_all 127 = .ok (.invokevirtual 134, 3) := dk_182 0 134 (dk_at dksX1_all_5 10 rfl rfl)
theorem dX1_all_130 : decode cX1_all 130 = .ok (.aload_n 0, 1) := dk_42 (dk_at dksX1_all_5 13 rfl rfl)
theorem dX1_all_131 : decode cX1_all 131 = .ok (.iconst 0, 1) := dk_3 (dk_at dksX1_all_5 14 rfl rfl)
theorem dX1_all_132 : decode cX1_all 132 = .ok (.putfield 96, 3) := dk_181 0 96 (dk_at dksX1_all_5 15 rfl rfl)
theorem dX1_all_135 : decode cX1_all 135 = .ok (.aload_n 0, 1) := dk_42 (dk_at dksX1_all_5 18 rfl rfl)
theorem dX1_all_136 : decode cX1_all 136 = .ok (.invokevirtual 138, 3) := dk_182 0 138 (dk_at dksX1_all_5 19 rfl rfl)
theorem dX1_all_139 : decode cX1_all 139 = .ok (.aload_n 0, 1) := dk_42 (dk_at dksX1_all_5 22 rfl rfl)
theorem dX1_all_140 : decode cX1_all 140 = .ok (.getfield 127, 3) := dk_180 0 127 (dk_at dksX1_all_6 0 rfl rfl)
theorem dX1_all_143 : decode cX1_all 143 = .ok (.aload_n 0, 1) := dk_42 (dk_at dksX1_all_6 3 rfl rfl)
theorem dX1_all_144 : decode cX1_all 144 = .ok (.getfield 39, 3) := dk_180 0 39 (dk_at dksX1_all_6 4 rfl rfl)
theorem dX1_all_147 : decode cX1_all 147 = .ok (.iconst 0, 1) := dk_3 (dk_at dksX1_all_6 7 rfl rfl)
theorem dX1_all_148 : decode cX1_all 148 = .ok (.aload_n 0, 1) := dk_42 (dk_at dksX1_all_6 8 rfl rfl)
theorem dX1_all_149 : decode cX1_all 149 = .ok (.getfield 96, 3) := dk_180 0 96 (dk_at dksX1_all_6 9 rfl rfl)
theorem dX1_all_152 : decode cX1_all 152 = .ok (.invokestatic 141, 3) := dk_184 0 141 (dk_at dksX1_all_6 12 rfl rfl)
theorem dX1_all_155 : decode cX1_all 155 = .ok (.putfield 144, 3) := dk_181 0 144 (dk_at dksX1_all_6 15 rfl rfl)
theorem dX1_all_158 : decode cX1_all 158 = .ok (.aload_n 0, 1) := dk_42 (dk_at dksX1_all_6 18 rfl rfl)
theorem dX1_all_159 : decode cX1_all 159 = .ok (.bipush 59, 2) := dk_16 59 (dk_at dksX1_all_6 19 rfl rfl)
theorem dX1_all_161 : decode cX1_all 161 = .ok (.invokevirtual 134, 3) := dk_182 0 134 (dk_at dksX1_all_6 21 rfl rfl)
theorem dX1_all_164 : decode cX1_all 164 = .ok (.aload_n 0, 1) := dk_42 (dk_at dksX1_all_7 0 rfl rfl)
theorem dX1_all_165 : decode cX1_all 165 = .ok (.invokevirtual 63, 3) := dk_182 0 63 (dk_at dksX1_all_7 1 rfl rfl)
theorem dX1_all_168 : decode cX1_all 168 = .ok (.iconst (-1), 1) := dk_2 (dk_at dksX1_all_7 4 rfl rfl)
theorem dX1_all_169 : decode cX1_all 169 = .ok (.if_icmp .eq 13, 3) := dk_159 0 13 (dk_at dksX1_all_7 5 rfl rfl)
theorem dX1_all_172 : decode cX1_all 172 = .ok (.aload_n 0, 1) := dk_42 (dk_at dksX1_all_7 8 rfl rfl)
theorem dX1_all_173 : decode cX1_all 173 = .ok (.iconst 1, 1) := dk_4 (dk_at dksX1_all_7 9 rfl rfl)
theorem dX1_all_174 : decode cX1_all 174 = .ok (.aload_n 0, 1) := dk_42 (dk_at dksX1_all_7 10 rfl rfl)
theorem dX1_all_175 : decode cX1_all 175 = .ok (.getfield 50, 3) := dk_180 0 50 (dk_at dksX1_all_7 11 rfl rfl)
theorem dX1_all_178 : decode cX1_all 178 = .ok (.invokevirtual 67, 3) := dk_182 0 67 (dk_at dksX1_all_7 14 rfl rfl)
theorem dX1_all_181 : decode cX1_all 181 = .ok (.athrow, 1) := dk_191 (dk_at dksX1_all_7 17 rfl rfl)
theorem dX1_all_182 : decode cX1_all 182 = .ok (.aload_n 0, 1) := dk_42 (dk_at dksX1_all_7 18 rfl rfl)
theorem dX1_all_183 : decode cX1_all 183 = .ok (.getfield 127, 3) := dk_180 0 127 (dk_at dksX1_all_7 19 rfl rfl)
theorem dX1_all_186 : decode cX1_all 186 = .ok (.areturn, 1) := dk_176 (dk_at dksX1_all_7 22 rfl rfl)
abbrev cX1_is : ByteArray := prog_9_method_6_code
def yX1_is : MethodName := ⟨RX1, "is", "(Ljava/lang/String;)Z"⟩
def dkwX1_is_3 : List UInt8 := [154, 0, 5, 3, 172, 42, 28, 181, 0, 50, 4, 172]
abbrev dktX1_is_3 : List UInt8 := dkwX1_is_3 ++ []
def dkwX1_is_2 : List UInt8 := [180, 0, 50, 100, 43, 182, 0, 81, 160, 0, 19, 42, 42, 180, 0, 50, 28, 182, 0, 84, 43, 182, 0, 88]
abbrev dktX1_is_2 : List UInt8 := dkwX1_is_2 ++ dktX1_is_3
def dkwX1_is_1 : List UInt8 := [162, 0, 21, 42, 180, 0, 56, 28, 51, 184, 0, 77, 153, 0, 9, 132, 2, 1, 167, 255, 233, 28, 42]
abbrev dktX1_is_1 : List UInt8 := dkwX1_is_1 ++ dktX1_is_2
def dkwX1_is_0 : List UInt8 := [42, 182, 0, 63, 184, 0, 77, 154, 0, 5, 3, 172, 42, 180, 0, 50, 61, 28, 42, 180, 0, 53]
abbrev dktX1_is_0 : List UInt8 := dkwX1_is_0 ++ dktX1_is_1
theorem dksX1_is_0 : cX1_is.data.toList.drop 0 = dktX1_is_0 := by decide +kernel
theorem dksX1_is_1 : cX1_is.data.toList.drop 22 = dktX1_is_1 := dk_seg dksX1_is_0 22 rfl rfl
theorem dksX1_is_2 : cX1_is.data.toList.drop 45 = dktX1_is_2 := dk_seg dksX1_is_1 23 rfl rfl
theorem dksX1_is_3 : cX1_is.data.toList.drop 69 = dktX1_is_3 := dk_seg dksX1_is_2 24 rfl rfl
theorem dX1_is_0 : decode cX1_is 0 = .ok (.aload_n 0, 1) := dk_42 (dk_at dksX1_is_0 0 rfl rfl)
theorem dX1_is_1 : decode cX1_is 1 = .ok (.invokevirtual 63, 3) := dk_182 0 63 (dk_at dksX1_is_0 1 rfl rfl)
theorem dX1_is_4 : decode cX1_is 4 = .ok (.invokestatic 77, 3) := dk_184 0 77 (dk_at dksX1_is_0 4 rfl rfl)
theorem dX1_is_7 : decode cX1_is 7 = .ok (.ifCond .ne 5, 3) := dk_154 0 5 (dk_at dksX1_is_0 7 rfl rfl)
theorem dX1_is_10 : decode cX1_is 10 = .ok (.iconst 0, 1) := dk_3 (dk_at dksX1_is_0 10 rfl rfl)
theorem dX1_is_11 : decode cX1_is 11 = .ok (.ireturn, 1) := dk_172 (dk_at dksX1_is_0 11 rfl rfl)
theorem dX1_is_12 : decode cX1_is 12 = .ok (.aload_n 0, 1) := dk_42 (dk_at dksX1_is_0 12 rfl rfl)
theorem dX1_is_13 : decode cX1_is 13 = .ok (.getfield 50, 3) := dk_180 0 50 (dk_at dksX1_is_0 13 rfl rfl)
theorem dX1_is_16 : decode cX1_is 16 = .ok (.istore_n 2, 1) := dk_61 (dk_at dksX1_is_0 16 rfl rfl)
theorem dX1_is_17 : decode cX1_is 17 = .ok (.iload_n 2, 1) := dk_28 (dk_at dksX1_is_0 17 rfl rfl)
theorem dX1_is_18 : decode cX1_is 18 = .ok (.aload_n 0, 1) := dk_42 (dk_at dksX1_is_0 18 rfl rfl)
theorem dX1_is_19 : decode cX1_is 19 = .ok (.getfield 53, 3) := dk_180 0 53 (dk_at dksX1_is_0 19 rfl rfl)
theorem dX1_is_22 : decode cX1_is 22 = .ok (.if_icmp .ge 21, 3) := dk_162 0 21 (dk_at dksX1_is_1 0 rfl rfl)
theorem dX1_is_25 : decode cX1_is 25 = .ok (.aload_n 0, 1) := dk_42 (dk_at dksX1_is_1 3 rfl rfl)
theorem dX1_is_26 : decode cX1_is 26 = .ok (.getfield 56, 3) := dk_180 0 56 (dk_at dksX1_is_1 4 rfl rfl)
theorem dX1_is_29 : decode cX1_is 29 = .ok (.iload_n 2, 1) := dk_28 (dk_at dksX1_is_1 7 rfl rfl)
theorem dX1_is_30 : decode cX1_is 30 = .ok (.baload, 1) := dk_51 (dk_at dksX1_is_1 8 rfl rfl)
theorem dX1_is_31 : decode cX1_is 31 = .ok (.invokestatic 77, 3) := dk_184 0 77 (dk_at dksX1_is_1 9 rfl rfl)
theorem dX1_is_34 : decode cX1_is 34 = .ok (.ifCond .eq 9, 3) := dk_153 0 9 (dk_at dksX1_is_1 12 rfl rfl)
theorem dX1_is_37 : decode cX1_is 37 = .ok (.iinc 2 1, 3) := dk_132 2 1 (dk_at dksX1_is_1 15 rfl rfl)
theorem dX1_is_40 : decode cX1_is 40 = .ok (.goto (-23), 3) := dk_167 255 233 (dk_at dksX1_is_1 18 rfl rfl)
theorem dX1_is_43 : decode cX1_is 43 = .ok (.iload_n 2, 1) := dk_28 (dk_at dksX1_is_1 21 rfl rfl)
theorem dX1_is_44 : decode cX1_is 44 = .ok (.aload_n 0, 1) := dk_42 (dk_at dksX1_is_1 22 rfl rfl)
theorem dX1_is_45 : decode cX1_is 45 = .ok (.getfield 50, 3) := dk_180 0 50 (dk_at dksX1_is_2 0 rfl rfl)
theorem dX1_is_48 : decode cX1_is 48 = .ok (.isub, 1) := dk_100 (dk_at dksX1_is_2 3 rfl rfl)
theorem dX1_is_49 : decode cX1_is 49 = .ok (.aload_n 1, 1) := dk_43 (dk_at dksX1_is_2 4 rfl rfl)
theorem dX1_is_50 : decode cX1_is 50 = .ok (.invokevirtual 81, 3) := dk_182 0 81 (dk_at dksX1_is_2 5 rfl rfl)
theorem dX1_is_53 : decode cX1_is 53 = .ok (.if_icmp .ne 19, 3) := dk_160 0 19 (dk_at dksX1_is_2 8 rfl rfl)
theorem dX1_is_56 : decode cX1_is 56 = .ok (.aload_n 0, 1) := dk_42 (dk_at dksX1_is_2 11 rfl rfl)
theorem dX1_is_57 : decode cX1_is 57 = .ok (.aload_n 0, 1) := dk_42 (dk_at dksX1_is_2 12 rfl rfl)
theorem dX1_is_58 : decode cX1_is 58 = .ok (.getfield 50, 3) := dk_180 0 50 (dk_at dksX1_is_2 13 rfl rfl)
theorem dX1_is_61 : decode cX1_is 61 = .ok (.iload_n 2, 1) := dk_28 (dk_at dksX1_is_2 16 rfl rfl)
theorem dX1_is_62 : decode cX1_is 62 = .ok (.invokevirtual 84, 3) := dk_182 0 84 (dk_at dksX1_is_2 17 rfl rfl)
theorem dX1_is_65 : decode cX1_is 65 = .ok (.aload_n 1, 1) := dk_43 (dk_at dksX1_is_2 20 rfl rfl)
theorem dX1_is_66 : decode cX1_is 66 = .ok (.invokevirtual 88, 3) := dk_182 0 88 (dk_at dksX1_is_2 21 rfl rfl)
theorem dX1_is_69 : decode cX1_is 69 = .ok (.ifCond .ne 5, 3) := dk_154 0 5 (dk_at dksX1_is_3 0 rfl rfl)
theorem dX1_is_72 : decode cX1_is 72 = .ok (.iconst 0, 1) := dk_3 (dk_at dksX1_is_3 3 rfl rfl)
theorem dX1_is_73 : decode cX1_is 73 = .ok (.ireturn, 1) := dk_172 (dk_at dksX1_is_3 4 rfl rfl)
theorem dX1_is_74 : decode cX1_is 74 = .ok (.aload_n 0, 1) := dk_42 (dk_at dksX1_is_3 5 rfl rfl)
theorem dX1_is_75 : decode cX1_is 75 = .ok (.iload_n 2, 1) := dk_28 (dk_at dksX1_is_3 6 rfl rfl)
theorem dX1_is_76 : decode cX1_is 76 = .ok (.putfield 50, 3) := dk_181 0 50 (dk_at dksX1_is_3 7 rfl rfl)
theorem dX1_is_79 : decode cX1_is 79 = .ok (.iconst 1, 1) := dk_4 (dk_at dksX1_is_3 10 rfl rfl)
theorem dX1_is_80 : decode cX1_is 80 = .ok (.ireturn, 1) := dk_172 (dk_at dksX1_is_3 11 rfl rfl)
abbrev cX1_here : ByteArray := prog_9_method_3_code
def yX1_here : MethodName := ⟨RX1, "here", "()I"⟩
def dkwX1_here_3 : List UInt8 := [162, 0, 19, 42, 180, 0, 56, 42, 180, 0, 50, 51, 17, 0, 255, 126, 167, 0, 4, 2, 172]
abbrev dktX1_here_3 : List UInt8 := dkwX1_here_3 ++ []
def dkwX1_here_2 : List UInt8 := [181, 0, 50, 167, 255, 207, 42, 42, 180, 0, 50, 181, 0, 60, 42, 180, 0, 50, 42, 180, 0, 53]
abbrev dktX1_here_2 : List UInt8 := dkwX1_here_2 ++ dktX1_here_3
def dkwX1_here_1 : List UInt8 := [159, 0, 17, 42, 180, 0, 56, 42, 180, 0, 50, 51, 16, 10, 160, 0, 16, 42, 89, 180, 0, 50, 4, 96]
abbrev dktX1_here_1 : List UInt8 := dkwX1_here_1 ++ dktX1_here_2
def dkwX1_here_0 : List UInt8 := [42, 180, 0, 50, 42, 180, 0, 53, 162, 0, 44, 42, 180, 0, 56, 42, 180, 0, 50, 51, 16, 32]
abbrev dktX1_here_0 : List UInt8 := dkwX1_here_0 ++ dktX1_here_1
theorem dksX1_here_0 : cX1_here.data.toList.drop 0 = dktX1_here_0 := by decide +kernel
theorem dksX1_here_1 : cX1_here.data.toList.drop 22 = dktX1_here_1 := dk_seg dksX1_here_0 22 rfl rfl
theorem dksX1_here_2 : cX1_here.data.toList.drop 46 = dktX1_here_2 := dk_seg dksX1_here_1 24 rfl rfl
theorem dksX1_here_3 : cX1_here.data.toList.drop 68 = dktX1_here_3 := dk_seg dksX1_here_2 22 rfl rfl
theorem dX1_here_0 : decode cX1_here 0 = .ok (.aload_n 0, 1) := dk_42 (dk_at dksX1_here_0 0 rfl rfl)
theorem dX1_here_1 : decode cX1_here 1 = .ok (.getfield 50, 3) := dk_180 0 50 (dk_at dksX1_here_0 1 rfl rfl)
theorem dX1_here_4 : decode cX1_here 4 = .ok (.aload_n 0, 1) := dk_42 (dk_at dksX1_here_0 4 rfl rfl)
theorem dX1_here_5 : decode cX1_here 5 = .ok (.getfield 53, 3) := dk_180 0 53 (dk_at dksX1_here_0 5 rfl rfl)
theorem dX1_here_8 : decode cX1_here 8 = .ok (.if_icmp .ge 44, 3) := dk_162 0 44 (dk_at dksX1_here_0 8 rfl rfl)
theorem dX1_here_11 : decode cX1_here 11 = .ok (.aload_n 0, 1) := dk_42 (dk_at dksX1_here_0 11 rfl rfl)
theorem dX1_here_12 : decode cX1_here 12 = .ok (.getfield 56, 3) := dk_180 0 56 (dk_at dksX1_here_0 12 rfl rfl)
theorem dX1_here_15 : decode cX1_here 15 = .ok (.aload_n 0, 1) := dk_42 (dk_at dksX1_here_0 15 rfl rfl)
theorem dX1_here_16 : decode cX1_here 16 = .ok (.getfield 50, 3) := dk_180 0 50 (dk_at dksX1_here_0 16 rfl rfl)
theorem dX1_here_19 : decode cX1_here 19 = .ok (.baload, 1) := dk_51 (dk_at dksX1_here_0 19 rfl rfl)
theorem dX1_here_20 : decode cX1_here 20 = .ok (.bipush 32, 2) := dk_16 32 (dk_at dksX1_here_0 20 rfl rfl)
theorem dX1_here_22 : decode cX1_here 22 = .ok (.if_icmp .eq 17, 3) := dk_159 0 17 (dk_at dksX1_here_1 0 rfl rfl)
theorem dX1_here_25 : decode cX1_here 25 = .ok (.aload_n 0, 1) := dk_42 (dk_at dksX1_here_1 3 rfl rfl)
theorem dX1_here_26 : decode cX1_here 26 = .ok (.getfield 56, 3) := dk_180 0 56 (dk_at dksX1_here_1 4 rfl rfl)
theorem dX1_here_29 : decode cX1_here 29 = .ok (.aload_n 0, 1) := dk_42 (dk_at dksX1_here_1 7 rfl rfl)
theorem dX1_here_30 : decode cX1_here 30 = .ok (.getfield 50, 3) := dk_180 0 50 (dk_at dksX1_here_1 8 rfl rfl)
theorem dX1_here_33 : decode cX1_here 33 = .ok (.baload, 1) := dk_51 (dk_at dksX1_here_1 11 rfl rfl)
theorem dX1_here_34 : decode cX1_here 34 = .ok (.bipush 10, 2) := dk_16 10 (dk_at dksX1_here_1 12 rfl rfl)
theorem dX1_here_36 : decode cX1_here 36 = .ok (.if_icmp .ne 16, 3) := dk_160 0 16 (dk_at dksX1_here_1 14 rfl rfl)
theorem dX1_here_39 : decode cX1_here 39 = .ok (.aload_n 0, 1) := dk_42 (dk_at dksX1_here_1 17 rfl rfl)
theorem dX1_here_40 : decode cX1_here 40 = .ok (.dup, 1) := dk_89 (dk_at dksX1_here_1 18 rfl rfl)
theorem dX1_here_41 : decode cX1_here 41 = .ok (.getfield 50, 3) := dk_180 0 50 (dk_at dksX1_here_1 19 rfl rfl)
theorem dX1_here_44 : decode cX1_here 44 = .ok (.iconst 1, 1) := dk_4 (dk_at dksX1_here_1 22 rfl rfl)
theorem dX1_here_45 : decode cX1_here 45 = .ok (.iadd, 1) := dk_96 (dk_at dksX1_here_1 23 rfl rfl)
theorem dX1_here_46 : decode cX1_here 46 = .ok (.putfield 50, 3) := dk_181 0 50 (dk_at dksX1_here_2 0 rfl rfl)
theorem dX1_here_49 : decode cX1_here 49 = .ok (.goto (-49), 3) := dk_167 255 207 (dk_at dksX1_here_2 3 rfl rfl)
theorem dX1_here_52 : decode cX1_here 52 = .ok (.aload_n 0, 1) := dk_42 (dk_at dksX1_here_2 6 rfl rfl)
theorem dX1_here_53 : decode cX1_here 53 = .ok (.aload_n 0, 1) := dk_42 (dk_at dksX1_here_2 7 rfl rfl)
theorem dX1_here_54 : decode cX1_here 54 = .ok (.getfield 50, 3) := dk_180 0 50 (dk_at dksX1_here_2 8 rfl rfl)
theorem dX1_here_57 : decode cX1_here 57 = .ok (.putfield 60, 3) := dk_181 0 60 (dk_at dksX1_here_2 11 rfl rfl)
theorem dX1_here_60 : decode cX1_here 60 = .ok (.aload_n 0, 1) := dk_42 (dk_at dksX1_here_2 14 rfl rfl)
theorem dX1_here_61 : decode cX1_here 61 = .ok (.getfield 50, 3) := dk_180 0 50 (dk_at dksX1_here_2 15 rfl rfl)
theorem dX1_here_64 : decode cX1_here 64 = .ok (.aload_n 0, 1) := dk_42 (dk_at dksX1_here_2 18 rfl rfl)
theorem dX1_here_65 : decode cX1_here 65 = .ok (.getfield 53, 3) := dk_180 0 53 (dk_at dksX1_here_2 19 rfl rfl)
theorem dX1_here_68 : decode cX1_here 68 = .ok (.if_icmp .ge 19, 3) := dk_162 0 19 (dk_at dksX1_here_3 0 rfl rfl)
theorem dX1_here_71 : decode cX1_here 71 = .ok (.aload_n 0, 1) := dk_42 (dk_at dksX1_here_3 3 rfl rfl)
theorem dX1_here_72 : decode cX1_here 72 = .ok (.getfield 56, 3) := dk_180 0 56 (dk_at dksX1_here_3 4 rfl rfl)
theorem dX1_here_75 : decode cX1_here 75 = .ok (.aload_n 0, 1) := dk_42 (dk_at dksX1_here_3 7 rfl rfl)
theorem dX1_here_76 : decode cX1_here 76 = .ok (.getfield 50, 3) := dk_180 0 50 (dk_at dksX1_here_3 8 rfl rfl)
theorem dX1_here_79 : decode cX1_here 79 = .ok (.baload, 1) := dk_51 (dk_at dksX1_here_3 11 rfl rfl)
theorem dX1_here_80 : decode cX1_here 80 = .ok (.sipush 255, 3) := dk_17 0 255 (dk_at dksX1_here_3 12 rfl rfl)
theorem dX1_here_83 : decode cX1_here 83 = .ok (.iand, 1) := dk_126 (dk_at dksX1_here_3 15 rfl rfl)
theorem dX1_here_84 : decode cX1_here 84 = .ok (.goto 4, 3) := dk_167 0 4 (dk_at dksX1_here_3 16 rfl rfl)
theorem dX1_here_87 : decode cX1_here 87 = .ok (.iconst (-1), 1) := dk_2 (dk_at dksX1_here_3 19 rfl rfl)
theorem dX1_here_88 : decode cX1_here 88 = .ok (.ireturn, 1) := dk_172 (dk_at dksX1_here_3 20 rfl rfl)
abbrev cX1_cut : ByteArray := prog_9_method_5_code
def yX1_cut : MethodName := ⟨RX1, "cut", "(II)Ljava/lang/String;"⟩
def dkwX1_cut_1 : List UInt8 := [21, 4, 51, 146, 85, 132, 4, 1, 167, 255, 233, 45, 184, 0, 71, 176]
abbrev dktX1_cut_1 : List UInt8 := dkwX1_cut_1 ++ []
def dkwX1_cut_0 : List UInt8 := [28, 27, 100, 188, 5, 78, 27, 54, 4, 21, 4, 28, 162, 0, 23, 45, 21, 4, 27, 100, 42, 180, 0, 56]
abbrev dktX1_cut_0 : List UInt8 := dkwX1_cut_0 ++ dktX1_cut_1
theorem dksX1_cut_0 : cX1_cut.data.toList.drop 0 = dktX1_cut_0 := by decide +kernel
theorem dksX1_cut_1 : cX1_cut.data.toList.drop 24 = dktX1_cut_1 := dk_seg dksX1_cut_0 24 rfl rfl
theorem dX1_cut_0 : decode cX1_cut 0 = .ok (.iload_n 2, 1) := dk_28 (dk_at dksX1_cut_0 0 rfl rfl)
theorem dX1_cut_1 : decode cX1_cut 1 = .ok (.iload_n 1, 1) := dk_27 (dk_at dksX1_cut_0 1 rfl rfl)
theorem dX1_cut_2 : decode cX1_cut 2 = .ok (.isub, 1) := dk_100 (dk_at dksX1_cut_0 2 rfl rfl)
theorem dX1_cut_3 : decode cX1_cut 3 = .ok (.newarray .char, 2) := dk_188_5 (dk_at dksX1_cut_0 3 rfl rfl)
theorem dX1_cut_5 : decode cX1_cut 5 = .ok (.astore_n 3, 1) := dk_78 (dk_at dksX1_cut_0 5 rfl rfl)
theorem dX1_cut_6 : decode cX1_cut 6 = .ok (.iload_n 1, 1) := dk_27 (dk_at dksX1_cut_0 6 rfl rfl)
theorem dX1_cut_7 : decode cX1_cut 7 = .ok (.istore 4, 2) := dk_54 4 (dk_at dksX1_cut_0 7 rfl rfl)
theorem dX1_cut_9 : decode cX1_cut 9 = .ok (.iload 4, 2) := dk_21 4 (dk_at dksX1_cut_0 9 rfl rfl)
theorem dX1_cut_11 : decode cX1_cut 11 = .ok (.iload_n 2, 1) := dk_28 (dk_at dksX1_cut_0 11 rfl rfl)
theorem dX1_cut_12 : decode cX1_cut 12 = .ok (.if_icmp .ge 23, 3) := dk_162 0 23 (dk_at dksX1_cut_0 12 rfl rfl)
theorem dX1_cut_15 : decode cX1_cut 15 = .ok (.aload_n 3, 1) := dk_45 (dk_at dksX1_cut_0 15 rfl rfl)
theorem dX1_cut_16 : decode cX1_cut 16 = .ok (.iload 4, 2) := dk_21 4 (dk_at dksX1_cut_0 16 rfl rfl)
theorem dX1_cut_18 : decode cX1_cut 18 = .ok (.iload_n 1, 1) := dk_27 (dk_at dksX1_cut_0 18 rfl rfl)
theorem dX1_cut_19 : decode cX1_cut 19 = .ok (.isub, 1) := dk_100 (dk_at dksX1_cut_0 19 rfl rfl)
theorem dX1_cut_20 : decode cX1_cut 20 = .ok (.aload_n 0, 1) := dk_42 (dk_at dksX1_cut_0 20 rfl rfl)
theorem dX1_cut_21 : decode cX1_cut 21 = .ok (.getfield 56, 3) := dk_180 0 56 (dk_at dksX1_cut_0 21 rfl rfl)
theorem dX1_cut_24 : decode cX1_cut 24 = .ok (.iload 4, 2) := dk_21 4 (dk_at dksX1_cut_1 0 rfl rfl)
theorem dX1_cut_26 : decode cX1_cut 26 = .ok (.baload, 1) := dk_51 (dk_at dksX1_cut_1 2 rfl rfl)
theorem dX1_cut_27 : decode cX1_cut 27 = .ok (.i2c, 1) := dk_146 (dk_at dksX1_cut_1 3 rfl rfl)
theorem dX1_cut_28 : decode cX1_cut 28 = .ok (.castore, 1) := dk_85 (dk_at dksX1_cut_1 4 rfl rfl)
theorem dX1_cut_29 : decode cX1_cut 29 = .ok (.iinc 4 1, 3) := dk_132 4 1 (dk_at dksX1_cut_1 5 rfl rfl)
theorem dX1_cut_32 : decode cX1_cut 32 = .ok (.goto (-23), 3) := dk_167 255 233 (dk_at dksX1_cut_1 8 rfl rfl)
theorem dX1_cut_35 : decode cX1_cut 35 = .ok (.aload_n 3, 1) := dk_45 (dk_at dksX1_cut_1 11 rfl rfl)
theorem dX1_cut_36 : decode cX1_cut 36 = .ok (.invokestatic 71, 3) := dk_184 0 71 (dk_at dksX1_cut_1 12 rfl rfl)
theorem dX1_cut_39 : decode cX1_cut 39 = .ok (.areturn, 1) := dk_176 (dk_at dksX1_cut_1 15 rfl rfl)
abbrev cX1_wrong : ByteArray := prog_9_method_2_code
def yX1_wrong : MethodName := ⟨RX1, "wrong", "(II)LTableCatalog$Fault;"⟩
def dkwX1_wrong_0 : List UInt8 := [42, 180, 0, 18, 27, 181, 0, 43, 42, 180, 0, 18, 28, 181, 0, 47, 42, 180, 0, 18, 176]
abbrev dktX1_wrong_0 : List UInt8 := dkwX1_wrong_0 ++ []
theorem dksX1_wrong_0 : cX1_wrong.data.toList.drop 0 = dktX1_wrong_0 := by decide +kernel
theorem dX1_wrong_0 : decode cX1_wrong 0 = .ok (.aload_n 0, 1) := dk_42 (dk_at dksX1_wrong_0 0 rfl rfl)
theorem dX1_wrong_1 : decode cX1_wrong 1 = .ok (.getfield 18, 3) := dk_180 0 18 (dk_at dksX1_wrong_0 1 rfl rfl)
theorem dX1_wrong_4 : decode cX1_wrong 4 = .ok (.iload_n 1, 1) := dk_27 (dk_at dksX1_wrong_0 4 rfl rfl)
theorem dX1_wrong_5 : decode cX1_wrong 5 = .ok (.putfield 43, 3) := dk_181 0 43 (dk_at dksX1_wrong_0 5 rfl rfl)
theorem dX1_wrong_8 : decode cX1_wrong 8 = .ok (.aload_n 0, 1) := dk_42 (dk_at dksX1_wrong_0 8 rfl rfl)
theorem dX1_wrong_9 : decode cX1_wrong 9 = .ok (.getfield 18, 3) := dk_180 0 18 (dk_at dksX1_wrong_0 9 rfl rfl)
theorem dX1_wrong_12 : decode cX1_wrong 12 = .ok (.iload_n 2, 1) := dk_28 (dk_at dksX1_wrong_0 12 rfl rfl)
theorem dX1_wrong_13 : decode cX1_wrong 13 = .ok (.putfield 47, 3) := dk_181 0 47 (dk_at dksX1_wrong_0 13 rfl rfl)
theorem dX1_wrong_16 : decode cX1_wrong 16 = .ok (.aload_n 0, 1) := dk_42 (dk_at dksX1_wrong_0 16 rfl rfl)
theorem dX1_wrong_17 : decode cX1_wrong 17 = .ok (.getfield 18, 3) := dk_180 0 18 (dk_at dksX1_wrong_0 17 rfl rfl)
theorem dX1_wrong_20 : decode cX1_wrong 20 = .ok (.areturn, 1) := dk_176 (dk_at dksX1_wrong_0 20 rfl rfl)
abbrev cX1_name : ByteArray := prog_9_method_7_code
def yX1_name : MethodName := ⟨RX1, "name", "()Ljava/lang/String;"⟩
def dkwX1_name_4 : List UInt8 := [184, 0, 92, 153, 0, 10, 42, 4, 27, 182, 0, 67, 191, 42, 27, 181, 0, 60, 44, 176]
abbrev dktX1_name_4 : List UInt8 := dkwX1_name_4 ++ []
def dkwX1_name_3 : List UInt8 := [42, 89, 180, 0, 50, 4, 96, 181, 0, 50, 167, 255, 199, 42, 27, 42, 180, 0, 50, 182, 0, 84, 77, 44]
abbrev dktX1_name_3 : List UInt8 := dkwX1_name_3 ++ dktX1_name_4
def dkwX1_name_2 : List UInt8 := [153, 0, 37, 42, 180, 0, 50, 27, 100, 16, 8, 160, 0, 13, 42, 4, 42, 180, 0, 50, 182, 0, 67, 191]
abbrev dktX1_name_2 : List UInt8 := dkwX1_name_2 ++ dktX1_name_3
def dkwX1_name_1 : List UInt8 := [60, 42, 180, 0, 50, 42, 180, 0, 53, 162, 0, 52, 42, 180, 0, 56, 42, 180, 0, 50, 51, 184, 0, 77]
abbrev dktX1_name_1 : List UInt8 := dkwX1_name_1 ++ dktX1_name_2
def dkwX1_name_0 : List UInt8 := [42, 182, 0, 63, 184, 0, 77, 154, 0, 13, 42, 4, 42, 180, 0, 50, 182, 0, 67, 191, 42, 180, 0, 50]
abbrev dktX1_name_0 : List UInt8 := dkwX1_name_0 ++ dktX1_name_1
theorem dksX1_name_0 : cX1_name.data.toList.drop 0 = dktX1_name_0 := by decide +kernel
theorem dksX1_name_1 : cX1_name.data.toList.drop 24 = dktX1_name_1 := dk_seg dksX1_name_0 24 rfl rfl
theorem dksX1_name_2 : cX1_name.data.toList.drop 48 = dktX1_name_2 := dk_seg dksX1_name_1 24 rfl rfl
theorem dksX1_name_3 : cX1_name.data.toList.drop 72 = dktX1_name_3 := dk_seg dksX1_name_2 24 rfl rfl
theorem dksX1_name_4 : cX1_name.data.toList.drop 96 = dktX1_name_4 := dk_seg dksX1_name_3 24 rfl rfl
theorem dX1_name_0 : decode cX1_name 0 = .ok (.aload_n 0, 1) := dk_42 (dk_at dksX1_name_0 0 rfl rfl)
theorem dX1_name_1 : decode cX1_name 1 = .ok (.invokevirtual 63, 3) := dk_182 0 63 (dk_at dksX1_name_0 1 rfl rfl)
theorem dX1_name_4 : decode cX1_name 4 = .ok (.invokestatic 77, 3) := dk_184 0 77 (dk_at dksX1_name_0 4 rfl rfl)
theorem dX1_name_7 : decode cX1_name 7 = .ok (.ifCond .ne 13, 3) := dk_154 0 13 (dk_at dksX1_name_0 7 rfl rfl)
theorem dX1_name_10 : decode cX1_name 10 = .ok (.aload_n 0, 1) := dk_42 (dk_at dksX1_name_0 10 rfl rfl)
theorem dX1_name_11 : decode cX1_name 11 = .ok (.iconst 1, 1) := dk_4 (dk_at dksX1_name_0 11 rfl rfl)
theorem dX1_name_12 : decode cX1_name 12 = .ok (.aload_n 0, 1) := dk_42 (dk_at dksX1_name_0 12 rfl rfl)
theorem dX1_name_13 : decode cX1_name 13 = .ok (.getfield 50, 3) := dk_180 0 50 (dk_at dksX1_name_0 13 rfl rfl)
theorem dX1_name_16 : decode cX1_name 16 = .ok (.invokevirtual 67, 3) := dk_182 0 67 (dk_at dksX1_name_0 16 rfl rfl)
theorem dX1_name_19 : decode cX1_name 19 = .ok (.athrow, 1) := dk_191 (dk_at dksX1_name_0 19 rfl rfl)
theorem dX1_name_20 : decode cX1_name 20 = .ok (.aload_n 0, 1) := dk_42 (dk_at dksX1_name_0 20 rfl rfl)
theorem dX1_name_21 : decode cX1_name 21 = .ok (.getfield 50, 3) := dk_180 0 50 (dk_at dksX1_name_0 21 rfl rfl)
theorem dX1_name_24 : decode cX1_name 24 = .ok (.istore_n 1, 1) := dk_60 (dk_at dksX1_name_1 0 rfl rfl)
theorem dX1_name_25 : decode cX1_name 25 = .ok (.aload_n 0, 1) := dk_42 (dk_at dksX1_name_1 1 rfl rfl)
theorem dX1_name_26 : decode cX1_name 26 = .ok (.getfield 50, 3) := dk_180 0 50 (dk_at dksX1_name_1 2 rfl rfl)
theorem dX1_name_29 : decode cX1_name 29 = .ok (.aload_n 0, 1) := dk_42 (dk_at dksX1_name_1 5 rfl rfl)
theorem dX1_name_30 : decode cX1_name 30 = .ok (.getfield 53, 3) := dk_180 0 53 (dk_at dksX1_name_1 6 rfl rfl)
theorem dX1_name_33 : decode cX1_name 33 = .ok (.if_icmp .ge 52, 3) := dk_162 0 52 (dk_at dksX1_name_1 9 rfl rfl)
theorem dX1_name_36 : decode cX1_name 36 = .ok (.aload_n 0, 1) := dk_42 (dk_at dksX1_name_1 12 rfl rfl)
theorem dX1_name_37 : decode cX1_name 37 = .ok (.getfield 56, 3) := dk_180 0 56 (dk_at dksX1_name_1 13 rfl rfl)
theorem dX1_name_40 : decode cX1_name 40 = .ok (.aload_n 0, 1) := dk_42 (dk_at dksX1_name_1 16 rfl rfl)
theorem dX1_name_41 : decode cX1_name 41 = .ok (.getfield 50, 3) := dk_180 0 50 (dk_at dksX1_name_1 17 rfl rfl)
theorem dX1_name_44 : decode cX1_name 44 = .ok (.baload, 1) := dk_51 (dk_at dksX1_name_1 20 rfl rfl)
theorem dX1_name_45 : decode cX1_name 45 = .ok (.invokestatic 77, 3) := dk_184 0 77 (dk_at dksX1_name_1 21 rfl rfl)
theorem dX1_name_48 : decode cX1_name 48 = .ok (.ifCond .eq 37, 3) := dk_153 0 37 (dk_at dksX1_name_2 0 rfl rfl)
theorem dX1_name_51 : decode cX1_name 51 = .ok (.aload_n 0, 1) := dk_42 (dk_at dksX1_name_2 3 rfl rfl)
theorem dX1_name_52 : decode cX1_name 52 = .ok (.getfield 50, 3) := dk_180 0 50 (dk_at dksX1_name_2 4 rfl rfl)
theorem dX1_name_55 : decode cX1_name 55 = .ok (.iload_n 1, 1) := dk_27 (dk_at dksX1_name_2 7 rfl rfl)
theorem dX1_name_56 : decode cX1_name 56 = .ok (.isub, 1) := dk_100 (dk_at dksX1_name_2 8 rfl rfl)
theorem dX1_name_57 : decode cX1_name 57 = .ok (.bipush 8, 2) := dk_16 8 (dk_at dksX1_name_2 9 rfl rfl)
theorem dX1_name_59 : decode cX1_name 59 = .ok (.if_icmp .ne 13, 3) := dk_160 0 13 (dk_at dksX1_name_2 11 rfl rfl)
theorem dX1_name_62 : decode cX1_name 62 = .ok (.aload_n 0, 1) := dk_42 (dk_at dksX1_name_2 14 rfl rfl)
theorem dX1_name_63 : decode cX1_name 63 = .ok (.iconst 1, 1) := dk_4 (dk_at dksX1_name_2 15 rfl rfl)
theorem dX1_name_64 : decode cX1_name 64 = .ok (.aload_n 0, 1) := dk_42 (dk_at dksX1_name_2 16 rfl rfl)
theorem dX1_name_65 : decode cX1_name 65 = .ok (.getfield 50, 3) := dk_180 0 50 (dk_at dksX1_name_2 17 rfl rfl)
theorem dX1_name_68 : decode cX1_name 68 = .ok (.invokevirtual 67, 3) := dk_182 0 67 (dk_at dksX1_name_2 20 rfl rfl)
theorem dX1_name_71 : decode cX1_name 71 = .ok (.athrow, 1) := dk_191 (dk_at dksX1_name_2 23 rfl rfl)
theorem dX1_name_72 : decode cX1_name 72 = .ok (.aload_n 0, 1) := dk_42 (dk_at dksX1_name_3 0 rfl rfl)
theorem dX1_name_73 : decode cX1_name 73 = .ok (.dup, 1) := dk_89 (dk_at dksX1_name_3 1 rfl rfl)
theorem dX1_name_74 : decode cX1_name 74 = .ok (.getfield 50, 3) := dk_180 0 50 (dk_at dksX1_name_3 2 rfl rfl)
theorem dX1_name_77 : decode cX1_name 77 = .ok (.iconst 1, 1) := dk_4 (dk_at dksX1_name_3 5 rfl rfl)
theorem dX1_name_78 : decode cX1_name 78 = .ok (.iadd, 1) := dk_96 (dk_at dksX1_name_3 6 rfl rfl)
theorem dX1_name_79 : decode cX1_name 79 = .ok (.putfield 50, 3) := dk_181 0 50 (dk_at dksX1_name_3 7 rfl rfl)
theorem dX1_name_82 : decode cX1_name 82 = .ok (.goto (-57), 3) := dk_167 255 199 (dk_at dksX1_name_3 10 rfl rfl)
theorem dX1_name_85 : decode cX1_name 85 = .ok (.aload_n 0, 1) := dk_42 (dk_at dksX1_name_3 13 rfl rfl)
theorem dX1_name_86 : decode cX1_name 86 = .ok (.iload_n 1, 1) := dk_27 (dk_at dksX1_name_3 14 rfl rfl)
theorem dX1_name_87 : decode cX1_name 87 = .ok (.aload_n 0, 1) := dk_42 (dk_at dksX1_name_3 15 rfl rfl)
theorem dX1_name_88 : decode cX1_name 88 = .ok (.getfield 50, 3) := dk_180 0 50 (dk_at dksX1_name_3 16 rfl rfl)
theorem dX1_name_91 : decode cX1_name 91 = .ok (.invokevirtual 84, 3) := dk_182 0 84 (dk_at dksX1_name_3 19 rfl rfl)
theorem dX1_name_94 : decode cX1_name 94 = .ok (.astore_n 2, 1) := dk_77 (dk_at dksX1_name_3 22 rfl rfl)
theorem dX1_name_95 : decode cX1_name 95 = .ok (.aload_n 2, 1) := dk_44 (dk_at dksX1_name_3 23 rfl rfl)
theorem dX1_name_96 : decode cX1_name 96 = .ok (.invokestatic 92, 3) := dk_184 0 92 (dk_at dksX1_name_4 0 rfl rfl)
theorem dX1_name_99 : decode cX1_name 99 = .ok (.ifCond .eq 10, 3) := dk_153 0 10 (dk_at dksX1_name_4 3 rfl rfl)
theorem dX1_name_102 : decode cX1_name 102 = .ok (.aload_n 0, 1) := dk_42 (dk_at dksX1_name_4 6 rfl rfl)
theorem dX1_name_103 : decode cX1_name 103 = .ok (.iconst 1, 1) := dk_4 (dk_at dksX1_name_4 7 rfl rfl)
theorem dX1_name_104 : decode cX1_name 104 = .ok (.iload_n 1, 1) := dk_27 (dk_at dksX1_name_4 8 rfl rfl)
theorem dX1_name_105 : decode cX1_name 105 = .ok (.invokevirtual 67, 3) := dk_182 0 67 (dk_at dksX1_name_4 9 rfl rfl)
theorem dX1_name_108 : decode cX1_name 108 = .ok (.athrow, 1) := dk_191 (dk_at dksX1_name_4 12 rfl rfl)
theorem dX1_name_109 : decode cX1_name 109 = .ok (.aload_n 0, 1) := dk_42 (dk_at dksX1_name_4 13 rfl rfl)
theorem dX1_name_110 : decode cX1_name 110 = .ok (.iload_n 1, 1) := dk_27 (dk_at dksX1_name_4 14 rfl rfl)
theorem dX1_name_111 : decode cX1_name 111 = .ok (.putfield 60, 3) := dk_181 0 60 (dk_at dksX1_name_4 15 rfl rfl)
theorem dX1_name_114 : decode cX1_name 114 = .ok (.aload_n 2, 1) := dk_44 (dk_at dksX1_name_4 18 rfl rfl)
theorem dX1_name_115 : decode cX1_name 115 = .ok (.areturn, 1) := dk_176 (dk_at dksX1_name_4 19 rfl rfl)
abbrev cX1_source : ByteArray := prog_9_method_12_code
def yX1_source : MethodName := ⟨RX1, "source", "()V"⟩
def dkwX1_source_5 : List UInt8 := [42, 16, 41, 182, 0, 134, 177]
abbrev dktX1_source_5 : List UInt8 := dkwX1_source_5 ++ []
def dkwX1_source_4 : List UInt8 := [3, 182, 0, 99, 85, 42, 42, 180, 0, 127, 180, 0, 147, 182, 0, 150, 16, 6, 182, 0, 173, 154, 255, 146]
abbrev dktX1_source_4 : List UInt8 := dkwX1_source_4 ++ dktX1_source_5
def dkwX1_source_3 : List UInt8 := [182, 0, 67, 191, 42, 180, 0, 127, 180, 0, 170, 42, 180, 0, 127, 180, 0, 147, 182, 0, 150, 4, 100, 45]
abbrev dktX1_source_3 : List UInt8 := dkwX1_source_3 ++ dktX1_source_4
def dkwX1_source_2 : List UInt8 := [154, 0, 28, 45, 18, 166, 182, 0, 88, 154, 0, 19, 45, 18, 168, 182, 0, 88, 154, 0, 10, 42, 4, 28]
abbrev dktX1_source_2 : List UInt8 := dkwX1_source_2 ++ dktX1_source_3
def dkwX1_source_1 : List UInt8 := [27, 184, 0, 77, 153, 0, 10, 42, 182, 0, 159, 167, 0, 5, 18, 162, 78, 45, 18, 164, 182, 0, 88]
abbrev dktX1_source_1 : List UInt8 := dkwX1_source_1 ++ dktX1_source_2
def dkwX1_source_0 : List UInt8 := [42, 16, 40, 182, 0, 134, 42, 42, 182, 0, 115, 182, 0, 155, 42, 182, 0, 63, 60, 42, 180, 0, 50, 61]
abbrev dktX1_source_0 : List UInt8 := dkwX1_source_0 ++ dktX1_source_1
theorem dksX1_source_0 : cX1_source.data.toList.drop 0 = dktX1_source_0 := by decide +kernel
theorem dksX1_source_1 : cX1_source.data.toList.drop 24 = dktX1_source_1 := dk_seg dksX1_source_0 24 rfl rfl
theorem dksX1_source_2 : cX1_source.data.toList.drop 47 = dktX1_source_2 := dk_seg dksX1_source_1 23 rfl rfl
theorem dksX1_source_3 : cX1_source.data.toList.drop 71 = dktX1_source_3 := dk_seg dksX1_source_2 24 rfl rfl
theorem dksX1_source_4 : cX1_source.data.toList.drop 95 = dktX1_source_4 := dk_seg dksX1_source_3 24 rfl rfl
theorem dksX1_source_5 : cX1_source.data.toList.drop 119 = dktX1_source_5 := dk_seg dksX1_source_4 24 rfl rfl
theorem dX1_source_0 : decode cX1_source 0 = .ok (.aload_n 0, 1) := dk_42 (dk_at dksX1_source_0 0 rfl rfl)
theorem dX1_source_1 : decode cX1_source 1 = .ok (.bipush 40, 2) := dk_16 40 (dk_at dksX1_source_0 1 rfl rfl)
theorem dX1_source_3 : decode cX1_source 3 = .ok (.invokevirtual 134, 3) := dk_182 0 134 (dk_at dksX1_source_0 3 rfl rfl)
theorem dX1_source_6 : decode cX1_source 6 = .ok (.aload_n 0, 1) := dk_42 (dk_at dksX1_source_0 6 rfl rfl)
theorem dX1_source_7 : decode cX1_source 7 = .ok (.aload_n 0, 1) := dk_42 (dk_at dksX1_source_0 7 rfl rfl)
theorem dX1_source_8 : decode cX1_source 8 = .ok (.invokevirtual 115, 3) := dk_182 0 115 (dk_at dksX1_source_0 8 rfl rfl)
theorem dX1_source_11 : decode cX1_source 11 = .ok (.invokevirtual 155, 3) := dk_182 0 155 (dk_at dksX1_source_0 11 rfl rfl)
theorem dX1_source_14 : decode cX1_source 14 = .ok (.aload_n 0, 1) := dk_42 (dk_at dksX1_source_0 14 rfl rfl)
theorem dX1_source_15 : decode cX1_source 15 = .ok (.invokevirtual 63, 3) := dk_182 0 63 (dk_at dksX1_source_0 15 rfl rfl)
theorem dX1_source_18 : decode cX1_source 18 = .ok (.istore_n 1, 1) := dk_60 (dk_at dksX1_source_0 18 rfl rfl)
theorem dX1_source_19 : decode cX1_source 19 = .ok (.aload_n 0, 1) := dk_42 (dk_at dksX1_source_0 19 rfl rfl)
theorem dX1_source_20 : decode cX1_source 20 = .ok (.getfield 50, 3) := dk_180 0 50 (dk_at dksX1_source_0 20 rfl rfl)
theorem dX1_source_23 : decode cX1_source 23 = .ok (.istore_n 2, 1) := dk_61 (dk_at dksX1_source_0 23 rfl rfl)
theorem dX1_source_24 : decode cX1_source 24 = .ok (.iload_n 1, 1) := dk_27 (dk_at dksX1_source_1 0 rfl rfl)
theorem dX1_source_25 : decode cX1_source 25 = .ok (.invokestatic 77, 3) := dk_184 0 77 (dk_at dksX1_source_1 1 rfl rfl)
theorem dX1_source_28 : decode cX1_source 28 = .ok (.ifCond .eq 10, 3) := dk_153 0 10 (dk_at dksX1_source_1 4 rfl rfl)
theorem dX1_source_31 : decode cX1_source 31 = .ok (.aload_n 0, 1) := dk_42 (dk_at dksX1_source_1 7 rfl rfl)
theorem dX1_source_32 : decode cX1_source 32 = .ok (.invokevirtual 159, 3) := dk_182 0 159 (dk_at dksX1_source_1 8 rfl rfl)
theorem dX1_source_35 : decode cX1_source 35 = .ok (.goto 5, 3) := dk_167 0 5 (dk_at dksX1_source_1 11 rfl rfl)
theorem dX1_source_38 : decode cX1_source 38 = .ok (.ldc 162, 2) := dk_18 162 (dk_at dksX1_source_1 14 rfl rfl)
theorem dX1_source_40 : decode cX1_source 40 = .ok (.astore_n 3, 1) := dk_78 (dk_at dksX1_source_1 16 rfl rfl)
theorem dX1_source_41 : decode cX1_source 41 = .ok (.aload_n 3, 1) := dk_45 (dk_at dksX1_source_1 17 rfl rfl)
theorem dX1_source_42 : decode cX1_source 42 = .ok (.ldc 164, 2) := dk_18 164 (dk_at dksX1_source_1 18 rfl rfl)
theorem dX1_source_44 : decode cX1_source 44 = .ok (.invokevirtual 88, 3) := dk_182 0 88 (dk_at dksX1_source_1 20 rfl rfl)
theorem dX1_source_47 : decode cX1_source 47 = .ok (.ifCond .ne 28, 3) := dk_154 0 28 (dk_at dksX1_source_2 0 rfl rfl)
theorem dX1_source_50 : decode cX1_source 50 = .ok (.aload_n 3, 1) := dk_45 (dk_at dksX1_source_2 3 rfl rfl)
theorem dX1_source_51 : decode cX1_source 51 = .ok (.ldc 166, 2) := dk_18 166 (dk_at dksX1_source_2 4 rfl rfl)
theorem dX1_source_53 : decode cX1_source 53 = .ok (.invokevirtual 88, 3) := dk_182 0 88 (dk_at dksX1_source_2 6 rfl rfl)
theorem dX1_source_56 : decode cX1_source 56 = .ok (.ifCond .ne 19, 3) := dk_154 0 19 (dk_at dksX1_source_2 9 rfl rfl)
theorem dX1_source_59 : decode cX1_source 59 = .ok (.aload_n 3, 1) := dk_45 (dk_at dksX1_source_2 12 rfl rfl)
theorem dX1_source_60 : decode cX1_source 60 = .ok (.ldc 168, 2) := dk_18 168 (dk_at dksX1_source_2 13 rfl rfl)
theorem dX1_source_62 : decode cX1_source 62 = .ok (.invokevirtual 88, 3) := dk_182 0 88 (dk_at dksX1_source_2 15 rfl rfl)
theorem dX1_source_65 : decode cX1_source 65 = .ok (.ifCond .ne 10, 3) := dk_154 0 10 (dk_at dksX1_source_2 18 rfl rfl)
theorem dX1_source_68 : decode cX1_source 68 = .ok (.aload_n 0, 1) := dk_42 (dk_at dksX1_source_2 21 rfl rfl)
theorem dX1_source_69 : decode cX1_source 69 = .ok (.iconst 1, 1) := dk_4 (dk_at dksX1_source_2 22 rfl rfl)
theorem dX1_source_70 : decode cX1_source 70 = .ok (.iload_n 2, 1) := dk_28 (dk_at dksX1_source_2 23 rfl rfl)
theorem dX1_source_71 : decode cX1_source 71 = .ok (.invokevirtual 67, 3) := dk_182 0 67 (dk_at dksX1_source_3 0 rfl rfl)
theorem dX1_source_74 : decode cX1_source 74 = .ok (.athrow, 1) := dk_191 (dk_at dksX1_source_3 3 rfl rfl)
theorem dX1_source_75 : decode cX1_source 75 = .ok (.aload_n 0, 1) := dk_42 (dk_at dksX1_source_3 4 rfl rfl)
theorem dX1_source_76 : decode cX1_source 76 = .ok (.getfield 127, 3) := dk_180 0 127 (dk_at dksX1_source_3 5 rfl rfl)
theorem dX1_source_79 : decode cX1_source 79 = .ok (.getfield 170, 3) := dk_180 0 170 (dk_at dksX1_source_3 8 rfl rfl)
theorem dX1_source_82 : decode cX1_source 82 = .ok (.aload_n 0, 1) := dk_42 (dk_at dksX1_source_3 11 rfl rfl)
theorem dX1_source_83 : decode cX1_source 83 = .ok (.getfield 127, 3) := dk_180 0 127 (dk_at dksX1_source_3 12 rfl rfl)
theorem dX1_source_86 : decode cX1_source 86 = .ok (.getfield 147, 3) := dk_180 0 147 (dk_at dksX1_source_3 15 rfl rfl)
theorem dX1_source_89 : decode cX1_source 89 = .ok (.invokevirtual 150, 3) := dk_182 0 150 (dk_at dksX1_source_3 18 rfl rfl)
theorem dX1_source_92 : decode cX1_source 92 = .ok (.iconst 1, 1) := dk_4 (dk_at dksX1_source_3 21 rfl rfl)
theorem dX1_source_93 : decode cX1_source 93 = .ok (.isub, 1) := dk_100 (dk_at dksX1_source_3 22 rfl rfl)
theorem dX1_source_94 : decode cX1_source 94 = .ok (.aload_n 3, 1) := dk_45 (dk_at dksX1_source_3 23 rfl rfl)
theorem dX1_source_95 : decode cX1_source 95 = .ok (.iconst 0, 1) := dk_3 (dk_at dksX1_source_4 0 rfl rfl)
theorem dX1_source_96 : decode cX1_source 96 = .ok (.invokevirtual 99, 3) := dk_182 0 99 (dk_at dksX1_source_4 1 rfl rfl)
theorem dX1_source_99 : decode cX1_source 99 = .ok (.castore, 1) := dk_85 (dk_at dksX1_source_4 4 rfl rfl)
theorem dX1_source_100 : decode cX1_source 100 = .ok (.aload_n 0, 1) := dk_42 (dk_at dksX1_source_4 5 rfl rfl)
theorem dX1_source_101 : decode cX1_source 101 = .ok (.aload_n 0, 1) := dk_42 (dk_at dksX1_source_4 6 rfl rfl)
theorem dX1_source_102 : decode cX1_source 102 = .ok (.getfield 127, 3) := dk_180 0 127 (dk_at dksX1_source_4 7 rfl rfl)
theorem dX1_source_105 : decode cX1_source 105 = .ok (.getfield 147, 3) := dk_180 0 147 (dk_at dksX1_source_4 10 rfl rfl)
theorem dX1_source_108 : decode cX1_source 108 = .ok (.invokevirtual 150, 3) := dk_182 0 150 (dk_at dksX1_source_4 13 rfl rfl)
theorem dX1_source_111 : decode cX1_source 111 = .ok (.bipush 6, 2) := dk_16 6 (dk_at dksX1_source_4 16 rfl rfl)
theorem dX1_source_113 : decode cX1_source 113 = .ok (.invokevirtual 173, 3) := dk_182 0 173 (dk_at dksX1_source_4 18 rfl rfl)
theorem dX1_source_116 : decode cX1_source 116 = .ok (.ifCond .ne (-110), 3) := dk_154 255 146 (dk_at dksX1_source_4 21 rfl rfl)
theorem dX1_source_119 : decode cX1_source 119 = .ok (.aload_n 0, 1) := dk_42 (dk_at dksX1_source_5 0 rfl rfl)
theorem dX1_source_120 : decode cX1_source 120 = .ok (.bipush 41, 2) := dk_16 41 (dk_at dksX1_source_5 1 rfl rfl)
theorem dX1_source_122 : decode cX1_source 122 = .ok (.invokevirtual 134, 3) := dk_182 0 134 (dk_at dksX1_source_5 3 rfl rfl)
theorem dX1_source_125 : decode cX1_source 125 = .ok (.return_, 1) := dk_177 (dk_at dksX1_source_5 6 rfl rfl)
abbrev cX1_must : ByteArray := prog_9_method_4_code
def yX1_must : MethodName := ⟨RX1, "must", "(I)V"⟩
def dkwX1_must_1 : List UInt8 := [96, 181, 0, 50, 177]
abbrev dktX1_must_1 : List UInt8 := dkwX1_must_1 ++ []
def dkwX1_must_0 : List UInt8 := [42, 182, 0, 63, 27, 159, 0, 13, 42, 4, 42, 180, 0, 50, 182, 0, 67, 191, 42, 89, 180, 0, 50, 4]
abbrev dktX1_must_0 : List UInt8 := dkwX1_must_0 ++ dktX1_must_1
theorem dksX1_must_0 : cX1_must.data.toList.drop 0 = dktX1_must_0 := by decide +kernel
theorem dksX1_must_1 : cX1_must.data.toList.drop 24 = dktX1_must_1 := dk_seg dksX1_must_0 24 rfl rfl
theorem dX1_must_0 : decode cX1_must 0 = .ok (.aload_n 0, 1) := dk_42 (dk_at dksX1_must_0 0 rfl rfl)
theorem dX1_must_1 : decode cX1_must 1 = .ok (.invokevirtual 63, 3) := dk_182 0 63 (dk_at dksX1_must_0 1 rfl rfl)
theorem dX1_must_4 : decode cX1_must 4 = .ok (.iload_n 1, 1) := dk_27 (dk_at dksX1_must_0 4 rfl rfl)
theorem dX1_must_5 : decode cX1_must 5 = .ok (.if_icmp .eq 13, 3) := dk_159 0 13 (dk_at dksX1_must_0 5 rfl rfl)
theorem dX1_must_8 : decode cX1_must 8 = .ok (.aload_n 0, 1) := dk_42 (dk_at dksX1_must_0 8 rfl rfl)
theorem dX1_must_9 : decode cX1_must 9 = .ok (.iconst 1, 1) := dk_4 (dk_at dksX1_must_0 9 rfl rfl)
theorem dX1_must_10 : decode cX1_must 10 = .ok (.aload_n 0, 1) := dk_42 (dk_at dksX1_must_0 10 rfl rfl)
theorem dX1_must_11 : decode cX1_must 11 = .ok (.getfield 50, 3) := dk_180 0 50 (dk_at dksX1_must_0 11 rfl rfl)
theorem dX1_must_14 : decode cX1_must 14 = .ok (.invokevirtual 67, 3) := dk_182 0 67 (dk_at dksX1_must_0 14 rfl rfl)
theorem dX1_must_17 : decode cX1_must 17 = .ok (.athrow, 1) := dk_191 (dk_at dksX1_must_0 17 rfl rfl)
theorem dX1_must_18 : decode cX1_must 18 = .ok (.aload_n 0, 1) := dk_42 (dk_at dksX1_must_0 18 rfl rfl)
theorem dX1_must_19 : decode cX1_must 19 = .ok (.dup, 1) := dk_89 (dk_at dksX1_must_0 19 rfl rfl)
theorem dX1_must_20 : decode cX1_must 20 = .ok (.getfield 50, 3) := dk_180 0 50 (dk_at dksX1_must_0 20 rfl rfl)
theorem dX1_must_23 : decode cX1_must 23 = .ok (.iconst 1, 1) := dk_4 (dk_at dksX1_must_0 23 rfl rfl)
theorem dX1_must_24 : decode cX1_must 24 = .ok (.iadd, 1) := dk_96 (dk_at dksX1_must_1 0 rfl rfl)
theorem dX1_must_25 : decode cX1_must 25 = .ok (.putfield 50, 3) := dk_181 0 50 (dk_at dksX1_must_1 1 rfl rfl)
theorem dX1_must_28 : decode cX1_must 28 = .ok (.return_, 1) := dk_177 (dk_at dksX1_must_1 4 rfl rfl)
abbrev cX1_column : ByteArray := prog_9_method_10_code
def yX1_column : MethodName := ⟨RX1, "column", "(Ljava/lang/String;)V"⟩
def dkwX1_column_1 : List UInt8 := [180, 0, 147, 43, 182, 0, 152, 87, 177]
abbrev dktX1_column_1 : List UInt8 := dkwX1_column_1 ++ []
def dkwX1_column_0 : List UInt8 := [42, 180, 0, 36, 42, 180, 0, 127, 180, 0, 147, 182, 0, 150, 42, 180, 0, 60, 79, 42, 180, 0, 127]
abbrev dktX1_column_0 : List UInt8 := dkwX1_column_0 ++ dktX1_column_1
theorem dksX1_column_0 : cX1_column.data.toList.drop 0 = dktX1_column_0 := by decide +kernel
theorem dksX1_column_1 : cX1_column.data.toList.drop 23 = dktX1_column_1 := dk_seg dksX1_column_0 23 rfl rfl
theorem dX1_column_0 : decode cX1_column 0 = .ok (.aload_n 0, 1) := dk_42 (dk_at dksX1_column_0 0 rfl rfl)
theorem dX1_column_1 : decode cX1_column 1 = .ok (.getfield 36, 3) := dk_180 0 36 (dk_at dksX1_column_0 1 rfl rfl)
theorem dX1_column_4 : decode cX1_column 4 = .ok (.aload_n 0, 1) := dk_42 (dk_at dksX1_column_0 4 rfl rfl)
theorem dX1_column_5 : decode cX1_column 5 = .ok (.getfield 127, 3) := dk_180 0 127 (dk_at dksX1_column_0 5 rfl rfl)
theorem dX1_column_8 : decode cX1_column 8 = .ok (.getfield 147, 3) := dk_180 0 147 (dk_at dksX1_column_0 8 rfl rfl)
theorem dX1_column_11 : decode cX1_column 11 = .ok (.invokevirtual 150, 3) := dk_182 0 150 (dk_at dksX1_column_0 11 rfl rfl)
theorem dX1_column_14 : decode cX1_column 14 = .ok (.aload_n 0, 1) := dk_42 (dk_at dksX1_column_0 14 rfl rfl)
theorem dX1_column_15 : decode cX1_column 15 = .ok (.getfield 60, 3) := dk_180 0 60 (dk_at dksX1_column_0 15 rfl rfl)
theorem dX1_column_18 : decode cX1_column 18 = .ok (.iastore, 1) := dk_79 (dk_at dksX1_column_0 18 rfl rfl)
theorem dX1_column_19 : decode cX1_column 19 = .ok (.aload_n 0, 1) := dk_42 (dk_at dksX1_column_0 19 rfl rfl)
theorem dX1_column_20 : decode cX1_column 20 = .ok (.getfield 127, 3) := dk_180 0 127 (dk_at dksX1_column_0 20 rfl rfl)
theorem dX1_column_23 : decode cX1_column 23 = .ok (.getfield 147, 3) := dk_180 0 147 (dk_at dksX1_column_1 0 rfl rfl)
theorem dX1_column_26 : decode cX1_column 26 = .ok (.aload_n 1, 1) := dk_43 (dk_at dksX1_column_1 3 rfl rfl)
theorem dX1_column_27 : decode cX1_column 27 = .ok (.invokevirtual 152, 3) := dk_182 0 152 (dk_at dksX1_column_1 4 rfl rfl)
theorem dX1_column_30 : decode cX1_column 30 = .ok (.pop, 1) := dk_87 (dk_at dksX1_column_1 7 rfl rfl)
theorem dX1_column_31 : decode cX1_column 31 = .ok (.return_, 1) := dk_177 (dk_at dksX1_column_1 8 rfl rfl)
abbrev cX1_word : ByteArray := prog_9_method_13_code
def yX1_word : MethodName := ⟨RX1, "word", "()Ljava/lang/String;"⟩
def dkwX1_word_2 : List UInt8 := [180, 0, 50, 182, 0, 84, 176]
abbrev dktX1_word_2 : List UInt8 := dkwX1_word_2 ++ []
def dkwX1_word_1 : List UInt8 := [51, 184, 0, 77, 153, 0, 16, 42, 89, 180, 0, 50, 4, 96, 181, 0, 50, 167, 255, 220, 42, 27, 42]
abbrev dktX1_word_1 : List UInt8 := dkwX1_word_1 ++ dktX1_word_2
def dkwX1_word_0 : List UInt8 := [42, 180, 0, 50, 60, 42, 180, 0, 50, 42, 180, 0, 53, 162, 0, 31, 42, 180, 0, 56, 42, 180, 0, 50]
abbrev dktX1_word_0 : List UInt8 := dkwX1_word_0 ++ dktX1_word_1
theorem dksX1_word_0 : cX1_word.data.toList.drop 0 = dktX1_word_0 := by decide +kernel
theorem dksX1_word_1 : cX1_word.data.toList.drop 24 = dktX1_word_1 := dk_seg dksX1_word_0 24 rfl rfl
theorem dksX1_word_2 : cX1_word.data.toList.drop 47 = dktX1_word_2 := dk_seg dksX1_word_1 23 rfl rfl
theorem dX1_word_0 : decode cX1_word 0 = .ok (.aload_n 0, 1) := dk_42 (dk_at dksX1_word_0 0 rfl rfl)
theorem dX1_word_1 : decode cX1_word 1 = .ok (.getfield 50, 3) := dk_180 0 50 (dk_at dksX1_word_0 1 rfl rfl)
theorem dX1_word_4 : decode cX1_word 4 = .ok (.istore_n 1, 1) := dk_60 (dk_at dksX1_word_0 4 rfl rfl)
theorem dX1_word_5 : decode cX1_word 5 = .ok (.aload_n 0, 1) := dk_42 (dk_at dksX1_word_0 5 rfl rfl)
theorem dX1_word_6 : decode cX1_word 6 = .ok (.getfield 50, 3) := dk_180 0 50 (dk_at dksX1_word_0 6 rfl rfl)
theorem dX1_word_9 : decode cX1_word 9 = .ok (.aload_n 0, 1) := dk_42 (dk_at dksX1_word_0 9 rfl rfl)
theorem dX1_word_10 : decode cX1_word 10 = .ok (.getfield 53, 3) := dk_180 0 53 (dk_at dksX1_word_0 10 rfl rfl)
theorem dX1_word_13 : decode cX1_word 13 = .ok (.if_icmp .ge 31, 3) := dk_162 0 31 (dk_at dksX1_word_0 13 rfl rfl)
theorem dX1_word_16 : decode cX1_word 16 = .ok (.aload_n 0, 1) := dk_42 (dk_at dksX1_word_0 16 rfl rfl)
theorem dX1_word_17 : decode cX1_word 17 = .ok (.getfield 56, 3) := dk_180 0 56 (dk_at dksX1_word_0 17 rfl rfl)
theorem dX1_word_20 : decode cX1_word 20 = .ok (.aload_n 0, 1) := dk_42 (dk_at dksX1_word_0 20 rfl rfl)
theorem dX1_word_21 : decode cX1_word 21 = .ok (.getfield 50, 3) := dk_180 0 50 (dk_at dksX1_word_0 21 rfl rfl)
theorem dX1_word_24 : decode cX1_word 24 = .ok (.baload, 1) := dk_51 (dk_at dksX1_word_1 0 rfl rfl)
theorem dX1_word_25 : decode cX1_word 25 = .ok (.invokestatic 77, 3) := dk_184 0 77 (dk_at dksX1_word_1 1 rfl rfl)
theorem dX1_word_28 : decode cX1_word 28 = .ok (.ifCond .eq 16, 3) := dk_153 0 16 (dk_at dksX1_word_1 4 rfl rfl)
theorem dX1_word_31 : decode cX1_word 31 = .ok (.aload_n 0, 1) := dk_42 (dk_at dksX1_word_1 7 rfl rfl)
theorem dX1_word_32 : decode cX1_word 32 = .ok (.dup, 1) := dk_89 (dk_at dksX1_word_1 8 rfl rfl)
theorem dX1_word_33 : decode cX1_word 33 = .ok (.getfield 50, 3) := dk_180 0 50 (dk_at dksX1_word_1 9 rfl rfl)
theorem dX1_word_36 : decode cX1_word 36 = .ok (.iconst 1, 1) := dk_4 (dk_at dksX1_word_1 12 rfl rfl)
theorem dX1_word_37 : decode cX1_word 37 = .ok (.iadd, 1) := dk_96 (dk_at dksX1_word_1 13 rfl rfl)
theorem dX1_word_38 : decode cX1_word 38 = .ok (.putfield 50, 3) := dk_181 0 50 (dk_at dksX1_word_1 14 rfl rfl)
theorem dX1_word_41 : decode cX1_word 41 = .ok (.goto (-36), 3) := dk_167 255 220 (dk_at dksX1_word_1 17 rfl rfl)
theorem dX1_word_44 : decode cX1_word 44 = .ok (.aload_n 0, 1) := dk_42 (dk_at dksX1_word_1 20 rfl rfl)
theorem dX1_word_45 : decode cX1_word 45 = .ok (.iload_n 1, 1) := dk_27 (dk_at dksX1_word_1 21 rfl rfl)
theorem dX1_word_46 : decode cX1_word 46 = .ok (.aload_n 0, 1) := dk_42 (dk_at dksX1_word_1 22 rfl rfl)
theorem dX1_word_47 : decode cX1_word 47 = .ok (.getfield 50, 3) := dk_180 0 50 (dk_at dksX1_word_2 0 rfl rfl)
theorem dX1_word_50 : decode cX1_word 50 = .ok (.invokevirtual 84, 3) := dk_182 0 84 (dk_at dksX1_word_2 3 rfl rfl)
theorem dX1_word_53 : decode cX1_word 53 = .ok (.areturn, 1) := dk_176 (dk_at dksX1_word_2 6 rfl rfl)
abbrev cX1_goesOn : ByteArray := prog_9_method_11_code
def yX1_goesOn : MethodName := ⟨RX1, "goesOn", "(II)Z"⟩
def dkwX1_goesOn_2 : List UInt8 := [172]
abbrev dktX1_goesOn_2 : List UInt8 := dkwX1_goesOn_2 ++ []
def dkwX1_goesOn_1 : List UInt8 := [160, 0, 23, 42, 182, 0, 63, 184, 0, 77, 153, 0, 13, 42, 4, 42, 180, 0, 50, 182, 0, 67, 191, 4]
abbrev dktX1_goesOn_1 : List UInt8 := dkwX1_goesOn_1 ++ dktX1_goesOn_2
def dkwX1_goesOn_0 : List UInt8 := [42, 182, 0, 63, 16, 44, 159, 0, 5, 3, 172, 42, 89, 180, 0, 50, 4, 96, 181, 0, 50, 27, 28]
abbrev dktX1_goesOn_0 : List UInt8 := dkwX1_goesOn_0 ++ dktX1_goesOn_1
theorem dksX1_goesOn_0 : cX1_goesOn.data.toList.drop 0 = dktX1_goesOn_0 := by decide +kernel
theorem dksX1_goesOn_1 : cX1_goesOn.data.toList.drop 23 = dktX1_goesOn_1 := dk_seg dksX1_goesOn_0 23 rfl rfl
theorem dksX1_goesOn_2 : cX1_goesOn.data.toList.drop 47 = dktX1_goesOn_2 := dk_seg dksX1_goesOn_1 24 rfl rfl
theorem dX1_goesOn_0 : decode cX1_goesOn 0 = .ok (.aload_n 0, 1) := dk_42 (dk_at dksX1_goesOn_0 0 rfl rfl)
theorem dX1_goesOn_1 : decode cX1_goesOn 1 = .ok (.invokevirtual 63, 3) := dk_182 0 63 (dk_at dksX1_goesOn_0 1 rfl rfl)
theorem dX1_goesOn_4 : decode cX1_goesOn 4 = .ok (.bipush 44, 2) := dk_16 44 (dk_at dksX1_goesOn_0 4 rfl rfl)
theorem dX1_goesOn_6 : decode cX1_goesOn 6 = .ok (.if_icmp .eq 5, 3) := dk_159 0 5 (dk_at dksX1_goesOn_0 6 rfl rfl)
theorem dX1_goesOn_9 : decode cX1_goesOn 9 = .ok (.iconst 0, 1) := dk_3 (dk_at dksX1_goesOn_0 9 rfl rfl)
theorem dX1_goesOn_10 : decode cX1_goesOn 10 = .ok (.ireturn, 1) := dk_172 (dk_at dksX1_goesOn_0 10 rfl rfl)
theorem dX1_goesOn_11 : decode cX1_goesOn 11 = .ok (.aload_n 0, 1) := dk_42 (dk_at dksX1_goesOn_0 11 rfl rfl)
theorem dX1_goesOn_12 : decode cX1_goesOn 12 = .ok (.dup, 1) := dk_89 (dk_at dksX1_goesOn_0 12 rfl rfl)
theorem dX1_goesOn_13 : decode cX1_goesOn 13 = .ok (.getfield 50, 3) := dk_180 0 50 (dk_at dksX1_goesOn_0 13 rfl rfl)
theorem dX1_goesOn_16 : decode cX1_goesOn 16 = .ok (.iconst 1, 1) := dk_4 (dk_at dksX1_goesOn_0 16 rfl rfl)
theorem dX1_goesOn_17 : decode cX1_goesOn 17 = .ok (.iadd, 1) := dk_96 (dk_at dksX1_goesOn_0 17 rfl rfl)
theorem dX1_goesOn_18 : decode cX1_goesOn 18 = .ok (.putfield 50, 3) := dk_181 0 50 (dk_at dksX1_goesOn_0 18 rfl rfl)
theorem dX1_goesOn_21 : decode cX1_goesOn 21 = .ok (.iload_n 1, 1) := dk_27 (dk_at dksX1_goesOn_0 21 rfl rfl)
theorem dX1_goesOn_22 : decode cX1_goesOn 22 = .ok (.iload_n 2, 1) := dk_28 (dk_at dksX1_goesOn_0 22 rfl rfl)
theorem dX1_goesOn_23 : decode cX1_goesOn 23 = .ok (.if_icmp .ne 23, 3) := dk_160 0 23 (dk_at dksX1_goesOn_1 0 rfl rfl)
theorem dX1_goesOn_26 : decode cX1_goesOn 26 = .ok (.aload_n 0, 1) := dk_42 (dk_at dksX1_goesOn_1 3 rfl rfl)
theorem dX1_goesOn_27 : decode cX1_goesOn 27 = .ok (.invokevirtual 63, 3) := dk_182 0 63 (dk_at dksX1_goesOn_1 4 rfl rfl)
theorem dX1_goesOn_30 : decode cX1_goesOn 30 = .ok (.invokestatic 77, 3) := dk_184 0 77 (dk_at dksX1_goesOn_1 7 rfl rfl)
theorem dX1_goesOn_33 : decode cX1_goesOn 33 = .ok (.ifCond .eq 13, 3) := dk_153 0 13 (dk_at dksX1_goesOn_1 10 rfl rfl)
theorem dX1_goesOn_36 : decode cX1_goesOn 36 = .ok (.aload_n 0, 1) := dk_42 (dk_at dksX1_goesOn_1 13 rfl rfl)
theorem dX1_goesOn_37 : decode cX1_goesOn 37 = .ok (.iconst 1, 1) := dk_4 (dk_at dksX1_goesOn_1 14 rfl rfl)
theorem dX1_goesOn_38 : decode cX1_goesOn 38 = .ok (.aload_n 0, 1) := dk_42 (dk_at dksX1_goesOn_1 15 rfl rfl)
theorem dX1_goesOn_39 : decode cX1_goesOn 39 = .ok (.getfield 50, 3) := dk_180 0 50 (dk_at dksX1_goesOn_1 16 rfl rfl)
theorem dX1_goesOn_42 : decode cX1_goesOn 42 = .ok (.invokevirtual 67, 3) := dk_182 0 67 (dk_at dksX1_goesOn_1 19 rfl rfl)
theorem dX1_goesOn_45 : decode cX1_goesOn 45 = .ok (.athrow, 1) := dk_191 (dk_at dksX1_goesOn_1 22 rfl rfl)
theorem dX1_goesOn_46 : decode cX1_goesOn 46 = .ok (.iconst 1, 1) := dk_4 (dk_at dksX1_goesOn_1 23 rfl rfl)
theorem dX1_goesOn_47 : decode cX1_goesOn 47 = .ok (.ireturn, 1) := dk_172 (dk_at dksX1_goesOn_2 0 rfl rfl)
abbrev cX1_select : ByteArray := prog_9_method_14_code
def yX1_select : MethodName := ⟨RX1, "select", "()V"⟩
def dkwX1_select_10 : List UInt8 := [4, 96, 181, 0, 50, 42, 180, 0, 127, 42, 182, 0, 186, 181, 0, 205, 177]
abbrev dktX1_select_10 : List UInt8 := dkwX1_select_10 ++ []
def dkwX1_select_9 : List UInt8 := [180, 0, 50, 51, 16, 60, 160, 0, 8, 18, 201, 167, 0, 5, 18, 203, 182, 0, 177, 42, 89, 180, 0, 50]
abbrev dktX1_select_9 : List UInt8 := dkwX1_select_9 ++ dktX1_select_10
def dkwX1_select_8 : List UInt8 := [180, 0, 50, 182, 0, 67, 191, 42, 180, 0, 127, 42, 180, 0, 50, 181, 0, 198, 42, 42, 180, 0, 56, 42]
abbrev dktX1_select_8 : List UInt8 := dkwX1_select_8 ++ dktX1_select_9
def dkwX1_select_7 : List UInt8 := [181, 0, 194, 42, 182, 0, 63, 16, 60, 159, 0, 22, 42, 182, 0, 63, 16, 61, 159, 0, 13, 42, 4, 42]
abbrev dktX1_select_7 : List UInt8 := dkwX1_select_7 ++ dktX1_select_8
def dkwX1_select_6 : List UInt8 := [154, 0, 4, 177, 42, 18, 192, 182, 0, 177, 42, 3, 181, 0, 180, 42, 180, 0, 127, 42, 182, 0, 186]
abbrev dktX1_select_6 : List UInt8 := dkwX1_select_6 ++ dktX1_select_7
def dkwX1_select_5 : List UInt8 := [182, 0, 177, 42, 42, 180, 0, 29, 182, 0, 150, 6, 182, 0, 173, 154, 255, 209, 42, 18, 192, 182, 0, 108]
abbrev dktX1_select_5 : List UInt8 := dkwX1_select_5 ++ dktX1_select_6
def dkwX1_select_4 : List UInt8 := [42, 180, 0, 29, 182, 0, 150, 42, 180, 0, 60, 79, 42, 180, 0, 29, 43, 182, 0, 152, 87, 42, 43]
abbrev dktX1_select_4 : List UInt8 := dkwX1_select_4 ++ dktX1_select_5
def dkwX1_select_3 : List UInt8 := [4, 42, 180, 0, 60, 182, 0, 67, 191, 42, 18, 190, 182, 0, 177, 42, 182, 0, 115, 76, 42, 180, 0, 32]
abbrev dktX1_select_3 : List UInt8 := dkwX1_select_3 ++ dktX1_select_4
def dkwX1_select_2 : List UInt8 := [180, 0, 147, 182, 0, 150, 16, 6, 182, 0, 173, 154, 255, 199, 42, 18, 190, 182, 0, 108, 154, 0, 13, 42]
abbrev dktX1_select_2 : List UInt8 := dkwX1_select_2 ++ dktX1_select_3
def dkwX1_select_1 : List UInt8 := [181, 0, 180, 42, 180, 0, 127, 180, 0, 183, 42, 182, 0, 186, 182, 0, 152, 87, 42, 42, 180, 0, 127]
abbrev dktX1_select_1 : List UInt8 := dkwX1_select_1 ++ dktX1_select_2
def dkwX1_select_0 : List UInt8 := [42, 182, 0, 115, 76, 42, 43, 182, 0, 155, 42, 16, 58, 182, 0, 134, 42, 43, 182, 0, 177, 42, 3]
abbrev dktX1_select_0 : List UInt8 := dkwX1_select_0 ++ dktX1_select_1
theorem dksX1_select_0 : cX1_select.data.toList.drop 0 = dktX1_select_0 := by decide +kernel
theorem dksX1_select_1 : cX1_select.data.toList.drop 23 = dktX1_select_1 := dk_seg dksX1_select_0 23 rfl rfl
theorem dksX1_select_2 : cX1_select.data.toList.drop 46 = dktX1_select_2 := dk_seg dksX1_select_1 23 rfl rfl
theorem dksX1_select_3 : cX1_select.data.toList.drop 70 = dktX1_select_3 := dk_seg dksX1_select_2 24 rfl rfl
theorem dksX1_select_4 : cX1_select.data.toList.drop 94 = dktX1_select_4 := dk_seg dksX1_select_3 24 rfl rfl
theorem dksX1_select_5 : cX1_select.data.toList.drop 117 = dktX1_select_5 := dk_seg dksX1_select_4 23 rfl rfl
theorem dksX1_select_6 : cX1_select.data.toList.drop 141 = dktX1_select_6 := dk_seg dksX1_select_5 24 rfl rfl
theorem dksX1_select_7 : cX1_select.data.toList.drop 164 = dktX1_select_7 := dk_seg dksX1_select_6 23 rfl rfl
theorem dksX1_select_8 : cX1_select.data.toList.drop 188 = dktX1_select_8 := dk_seg dksX1_select_7 24 rfl rfl
theorem dksX1_select_9 : cX1_select.data.toList.drop 212 = dktX1_select_9 := dk_seg dksX1_select_8 24 rfl rfl
theorem dksX1_select_10 : cX1_select.data.toList.drop 236 = dktX1_select_10 := dk_seg dksX1_select_9 24 rfl rfl
theorem dX1_select_0 : decode cX1_select 0 = .ok (.aload_n 0, 1) := dk_42 (dk_at dksX1_select_0 0 rfl rfl)
theorem dX1_select_1 : decode cX1_select 1 = .ok (.invokevirtual 115, 3) := dk_182 0 115 (dk_at dksX1_select_0 1 rfl rfl)
theorem dX1_select_4 : decode cX1_select 4 = .ok (.astore_n 1, 1) := dk_76 (dk_at dksX1_select_0 4 rfl rfl)
theorem dX1_select_5 : decode cX1_select 5 = .ok (.aload_n 0, 1) := dk_42 (dk_at dksX1_select_0 5 rfl rfl)
theorem dX1_select_6 : decode cX1_select 6 = .ok (.aload_n 1, 1) := dk_43 (dk_at dksX1_select_0 6 rfl rfl)
theorem dX1_select_7 : decode cX1_select 7 = .ok (.invokevirtual 155, 3) := dk_182 0 155 (dk_at dksX1_select_0 7 rfl rfl)
theorem dX1_select_10 : decode cX1_select 10 = .ok (.aload_n 0, 1) := dk_42 (dk_at dksX1_select_0 10 rfl rfl)
theorem dX1_select_11 : decode cX1_select 11 = .ok (.bipush 58, 2) := dk_16 58 (dk_at dksX1_select_0 11 rfl rfl)
theorem dX1_select_13 : decode cX1_select 13 = .ok (.invokevirtual 134, 3) := dk_182 0 134 (dk_at dksX1_select_0 13 rfl rfl)
theorem dX1_select_16 : decode cX1_select 16 = .ok (.aload_n 0, 1) := dk_42 (dk_at dksX1_select_0 16 rfl rfl)
theorem dX1_select_17 : decode cX1_select 17 = .ok (.aload_n 1, 1) := dk_43 (dk_at dksX1_select_0 17 rfl rfl)
theorem dX1_select_18 : decode cX1_select 18 = .ok (.invokevirtual 177, 3) := dk_182 0 177 (dk_at dksX1_select_0 18 rfl rfl)
theorem dX1_select_21 : decode cX1_select 21 = .ok (.aload_n 0, 1) := dk_42 (dk_at dksX1_select_0 21 rfl rfl)
theorem dX1_select_22 : decode cX1_select 22 = .ok (.iconst 0, 1) := dk_3 (dk_at dksX1_select_0 22 rfl rfl)
theorem dX1_select_23 : decode cX1_select 23 = .ok (.putfield 180, 3) := dk_181 0 180 (dk_at dksX1_select_1 0 rfl rfl)
theorem dX1_select_26 : decode cX1_select 26 = .ok (.aload_n 0, 1) := dk_42 (dk_at dksX1_select_1 3 rfl rfl)
theorem dX1_select_27 : decode cX1_select 27 = .ok (.getfield 127, 3) := dk_180 0 127 (dk_at dksX1_select_1 4 rfl rfl)
theorem dX1_select_30 : decode cX1_select 30 = .ok (.getfield 183, 3) := dk_180 0 183 (dk_at dksX1_select_1 7 rfl rfl)
theorem dX1_select_33 : decode cX1_select 33 = .ok (.aload_n 0, 1) := dk_42 (dk_at dksX1_select_1 10 rfl rfl)
theorem dX1_select_34 : decode cX1_select 34 = .ok (.invokevirtual 186, 3) := dk_182 0 186 (dk_at dksX1_select_1 11 rfl rfl)
theorem dX1_select_37 : decode cX1_select 37 = .ok (.invokevirtual 152, 3) := dk_182 0 152 (dk_at dksX1_select_1 14 rfl rfl)
theorem dX1_select_40 : decode cX1_select 40 = .ok (.pop, 1) := dk_87 (dk_at dksX1_select_1 17 rfl rfl)
theorem dX1_select_41 : decode cX1_select 41 = .ok (.aload_n 0, 1) := dk_42 (dk_at dksX1_select_1 18 rfl rfl)
theorem dX1_select_42 : decode cX1_select 42 = .ok (.aload_n 0, 1) := dk_42 (dk_at dksX1_select_1 19 rfl rfl)
theorem dX1_select_43 : decode cX1_select 43 = .ok (.getfield 127, 3) := dk_180 0 127 (dk_at dksX1_select_1 20 rfl rfl)
theorem dX1_select_46 : decode cX1_select 46 = .ok (.getfield 147, 3) := dk_180 0 147 (dk_at dksX1_select_2 0 rfl rfl)
theorem dX1_select_49 : decode cX1_select 49 = .ok (.invokevirtual 150, 3) := dk_182 0 150 (dk_at dksX1_select_2 3 rfl rfl)
theorem dX1_select_52 : decode cX1_select 52 = .ok (.bipush 6, 2) := dk_16 6 (dk_at dksX1_select_2 6 rfl rfl)
theorem dX1_select_54 : decode cX1_select 54 = .ok (.invokevirtual 173, 3) := dk_182 0 173 (dk_at dksX1_select_2 8 rfl rfl)
theorem dX1_select_57 : decode cX1_select 57 = .ok (.ifCond .ne (-57), 3) := dk_154 255 199 (dk_at dksX1_select_2 11 rfl rfl)
theorem dX1_select_60 : decode cX1_select 60 = .ok (.aload_n 0, 1) := dk_42 (dk_at dksX1_select_2 14 rfl rfl)
theorem dX1_select_61 : decode cX1_select 61 = .ok (.ldc 190, 2) := dk_18 190 (dk_at dksX1_select_2 15 rfl rfl)
theorem dX1_select_63 : decode cX1_select 63 = .ok (.invokevirtual 108, 3) := dk_182 0 108 (dk_at dksX1_select_2 17 rfl rfl)
theorem dX1_select_66 : decode cX1_select 66 = .ok (.ifCond .ne 13, 3) := dk_154 0 13 (dk_at dksX1_select_2 20 rfl rfl)
theorem dX1_select_69 : decode cX1_select 69 = .ok (.aload_n 0, 1) := dk_42 (dk_at dksX1_select_2 23 rfl rfl)
theorem dX1_select_70 : decode cX1_select 70 = .ok (.iconst 1, 1) := dk_4 (dk_at dksX1_select_3 0 rfl rfl)
theorem dX1_select_71 : decode cX1_select 71 = .ok (.aload_n 0, 1) := dk_42 (dk_at dksX1_select_3 1 rfl rfl)
theorem dX1_select_72 : decode cX1_select 72 = .ok (.getfield 60, 3) := dk_180 0 60 (dk_at dksX1_select_3 2 rfl rfl)
theorem dX1_select_75 : decode cX1_select 75 = .ok (.invokevirtual 67, 3) := dk_182 0 67 (dk_at dksX1_select_3 5 rfl rfl)
theorem dX1_select_78 : decode cX1_select 78 = .ok (.athrow, 1) := dk_191 (dk_at dksX1_select_3 8 rfl rfl)
theorem dX1_select_79 : decode cX1_select 79 = .ok (.aload_n 0, 1) := dk_42 (dk_at dksX1_select_3 9 rfl rfl)
theorem dX1_select_80 : decode cX1_select 80 = .ok (.ldc 190, 2) := dk_18 190 (dk_at dksX1_select_3 10 rfl rfl)
theorem dX1_select_82 : decode cX1_select 82 = .ok (.invokevirtual 177, 3) := dk_182 0 177 (dk_at dksX1_select_3 12 rfl rfl)
theorem dX1_select_85 : decode cX1_select 85 = .ok (.aload_n 0, 1) := dk_42 (dk_at dksX1_select_3 15 rfl rfl)
theorem dX1_select_86 : decode cX1_select 86 = .ok (.invokevirtual 115, 3) := dk_182 0 115 (dk_at dksX1_select_3 16 rfl rfl)
theorem dX1_select_89 : decode cX1_select 89 = .ok (.astore_n 1, 1) := dk_76 (dk_at dksX1_select_3 19 rfl rfl)
theorem dX1_select_90 : decode cX1_select 90 = .ok (.aload_n 0, 1) := dk_42 (dk_at dksX1_select_3 20 rfl rfl)
theorem dX1_select_91 : decode cX1_select 91 = .ok (.getfield 32, 3) := dk_180 0 32 (dk_at dksX1_select_3 21 rfl rfl)
theorem dX1_select_94 : decode cX1_select 94 = .ok (.aload_n 0, 1) := dk_42 (dk_at dksX1_select_4 0 rfl rfl)
theorem dX1_select_95 : decode cX1_select 95 = .ok (.getfield 29, 3) := dk_180 0 29 (dk_at dksX1_select_4 1 rfl rfl)
theorem dX1_select_98 : decode cX1_select 98 = .ok (.invokevirtual 150, 3) := dk_182 0 150 (dk_at dksX1_select_4 4 rfl rfl)
theorem dX1_select_101 : decode cX1_select 101 = .ok (.aload_n 0, 1) := dk_42 (dk_at dksX1_select_4 7 rfl rfl)
theorem dX1_select_102 : decode cX1_select 102 = .ok (.getfield 60, 3) := dk_180 0 60 (dk_at dksX1_select_4 8 rfl rfl)
theorem dX1_select_105 : decode cX1_select 105 = .ok (.iastore, 1) := dk_79 (dk_at dksX1_select_4 11 rfl rfl)
theorem dX1_select_106 : decode cX1_select 106 = .ok (.aload_n 0, 1) := dk_42 (dk_at dksX1_select_4 12 rfl rfl)
theorem dX1_select_107 : decode cX1_select 107 = .ok (.getfield 29, 3) := dk_180 0 29 (dk_at dksX1_select_4 13 rfl rfl)
theorem dX1_select_110 : decode cX1_select 110 = .ok (.aload_n 1, 1) := dk_43 (dk_at dksX1_select_4 16 rfl rfl)
theorem dX1_select_111 : decode cX1_select 111 = .ok (.invokevirtual 152, 3) := dk_182 0 152 (dk_at dksX1_select_4 17 rfl rfl)
theorem dX1_select_114 : decode cX1_select 114 = .ok (.pop, 1) := dk_87 (dk_at dksX1_select_4 20 rfl rfl)
theorem dX1_select_115 : decode cX1_select 115 = .ok (.aload_n 0, 1) := dk_42 (dk_at dksX1_select_4 21 rfl rfl)
theorem dX1_select_116 : decode cX1_select 116 = .ok (.aload_n 1, 1) := dk_43 (dk_at dksX1_select_4 22 rfl rfl)
theorem dX1_select_117 : decode cX1_select 117 = .ok (.invokevirtual 177, 3) := dk_182 0 177 (dk_at dksX1_select_5 0 rfl rfl)
theorem dX1_select_120 : decode cX1_select 120 = .ok (.aload_n 0, 1) := dk_42 (dk_at dksX1_select_5 3 rfl rfl)
theorem dX1_select_121 : decode cX1_select 121 = .ok (.aload_n 0, 1) := dk_42 (dk_at dksX1_select_5 4 rfl rfl)
theorem dX1_select_122 : decode cX1_select 122 = .ok (.getfield 29, 3) := dk_180 0 29 (dk_at dksX1_select_5 5 rfl rfl)
theorem dX1_select_125 : decode cX1_select 125 = .ok (.invokevirtual 150, 3) := dk_182 0 150 (dk_at dksX1_select_5 8 rfl rfl)
theorem dX1_select_128 : decode cX1_select 128 = .ok (.iconst 3, 1) := dk_6 (dk_at dksX1_select_5 11 rfl rfl)
theorem dX1_select_129 : decode cX1_select 129 = .ok (.invokevirtual 173, 3) := dk_182 0 173 (dk_at dksX1_select_5 12 rfl rfl)
theorem dX1_select_132 : decode cX1_select 132 = .ok (.ifCond .ne (-47), 3) := dk_154 255 209 (dk_at dksX1_select_5 15 rfl rfl)
theorem dX1_select_135 : decode cX1_select 135 = .ok (.aload_n 0, 1) := dk_42 (dk_at dksX1_select_5 18 rfl rfl)
theorem dX1_select_136 : decode cX1_select 136 = .ok (.ldc 192, 2) := dk_18 192 (dk_at dksX1_select_5 19 rfl rfl)
theorem dX1_select_138 : decode cX1_select 138 = .ok (.invokevirtual 108, 3) := dk_182 0 108 (dk_at dksX1_select_5 21 rfl rfl)
theorem dX1_select_141 : decode cX1_select 141 = .ok (.ifCond .ne 4, 3) := dk_154 0 4 (dk_at dksX1_select_6 0 rfl rfl)
theorem dX1_select_144 : decode cX1_select 144 = .ok (.return_, 1) := dk_177 (dk_at dksX1_select_6 3 rfl rfl)
theorem dX1_select_145 : decode cX1_select 145 = .ok (.aload_n 0, 1) := dk_42 (dk_at dksX1_select_6 4 rfl rfl)
theorem dX1_select_146 : decode cX1_select 146 = .ok (.ldc 192, 2) := dk_18 192 (dk_at dksX1_select_6 5 rfl rfl)
theorem dX1_select_148 : decode cX1_select 148 = .ok (.invokevirtual 177, 3) := dk_182 0 177 (dk_at dksX1_select_6 7 rfl rfl)
theorem dX1_select_151 : decode cX1_select 151 = .ok (.aload_n 0, 1) := dk_42 (dk_at dksX1_select_6 10 rfl rfl)
theorem dX1_select_152 : decode cX1_select 152 = .ok (.iconst 0, 1) := dk_3 (dk_at dksX1_select_6 11 rfl rfl)
theorem dX1_select_153 : decode cX1_select 153 = .ok (.putfield 180, 3) := dk_181 0 180 (dk_at dksX1_select_6 12 rfl rfl)
theorem dX1_select_156 : decode cX1_select 156 = .ok (.aload_n 0, 1) := dk_42 (dk_at dksX1_select_6 15 rfl rfl)
theorem dX1_select_157 : decode cX1_select 157 = .ok (.getfield 127, 3) := dk_180 0 127 (dk_at dksX1_select_6 16 rfl rfl)
theorem dX1_select_160 : decode cX1_select 160 = .ok (.aload_n 0, 1) := dk_42 (dk_at dksX1_select_6 19 rfl rfl)
theorem dX1_select_161 : decode cX1_select 161 = .ok (.invokevirtual 186, 3) := dk_182 0 186 (dk_at dksX1_select_6 20 rfl rfl)
theorem dX1_select_164 : decode cX1_select 164 = .ok (.putfield 194, 3) := dk_181 0 194 (dk_at dksX1_select_7 0 rfl rfl)
theorem dX1_select_167 : decode cX1_select 167 = .ok (.aload_n 0, 1) := dk_42 (dk_at dksX1_select_7 3 rfl rfl)
theorem dX1_select_168 : decode cX1_select 168 = .ok (.invokevirtual 63, 3) := dk_182 0 63 (dk_at dksX1_select_7 4 rfl rfl)
theorem dX1_select_171 : decode cX1_select 171 = .ok (.bipush 60, 2) := dk_16 60 (dk_at dksX1_select_7 7 rfl rfl)
theorem dX1_select_173 : decode cX1_select 173 = .ok (.if_icmp .eq 22, 3) := dk_159 0 22 (dk_at dksX1_select_7 9 rfl rfl)
theorem dX1_select_176 : decode cX1_select 176 = .ok (.aload_n 0, 1) := dk_42 (dk_at dksX1_select_7 12 rfl rfl)
theorem dX1_select_177 : decode cX1_select 177 = .ok (.invokevirtual 63, 3) := dk_182 0 63 (dk_at dksX1_select_7 13 rfl rfl)
theorem dX1_select_180 : decode cX1_select 180 = .ok (.bipush 61, 2) := dk_16 61 (dk_at dksX1_select_7 16 rfl rfl)
theorem dX1_select_182 : decode cX1_select 182 = .ok (.if_icmp .eq 13, 3) := dk_159 0 13 (dk_at dksX1_select_7 18 rfl rfl)
theorem dX1_select_185 : decode cX1_select 185 = .ok (.aload_n 0, 1) := dk_42 (dk_at dksX1_select_7 21 rfl rfl)
theorem dX1_select_186 : decode cX1_select 186 = .ok (.iconst 1, 1) := dk_4 (dk_at dksX1_select_7 22 rfl rfl)
theorem dX1_select_187 : decode cX1_select 187 = .ok (.aload_n 0, 1) := dk_42 (dk_at dksX1_select_7 23 rfl rfl)
theorem dX1_select_188 : decode cX1_select 188 = .ok (.getfield 50, 3) := dk_180 0 50 (dk_at dksX1_select_8 0 rfl rfl)
theorem dX1_select_191 : decode cX1_select 191 = .ok (.invokevirtual 67, 3) := dk_182 0 67 (dk_at dksX1_select_8 3 rfl rfl)
theorem dX1_select_194 : decode cX1_select 194 = .ok (.athrow, 1) := dk_191 (dk_at dksX1_select_8 6 rfl rfl)
theorem dX1_select_195 : decode cX1_select 195 = .ok (.aload_n 0, 1) := dk_42 (dk_at dksX1_select_8 7 rfl rfl)
theorem dX1_select_196 : decode cX1_select 196 = .ok (.getfield 127, 3) := dk_180 0 127 (dk_at dksX1_select_8 8 rfl rfl)
theorem dX1_select_199 : decode cX1_select 199 = .ok (.aload_n 0, 1) := dk_42 (dk_at dksX1_select_8 11 rfl rfl)
theorem dX1_select_200 : decode cX1_select 200 = .ok (.getfield 50, 3) := dk_180 0 50 (dk_at dksX1_select_8 12 rfl rfl)
theorem dX1_select_203 : decode cX1_select 203 = .ok (.putfield 198, 3) := dk_181 0 198 (dk_at dksX1_select_8 15 rfl rfl)
theorem dX1_select_206 : decode cX1_select 206 = .ok (.aload_n 0, 1) := dk_42 (dk_at dksX1_select_8 18 rfl rfl)
theorem dX1_select_207 : decode cX1_select 207 = .ok (.aload_n 0, 1) := dk_42 (dk_at dksX1_select_8 19 rfl rfl)
theorem dX1_select_208 : decode cX1_select 208 = .ok (.getfield 56, 3) := dk_180 0 56 (dk_at dksX1_select_8 20 rfl rfl)
theorem dX1_select_211 : decode cX1_select 211 = .ok (.aload_n 0, 1) := dk_42 (dk_at dksX1_select_8 23 rfl rfl)
theorem dX1_select_212 : decode cX1_select 212 = .ok (.getfield 50, 3) := dk_180 0 50 (dk_at dksX1_select_9 0 rfl rfl)
theorem dX1_select_215 : decode cX1_select 215 = .ok (.baload, 1) := dk_51 (dk_at dksX1_select_9 3 rfl rfl)
theorem dX1_select_216 : decode cX1_select 216 = .ok (.bipush 60, 2) := dk_16 60 (dk_at dksX1_select_9 4 rfl rfl)
theorem dX1_select_218 : decode cX1_select 218 = .ok (.if_icmp .ne 8, 3) := dk_160 0 8 (dk_at dksX1_select_9 6 rfl rfl)
theorem dX1_select_221 : decode cX1_select 221 = .ok (.ldc 201, 2) := dk_18 201 (dk_at dksX1_select_9 9 rfl rfl)
theorem dX1_select_223 : decode cX1_select 223 = .ok (.goto 5, 3) := dk_167 0 5 (dk_at dksX1_select_9 11 rfl rfl)
theorem dX1_select_226 : decode cX1_select 226 = .ok (.ldc 203, 2) := dk_18 203 (dk_at dksX1_select_9 14 rfl rfl)
theorem dX1_select_228 : decode cX1_select 228 = .ok (.invokevirtual 177, 3) := dk_182 0 177 (dk_at dksX1_select_9 16 rfl rfl)
theorem dX1_select_231 : decode cX1_select 231 = .ok (.aload_n 0, 1) := dk_42 (dk_at dksX1_select_9 19 rfl rfl)
theorem dX1_select_232 : decode cX1_select 232 = .ok (.dup, 1) := dk_89 (dk_at dksX1_select_9 20 rfl rfl)
theorem dX1_select_233 : decode cX1_select 233 = .ok (.getfield 50, 3) := dk_180 0 50 (dk_at dksX1_select_9 21 rfl rfl)
theorem dX1_select_236 : decode cX1_select 236 = .ok (.iconst 1, 1) := dk_4 (dk_at dksX1_select_10 0 rfl rfl)
theorem dX1_select_237 : decode cX1_select 237 = .ok (.iadd, 1) := dk_96 (dk_at dksX1_select_10 1 rfl rfl)
theorem dX1_select_238 : decode cX1_select 238 = .ok (.putfield 50, 3) := dk_181 0 50 (dk_at dksX1_select_10 2 rfl rfl)
theorem dX1_select_241 : decode cX1_select 241 = .ok (.aload_n 0, 1) := dk_42 (dk_at dksX1_select_10 5 rfl rfl)
theorem dX1_select_242 : decode cX1_select 242 = .ok (.getfield 127, 3) := dk_180 0 127 (dk_at dksX1_select_10 6 rfl rfl)
theorem dX1_select_245 : decode cX1_select 245 = .ok (.aload_n 0, 1) := dk_42 (dk_at dksX1_select_10 9 rfl rfl)
theorem dX1_select_246 : decode cX1_select 246 = .ok (.invokevirtual 186, 3) := dk_182 0 186 (dk_at dksX1_select_10 10 rfl rfl)
theorem dX1_select_249 : decode cX1_select 249 = .ok (.putfield 205, 3) := dk_181 0 205 (dk_at dksX1_select_10 13 rfl rfl)
theorem dX1_select_252 : decode cX1_select 252 = .ok (.return_, 1) := dk_177 (dk_at dksX1_select_10 16 rfl rfl)
abbrev cX1_tell : ByteArray := prog_9_method_8_code
def yX1_tell : MethodName := ⟨RX1, "tell", "(Ljava/lang/String;)V"⟩
def dkwX1_tell_2 : List UInt8 := [90, 4, 96, 181, 0, 96, 16, 32, 85, 177]
abbrev dktX1_tell_2 : List UInt8 := dkwX1_tell_2 ++ []
def dkwX1_tell_1 : List UInt8 := [181, 0, 96, 43, 28, 182, 0, 99, 85, 132, 2, 1, 167, 255, 224, 42, 180, 0, 39, 42, 89, 180, 0, 96]
abbrev dktX1_tell_1 : List UInt8 := dkwX1_tell_1 ++ dktX1_tell_2
def dkwX1_tell_0 : List UInt8 := [3, 61, 28, 43, 182, 0, 81, 162, 0, 30, 42, 180, 0, 39, 42, 89, 180, 0, 96, 90, 4, 96]
abbrev dktX1_tell_0 : List UInt8 := dkwX1_tell_0 ++ dktX1_tell_1
theorem dksX1_tell_0 : cX1_tell.data.toList.drop 0 = dktX1_tell_0 := by decide +kernel
theorem dksX1_tell_1 : cX1_tell.data.toList.drop 22 = dktX1_tell_1 := dk_seg dksX1_tell_0 22 rfl rfl
theorem dksX1_tell_2 : cX1_tell.data.toList.drop 46 = dktX1_tell_2 := dk_seg dksX1_tell_1 24 rfl rfl
theorem dX1_tell_0 : decode cX1_tell 0 = .ok (.iconst 0, 1) := dk_3 (dk_at dksX1_tell_0 0 rfl rfl)
theorem dX1_tell_1 : decode cX1_tell 1 = .ok (.istore_n 2, 1) := dk_61 (dk_at dksX1_tell_0 1 rfl rfl)
theorem dX1_tell_2 : decode cX1_tell 2 = .ok (.iload_n 2, 1) := dk_28 (dk_at dksX1_tell_0 2 rfl rfl)
theorem dX1_tell_3 : decode cX1_tell 3 = .ok (.aload_n 1, 1) := dk_43 (dk_at dksX1_tell_0 3 rfl rfl)
theorem dX1_tell_4 : decode cX1_tell 4 = .ok (.invokevirtual 81, 3) := dk_182 0 81 (dk_at dksX1_tell_0 4 rfl rfl)
theorem dX1_tell_7 : decode cX1_tell 7 = .ok (.if_icmp .ge 30, 3) := dk_162 0 30 (dk_at dksX1_tell_0 7 rfl rfl)
theorem dX1_tell_10 : decode cX1_tell 10 = .ok (.aload_n 0, 1) := dk_42 (dk_at dksX1_tell_0 10 rfl rfl)
theorem dX1_tell_11 : decode cX1_tell 11 = .ok (.getfield 39, 3) := dk_180 0 39 (dk_at dksX1_tell_0 11 rfl rfl)
theorem dX1_tell_14 : decode cX1_tell 14 = .ok (.aload_n 0, 1) := dk_42 (dk_at dksX1_tell_0 14 rfl rfl)
theorem dX1_tell_15 : decode cX1_tell 15 = .ok (.dup, 1) := dk_89 (dk_at dksX1_tell_0 15 rfl rfl)
theorem dX1_tell_16 : decode cX1_tell 16 = .ok (.getfield 96, 3) := dk_180 0 96 (dk_at dksX1_tell_0 16 rfl rfl)
theorem dX1_tell_19 : decode cX1_tell 19 = .ok (.dup_x1, 1) := dk_90 (dk_at dksX1_tell_0 19 rfl rfl)
theorem dX1_tell_20 : decode cX1_tell 20 = .ok (.iconst 1, 1) := dk_4 (dk_at dksX1_tell_0 20 rfl rfl)
theorem dX1_tell_21 : decode cX1_tell 21 = .ok (.iadd, 1) := dk_96 (dk_at dksX1_tell_0 21 rfl rfl)
theorem dX1_tell_22 : decode cX1_tell 22 = .ok (.putfield 96, 3) := dk_181 0 96 (dk_at dksX1_tell_1 0 rfl rfl)
theorem dX1_tell_25 : decode cX1_tell 25 = .ok (.aload_n 1, 1) := dk_43 (dk_at dksX1_tell_1 3 rfl rfl)
theorem dX1_tell_26 : decode cX1_tell 26 = .ok (.iload_n 2, 1) := dk_28 (dk_at dksX1_tell_1 4 rfl rfl)
theorem dX1_tell_27 : decode cX1_tell 27 = .ok (.invokevirtual 99, 3) := dk_182 0 99 (dk_at dksX1_tell_1 5 rfl rfl)
theorem dX1_tell_30 : decode cX1_tell 30 = .ok (.castore, 1) := dk_85 (dk_at dksX1_tell_1 8 rfl rfl)
theorem dX1_tell_31 : decode cX1_tell 31 = .ok (.iinc 2 1, 3) := dk_132 2 1 (dk_at dksX1_tell_1 9 rfl rfl)
theorem dX1_tell_34 : decode cX1_tell 34 = .ok (.goto (-32), 3) := dk_167 255 224 (dk_at dksX1_tell_1 12 rfl rfl)
theorem dX1_tell_37 : decode cX1_tell 37 = .ok (.aload_n 0, 1) := dk_42 (dk_at dksX1_tell_1 15 rfl rfl)
theorem dX1_tell_38 : decode cX1_tell 38 = .ok (.getfield 39, 3) := dk_180 0 39 (dk_at dksX1_tell_1 16 rfl rfl)
theorem dX1_tell_41 : decode cX1_tell 41 = .ok (.aload_n 0, 1) := dk_42 (dk_at dksX1_tell_1 19 rfl rfl)
theorem dX1_tell_42 : decode cX1_tell 42 = .ok (.dup, 1) := dk_89 (dk_at dksX1_tell_1 20 rfl rfl)
theorem dX1_tell_43 : decode cX1_tell 43 = .ok (.getfield 96, 3) := dk_180 0 96 (dk_at dksX1_tell_1 21 rfl rfl)
theorem dX1_tell_46 : decode cX1_tell 46 = .ok (.dup_x1, 1) := dk_90 (dk_at dksX1_tell_2 0 rfl rfl)
theorem dX1_tell_47 : decode cX1_tell 47 = .ok (.iconst 1, 1) := dk_4 (dk_at dksX1_tell_2 1 rfl rfl)
theorem dX1_tell_48 : decode cX1_tell 48 = .ok (.iadd, 1) := dk_96 (dk_at dksX1_tell_2 2 rfl rfl)
theorem dX1_tell_49 : decode cX1_tell 49 = .ok (.putfield 96, 3) := dk_181 0 96 (dk_at dksX1_tell_2 3 rfl rfl)
theorem dX1_tell_52 : decode cX1_tell 52 = .ok (.bipush 32, 2) := dk_16 32 (dk_at dksX1_tell_2 6 rfl rfl)
theorem dX1_tell_54 : decode cX1_tell 54 = .ok (.castore, 1) := dk_85 (dk_at dksX1_tell_2 8 rfl rfl)
theorem dX1_tell_55 : decode cX1_tell 55 = .ok (.return_, 1) := dk_177 (dk_at dksX1_tell_2 9 rfl rfl)
abbrev cX1_formula : ByteArray := prog_9_method_15_code
def yX1_formula : MethodName := ⟨RX1, "formula", "()LTableCatalog$Formula;"⟩
def dkwX1_formula_6 : List UInt8 := [167, 255, 142, 43, 176]
abbrev dktX1_formula_6 : List UInt8 := dkwX1_formula_6 ++ []
def dkwX1_formula_5 : List UInt8 := [4, 96, 181, 0, 50, 43, 180, 0, 211, 42, 182, 0, 214, 182, 0, 152, 87, 42, 182, 0, 63, 61]
abbrev dktX1_formula_5 : List UInt8 := dkwX1_formula_5 ++ dktX1_formula_6
def dkwX1_formula_4 : List UInt8 := [167, 0, 16, 28, 16, 45, 160, 0, 8, 18, 226, 167, 0, 5, 18, 228, 182, 0, 177, 42, 89, 180, 0, 50]
abbrev dktX1_formula_4 : List UInt8 := dkwX1_formula_4 ++ dktX1_formula_5
def dkwX1_formula_3 : List UInt8 := [29, 28, 79, 43, 180, 0, 221, 29, 42, 180, 0, 50, 79, 42, 28, 16, 43, 160, 0, 8, 18, 224]
abbrev dktX1_formula_3 : List UInt8 := dkwX1_formula_3 ++ dktX1_formula_4
def dkwX1_formula_2 : List UInt8 := [182, 0, 150, 62, 29, 16, 6, 160, 0, 13, 42, 4, 42, 180, 0, 50, 182, 0, 67, 191, 43, 180, 0, 218]
abbrev dktX1_formula_2 : List UInt8 := dkwX1_formula_2 ++ dktX1_formula_3
def dkwX1_formula_1 : List UInt8 := [61, 28, 16, 43, 159, 0, 15, 28, 16, 45, 159, 0, 9, 28, 16, 38, 160, 0, 102, 43, 180, 0, 211]
abbrev dktX1_formula_1 : List UInt8 := dkwX1_formula_1 ++ dktX1_formula_2
def dkwX1_formula_0 : List UInt8 := [187, 0, 208, 89, 183, 0, 210, 76, 43, 180, 0, 211, 42, 182, 0, 214, 182, 0, 152, 87, 42, 182, 0, 63]
abbrev dktX1_formula_0 : List UInt8 := dkwX1_formula_0 ++ dktX1_formula_1
theorem dksX1_formula_0 : cX1_formula.data.toList.drop 0 = dktX1_formula_0 := by decide +kernel
theorem dksX1_formula_1 : cX1_formula.data.toList.drop 24 = dktX1_formula_1 := dk_seg dksX1_formula_0 24 rfl rfl
theorem dksX1_formula_2 : cX1_formula.data.toList.drop 47 = dktX1_formula_2 := dk_seg dksX1_formula_1 23 rfl rfl
theorem dksX1_formula_3 : cX1_formula.data.toList.drop 71 = dktX1_formula_3 := dk_seg dksX1_formula_2 24 rfl rfl
theorem dksX1_formula_4 : cX1_formula.data.toList.drop 93 = dktX1_formula_4 := dk_seg dksX1_formula_3 22 rfl rfl
theorem dksX1_formula_5 : cX1_formula.data.toList.drop 117 = dktX1_formula_5 := dk_seg dksX1_formula_4 24 rfl rfl
theorem dksX1_formula_6 : cX1_formula.data.toList.drop 139 = dktX1_formula_6 := dk_seg dksX1_formula_5 22 rfl rfl
theorem dX1_formula_0 : decode cX1_formula 0 = .ok (.new 208, 3) := dk_187 0 208 (dk_at dksX1_formula_0 0 rfl rfl)
theorem dX1_formula_3 : decode cX1_formula 3 = .ok (.dup, 1) := dk_89 (dk_at dksX1_formula_0 3 rfl rfl)
theorem dX1_formula_4 : decode cX1_formula 4 = .ok (.invokespecial 210, 3) := dk_183 0 210 (dk_at dksX1_formula_0 4 rfl rfl)
theorem dX1_formula_7 : decode cX1_formula 7 = .ok (.astore_n 1, 1) := dk_76 (dk_at dksX1_formula_0 7 rfl rfl)
theorem dX1_formula_8 : decode cX1_formula 8 = .ok (.aload_n 1, 1) := dk_43 (dk_at dksX1_formula_0 8 rfl rfl)
theorem dX1_formula_9 : decode cX1_formula 9 = .ok (.getfield 211, 3) := dk_180 0 211 (dk_at dksX1_formula_0 9 rfl rfl)
theorem dX1_formula_12 : decode cX1_formula 12 = .ok (.aload_n 0, 1) := dk_42 (dk_at dksX1_formula_0 12 rfl rfl)
theorem dX1_formula_13 : decode cX1_formula 13 = .ok (.invokevirtual 214, 3) := dk_182 0 214 (dk_at dksX1_formula_0 13 rfl rfl)
theorem dX1_formula_16 : decode cX1_formula 16 = .ok (.invokevirtual 152, 3) := dk_182 0 152 (dk_at dksX1_formula_0 16 rfl rfl)
theorem dX1_formula_19 : decode cX1_formula 19 = .ok (.pop, 1) := dk_87 (dk_at dksX1_formula_0 19 rfl rfl)
theorem dX1_formula_20 : decode cX1_formula 20 = .ok (.aload_n 0, 1) := dk_42 (dk_at dksX1_formula_0 20 rfl rfl)
theorem dX1_formula_21 : decode cX1_formula 21 = .ok (.invokevirtual 63, 3) := dk_182 0 63 (dk_at dksX1_formula_0 21 rfl rfl)
theorem dX1_formula_24 : decode cX1_formula 24 = .ok (.istore_n 2, 1) := dk_61 (dk_at dksX1_formula_1 0 rfl rfl)
theorem dX1_formula_25 : decode cX1_formula 25 = .ok (.iload_n 2, 1) := dk_28 (dk_at dksX1_formula_1 1 rfl rfl)
theorem dX1_formula_26 : decode cX1_formula 26 = .ok (.bipush 43, 2) := dk_16 43 (dk_at dksX1_formula_1 2 rfl rfl)
theorem dX1_formula_28 : decode cX1_formula 28 = .ok (.if_icmp .eq 15, 3) := dk_159 0 15 (dk_at dksX1_formula_1 4 rfl rfl)
theorem dX1_formula_31 : decode cX1_formula 31 = .ok (.iload_n 2, 1) := dk_28 (dk_at dksX1_formula_1 7 rfl rfl)
theorem dX1_formula_32 : decode cX1_formula 32 = .ok (.bipush 45, 2) := dk_16 45 (dk_at dksX1_formula_1 8 rfl rfl)
theorem dX1_formula_34 : decode cX1_formula 34 = .ok (.if_icmp .eq 9, 3) := dk_159 0 9 (dk_at dksX1_formula_1 10 rfl rfl)
theorem dX1_formula_37 : decode cX1_formula 37 = .ok (.iload_n 2, 1) := dk_28 (dk_at dksX1_formula_1 13 rfl rfl)
theorem dX1_formula_38 : decode cX1_formula 38 = .ok (.bipush 38, 2) := dk_16 38 (dk_at dksX1_formula_1 14 rfl rfl)
theorem dX1_formula_40 : decode cX1_formula 40 = .ok (.if_icmp .ne 102, 3) := dk_160 0 102 (dk_at dksX1_formula_1 16 rfl rfl)
theorem dX1_formula_43 : decode cX1_formula 43 = .ok (.aload_n 1, 1) := dk_43 (dk_at dksX1_formula_1 19 rfl rfl)
theorem dX1_formula_44 : decode cX1_formula 44 = .ok (.getfield 211, 3) := dk_180 0 211 (dk_at dksX1_formula_1 20 rfl rfl)
theorem dX1_formula_47 : decode cX1_formula 47 = .ok (.invokevirtual 150, 3) := dk_182 0 150 (dk_at dksX1_formula_2 0 rfl rfl)
theorem dX1_formula_50 : decode cX1_formula 50 = .ok (.istore_n 3, 1) := dk_62 (dk_at dksX1_formula_2 3 rfl rfl)
theorem dX1_formula_51 : decode cX1_formula 51 = .ok (.iload_n 3, 1) := dk_29 (dk_at dksX1_formula_2 4 rfl rfl)
theorem dX1_formula_52 : decode cX1_formula 52 = .ok (.bipush 6, 2) := dk_16 6 (dk_at dksX1_formula_2 5 rfl rfl)
theorem dX1_formula_54 : decode cX1_formula 54 = .ok (.if_icmp .ne 13, 3) := dk_160 0 13 (dk_at dksX1_formula_2 7 rfl rfl)
theorem dX1_formula_57 : decode cX1_formula 57 = .ok (.aload_n 0, 1) := dk_42 (dk_at dksX1_formula_2 10 rfl rfl)
theorem dX1_formula_58 : decode cX1_formula 58 = .ok (.iconst 1, 1) := dk_4 (dk_at dksX1_formula_2 11 rfl rfl)
theorem dX1_formula_59 : decode cX1_formula 59 = .ok (.aload_n 0, 1) := dk_42 (dk_at dksX1_formula_2 12 rfl rfl)
theorem dX1_formula_60 : decode cX1_formula 60 = .ok (.getfield 50, 3) := dk_180 0 50 (dk_at dksX1_formula_2 13 rfl rfl)
theorem dX1_formula_63 : decode cX1_formula 63 = .ok (.invokevirtual 67, 3) := dk_182 0 67 (dk_at dksX1_formula_2 16 rfl rfl)
theorem dX1_formula_66 : decode cX1_formula 66 = .ok (.athrow, 1) := dk_191 (dk_at dksX1_formula_2 19 rfl rfl)
theorem dX1_formula_67 : decode cX1_formula 67 = .ok (.aload_n 1, 1) := dk_43 (dk_at dksX1_formula_2 20 rfl rfl)
theorem dX1_formula_68 : decode cX1_formula 68 = .ok (.getfield 218, 3) := dk_180 0 218 (dk_at dksX1_formula_2 21 rfl rfl)
theorem dX1_formula_71 : decode cX1_formula 71 = .ok (.iload_n 3, 1) := dk_29 (dk_at dksX1_formula_3 0 rfl rfl)
theorem dX1_formula_72 : decode cX1_formula 72 = .ok (.iload_n 2, 1) := dk_28 (dk_at dksX1_formula_3 1 rfl rfl)
theorem dX1_formula_73 : decode cX1_formula 73 = .ok (.iastore, 1) := dk_79 (dk_at dksX1_formula_3 2 rfl rfl)
theorem dX1_formula_74 : decode cX1_formula 74 = .ok (.aload_n 1, 1) := dk_43 (dk_at dksX1_formula_3 3 rfl rfl)
theorem dX1_formula_75 : decode cX1_formula 75 = .ok (.getfield 221, 3) := dk_180 0 221 (dk_at dksX1_formula_3 4 rfl rfl)
theorem dX1_formula_78 : decode cX1_formula 78 = .ok (.iload_n 3, 1) := dk_29 (dk_at dksX1_formula_3 7 rfl rfl)
theorem dX1_formula_79 : decode cX1_formula 79 = .ok (.aload_n 0, 1) := dk_42 (dk_at dksX1_formula_3 8 rfl rfl)
theorem dX1_formula_80 : decode cX1_formula 80 = .ok (.getfield 50, 3) := dk_180 0 50 (dk_at dksX1_formula_3 9 rfl rfl)
theorem dX1_formula_83 : decode cX1_formula 83 = .ok (.iastore, 1) := dk_79 (dk_at dksX1_formula_3 12 rfl rfl)
theorem dX1_formula_84 : decode cX1_formula 84 = .ok (.aload_n 0, 1) := dk_42 (dk_at dksX1_formula_3 13 rfl rfl)
theorem dX1_formula_85 : decode cX1_formula 85 = .ok (.iload_n 2, 1) := dk_28 (dk_at dksX1_formula_3 14 rfl rfl)
theorem dX1_formula_86 : decode cX1_formula 86 = .ok (.bipush 43, 2) := dk_16 43 (dk_at dksX1_formula_3 15 rfl rfl)
theorem dX1_formula_88 : decode cX1_formula 88 = .ok (.if_icmp .ne 8, 3) := dk_160 0 8 (dk_at dksX1_formula_3 17 rfl rfl)
theorem dX1_formula_91 : decode cX1_formula 91 = .ok (.ldc 224, 2) := dk_18 224 (dk_at dksX1_formula_3 20 rfl rfl)
theorem dX1_formula_93 : decode cX1_formula 93 = .ok (.goto 16, 3) := dk_167 0 16 (dk_at dksX1_formula_4 0 rfl rfl)
theorem dX1_formula_96 : decode cX1_formula 96 = .ok (.iload_n 2, 1) := dk_28 (dk_at dksX1_formula_4 3 rfl rfl)
theorem dX1_formula_97 : decode cX1_formula 97 = .ok (.bipush 45, 2) := dk_16 45 (dk_at dksX1_formula_4 4 rfl rfl)
theorem dX1_formula_99 : decode cX1_formula 99 = .ok (.if_icmp .ne 8, 3) := dk_160 0 8 (dk_at dksX1_formula_4 6 rfl rfl)
theorem dX1_formula_102 : decode cX1_formula 102 = .ok (.ldc 226, 2) := dk_18 226 (dk_at dksX1_formula_4 9 rfl rfl)
theorem dX1_formula_104 : decode cX1_formula 104 = .ok (.goto 5, 3) := dk_167 0 5 (dk_at dksX1_formula_4 11 rfl rfl)
theorem dX1_formula_107 : decode cX1_formula 107 = .ok (.ldc 228, 2) := dk_18 228 (dk_at dksX1_formula_4 14 rfl rfl)
theorem dX1_formula_109 : decode cX1_formula 109 = .ok (.invokevirtual 177, 3) := dk_182 0 177 (dk_at dksX1_formula_4 16 rfl rfl)
theorem dX1_formula_112 : decode cX1_formula 112 = .ok (.aload_n 0, 1) := dk_42 (dk_at dksX1_formula_4 19 rfl rfl)
theorem dX1_formula_113 : decode cX1_formula 113 = .ok (.dup, 1) := dk_89 (dk_at dksX1_formula_4 20 rfl rfl)
theorem dX1_formula_114 : decode cX1_formula 114 = .ok (.getfield 50, 3) := dk_180 0 50 (dk_at dksX1_formula_4 21 rfl rfl)
theorem dX1_formula_117 : decode cX1_formula 117 = .ok (.iconst 1, 1) := dk_4 (dk_at dksX1_formula_5 0 rfl rfl)
theorem dX1_formula_118 : decode cX1_formula 118 = .ok (.iadd, 1) := dk_96 (dk_at dksX1_formula_5 1 rfl rfl)
theorem dX1_formula_119 : decode cX1_formula 119 = .ok (.putfield 50, 3) := dk_181 0 50 (dk_at dksX1_formula_5 2 rfl rfl)
theorem dX1_formula_122 : decode cX1_formula 122 = .ok (.aload_n 1, 1) := dk_43 (dk_at dksX1_formula_5 5 rfl rfl)
theorem dX1_formula_123 : decode cX1_formula 123 = .ok (.getfield 211, 3) := dk_180 0 211 (dk_at dksX1_formula_5 6 rfl rfl)
theorem dX1_formula_126 : decode cX1_formula 126 = .ok (.aload_n 0, 1) := dk_42 (dk_at dksX1_formula_5 9 rfl rfl)
theorem dX1_formula_127 : decode cX1_formula 127 = .ok (.invokevirtual 214, 3) := dk_182 0 214 (dk_at dksX1_formula_5 10 rfl rfl)
theorem dX1_formula_130 : decode cX1_formula 130 = .ok (.invokevirtual 152, 3) := dk_182 0 152 (dk_at dksX1_formula_5 13 rfl rfl)
theorem dX1_formula_133 : decode cX1_formula 133 = .ok (.pop, 1) := dk_87 (dk_at dksX1_formula_5 16 rfl rfl)
theorem dX1_formula_134 : decode cX1_formula 134 = .ok (.aload_n 0, 1) := dk_42 (dk_at dksX1_formula_5 17 rfl rfl)
theorem dX1_formula_135 : decode cX1_formula 135 = .ok (.invokevirtual 63, 3) := dk_182 0 63 (dk_at dksX1_formula_5 18 rfl rfl)
theorem dX1_formula_138 : decode cX1_formula 138 = .ok (.istore_n 2, 1) := dk_61 (dk_at dksX1_formula_5 21 rfl rfl)
theorem dX1_formula_139 : decode cX1_formula 139 = .ok (.goto (-114), 3) := dk_167 255 142 (dk_at dksX1_formula_6 0 rfl rfl)
theorem dX1_formula_142 : decode cX1_formula 142 = .ok (.aload_n 1, 1) := dk_43 (dk_at dksX1_formula_6 3 rfl rfl)
theorem dX1_formula_143 : decode cX1_formula 143 = .ok (.areturn, 1) := dk_176 (dk_at dksX1_formula_6 4 rfl rfl)
abbrev cX1_term : ByteArray := prog_9_method_16_code
def yX1_term : MethodName := ⟨RX1, "term", "()LTableCatalog$Term;"⟩
def dkwX1_term_5 : List UInt8 := [183, 0, 250, 58, 5, 42, 180, 0, 25, 25, 5, 182, 0, 152, 87, 25, 5, 176]
abbrev dktX1_term_5 : List UInt8 := dkwX1_term_5 ++ []
def dkwX1_term_4 : List UInt8 := [45, 182, 0, 177, 42, 25, 4, 182, 0, 177, 187, 0, 248, 89, 28, 45, 42, 180, 0, 60, 25, 4]
abbrev dktX1_term_4 : List UInt8 := dkwX1_term_4 ++ dktX1_term_5
def dkwX1_term_3 : List UInt8 := [18, 246, 182, 0, 242, 176, 42, 182, 0, 115, 78, 42, 16, 46, 182, 0, 134, 42, 182, 0, 115, 58, 4, 42]
abbrev dktX1_term_3 : List UInt8 := dkwX1_term_3 ++ dktX1_term_4
def dkwX1_term_2 : List UInt8 := [16, 110, 18, 240, 182, 0, 242, 176, 42, 18, 246, 182, 0, 108, 153, 0, 15, 42, 28, 16, 110, 16, 116]
abbrev dktX1_term_2 : List UInt8 := dkwX1_term_2 ++ dktX1_term_3
def dkwX1_term_1 : List UInt8 := [16, 39, 160, 0, 9, 42, 28, 182, 0, 237, 176, 42, 18, 240, 182, 0, 108, 153, 0, 15, 42, 28, 16, 116]
abbrev dktX1_term_1 : List UInt8 := dkwX1_term_1 ++ dktX1_term_2
def dkwX1_term_0 : List UInt8 := [42, 182, 0, 63, 60, 42, 180, 0, 50, 61, 27, 184, 0, 230, 153, 0, 9, 42, 28, 182, 0, 233, 176, 27]
abbrev dktX1_term_0 : List UInt8 := dkwX1_term_0 ++ dktX1_term_1
theorem dksX1_term_0 : cX1_term.data.toList.drop 0 = dktX1_term_0 := by decide +kernel
theorem dksX1_term_1 : cX1_term.data.toList.drop 24 = dktX1_term_1 := dk_seg dksX1_term_0 24 rfl rfl
theorem dksX1_term_2 : cX1_term.data.toList.drop 48 = dktX1_term_2 := dk_seg dksX1_term_1 24 rfl rfl
theorem dksX1_term_3 : cX1_term.data.toList.drop 71 = dktX1_term_3 := dk_seg dksX1_term_2 23 rfl rfl
theorem dksX1_term_4 : cX1_term.data.toList.drop 95 = dktX1_term_4 := dk_seg dksX1_term_3 24 rfl rfl
theorem dksX1_term_5 : cX1_term.data.toList.drop 117 = dktX1_term_5 := dk_seg dksX1_term_4 22 rfl rfl
theorem dX1_term_0 : decode cX1_term 0 = .ok (.aload_n 0, 1) := dk_42 (dk_at dksX1_term_0 0 rfl rfl)
theorem dX1_term_1 : decode cX1_term 1 = .ok (.invokevirtual 63, 3) := dk_182 0 63 (dk_at dksX1_term_0 1 rfl rfl)
theorem dX1_term_4 : decode cX1_term 4 = .ok (.istore_n 1, 1) := dk_60 (dk_at dksX1_term_0 4 rfl rfl)
theorem dX1_term_5 : decode cX1_term 5 = .ok (.aload_n 0, 1) := dk_42 (dk_at dksX1_term_0 5 rfl rfl)
theorem dX1_term_6 : decode cX1_term 6 = .ok (.getfield 50, 3) := dk_180 0 50 (dk_at dksX1_term_0 6 rfl rfl)
theorem dX1_term_9 : decode cX1_term 9 = .ok (.istore_n 2, 1) := dk_61 (dk_at dksX1_term_0 9 rfl rfl)
theorem dX1_term_10 : decode cX1_term 10 = .ok (.iload_n 1, 1) := dk_27 (dk_at dksX1_term_0 10 rfl rfl)
theorem dX1_term_11 : decode cX1_term 11 = .ok (.invokestatic 230, 3) := dk_184 0 230 (dk_at dksX1_term_0 11 rfl rfl)
theorem dX1_term_14 : decode cX1_term 14 = .ok (.ifCond .eq 9, 3) := dk_153 0 9 (dk_at dksX1_term_0 14 rfl rfl)
theorem dX1_term_17 : decode cX1_term 17 = .ok (.aload_n 0, 1) := dk_42 (dk_at dksX1_term_0 17 rfl rfl)
theorem dX1_term_18 : decode cX1_term 18 = .ok (.iload_n 2, 1) := dk_28 (dk_at dksX1_term_0 18 rfl rfl)
theorem dX1_term_19 : decode cX1_term 19 = .ok (.invokevirtual 233, 3) := dk_182 0 233 (dk_at dksX1_term_0 19 rfl rfl)
theorem dX1_term_22 : decode cX1_term 22 = .ok (.areturn, 1) := dk_176 (dk_at dksX1_term_0 22 rfl rfl)
theorem dX1_term_23 : decode cX1_term 23 = .ok (.iload_n 1, 1) := dk_27 (dk_at dksX1_term_0 23 rfl rfl)
theorem dX1_term_24 : decode cX1_term 24 = .ok (.bipush 39, 2) := dk_16 39 (dk_at dksX1_term_1 0 rfl rfl)
theorem dX1_term_26 : decode cX1_term 26 = .ok (.if_icmp .ne 9, 3) := dk_160 0 9 (dk_at dksX1_term_1 2 rfl rfl)
theorem dX1_term_29 : decode cX1_term 29 = .ok (.aload_n 0, 1) := dk_42 (dk_at dksX1_term_1 5 rfl rfl)
theorem dX1_term_30 : decode cX1_term 30 = .ok (.iload_n 2, 1) := dk_28 (dk_at dksX1_term_1 6 rfl rfl)
theorem dX1_term_31 : decode cX1_term 31 = .ok (.invokevirtual 237, 3) := dk_182 0 237 (dk_at dksX1_term_1 7 rfl rfl)
theorem dX1_term_34 : decode cX1_term 34 = .ok (.areturn, 1) := dk_176 (dk_at dksX1_term_1 10 rfl rfl)
theorem dX1_term_35 : decode cX1_term 35 = .ok (.aload_n 0, 1) := dk_42 (dk_at dksX1_term_1 11 rfl rfl)
theorem dX1_term_36 : decode cX1_term 36 = .ok (.ldc 240, 2) := dk_18 240 (dk_at dksX1_term_1 12 rfl rfl)
theorem dX1_term_38 : decode cX1_term 38 = .ok (.invokevirtual 108, 3) := dk_182 0 108 (dk_at dksX1_term_1 14 rfl rfl)
theorem dX1_term_41 : decode cX1_term 41 = .ok (.ifCond .eq 15, 3) := dk_153 0 15 (dk_at dksX1_term_1 17 rfl rfl)
theorem dX1_term_44 : decode cX1_term 44 = .ok (.aload_n 0, 1) := dk_42 (dk_at dksX1_term_1 20 rfl rfl)
theorem dX1_term_45 : decode cX1_term 45 = .ok (.iload_n 2, 1) := dk_28 (dk_at dksX1_term_1 21 rfl rfl)
theorem dX1_term_46 : decode cX1_term 46 = .ok (.bipush 116, 2) := dk_16 116 (dk_at dksX1_term_1 22 rfl rfl)
theorem dX1_term_48 : decode cX1_term 48 = .ok (.bipush 110, 2) := dk_16 110 (dk_at dksX1_term_2 0 rfl rfl)
theorem dX1_term_50 : decode cX1_term 50 = .ok (.ldc 240, 2) := dk_18 240 (dk_at dksX1_term_2 2 rfl rfl)
theorem dX1_term_52 : decode cX1_term 52 = .ok (.invokevirtual 242, 3) := dk_182 0 242 (dk_at dksX1_term_2 4 rfl rfl)
theorem dX1_term_55 : decode cX1_term 55 = .ok (.areturn, 1) := dk_176 (dk_at dksX1_term_2 7 rfl rfl)
theorem dX1_term_56 : decode cX1_term 56 = .ok (.aload_n 0, 1) := dk_42 (dk_at dksX1_term_2 8 rfl rfl)
theorem dX1_term_57 : decode cX1_term 57 = .ok (.ldc 246, 2) := dk_18 246 (dk_at dksX1_term_2 9 rfl rfl)
theorem dX1_term_59 : decode cX1_term 59 = .ok (.invokevirtual 108, 3) := dk_182 0 108 (dk_at dksX1_term_2 11 rfl rfl)
theorem dX1_term_62 : decode cX1_term 62 = .ok (.ifCond .eq 15, 3) := dk_153 0 15 (dk_at dksX1_term_2 14 rfl rfl)
theorem dX1_term_65 : decode cX1_term 65 = .ok (.aload_n 0, 1) := dk_42 (dk_at dksX1_term_2 17 rfl rfl)
theorem dX1_term_66 : decode cX1_term 66 = .ok (.iload_n 2, 1) := dk_28 (dk_at dksX1_term_2 18 rfl rfl)
theorem dX1_term_67 : decode cX1_term 67 = .ok (.bipush 110, 2) := dk_16 110 (dk_at dksX1_term_2 19 rfl rfl)
theorem dX1_term_69 : decode cX1_term 69 = .ok (.bipush 116, 2) := dk_16 116 (dk_at dksX1_term_2 21 rfl rfl)
theorem dX1_term_71 : decode cX1_term 71 = .ok (.ldc 246, 2) := dk_18 246 (dk_at dksX1_term_3 0 rfl rfl)
theorem dX1_term_73 : decode cX1_term 73 = .ok (.invokevirtual 242, 3) := dk_182 0 242 (dk_at dksX1_term_3 2 rfl rfl)
theorem dX1_term_76 : decode cX1_term 76 = .ok (.areturn, 1) := dk_176 (dk_at dksX1_term_3 5 rfl rfl)
theorem dX1_term_77 : decode cX1_term 77 = .ok (.aload_n 0, 1) := dk_42 (dk_at dksX1_term_3 6 rfl rfl)
theorem dX1_term_78 : decode cX1_term 78 = .ok (.invokevirtual 115, 3) := dk_182 0 115 (dk_at dksX1_term_3 7 rfl rfl)
theorem dX1_term_81 : decode cX1_term 81 = .ok (.astore_n 3, 1) := dk_78 (dk_at dksX1_term_3 10 rfl rfl)
theorem dX1_term_82 : decode cX1_term 82 = .ok (.aload_n 0, 1) := dk_42 (dk_at dksX1_term_3 11 rfl rfl)
theorem dX1_term_83 : decode cX1_term 83 = .ok (.bipush 46, 2) := dk_16 46 (dk_at dksX1_term_3 12 rfl rfl)
theorem dX1_term_85 : decode cX1_term 85 = .ok (.invokevirtual 134, 3) := dk_182 0 134 (dk_at dksX1_term_3 14 rfl rfl)
theorem dX1_term_88 : decode cX1_term 88 = .ok (.aload_n 0, 1) := dk_42 (dk_at dksX1_term_3 17 rfl rfl)
theorem dX1_term_89 : decode cX1_term 89 = .ok (.invokevirtual 115, 3) := dk_182 0 115 (dk_at dksX1_term_3 18 rfl rfl)
theorem dX1_term_92 : decode cX1_term 92 = .ok (.astore 4, 2) := dk_58 4 (dk_at dksX1_term_3 21 rfl rfl)
theorem dX1_term_94 : decode cX1_term 94 = .ok (.aload_n 0, 1) := dk_42 (dk_at dksX1_term_3 23 rfl rfl)
theorem dX1_term_95 : decode cX1_term 95 = .ok (.aload_n 3, 1) := dk_45 (dk_at dksX1_term_4 0 rfl rfl)
theorem dX1_term_96 : decode cX1_term 96 = .ok (.invokevirtual 177, 3) := dk_182 0 177 (dk_at dksX1_term_4 1 rfl rfl)
theorem dX1_term_99 : decode cX1_term 99 = .ok (.aload_n 0, 1) := dk_42 (dk_at dksX1_term_4 4 rfl rfl)
theorem dX1_term_100 : decode cX1_term 100 = .ok (.aload 4, 2) := dk_25 4 (dk_at dksX1_term_4 5 rfl rfl)
theorem dX1_term_102 : decode cX1_term 102 = .ok (.invokevirtual 177, 3) := dk_182 0 177 (dk_at dksX1_term_4 7 rfl rfl)
theorem dX1_term_105 : decode cX1_term 105 = .ok (.new 248, 3) := dk_187 0 248 (dk_at dksX1_term_4 10 rfl rfl)
theorem dX1_term_108 : decode cX1_term 108 = .ok (.dup, 1) := dk_89 (dk_at dksX1_term_4 13 rfl rfl)
theorem dX1_term_109 : decode cX1_term 109 = .ok (.iload_n 2, 1) := dk_28 (dk_at dksX1_term_4 14 rfl rfl)
theorem dX1_term_110 : decode cX1_term 110 = .ok (.aload_n 3, 1) := dk_45 (dk_at dksX1_term_4 15 rfl rfl)
theorem dX1_term_111 : decode cX1_term 111 = .ok (.aload_n 0, 1) := dk_42 (dk_at dksX1_term_4 16 rfl rfl)
theorem dX1_term_112 : decode cX1_term 112 = .ok (.getfield 60, 3) := dk_180 0 60 (dk_at dksX1_term_4 17 rfl rfl)
theorem dX1_term_115 : decode cX1_term 115 = .ok (.aload 4, 2) := dk_25 4 (dk_at dksX1_term_4 20 rfl rfl)
theorem dX1_term_117 : decode cX1_term 117 = .ok (.invokespecial 250, 3) := dk_183 0 250 (dk_at dksX1_term_5 0 rfl rfl)
theorem dX1_term_120 : decode cX1_term 120 = .ok (.astore 5, 2) := dk_58 5 (dk_at dksX1_term_5 3 rfl rfl)
theorem dX1_term_122 : decode cX1_term 122 = .ok (.aload_n 0, 1) := dk_42 (dk_at dksX1_term_5 5 rfl rfl)
theorem dX1_term_123 : decode cX1_term 123 = .ok (.getfield 25, 3) := dk_180 0 25 (dk_at dksX1_term_5 6 rfl rfl)
theorem dX1_term_126 : decode cX1_term 126 = .ok (.aload 5, 2) := dk_25 5 (dk_at dksX1_term_5 9 rfl rfl)
theorem dX1_term_128 : decode cX1_term 128 = .ok (.invokevirtual 152, 3) := dk_182 0 152 (dk_at dksX1_term_5 11 rfl rfl)
theorem dX1_term_131 : decode cX1_term 131 = .ok (.pop, 1) := dk_87 (dk_at dksX1_term_5 14 rfl rfl)
theorem dX1_term_132 : decode cX1_term 132 = .ok (.aload 5, 2) := dk_25 5 (dk_at dksX1_term_5 15 rfl rfl)
theorem dX1_term_134 : decode cX1_term 134 = .ok (.areturn, 1) := dk_176 (dk_at dksX1_term_5 17 rfl rfl)
abbrev cX1_number : ByteArray := prog_9_method_17_code
def yX1_number : MethodName := ⟨RX1, "number", "(I)LTableCatalog$Term;"⟩
def dkwX1_number_3 : List UInt8 := [182, 0, 177, 187, 0, 253, 89, 27, 16, 110, 183, 0, 255, 176]
abbrev dktX1_number_3 : List UInt8 := dkwX1_number_3 ++ []
def dkwX1_number_2 : List UInt8 := [89, 180, 0, 50, 4, 96, 181, 0, 50, 167, 255, 200, 42, 42, 27, 42, 180, 0, 50, 182, 0, 84]
abbrev dktX1_number_2 : List UInt8 := dkwX1_number_2 ++ dktX1_number_3
def dkwX1_number_1 : List UInt8 := [153, 0, 36, 42, 180, 0, 50, 27, 100, 7, 160, 0, 13, 42, 4, 42, 180, 0, 50, 182, 0, 67, 191, 42]
abbrev dktX1_number_1 : List UInt8 := dkwX1_number_1 ++ dktX1_number_2
def dkwX1_number_0 : List UInt8 := [42, 180, 0, 50, 42, 180, 0, 53, 162, 0, 51, 42, 180, 0, 56, 42, 180, 0, 50, 51, 184, 0, 230]
abbrev dktX1_number_0 : List UInt8 := dkwX1_number_0 ++ dktX1_number_1
theorem dksX1_number_0 : cX1_number.data.toList.drop 0 = dktX1_number_0 := by decide +kernel
theorem dksX1_number_1 : cX1_number.data.toList.drop 23 = dktX1_number_1 := dk_seg dksX1_number_0 23 rfl rfl
theorem dksX1_number_2 : cX1_number.data.toList.drop 47 = dktX1_number_2 := dk_seg dksX1_number_1 24 rfl rfl
theorem dksX1_number_3 : cX1_number.data.toList.drop 69 = dktX1_number_3 := dk_seg dksX1_number_2 22 rfl rfl
theorem dX1_number_0 : decode cX1_number 0 = .ok (.aload_n 0, 1) := dk_42 (dk_at dksX1_number_0 0 rfl rfl)
theorem dX1_number_1 : decode cX1_number 1 = .ok (.getfield 50, 3) := dk_180 0 50 (dk_at dksX1_number_0 1 rfl rfl)
theorem dX1_number_4 : decode cX1_number 4 = .ok (.aload_n 0, 1) := dk_42 (dk_at dksX1_number_0 4 rfl rfl)
theorem dX1_number_5 : decode cX1_number 5 = .ok (.getfield 53, 3) := dk_180 0 53 (dk_at dksX1_number_0 5 rfl rfl)
theorem dX1_number_8 : decode cX1_number 8 = .ok (.if_icmp .ge 51, 3) := dk_162 0 51 (dk_at dksX1_number_0 8 rfl rfl)
theorem dX1_number_11 : decode cX1_number 11 = .ok (.aload_n 0, 1) := dk_42 (dk_at dksX1_number_0 11 rfl rfl)
theorem dX1_number_12 : decode cX1_number 12 = .ok (.getfield 56, 3) := dk_180 0 56 (dk_at dksX1_number_0 12 rfl rfl)
theorem dX1_number_15 : decode cX1_number 15 = .ok (.aload_n 0, 1) := dk_42 (dk_at dksX1_number_0 15 rfl rfl)
theorem dX1_number_16 : decode cX1_number 16 = .ok (.getfield 50, 3) := dk_180 0 50 (dk_at dksX1_number_0 16 rfl rfl)
theorem dX1_number_19 : decode cX1_number 19 = .ok (.baload, 1) := dk_51 (dk_at dksX1_number_0 19 rfl rfl)
theorem dX1_number_20 : decode cX1_number 20 = .ok (.invokestatic 230, 3) := dk_184 0 230 (dk_at dksX1_number_0 20 rfl rfl)
theorem dX1_number_23 : decode cX1_number 23 = .ok (.ifCond .eq 36, 3) := dk_153 0 36 (dk_at dksX1_number_1 0 rfl rfl)
theorem dX1_number_26 : decode cX1_number 26 = .ok (.aload_n 0, 1) := dk_42 (dk_at dksX1_number_1 3 rfl rfl)
theorem dX1_number_27 : decode cX1_number 27 = .ok (.getfield 50, 3) := dk_180 0 50 (dk_at dksX1_number_1 4 rfl rfl)
theorem dX1_number_30 : decode cX1_number 30 = .ok (.iload_n 1, 1) := dk_27 (dk_at dksX1_number_1 7 rfl rfl)
theorem dX1_number_31 : decode cX1_number 31 = .ok (.isub, 1) := dk_100 (dk_at dksX1_number_1 8 rfl rfl)
theorem dX1_number_32 : decode cX1_number 32 = .ok (.iconst 4, 1) := dk_7 (dk_at dksX1_number_1 9 rfl rfl)
theorem dX1_number_33 : decode cX1_number 33 = .ok (.if_icmp .ne 13, 3) := dk_160 0 13 (dk_at dksX1_number_1 10 rfl rfl)
theorem dX1_number_36 : decode cX1_number 36 = .ok (.aload_n 0, 1) := dk_42 (dk_at dksX1_number_1 13 rfl rfl)
theorem dX1_number_37 : decode cX1_number 37 = .ok (.iconst 1, 1) := dk_4 (dk_at dksX1_number_1 14 rfl rfl)
theorem dX1_number_38 : decode cX1_number 38 = .ok (.aload_n 0, 1) := dk_42 (dk_at dksX1_number_1 15 rfl rfl)
theorem dX1_number_39 : decode cX1_number 39 = .ok (.getfield 50, 3) := dk_180 0 50 (dk_at dksX1_number_1 16 rfl rfl)
theorem dX1_number_42 : decode cX1_number 42 = .ok (.invokevirtual 67, 3) := dk_182 0 67 (dk_at dksX1_number_1 19 rfl rfl)
theorem dX1_number_45 : decode cX1_number 45 = .ok (.athrow, 1) := dk_191 (dk_at dksX1_number_1 22 rfl rfl)
theorem dX1_number_46 : decode cX1_number 46 = .ok (.aload_n 0, 1) := dk_42 (dk_at dksX1_number_1 23 rfl rfl)
theorem dX1_number_47 : decode cX1_number 47 = .ok (.dup, 1) := dk_89 (dk_at dksX1_number_2 0 rfl rfl)
theorem dX1_number_48 : decode cX1_number 48 = .ok (.getfield 50, 3) := dk_180 0 50 (dk_at dksX1_number_2 1 rfl rfl)
theorem dX1_number_51 : decode cX1_number 51 = .ok (.iconst 1, 1) := dk_4 (dk_at dksX1_number_2 4 rfl rfl)
theorem dX1_number_52 : decode cX1_number 52 = .ok (.iadd, 1) := dk_96 (dk_at dksX1_number_2 5 rfl rfl)
theorem dX1_number_53 : decode cX1_number 53 = .ok (.putfield 50, 3) := dk_181 0 50 (dk_at dksX1_number_2 6 rfl rfl)
theorem dX1_number_56 : decode cX1_number 56 = .ok (.goto (-56), 3) := dk_167 255 200 (dk_at dksX1_number_2 9 rfl rfl)
theorem dX1_number_59 : decode cX1_number 59 = .ok (.aload_n 0, 1) := dk_42 (dk_at dksX1_number_2 12 rfl rfl)
theorem dX1_number_60 : decode cX1_number 60 = .ok (.aload_n 0, 1) := dk_42 (dk_at dksX1_number_2 13 rfl rfl)
theorem dX1_number_61 : decode cX1_number 61 = .ok (.iload_n 1, 1) := dk_27 (dk_at dksX1_number_2 14 rfl rfl)
theorem dX1_number_62 : decode cX1_number 62 = .ok (.aload_n 0, 1) := dk_42 (dk_at dksX1_number_2 15 rfl rfl)
theorem dX1_number_63 : decode cX1_number 63 = .ok (.getfield 50, 3) := dk_180 0 50 (dk_at dksX1_number_2 16 rfl rfl)
theorem dX1_number_66 : decode cX1_number 66 = .ok (.invokevirtual 84, 3) := dk_182 0 84 (dk_at dksX1_number_2 19 rfl rfl)
theorem dX1_number_69 : decode cX1_number 69 = .ok (.invokevirtual 177, 3) := dk_182 0 177 (dk_at dksX1_number_3 0 rfl rfl)
theorem dX1_number_72 : decode cX1_number 72 = .ok (.new 253, 3) := dk_187 0 253 (dk_at dksX1_number_3 3 rfl rfl)
theorem dX1_number_75 : decode cX1_number 75 = .ok (.dup, 1) := dk_89 (dk_at dksX1_number_3 6 rfl rfl)
theorem dX1_number_76 : decode cX1_number 76 = .ok (.iload_n 1, 1) := dk_27 (dk_at dksX1_number_3 7 rfl rfl)
theorem dX1_number_77 : decode cX1_number 77 = .ok (.bipush 110, 2) := dk_16 110 (dk_at dksX1_number_3 8 rfl rfl)
theorem dX1_number_79 : decode cX1_number 79 = .ok (.invokespecial 255, 3) := dk_183 0 255 (dk_at dksX1_number_3 10 rfl rfl)
theorem dX1_number_82 : decode cX1_number 82 = .ok (.areturn, 1) := dk_176 (dk_at dksX1_number_3 13 rfl rfl)
abbrev cX1_letters : ByteArray := prog_9_method_18_code
def yX1_letters : MethodName := ⟨RX1, "letters", "(I)LTableCatalog$Term;"⟩
def dkwX1_letters_5 : List UInt8 := [182, 0, 84, 182, 0, 177, 187, 0, 253, 89, 27, 16, 116, 183, 0, 255, 176]
abbrev dktX1_letters_5 : List UInt8 := dkwX1_letters_5 ++ []
def dkwX1_letters_4 : List UInt8 := [180, 0, 50, 182, 0, 67, 191, 42, 89, 180, 0, 50, 4, 96, 181, 0, 50, 42, 42, 27, 42, 180, 0, 50]
abbrev dktX1_letters_4 : List UInt8 := dkwX1_letters_4 ++ dktX1_letters_5
def dkwX1_letters_3 : List UInt8 := [180, 0, 53, 159, 0, 17, 42, 180, 0, 56, 42, 180, 0, 50, 51, 16, 39, 159, 0, 13, 42, 4, 42]
abbrev dktX1_letters_3 : List UInt8 := dkwX1_letters_3 ++ dktX1_letters_4
def dkwX1_letters_2 : List UInt8 := [16, 32, 160, 0, 16, 42, 89, 180, 0, 50, 4, 96, 181, 0, 50, 167, 255, 206, 42, 180, 0, 50, 42]
abbrev dktX1_letters_2 : List UInt8 := dkwX1_letters_2 ++ dktX1_letters_3
def dkwX1_letters_1 : List UInt8 := [180, 0, 56, 42, 180, 0, 50, 51, 184, 0, 77, 154, 0, 17, 42, 180, 0, 56, 42, 180, 0, 50, 51]
abbrev dktX1_letters_1 : List UInt8 := dkwX1_letters_1 ++ dktX1_letters_2
def dkwX1_letters_0 : List UInt8 := [42, 89, 180, 0, 50, 4, 96, 181, 0, 50, 42, 180, 0, 50, 42, 180, 0, 53, 162, 0, 45, 42]
abbrev dktX1_letters_0 : List UInt8 := dkwX1_letters_0 ++ dktX1_letters_1
theorem dksX1_letters_0 : cX1_letters.data.toList.drop 0 = dktX1_letters_0 := by decide +kernel
theorem dksX1_letters_1 : cX1_letters.data.toList.drop 22 = dktX1_letters_1 := dk_seg dksX1_letters_0 22 rfl rfl
theorem dksX1_letters_2 : cX1_letters.data.toList.drop 45 = dktX1_letters_2 := dk_seg dksX1_letters_1 23 rfl rfl
theorem dksX1_letters_3 : cX1_letters.data.toList.drop 68 = dktX1_letters_3 := dk_seg dksX1_letters_2 23 rfl rfl
theorem dksX1_letters_4 : cX1_letters.data.toList.drop 91 = dktX1_letters_4 := dk_seg dksX1_letters_3 23 rfl rfl
theorem dksX1_letters_5 : cX1_letters.data.toList.drop 115 = dktX1_letters_5 := dk_seg dksX1_letters_4 24 rfl rfl
theorem dX1_letters_0 : decode cX1_letters 0 = .ok (.aload_n 0, 1) := dk_42 (dk_at dksX1_letters_0 0 rfl rfl)
theorem dX1_letters_1 : decode cX1_letters 1 = .ok (.dup, 1) := dk_89 (dk_at dksX1_letters_0 1 rfl rfl)
theorem dX1_letters_2 : decode cX1_letters 2 = .ok (.getfield 50, 3) := dk_180 0 50 (dk_at dksX1_letters_0 2 rfl rfl)
theorem dX1_letters_5 : decode cX1_letters 5 = .ok (.iconst 1, 1) := dk_4 (dk_at dksX1_letters_0 5 rfl rfl)
theorem dX1_letters_6 : decode cX1_letters 6 = .ok (.iadd, 1) := dk_96 (dk_at dksX1_letters_0 6 rfl rfl)
theorem dX1_letters_7 : decode cX1_letters 7 = .ok (.putfield 50, 3) := dk_181 0 50 (dk_at dksX1_letters_0 7 rfl rfl)
theorem dX1_letters_10 : decode cX1_letters 10 = .ok (.aload_n 0, 1) := dk_42 (dk_at dksX1_letters_0 10 rfl rfl)
theorem dX1_letters_11 : decode cX1_letters 11 = .ok (.getfield 50, 3) := dk_180 0 50 (dk_at dksX1_letters_0 11 rfl rfl)
theorem dX1_letters_14 : decode cX1_letters 14 = .ok (.aload_n 0, 1) := dk_42 (dk_at dksX1_letters_0 14 rfl rfl)
theorem dX1_letters_15 : decode cX1_letters 15 = .ok (.getfield 53, 3) := dk_180 0 53 (dk_at dksX1_letters_0 15 rfl rfl)
theorem dX1_letters_18 : decode cX1_letters 18 = .ok (.if_icmp .ge 45, 3) := dk_162 0 45 (dk_at dksX1_letters_0 18 rfl rfl)
theorem dX1_letters_21 : decode cX1_letters 21 = .ok (.aload_n 0, 1) := dk_42 (dk_at dksX1_letters_0 21 rfl rfl)
theorem dX1_letters_22 : decode cX1_letters 22 = .ok (.getfield 56, 3) := dk_180 0 56 (dk_at dksX1_letters_1 0 rfl rfl)
theorem dX1_letters_25 : decode cX1_letters 25 = .ok (.aload_n 0, 1) := dk_42 (dk_at dksX1_letters_1 3 rfl rfl)
theorem dX1_letters_26 : decode cX1_letters 26 = .ok (.getfield 50, 3) := dk_180 0 50 (dk_at dksX1_letters_1 4 rfl rfl)
theorem dX1_letters_29 : decode cX1_letters 29 = .ok (.baload, 1) := dk_51 (dk_at dksX1_letters_1 7 rfl rfl)
theorem dX1_letters_30 : decode cX1_letters 30 = .ok (.invokestatic 77, 3) := dk_184 0 77 (dk_at dksX1_letters_1 8 rfl rfl)
theorem dX1_letters_33 : decode cX1_letters 33 = .ok (.ifCond .ne 17, 3) := dk_154 0 17 (dk_at dksX1_letters_1 11 rfl rfl)
theorem dX1_letters_36 : decode cX1_letters 36 = .ok (.aload_n 0, 1) := dk_42 (dk_at dksX1_letters_1 14 rfl rfl)
theorem dX1_letters_37 : decode cX1_letters 37 = .ok (.getfield 56, 3) := dk_180 0 56 (dk_at dksX1_letters_1 15 rfl rfl)
theorem dX1_letters_40 : decode cX1_letters 40 = .ok (.aload_n 0, 1) := dk_42 (dk_at dksX1_letters_1 18 rfl rfl)
theorem dX1_letters_41 : decode cX1_letters 41 = .ok (.getfield 50, 3) := dk_180 0 50 (dk_at dksX1_letters_1 19 rfl rfl)
theorem dX1_letters_44 : decode cX1_letters 44 = .ok (.baload, 1) := dk_51 (dk_at dksX1_letters_1 22 rfl rfl)
theorem dX1_letters_45 : decode cX1_letters 45 = .ok (.bipush 32, 2) := dk_16 32 (dk_at dksX1_letters_2 0 rfl rfl)
theorem dX1_letters_47 : decode cX1_letters 47 = .ok (.if_icmp .ne 16, 3) := dk_160 0 16 (dk_at dksX1_letters_2 2 rfl rfl)
theorem dX1_letters_50 : decode cX1_letters 50 = .ok (.aload_n 0, 1) := dk_42 (dk_at dksX1_letters_2 5 rfl rfl)
theorem dX1_letters_51 : decode cX1_letters 51 = .ok (.dup, 1) := dk_89 (dk_at dksX1_letters_2 6 rfl rfl)
theorem dX1_letters_52 : decode cX1_letters 52 = .ok (.getfield 50, 3) := dk_180 0 50 (dk_at dksX1_letters_2 7 rfl rfl)
theorem dX1_letters_55 : decode cX1_letters 55 = .ok (.iconst 1, 1) := dk_4 (dk_at dksX1_letters_2 10 rfl rfl)
theorem dX1_letters_56 : decode cX1_letters 56 = .ok (.iadd, 1) := dk_96 (dk_at dksX1_letters_2 11 rfl rfl)
theorem dX1_letters_57 : decode cX1_letters 57 = .ok (.putfield 50, 3) := dk_181 0 50 (dk_at dksX1_letters_2 12 rfl rfl)
theorem dX1_letters_60 : decode cX1_letters 60 = .ok (.goto (-50), 3) := dk_167 255 206 (dk_at dksX1_letters_2 15 rfl rfl)
theorem dX1_letters_63 : decode cX1_letters 63 = .ok (.aload_n 0, 1) := dk_42 (dk_at dksX1_letters_2 18 rfl rfl)
theorem dX1_letters_64 : decode cX1_letters 64 = .ok (.getfield 50, 3) := dk_180 0 50 (dk_at dksX1_letters_2 19 rfl rfl)
theorem dX1_letters_67 : decode cX1_letters 67 = .ok (.aload_n 0, 1) := dk_42 (dk_at dksX1_letters_2 22 rfl rfl)
theorem dX1_letters_68 : decode cX1_letters 68 = .ok (.getfield 53, 3) := dk_180 0 53 (dk_at dksX1_letters_3 0 rfl rfl)
theorem dX1_letters_71 : decode cX1_letters 71 = .ok (.if_icmp .eq 17, 3) := dk_159 0 17 (dk_at dksX1_letters_3 3 rfl rfl)
theorem dX1_letters_74 : decode cX1_letters 74 = .ok (.aload_n 0, 1) := dk_42 (dk_at dksX1_letters_3 6 rfl rfl)
theorem dX1_letters_75 : decode cX1_letters 75 = .ok (.getfield 56, 3) := dk_180 0 56 (dk_at dksX1_letters_3 7 rfl rfl)
theorem dX1_letters_78 : decode cX1_letters 78 = .ok (.aload_n 0, 1) := dk_42 (dk_at dksX1_letters_3 10 rfl rfl)
theorem dX1_letters_79 : decode cX1_letters 79 = .ok (.getfield 50, 3) := dk_180 0 50 (dk_at dksX1_letters_3 11 rfl rfl)
theorem dX1_letters_82 : decode cX1_letters 82 = .ok (.baload, 1) := dk_51 (dk_at dksX1_letters_3 14 rfl rfl)
theorem dX1_letters_83 : decode cX1_letters 83 = .ok (.bipush 39, 2) := dk_16 39 (dk_at dksX1_letters_3 15 rfl rfl)
theorem dX1_letters_85 : decode cX1_letters 85 = .ok (.if_icmp .eq 13, 3) := dk_159 0 13 (dk_at dksX1_letters_3 17 rfl rfl)
theorem dX1_letters_88 : decode cX1_letters 88 = .ok (.aload_n 0, 1) := dk_42 (dk_at dksX1_letters_3 20 rfl rfl)
theorem dX1_letters_89 : decode cX1_letters 89 = .ok (.iconst 1, 1) := dk_4 (dk_at dksX1_letters_3 21 rfl rfl)
theorem dX1_letters_90 : decode cX1_letters 90 = .ok (.aload_n 0, 1) := dk_42 (dk_at dksX1_letters_3 22 rfl rfl)
theorem dX1_letters_91 : decode cX1_letters 91 = .ok (.getfield 50, 3) := dk_180 0 50 (dk_at dksX1_letters_4 0 rfl rfl)
theorem dX1_letters_94 : decode cX1_letters 94 = .ok (.invokevirtual 67, 3) := dk_182 0 67 (dk_at dksX1_letters_4 3 rfl rfl)
theorem dX1_letters_97 : decode cX1_letters 97 = .ok (.athrow, 1) := dk_191 (dk_at dksX1_letters_4 6 rfl rfl)
theorem dX1_letters_98 : decode cX1_letters 98 = .ok (.aload_n 0, 1) := dk_42 (dk_at dksX1_letters_4 7 rfl rfl)
theorem dX1_letters_99 : decode cX1_letters 99 = .ok (.dup, 1) := dk_89 (dk_at dksX1_letters_4 8 rfl rfl)
theorem dX1_letters_100 : decode cX1_letters 100 = .ok (.getfield 50, 3) := dk_180 0 50 (dk_at dksX1_letters_4 9 rfl rfl)
theorem dX1_letters_103 : decode cX1_letters 103 = .ok (.iconst 1, 1) := dk_4 (dk_at dksX1_letters_4 12 rfl rfl)
theorem dX1_letters_104 : decode cX1_letters 104 = .ok (.iadd, 1) := dk_96 (dk_at dksX1_letters_4 13 rfl rfl)
theorem dX1_letters_105 : decode cX1_letters 105 = .ok (.putfield 50, 3) := dk_181 0 50 (dk_at dksX1_letters_4 14 rfl rfl)
theorem dX1_letters_108 : decode cX1_letters 108 = .ok (.aload_n 0, 1) := dk_42 (dk_at dksX1_letters_4 17 rfl rfl)
theorem dX1_letters_109 : decode cX1_letters 109 = .ok (.aload_n 0, 1) := dk_42 (dk_at dksX1_letters_4 18 rfl rfl)
theorem dX1_letters_110 : decode cX1_letters 110 = .ok (.iload_n 1, 1) := dk_27 (dk_at dksX1_letters_4 19 rfl rfl)
theorem dX1_letters_111 : decode cX1_letters 111 = .ok (.aload_n 0, 1) := dk_42 (dk_at dksX1_letters_4 20 rfl rfl)
theorem dX1_letters_112 : decode cX1_letters 112 = .ok (.getfield 50, 3) := dk_180 0 50 (dk_at dksX1_letters_4 21 rfl rfl)
theorem dX1_letters_115 : decode cX1_letters 115 = .ok (.invokevirtual 84, 3) := dk_182 0 84 (dk_at dksX1_letters_5 0 rfl rfl)
theorem dX1_letters_118 : decode cX1_letters 118 = .ok (.invokevirtual 177, 3) := dk_182 0 177 (dk_at dksX1_letters_5 3 rfl rfl)
theorem dX1_letters_121 : decode cX1_letters 121 = .ok (.new 253, 3) := dk_187 0 253 (dk_at dksX1_letters_5 6 rfl rfl)
theorem dX1_letters_124 : decode cX1_letters 124 = .ok (.dup, 1) := dk_89 (dk_at dksX1_letters_5 9 rfl rfl)
theorem dX1_letters_125 : decode cX1_letters 125 = .ok (.iload_n 1, 1) := dk_27 (dk_at dksX1_letters_5 10 rfl rfl)
theorem dX1_letters_126 : decode cX1_letters 126 = .ok (.bipush 116, 2) := dk_16 116 (dk_at dksX1_letters_5 11 rfl rfl)
theorem dX1_letters_128 : decode cX1_letters 128 = .ok (.invokespecial 255, 3) := dk_183 0 255 (dk_at dksX1_letters_5 13 rfl rfl)
theorem dX1_letters_131 : decode cX1_letters 131 = .ok (.areturn, 1) := dk_176 (dk_at dksX1_letters_5 16 rfl rfl)
abbrev cX1_call : ByteArray := prog_9_method_19_code
def yX1_call : MethodName := ⟨RX1, "call", "(ICCLjava/lang/String;)LTableCatalog$Term;"⟩
def dkwX1_call_3 : List UInt8 := [100, 181, 0, 180, 42, 19, 1, 2, 182, 0, 177, 187, 1, 4, 89, 27, 28, 29, 25, 5, 183, 1, 6, 176]
abbrev dktX1_call_3 : List UInt8 := dkwX1_call_3 ++ []
def dkwX1_call_2 : List UInt8 := [42, 25, 4, 182, 0, 177, 42, 182, 0, 186, 58, 5, 42, 16, 41, 182, 0, 134, 42, 89, 180, 0, 180, 4]
abbrev dktX1_call_2 : List UInt8 := dkwX1_call_2 ++ dktX1_call_3
def dkwX1_call_1 : List UInt8 := [182, 0, 67, 191, 42, 89, 180, 0, 50, 4, 96, 181, 0, 50, 42, 89, 180, 0, 180, 4, 96, 181, 0, 180]
abbrev dktX1_call_1 : List UInt8 := dkwX1_call_1 ++ dktX1_call_2
def dkwX1_call_0 : List UInt8 := [42, 182, 0, 63, 16, 40, 160, 0, 11, 42, 180, 0, 180, 6, 160, 0, 13, 42, 4, 42, 180, 0, 50]
abbrev dktX1_call_0 : List UInt8 := dkwX1_call_0 ++ dktX1_call_1
theorem dksX1_call_0 : cX1_call.data.toList.drop 0 = dktX1_call_0 := by decide +kernel
theorem dksX1_call_1 : cX1_call.data.toList.drop 23 = dktX1_call_1 := dk_seg dksX1_call_0 23 rfl rfl
theorem dksX1_call_2 : cX1_call.data.toList.drop 47 = dktX1_call_2 := dk_seg dksX1_call_1 24 rfl rfl
theorem dksX1_call_3 : cX1_call.data.toList.drop 71 = dktX1_call_3 := dk_seg dksX1_call_2 24 rfl rfl
theorem dX1_call_0 : decode cX1_call 0 = .ok (.aload_n 0, 1) := dk_42 (dk_at dksX1_call_0 0 rfl rfl)
theorem dX1_call_1 : decode cX1_call 1 = .ok (.invokevirtual 63, 3) := dk_182 0 63 (dk_at dksX1_call_0 1 rfl rfl)
theorem dX1_call_4 : decode cX1_call 4 = .ok (.bipush 40, 2) := dk_16 40 (dk_at dksX1_call_0 4 rfl rfl)
theorem dX1_call_6 : decode cX1_call 6 = .ok (.if_icmp .ne 11, 3) := dk_160 0 11 (dk_at dksX1_call_0 6 rfl rfl)
theorem dX1_call_9 : decode cX1_call 9 = .ok (.aload_n 0, 1) := dk_42 (dk_at dksX1_call_0 9 rfl rfl)
theorem dX1_call_10 : decode cX1_call 10 = .ok (.getfield 180, 3) := dk_180 0 180 (dk_at dksX1_call_0 10 rfl rfl)
theorem dX1_call_13 : decode cX1_call 13 = .ok (.iconst 3, 1) := dk_6 (dk_at dksX1_call_0 13 rfl rfl)
theorem dX1_call_14 : decode cX1_call 14 = .ok (.if_icmp .ne 13, 3) := dk_160 0 13 (dk_at dksX1_call_0 14 rfl rfl)
theorem dX1_call_17 : decode cX1_call 17 = .ok (.aload_n 0, 1) := dk_42 (dk_at dksX1_call_0 17 rfl rfl)
theorem dX1_call_18 : decode cX1_call 18 = .ok (.iconst 1, 1) := dk_4 (dk_at dksX1_call_0 18 rfl rfl)
theorem dX1_call_19 : decode cX1_call 19 = .ok (.aload_n 0, 1) := dk_42 (dk_at dksX1_call_0 19 rfl rfl)
theorem dX1_call_20 : decode cX1_call 20 = .ok (.getfield 50, 3) := dk_180 0 50 (dk_at dksX1_call_0 20 rfl rfl)
theorem dX1_call_23 : decode cX1_call 23 = .ok (.invokevirtual 67, 3) := dk_182 0 67 (dk_at dksX1_call_1 0 rfl rfl)
theorem dX1_call_26 : decode cX1_call 26 = .ok (.athrow, 1) := dk_191 (dk_at dksX1_call_1 3 rfl rfl)
theorem dX1_call_27 : decode cX1_call 27 = .ok (.aload_n 0, 1) := dk_42 (dk_at dksX1_call_1 4 rfl rfl)
theorem dX1_call_28 : decode cX1_call 28 = .ok (.dup, 1) := dk_89 (dk_at dksX1_call_1 5 rfl rfl)
theorem dX1_call_29 : decode cX1_call 29 = .ok (.getfield 50, 3) := dk_180 0 50 (dk_at dksX1_call_1 6 rfl rfl)
theorem dX1_call_32 : decode cX1_call 32 = .ok (.iconst 1, 1) := dk_4 (dk_at dksX1_call_1 9 rfl rfl)
theorem dX1_call_33 : decode cX1_call 33 = .ok (.iadd, 1) := dk_96 (dk_at dksX1_call_1 10 rfl rfl)
theorem dX1_call_34 : decode cX1_call 34 = .ok (.putfield 50, 3) := dk_181 0 50 (dk_at dksX1_call_1 11 rfl rfl)
theorem dX1_call_37 : decode cX1_call 37 = .ok (.aload_n 0, 1) := dk_42 (dk_at dksX1_call_1 14 rfl rfl)
theorem dX1_call_38 : decode cX1_call 38 = .ok (.dup, 1) := dk_89 (dk_at dksX1_call_1 15 rfl rfl)
theorem dX1_call_39 : decode cX1_call 39 = .ok (.getfield 180, 3) := dk_180 0 180 (dk_at dksX1_call_1 16 rfl rfl)
theorem dX1_call_42 : decode cX1_call 42 = .ok (.iconst 1, 1) := dk_4 (dk_at dksX1_call_1 19 rfl rfl)
theorem dX1_call_43 : decode cX1_call 43 = .ok (.iadd, 1) := dk_96 (dk_at dksX1_call_1 20 rfl rfl)
theorem dX1_call_44 : decode cX1_call 44 = .ok (.putfield 180, 3) := dk_181 0 180 (dk_at dksX1_call_1 21 rfl rfl)
theorem dX1_call_47 : decode cX1_call 47 = .ok (.aload_n 0, 1) := dk_42 (dk_at dksX1_call_2 0 rfl rfl)
theorem dX1_call_48 : decode cX1_call 48 = .ok (.aload 4, 2) := dk_25 4 (dk_at dksX1_call_2 1 rfl rfl)
theorem dX1_call_50 : decode cX1_call 50 = .ok (.invokevirtual 177, 3) := dk_182 0 177 (dk_at dksX1_call_2 3 rfl rfl)
theorem dX1_call_53 : decode cX1_call 53 = .ok (.aload_n 0, 1) := dk_42 (dk_at dksX1_call_2 6 rfl rfl)
theorem dX1_call_54 : decode cX1_call 54 = .ok (.invokevirtual 186, 3) := dk_182 0 186 (dk_at dksX1_call_2 7 rfl rfl)
theorem dX1_call_57 : decode cX1_call 57 = .ok (.astore 5, 2) := dk_58 5 (dk_at dksX1_call_2 10 rfl rfl)
theorem dX1_call_59 : decode cX1_call 59 = .ok (.aload_n 0, 1) := dk_42 (dk_at dksX1_call_2 12 rfl rfl)
theorem dX1_call_60 : decode cX1_call 60 = .ok (.bipush 41, 2) := dk_16 41 (dk_at dksX1_call_2 13 rfl rfl)
theorem dX1_call_62 : decode cX1_call 62 = .ok (.invokevirtual 134, 3) := dk_182 0 134 (dk_at dksX1_call_2 15 rfl rfl)
theorem dX1_call_65 : decode cX1_call 65 = .ok (.aload_n 0, 1) := dk_42 (dk_at dksX1_call_2 18 rfl rfl)
theorem dX1_call_66 : decode cX1_call 66 = .ok (.dup, 1) := dk_89 (dk_at dksX1_call_2 19 rfl rfl)
theorem dX1_call_67 : decode cX1_call 67 = .ok (.getfield 180, 3) := dk_180 0 180 (dk_at dksX1_call_2 20 rfl rfl)
theorem dX1_call_70 : decode cX1_call 70 = .ok (.iconst 1, 1) := dk_4 (dk_at dksX1_call_2 23 rfl rfl)
theorem dX1_call_71 : decode cX1_call 71 = .ok (.isub, 1) := dk_100 (dk_at dksX1_call_3 0 rfl rfl)
theorem dX1_call_72 : decode cX1_call 72 = .ok (.putfield 180, 3) := dk_181 0 180 (dk_at dksX1_call_3 1 rfl rfl)
theorem dX1_call_75 : decode cX1_call 75 = .ok (.aload_n 0, 1) := dk_42 (dk_at dksX1_call_3 4 rfl rfl)
theorem dX1_call_76 : decode cX1_call 76 = .ok (.ldc_w 258, 3) := dk_19 1 2 (dk_at dksX1_call_3 5 rfl rfl)
theorem dX1_call_79 : decode cX1_call 79 = .ok (.invokevirtual 177, 3) := dk_182 0 177 (dk_at dksX1_call_3 8 rfl rfl)
theorem dX1_call_82 : decode cX1_call 82 = .ok (.new 260, 3) := dk_187 1 4 (dk_at dksX1_call_3 11 rfl rfl)
theorem dX1_call_85 : decode cX1_call 85 = .ok (.dup, 1) := dk_89 (dk_at dksX1_call_3 14 rfl rfl)
theorem dX1_call_86 : decode cX1_call 86 = .ok (.iload_n 1, 1) := dk_27 (dk_at dksX1_call_3 15 rfl rfl)
theorem dX1_call_87 : decode cX1_call 87 = .ok (.iload_n 2, 1) := dk_28 (dk_at dksX1_call_3 16 rfl rfl)
theorem dX1_call_88 : decode cX1_call 88 = .ok (.iload_n 3, 1) := dk_29 (dk_at dksX1_call_3 17 rfl rfl)
theorem dX1_call_89 : decode cX1_call 89 = .ok (.aload 5, 2) := dk_25 5 (dk_at dksX1_call_3 18 rfl rfl)
theorem dX1_call_91 : decode cX1_call 91 = .ok (.invokespecial 262, 3) := dk_183 1 6 (dk_at dksX1_call_3 20 rfl rfl)
theorem dX1_call_94 : decode cX1_call 94 = .ok (.areturn, 1) := dk_176 (dk_at dksX1_call_3 23 rfl rfl)
theorem q82 : (Jvm.Cond.initialized "TableCatalog$Reader") ∈ lw_all := lw_g (lw_at lw_m1 2 rfl) rfl
theorem q122 : (Jvm.Cond.instantiable "TableCatalog$Reader" (15 : Nat)) ∈ lw_all := lw_g (lw_at lw_m1 42 rfl) rfl
theorem q124 : (Jvm.Cond.instanceMethod ({ cls := "TableCatalog$Reader", name := "<init>", desc := "(LTableCatalog;)V" } : Jvm.MethodName)) ∈ lw_all := lw_g (lw_at lw_m1 44 rfl) rfl
theorem q125 : (Jvm.Cond.code ({ cls := "TableCatalog$Reader", name := "<init>", desc := "(LTableCatalog;)V" } : Jvm.MethodName) prog_9_method_1_code (2 : Nat) (Option.none : Option Jvm.ClassFile.FieldType)) ∈ lw_all := lw_g (lw_at lw_m1 45 rfl) rfl
theorem q126 : (Jvm.Cond.methodLink "TableCatalog$Reader" (9 : Nat) ({ cls := "java/lang/Object", name := "<init>", desc := "()V" } : Jvm.MethodName)) ∈ lw_all := lw_g (lw_at lw_m1 46 rfl) rfl
theorem q127 : (Jvm.Cond.classLink "TableCatalog$Reader" (15 : Nat) "TableCatalog$Fault") ∈ lw_all := lw_g (lw_at lw_m1 47 rfl) rfl
theorem q166 : (Jvm.Cond.methodLink "TableCatalog$Reader" (17 : Nat) ({ cls := "TableCatalog$Fault", name := "<init>", desc := "()V" } : Jvm.MethodName)) ∈ lw_all := lw_g (lw_at lw_m1 86 rfl) rfl
theorem q178 : (Jvm.Cond.fieldLinkNest "TableCatalog$Reader" (43 : Nat) "TableCatalog$Fault" "kind" "I" "TableCatalog") ∈ lw_tbl := lw_at lw_m1 98 rfl
theorem q180 : (Jvm.Cond.fieldLinkNest "TableCatalog$Reader" (47 : Nat) "TableCatalog$Fault" "place" "I" "TableCatalog") ∈ lw_tbl := lw_at lw_m1 100 rfl
theorem q201 : (Jvm.Cond.classLink "TableCatalog$Reader" (22 : Nat) "java/util/ArrayList") ∈ lw_all := lw_g (lw_at lw_m1 121 rfl) rfl
theorem q203 : (Jvm.Cond.methodLink "TableCatalog$Reader" (24 : Nat) ({ cls := "java/util/ArrayList", name := "<init>", desc := "()V" } : Jvm.MethodName)) ∈ lw_all := lw_g (lw_at lw_m1 123 rfl) rfl
theorem q227 : (Jvm.Cond.fieldLink "TableCatalog$Reader" (18 : Nat) "TableCatalog$Reader" "fault" "LTableCatalog$Fault;") ∈ lw_all := lw_g (lw_at lw_m1 147 rfl) rfl
theorem q228 : (Jvm.Cond.fieldLink "TableCatalog$Reader" (56 : Nat) "TableCatalog$Reader" "text" "[B") ∈ lw_all := lw_g (lw_at lw_m1 148 rfl) rfl
theorem q230 : (Jvm.Cond.fieldLink "TableCatalog$Reader" (53 : Nat) "TableCatalog$Reader" "size" "I") ∈ lw_all := lw_g (lw_at lw_m1 150 rfl) rfl
theorem q232 : (Jvm.Cond.fieldLink "TableCatalog$Reader" (50 : Nat) "TableCatalog$Reader" "at" "I") ∈ lw_all := lw_g (lw_at lw_m1 152 rfl) rfl
theorem q234 : (Jvm.Cond.fieldLink "TableCatalog$Reader" (60 : Nat) "TableCatalog$Reader" "begin" "I") ∈ lw_all := lw_g (lw_at lw_m1 154 rfl) rfl
theorem q235 : (Jvm.Cond.fieldLink "TableCatalog$Reader" (180 : Nat) "TableCatalog$Reader" "open" "I") ∈ lw_all := lw_g (lw_at lw_m1 155 rfl) rfl
theorem q236 : (Jvm.Cond.fieldLink "TableCatalog$Reader" (127 : Nat) "TableCatalog$Reader" "made" "LTableCatalog$Table;") ∈ lw_all := lw_g (lw_at lw_m1 156 rfl) rfl
theorem q237 : (Jvm.Cond.fieldLink "TableCatalog$Reader" (25 : Nat) "TableCatalog$Reader" "parts" "Ljava/util/ArrayList;") ∈ lw_all := lw_g (lw_at lw_m1 157 rfl) rfl
theorem q239 : (Jvm.Cond.fieldLink "TableCatalog$Reader" (29 : Nat) "TableCatalog$Reader" "froms" "Ljava/util/ArrayList;") ∈ lw_all := lw_g (lw_at lw_m1 159 rfl) rfl
theorem q241 : (Jvm.Cond.fieldLink "TableCatalog$Reader" (32 : Nat) "TableCatalog$Reader" "fromPlaces" "[I") ∈ lw_all := lw_g (lw_at lw_m1 161 rfl) rfl
theorem q243 : (Jvm.Cond.fieldLink "TableCatalog$Reader" (36 : Nat) "TableCatalog$Reader" "columnPlaces" "[I") ∈ lw_all := lw_g (lw_at lw_m1 163 rfl) rfl
theorem q245 : (Jvm.Cond.fieldLink "TableCatalog$Reader" (119 : Nat) "TableCatalog$Reader" "namePlace" "I") ∈ lw_all := lw_g (lw_at lw_m1 165 rfl) rfl
theorem q247 : (Jvm.Cond.fieldLink "TableCatalog$Reader" (39 : Nat) "TableCatalog$Reader" "told" "[C") ∈ lw_all := lw_g (lw_at lw_m1 167 rfl) rfl
theorem q248 : (Jvm.Cond.fieldLink "TableCatalog$Reader" (96 : Nat) "TableCatalog$Reader" "toldSize" "I") ∈ lw_all := lw_g (lw_at lw_m1 168 rfl) rfl
theorem q249 : (Jvm.Cond.fieldLink "TableCatalog$Reader" (3 : Nat) "TableCatalog$Reader" "this$0" "LTableCatalog;") ∈ lw_all := lw_g (lw_at lw_m1 169 rfl) rfl
theorem q250 : (Jvm.Cond.laysFinal "TableCatalog$Reader" "TableCatalog$Reader" "fault" "LTableCatalog$Fault;") ∈ lw_all := lw_g (lw_at lw_m1 170 rfl) rfl
theorem q251 : (Jvm.Cond.soleField "TableCatalog$Reader" "fault") ∈ lw_all := lw_g (lw_at lw_m1 171 rfl) rfl
theorem q252 : (Jvm.Cond.lays "TableCatalog$Reader" "TableCatalog$Reader" "text" "[B") ∈ lw_all := lw_g (lw_at lw_m1 172 rfl) rfl
theorem q253 : (Jvm.Cond.soleField "TableCatalog$Reader" "text") ∈ lw_all := lw_g (lw_at lw_m1 173 rfl) rfl
theorem q254 : (Jvm.Cond.lays "TableCatalog$Reader" "TableCatalog$Reader" "size" "I") ∈ lw_all := lw_g (lw_at lw_m1 174 rfl) rfl
theorem q255 : (Jvm.Cond.soleField "TableCatalog$Reader" "size") ∈ lw_all := lw_g (lw_at lw_m1 175 rfl) rfl
theorem q256 : (Jvm.Cond.lays "TableCatalog$Reader" "TableCatalog$Reader" "at" "I") ∈ lw_all := lw_g (lw_at lw_m1 176 rfl) rfl
theorem q257 : (Jvm.Cond.soleField "TableCatalog$Reader" "at") ∈ lw_all := lw_g (lw_at lw_m1 177 rfl) rfl
theorem q258 : (Jvm.Cond.lays "TableCatalog$Reader" "TableCatalog$Reader" "begin" "I") ∈ lw_all := lw_g (lw_at lw_m1 178 rfl) rfl
theorem q259 : (Jvm.Cond.soleField "TableCatalog$Reader" "begin") ∈ lw_all := lw_g (lw_at lw_m1 179 rfl) rfl
theorem q260 : (Jvm.Cond.lays "TableCatalog$Reader" "TableCatalog$Reader" "open" "I") ∈ lw_all := lw_g (lw_at lw_m1 180 rfl) rfl
theorem q261 : (Jvm.Cond.soleField "TableCatalog$Reader" "open") ∈ lw_all := lw_g (lw_at lw_m1 181 rfl) rfl
theorem q262 : (Jvm.Cond.lays "TableCatalog$Reader" "TableCatalog$Reader" "made" "LTableCatalog$Table;") ∈ lw_all := lw_g (lw_at lw_m1 182 rfl) rfl
theorem q263 : (Jvm.Cond.soleField "TableCatalog$Reader" "made") ∈ lw_all := lw_g (lw_at lw_m1 183 rfl) rfl
theorem q264 : (Jvm.Cond.laysFinal "TableCatalog$Reader" "TableCatalog$Reader" "parts" "Ljava/util/ArrayList;") ∈ lw_all := lw_g (lw_at lw_m1 184 rfl) rfl
theorem q265 : (Jvm.Cond.soleField "TableCatalog$Reader" "parts") ∈ lw_all := lw_g (lw_at lw_m1 185 rfl) rfl
theorem q266 : (Jvm.Cond.laysFinal "TableCatalog$Reader" "TableCatalog$Reader" "froms" "Ljava/util/ArrayList;") ∈ lw_all := lw_g (lw_at lw_m1 186 rfl) rfl
theorem q267 : (Jvm.Cond.soleField "TableCatalog$Reader" "froms") ∈ lw_all := lw_g (lw_at lw_m1 187 rfl) rfl
theorem q268 : (Jvm.Cond.laysFinal "TableCatalog$Reader" "TableCatalog$Reader" "fromPlaces" "[I") ∈ lw_all := lw_g (lw_at lw_m1 188 rfl) rfl
theorem q269 : (Jvm.Cond.soleField "TableCatalog$Reader" "fromPlaces") ∈ lw_all := lw_g (lw_at lw_m1 189 rfl) rfl
theorem q270 : (Jvm.Cond.laysFinal "TableCatalog$Reader" "TableCatalog$Reader" "columnPlaces" "[I") ∈ lw_all := lw_g (lw_at lw_m1 190 rfl) rfl
theorem q271 : (Jvm.Cond.soleField "TableCatalog$Reader" "columnPlaces") ∈ lw_all := lw_g (lw_at lw_m1 191 rfl) rfl
theorem q272 : (Jvm.Cond.lays "TableCatalog$Reader" "TableCatalog$Reader" "namePlace" "I") ∈ lw_all := lw_g (lw_at lw_m1 192 rfl) rfl
theorem q273 : (Jvm.Cond.soleField "TableCatalog$Reader" "namePlace") ∈ lw_all := lw_g (lw_at lw_m1 193 rfl) rfl
theorem q274 : (Jvm.Cond.laysFinal "TableCatalog$Reader" "TableCatalog$Reader" "told" "[C") ∈ lw_all := lw_g (lw_at lw_m1 194 rfl) rfl
theorem q275 : (Jvm.Cond.soleField "TableCatalog$Reader" "told") ∈ lw_all := lw_g (lw_at lw_m1 195 rfl) rfl
theorem q276 : (Jvm.Cond.lays "TableCatalog$Reader" "TableCatalog$Reader" "toldSize" "I") ∈ lw_all := lw_g (lw_at lw_m1 196 rfl) rfl
theorem q277 : (Jvm.Cond.soleField "TableCatalog$Reader" "toldSize") ∈ lw_all := lw_g (lw_at lw_m1 197 rfl) rfl
theorem q278 : (Jvm.Cond.laysFinal "TableCatalog$Reader" "TableCatalog$Reader" "this$0" "LTableCatalog;") ∈ lw_all := lw_g (lw_at lw_m1 198 rfl) rfl
theorem q279 : (Jvm.Cond.soleField "TableCatalog$Reader" "this$0") ∈ lw_all := lw_g (lw_at lw_m1 199 rfl) rfl
theorem q280 : (Jvm.Cond.superclass "TableCatalog$Reader" "java/lang/Object") ∈ lw_all := lw_g (lw_at lw_m1 200 rfl) rfl
theorem q348 : (Jvm.Cond.instanceMethod ({ cls := "TableCatalog$Reader", name := "all", desc := "([BI)LTableCatalog$Table;" } : Jvm.MethodName)) ∈ lw_all := lw_g (lw_at lw_m2 28 rfl) rfl
theorem q349 : (Jvm.Cond.selects "TableCatalog$Reader" ({ cls := "TableCatalog$Reader", name := "all", desc := "([BI)LTableCatalog$Table;" } : Jvm.MethodName) ({ cls := "TableCatalog$Reader", name := "all", desc := "([BI)LTableCatalog$Table;" } : Jvm.MethodName)) ∈ lw_all := lw_g (lw_at lw_m2 29 rfl) rfl
theorem q350 : (Jvm.Cond.code ({ cls := "TableCatalog$Reader", name := "all", desc := "([BI)LTableCatalog$Table;" } : Jvm.MethodName) prog_9_method_9_code (5 : Nat) (Option.some (Jvm.ClassFile.FieldType.object "TableCatalog$Table"))) ∈ lw_all := lw_g (lw_at lw_m2 30 rfl) rfl
theorem q351 : (Jvm.Cond.methodLink "TableCatalog$Reader" (103 : Nat) ({ cls := "java/util/ArrayList", name := "clear", desc := "()V" } : Jvm.MethodName)) ∈ lw_all := lw_g (lw_at lw_m2 31 rfl) rfl
theorem q355 : (Jvm.Cond.stringRef "TableCatalog$Reader" (106 : Nat) "table") ∈ lw_tbl := lw_at lw_m2 35 rfl
theorem q356 : (Jvm.Cond.methodLink "TableCatalog$Reader" (108 : Nat) ({ cls := "TableCatalog$Reader", name := "is", desc := "(Ljava/lang/String;)Z" } : Jvm.MethodName)) ∈ lw_all := lw_g (lw_at lw_m2 36 rfl) rfl
theorem q357 : (Jvm.Cond.privateMethod ({ cls := "TableCatalog$Reader", name := "is", desc := "(Ljava/lang/String;)Z" } : Jvm.MethodName)) ∈ lw_tbl := lw_at lw_m2 37 rfl
theorem q358 : (Jvm.Cond.instanceMethod ({ cls := "TableCatalog$Reader", name := "is", desc := "(Ljava/lang/String;)Z" } : Jvm.MethodName)) ∈ lw_all := lw_g (lw_at lw_m2 38 rfl) rfl
theorem q359 : (Jvm.Cond.code ({ cls := "TableCatalog$Reader", name := "is", desc := "(Ljava/lang/String;)Z" } : Jvm.MethodName) prog_9_method_6_code (3 : Nat) (Option.some Jvm.ClassFile.FieldType.boolean)) ∈ lw_all := lw_g (lw_at lw_m2 39 rfl) rfl
theorem q360 : (Jvm.Cond.methodLink "TableCatalog$Reader" (63 : Nat) ({ cls := "TableCatalog$Reader", name := "here", desc := "()I" } : Jvm.MethodName)) ∈ lw_all := lw_g (lw_at lw_m2 40 rfl) rfl
theorem q361 : (Jvm.Cond.privateMethod ({ cls := "TableCatalog$Reader", name := "here", desc := "()I" } : Jvm.MethodName)) ∈ lw_tbl := lw_at lw_m2 41 rfl
theorem q362 : (Jvm.Cond.instanceMethod ({ cls := "TableCatalog$Reader", name := "here", desc := "()I" } : Jvm.MethodName)) ∈ lw_all := lw_g (lw_at lw_m2 42 rfl) rfl
theorem q363 : (Jvm.Cond.code ({ cls := "TableCatalog$Reader", name := "here", desc := "()I" } : Jvm.MethodName) prog_9_method_3_code (1 : Nat) (Option.some Jvm.ClassFile.FieldType.int)) ∈ lw_all := lw_g (lw_at lw_m2 43 rfl) rfl
theorem q364 : (Jvm.Cond.methodLinkNest "TableCatalog$Reader" (77 : Nat) ({ cls := "TableCatalog", name := "isLetter", desc := "(I)Z" } : Jvm.MethodName) "TableCatalog") ∈ lw_tbl := lw_at lw_m2 44 rfl
theorem q367 : (Jvm.Cond.methodLink "TableCatalog$Reader" (81 : Nat) ({ cls := "java/lang/String", name := "length", desc := "()I" } : Jvm.MethodName)) ∈ lw_all := lw_g (lw_at lw_m2 47 rfl) rfl
theorem q377 : (Jvm.Cond.methodLink "TableCatalog$Reader" (84 : Nat) ({ cls := "TableCatalog$Reader", name := "cut", desc := "(II)Ljava/lang/String;" } : Jvm.MethodName)) ∈ lw_all := lw_g (lw_at lw_m2 57 rfl) rfl
theorem q378 : (Jvm.Cond.privateMethod ({ cls := "TableCatalog$Reader", name := "cut", desc := "(II)Ljava/lang/String;" } : Jvm.MethodName)) ∈ lw_tbl := lw_at lw_m2 58 rfl
theorem q379 : (Jvm.Cond.instanceMethod ({ cls := "TableCatalog$Reader", name := "cut", desc := "(II)Ljava/lang/String;" } : Jvm.MethodName)) ∈ lw_all := lw_g (lw_at lw_m2 59 rfl) rfl
theorem q380 : (Jvm.Cond.code ({ cls := "TableCatalog$Reader", name := "cut", desc := "(II)Ljava/lang/String;" } : Jvm.MethodName) prog_9_method_5_code (5 : Nat) (Option.some (Jvm.ClassFile.FieldType.object "java/lang/String"))) ∈ lw_all := lw_g (lw_at lw_m2 60 rfl) rfl
theorem q381 : (Jvm.Cond.methodLink "TableCatalog$Reader" (71 : Nat) ({ cls := "java/lang/String", name := "valueOf", desc := "([C)Ljava/lang/String;" } : Jvm.MethodName)) ∈ lw_all := lw_g (lw_at lw_m2 61 rfl) rfl
theorem q456 : (Jvm.Cond.methodLink "TableCatalog$Reader" (88 : Nat) ({ cls := "java/lang/String", name := "equals", desc := "(Ljava/lang/Object;)Z" } : Jvm.MethodName)) ∈ lw_all := lw_g (lw_at lw_m2 136 rfl) rfl
theorem q463 : (Jvm.Cond.stringRef "TableCatalog$Reader" (111 : Nat) "view") ∈ lw_tbl := lw_at lw_m2 143 rfl
theorem q464 : (Jvm.Cond.stringRef "TableCatalog$Reader" (113 : Nat) "copy") ∈ lw_tbl := lw_at lw_m2 144 rfl
theorem q465 : (Jvm.Cond.methodLink "TableCatalog$Reader" (67 : Nat) ({ cls := "TableCatalog$Reader", name := "wrong", desc := "(II)LTableCatalog$Fault;" } : Jvm.MethodName)) ∈ lw_all := lw_g (lw_at lw_m2 145 rfl) rfl
theorem q466 : (Jvm.Cond.privateMethod ({ cls := "TableCatalog$Reader", name := "wrong", desc := "(II)LTableCatalog$Fault;" } : Jvm.MethodName)) ∈ lw_tbl := lw_at lw_m2 146 rfl
theorem q467 : (Jvm.Cond.instanceMethod ({ cls := "TableCatalog$Reader", name := "wrong", desc := "(II)LTableCatalog$Fault;" } : Jvm.MethodName)) ∈ lw_all := lw_g (lw_at lw_m2 147 rfl) rfl
theorem q468 : (Jvm.Cond.code ({ cls := "TableCatalog$Reader", name := "wrong", desc := "(II)LTableCatalog$Fault;" } : Jvm.MethodName) prog_9_method_2_code (3 : Nat) (Option.some (Jvm.ClassFile.FieldType.object "TableCatalog$Fault"))) ∈ lw_all := lw_g (lw_at lw_m2 148 rfl) rfl
theorem q469 : (Jvm.Cond.methodLink "TableCatalog$Reader" (115 : Nat) ({ cls := "TableCatalog$Reader", name := "name", desc := "()Ljava/lang/String;" } : Jvm.MethodName)) ∈ lw_all := lw_g (lw_at lw_m2 149 rfl) rfl
theorem q470 : (Jvm.Cond.privateMethod ({ cls := "TableCatalog$Reader", name := "name", desc := "()Ljava/lang/String;" } : Jvm.MethodName)) ∈ lw_tbl := lw_at lw_m2 150 rfl
theorem q471 : (Jvm.Cond.instanceMethod ({ cls := "TableCatalog$Reader", name := "name", desc := "()Ljava/lang/String;" } : Jvm.MethodName)) ∈ lw_all := lw_g (lw_at lw_m2 151 rfl) rfl
theorem q472 : (Jvm.Cond.code ({ cls := "TableCatalog$Reader", name := "name", desc := "()Ljava/lang/String;" } : Jvm.MethodName) prog_9_method_7_code (3 : Nat) (Option.some (Jvm.ClassFile.FieldType.object "java/lang/String"))) ∈ lw_all := lw_g (lw_at lw_m2 152 rfl) rfl
theorem q473 : (Jvm.Cond.methodLinkNest "TableCatalog$Reader" (92 : Nat) ({ cls := "TableCatalog", name := "isWord", desc := "(Ljava/lang/String;)Z" } : Jvm.MethodName) "TableCatalog") ∈ lw_tbl := lw_at lw_m2 153 rfl
theorem q537 : (Jvm.Cond.classLink "TableCatalog$Reader" (122 : Nat) "TableCatalog$Table") ∈ lw_all := lw_g (lw_at lw_m2 217 rfl) rfl
theorem q539 : (Jvm.Cond.methodLink "TableCatalog$Reader" (124 : Nat) ({ cls := "TableCatalog$Table", name := "<init>", desc := "(Ljava/lang/String;I)V" } : Jvm.MethodName)) ∈ lw_all := lw_g (lw_at lw_m2 219 rfl) rfl
theorem q557 : (Jvm.Cond.fieldLinkNest "TableCatalog$Reader" (147 : Nat) "TableCatalog$Table" "columns" "Ljava/util/ArrayList;" "TableCatalog") ∈ lw_tbl := lw_at lw_m2 237 rfl
theorem q561 : (Jvm.Cond.fieldLinkNest "TableCatalog$Reader" (183 : Nat) "TableCatalog$Table" "formulas" "Ljava/util/ArrayList;" "TableCatalog") ∈ lw_tbl := lw_at lw_m3 1 rfl
theorem q565 : (Jvm.Cond.fieldLinkNest "TableCatalog$Reader" (170 : Nat) "TableCatalog$Table" "types" "[C" "TableCatalog") ∈ lw_tbl := lw_at lw_m3 5 rfl
theorem q570 : (Jvm.Cond.fieldLinkNest "TableCatalog$Reader" (194 : Nat) "TableCatalog$Table" "left" "LTableCatalog$Formula;" "TableCatalog") ∈ lw_tbl := lw_at lw_m3 10 rfl
theorem q572 : (Jvm.Cond.fieldLinkNest "TableCatalog$Reader" (205 : Nat) "TableCatalog$Table" "right" "LTableCatalog$Formula;" "TableCatalog") ∈ lw_tbl := lw_at lw_m3 12 rfl
theorem q574 : (Jvm.Cond.fieldLinkNest "TableCatalog$Reader" (198 : Nat) "TableCatalog$Table" "sign" "I" "TableCatalog") ∈ lw_tbl := lw_at lw_m3 14 rfl
theorem q576 : (Jvm.Cond.fieldLinkNest "TableCatalog$Reader" (144 : Nat) "TableCatalog$Table" "text" "Ljava/lang/String;" "TableCatalog") ∈ lw_tbl := lw_at lw_m3 16 rfl
theorem q617 : (Jvm.Cond.methodLink "TableCatalog$Reader" (131 : Nat) ({ cls := "TableCatalog$Reader", name := "source", desc := "()V" } : Jvm.MethodName)) ∈ lw_all := lw_g (lw_at lw_m3 57 rfl) rfl
theorem q618 : (Jvm.Cond.privateMethod ({ cls := "TableCatalog$Reader", name := "source", desc := "()V" } : Jvm.MethodName)) ∈ lw_tbl := lw_at lw_m3 58 rfl
theorem q619 : (Jvm.Cond.instanceMethod ({ cls := "TableCatalog$Reader", name := "source", desc := "()V" } : Jvm.MethodName)) ∈ lw_all := lw_g (lw_at lw_m3 59 rfl) rfl
theorem q620 : (Jvm.Cond.code ({ cls := "TableCatalog$Reader", name := "source", desc := "()V" } : Jvm.MethodName) prog_9_method_12_code (4 : Nat) (Option.none : Option Jvm.ClassFile.FieldType)) ∈ lw_all := lw_g (lw_at lw_m3 60 rfl) rfl
theorem q621 : (Jvm.Cond.methodLink "TableCatalog$Reader" (134 : Nat) ({ cls := "TableCatalog$Reader", name := "must", desc := "(I)V" } : Jvm.MethodName)) ∈ lw_all := lw_g (lw_at lw_m3 61 rfl) rfl
theorem q622 : (Jvm.Cond.privateMethod ({ cls := "TableCatalog$Reader", name := "must", desc := "(I)V" } : Jvm.MethodName)) ∈ lw_tbl := lw_at lw_m3 62 rfl
theorem q623 : (Jvm.Cond.instanceMethod ({ cls := "TableCatalog$Reader", name := "must", desc := "(I)V" } : Jvm.MethodName)) ∈ lw_all := lw_g (lw_at lw_m3 63 rfl) rfl
theorem q624 : (Jvm.Cond.code ({ cls := "TableCatalog$Reader", name := "must", desc := "(I)V" } : Jvm.MethodName) prog_9_method_4_code (2 : Nat) (Option.none : Option Jvm.ClassFile.FieldType)) ∈ lw_all := lw_g (lw_at lw_m3 64 rfl) rfl
theorem q625 : (Jvm.Cond.methodLink "TableCatalog$Reader" (155 : Nat) ({ cls := "TableCatalog$Reader", name := "column", desc := "(Ljava/lang/String;)V" } : Jvm.MethodName)) ∈ lw_all := lw_g (lw_at lw_m3 65 rfl) rfl
theorem q626 : (Jvm.Cond.privateMethod ({ cls := "TableCatalog$Reader", name := "column", desc := "(Ljava/lang/String;)V" } : Jvm.MethodName)) ∈ lw_tbl := lw_at lw_m3 66 rfl
theorem q627 : (Jvm.Cond.instanceMethod ({ cls := "TableCatalog$Reader", name := "column", desc := "(Ljava/lang/String;)V" } : Jvm.MethodName)) ∈ lw_all := lw_g (lw_at lw_m3 67 rfl) rfl
theorem q628 : (Jvm.Cond.code ({ cls := "TableCatalog$Reader", name := "column", desc := "(Ljava/lang/String;)V" } : Jvm.MethodName) prog_9_method_10_code (2 : Nat) (Option.none : Option Jvm.ClassFile.FieldType)) ∈ lw_all := lw_g (lw_at lw_m3 68 rfl) rfl
theorem q629 : (Jvm.Cond.methodLink "TableCatalog$Reader" (150 : Nat) ({ cls := "java/util/ArrayList", name := "size", desc := "()I" } : Jvm.MethodName)) ∈ lw_all := lw_g (lw_at lw_m3 69 rfl) rfl
theorem q633 : (Jvm.Cond.methodLink "TableCatalog$Reader" (152 : Nat) ({ cls := "java/util/ArrayList", name := "add", desc := "(Ljava/lang/Object;)Z" } : Jvm.MethodName)) ∈ lw_all := lw_g (lw_at lw_m3 73 rfl) rfl
theorem q672 : (Jvm.Cond.selects "TableCatalog$Reader" ({ cls := "java/lang/Object", name := "getClass", desc := "()Ljava/lang/Class;" } : Jvm.MethodName) ({ cls := "java/lang/Object", name := "getClass", desc := "()Ljava/lang/Class;" } : Jvm.MethodName)) ∈ lw_all := lw_g (lw_at lw_m3 112 rfl) rfl
theorem q692 : (Jvm.Cond.methodLink "TableCatalog$Reader" (159 : Nat) ({ cls := "TableCatalog$Reader", name := "word", desc := "()Ljava/lang/String;" } : Jvm.MethodName)) ∈ lw_all := lw_g (lw_at lw_m3 132 rfl) rfl
theorem q693 : (Jvm.Cond.privateMethod ({ cls := "TableCatalog$Reader", name := "word", desc := "()Ljava/lang/String;" } : Jvm.MethodName)) ∈ lw_tbl := lw_at lw_m3 133 rfl
theorem q694 : (Jvm.Cond.instanceMethod ({ cls := "TableCatalog$Reader", name := "word", desc := "()Ljava/lang/String;" } : Jvm.MethodName)) ∈ lw_all := lw_g (lw_at lw_m3 134 rfl) rfl
theorem q695 : (Jvm.Cond.code ({ cls := "TableCatalog$Reader", name := "word", desc := "()Ljava/lang/String;" } : Jvm.MethodName) prog_9_method_13_code (2 : Nat) (Option.some (Jvm.ClassFile.FieldType.object "java/lang/String"))) ∈ lw_all := lw_g (lw_at lw_m3 135 rfl) rfl
theorem q696 : (Jvm.Cond.stringRef "TableCatalog$Reader" (162 : Nat) "") ∈ lw_tbl := lw_at lw_m3 136 rfl
theorem q697 : (Jvm.Cond.stringRef "TableCatalog$Reader" (164 : Nat) "n") ∈ lw_tbl := lw_at lw_m3 137 rfl
theorem q698 : (Jvm.Cond.stringRef "TableCatalog$Reader" (166 : Nat) "t") ∈ lw_tbl := lw_at lw_m3 138 rfl
theorem q699 : (Jvm.Cond.stringRef "TableCatalog$Reader" (168 : Nat) "d") ∈ lw_tbl := lw_at lw_m3 139 rfl
theorem q700 : (Jvm.Cond.methodLink "TableCatalog$Reader" (99 : Nat) ({ cls := "java/lang/String", name := "charAt", desc := "(I)C" } : Jvm.MethodName)) ∈ lw_all := lw_g (lw_at lw_m3 140 rfl) rfl
theorem q720 : (Jvm.Cond.methodLink "TableCatalog$Reader" (173 : Nat) ({ cls := "TableCatalog$Reader", name := "goesOn", desc := "(II)Z" } : Jvm.MethodName)) ∈ lw_all := lw_g (lw_at lw_m3 160 rfl) rfl
theorem q721 : (Jvm.Cond.privateMethod ({ cls := "TableCatalog$Reader", name := "goesOn", desc := "(II)Z" } : Jvm.MethodName)) ∈ lw_tbl := lw_at lw_m3 161 rfl
theorem q722 : (Jvm.Cond.instanceMethod ({ cls := "TableCatalog$Reader", name := "goesOn", desc := "(II)Z" } : Jvm.MethodName)) ∈ lw_all := lw_g (lw_at lw_m3 162 rfl) rfl
theorem q723 : (Jvm.Cond.code ({ cls := "TableCatalog$Reader", name := "goesOn", desc := "(II)Z" } : Jvm.MethodName) prog_9_method_11_code (3 : Nat) (Option.some Jvm.ClassFile.FieldType.boolean)) ∈ lw_all := lw_g (lw_at lw_m3 163 rfl) rfl
theorem q724 : (Jvm.Cond.methodLink "TableCatalog$Reader" (138 : Nat) ({ cls := "TableCatalog$Reader", name := "select", desc := "()V" } : Jvm.MethodName)) ∈ lw_all := lw_g (lw_at lw_m3 164 rfl) rfl
theorem q725 : (Jvm.Cond.privateMethod ({ cls := "TableCatalog$Reader", name := "select", desc := "()V" } : Jvm.MethodName)) ∈ lw_tbl := lw_at lw_m3 165 rfl
theorem q726 : (Jvm.Cond.instanceMethod ({ cls := "TableCatalog$Reader", name := "select", desc := "()V" } : Jvm.MethodName)) ∈ lw_all := lw_g (lw_at lw_m3 166 rfl) rfl
theorem q727 : (Jvm.Cond.code ({ cls := "TableCatalog$Reader", name := "select", desc := "()V" } : Jvm.MethodName) prog_9_method_14_code (2 : Nat) (Option.none : Option Jvm.ClassFile.FieldType)) ∈ lw_all := lw_g (lw_at lw_m3 167 rfl) rfl
theorem q728 : (Jvm.Cond.methodLink "TableCatalog$Reader" (177 : Nat) ({ cls := "TableCatalog$Reader", name := "tell", desc := "(Ljava/lang/String;)V" } : Jvm.MethodName)) ∈ lw_all := lw_g (lw_at lw_m3 168 rfl) rfl
theorem q729 : (Jvm.Cond.privateMethod ({ cls := "TableCatalog$Reader", name := "tell", desc := "(Ljava/lang/String;)V" } : Jvm.MethodName)) ∈ lw_tbl := lw_at lw_m3 169 rfl
theorem q730 : (Jvm.Cond.instanceMethod ({ cls := "TableCatalog$Reader", name := "tell", desc := "(Ljava/lang/String;)V" } : Jvm.MethodName)) ∈ lw_all := lw_g (lw_at lw_m3 170 rfl) rfl
theorem q731 : (Jvm.Cond.code ({ cls := "TableCatalog$Reader", name := "tell", desc := "(Ljava/lang/String;)V" } : Jvm.MethodName) prog_9_method_8_code (3 : Nat) (Option.none : Option Jvm.ClassFile.FieldType)) ∈ lw_all := lw_g (lw_at lw_m3 171 rfl) rfl
theorem q732 : (Jvm.Cond.methodLink "TableCatalog$Reader" (186 : Nat) ({ cls := "TableCatalog$Reader", name := "formula", desc := "()LTableCatalog$Formula;" } : Jvm.MethodName)) ∈ lw_all := lw_g (lw_at lw_m3 172 rfl) rfl
theorem q733 : (Jvm.Cond.privateMethod ({ cls := "TableCatalog$Reader", name := "formula", desc := "()LTableCatalog$Formula;" } : Jvm.MethodName)) ∈ lw_tbl := lw_at lw_m3 173 rfl
theorem q734 : (Jvm.Cond.instanceMethod ({ cls := "TableCatalog$Reader", name := "formula", desc := "()LTableCatalog$Formula;" } : Jvm.MethodName)) ∈ lw_all := lw_g (lw_at lw_m3 174 rfl) rfl
theorem q735 : (Jvm.Cond.code ({ cls := "TableCatalog$Reader", name := "formula", desc := "()LTableCatalog$Formula;" } : Jvm.MethodName) prog_9_method_15_code (4 : Nat) (Option.some (Jvm.ClassFile.FieldType.object "TableCatalog$Formula"))) ∈ lw_all := lw_g (lw_at lw_m3 175 rfl) rfl
theorem q736 : (Jvm.Cond.classLink "TableCatalog$Reader" (208 : Nat) "TableCatalog$Formula") ∈ lw_all := lw_g (lw_at lw_m3 176 rfl) rfl
theorem q738 : (Jvm.Cond.methodLinkNest "TableCatalog$Reader" (210 : Nat) ({ cls := "TableCatalog$Formula", name := "<init>", desc := "()V" } : Jvm.MethodName) "TableCatalog") ∈ lw_tbl := lw_at lw_m3 178 rfl
theorem q745 : (Jvm.Cond.fieldLinkNest "TableCatalog$Reader" (211 : Nat) "TableCatalog$Formula" "terms" "Ljava/util/ArrayList;" "TableCatalog") ∈ lw_tbl := lw_at lw_m3 185 rfl
theorem q747 : (Jvm.Cond.fieldLinkNest "TableCatalog$Reader" (218 : Nat) "TableCatalog$Formula" "signs" "[I" "TableCatalog") ∈ lw_tbl := lw_at lw_m3 187 rfl
theorem q749 : (Jvm.Cond.fieldLinkNest "TableCatalog$Reader" (221 : Nat) "TableCatalog$Formula" "places" "[I" "TableCatalog") ∈ lw_tbl := lw_at lw_m3 189 rfl
theorem q757 : (Jvm.Cond.methodLink "TableCatalog$Reader" (214 : Nat) ({ cls := "TableCatalog$Reader", name := "term", desc := "()LTableCatalog$Term;" } : Jvm.MethodName)) ∈ lw_all := lw_g (lw_at lw_m3 197 rfl) rfl
theorem q758 : (Jvm.Cond.privateMethod ({ cls := "TableCatalog$Reader", name := "term", desc := "()LTableCatalog$Term;" } : Jvm.MethodName)) ∈ lw_tbl := lw_at lw_m3 198 rfl
theorem q759 : (Jvm.Cond.instanceMethod ({ cls := "TableCatalog$Reader", name := "term", desc := "()LTableCatalog$Term;" } : Jvm.MethodName)) ∈ lw_all := lw_g (lw_at lw_m3 199 rfl) rfl
theorem q760 : (Jvm.Cond.code ({ cls := "TableCatalog$Reader", name := "term", desc := "()LTableCatalog$Term;" } : Jvm.MethodName) prog_9_method_16_code (6 : Nat) (Option.some (Jvm.ClassFile.FieldType.object "TableCatalog$Term"))) ∈ lw_all := lw_g (lw_at lw_m3 200 rfl) rfl
theorem q761 : (Jvm.Cond.methodLinkNest "TableCatalog$Reader" (230 : Nat) ({ cls := "TableCatalog", name := "isDigit", desc := "(I)Z" } : Jvm.MethodName) "TableCatalog") ∈ lw_tbl := lw_at lw_m3 201 rfl
theorem q764 : (Jvm.Cond.methodLink "TableCatalog$Reader" (233 : Nat) ({ cls := "TableCatalog$Reader", name := "number", desc := "(I)LTableCatalog$Term;" } : Jvm.MethodName)) ∈ lw_all := lw_g (lw_at lw_m3 204 rfl) rfl
theorem q765 : (Jvm.Cond.privateMethod ({ cls := "TableCatalog$Reader", name := "number", desc := "(I)LTableCatalog$Term;" } : Jvm.MethodName)) ∈ lw_tbl := lw_at lw_m3 205 rfl
theorem q766 : (Jvm.Cond.instanceMethod ({ cls := "TableCatalog$Reader", name := "number", desc := "(I)LTableCatalog$Term;" } : Jvm.MethodName)) ∈ lw_all := lw_g (lw_at lw_m3 206 rfl) rfl
theorem q767 : (Jvm.Cond.code ({ cls := "TableCatalog$Reader", name := "number", desc := "(I)LTableCatalog$Term;" } : Jvm.MethodName) prog_9_method_17_code (2 : Nat) (Option.some (Jvm.ClassFile.FieldType.object "TableCatalog$Term"))) ∈ lw_all := lw_g (lw_at lw_m3 207 rfl) rfl
theorem q768 : (Jvm.Cond.classLink "TableCatalog$Reader" (253 : Nat) "TableCatalog$Given") ∈ lw_all := lw_g (lw_at lw_m3 208 rfl) rfl
theorem q770 : (Jvm.Cond.methodLink "TableCatalog$Reader" (255 : Nat) ({ cls := "TableCatalog$Given", name := "<init>", desc := "(IC)V" } : Jvm.MethodName)) ∈ lw_all := lw_g (lw_at lw_m3 210 rfl) rfl
theorem q788 : (Jvm.Cond.methodLink "TableCatalog$Reader" (237 : Nat) ({ cls := "TableCatalog$Reader", name := "letters", desc := "(I)LTableCatalog$Term;" } : Jvm.MethodName)) ∈ lw_all := lw_g (lw_at lw_m3 228 rfl) rfl
theorem q789 : (Jvm.Cond.privateMethod ({ cls := "TableCatalog$Reader", name := "letters", desc := "(I)LTableCatalog$Term;" } : Jvm.MethodName)) ∈ lw_tbl := lw_at lw_m3 229 rfl
theorem q790 : (Jvm.Cond.instanceMethod ({ cls := "TableCatalog$Reader", name := "letters", desc := "(I)LTableCatalog$Term;" } : Jvm.MethodName)) ∈ lw_all := lw_g (lw_at lw_m3 230 rfl) rfl
theorem q791 : (Jvm.Cond.code ({ cls := "TableCatalog$Reader", name := "letters", desc := "(I)LTableCatalog$Term;" } : Jvm.MethodName) prog_9_method_18_code (2 : Nat) (Option.some (Jvm.ClassFile.FieldType.object "TableCatalog$Term"))) ∈ lw_all := lw_g (lw_at lw_m3 231 rfl) rfl
theorem q792 : (Jvm.Cond.stringRef "TableCatalog$Reader" (240 : Nat) "len") ∈ lw_tbl := lw_at lw_m3 232 rfl
theorem q793 : (Jvm.Cond.methodLink "TableCatalog$Reader" (242 : Nat) ({ cls := "TableCatalog$Reader", name := "call", desc := "(ICCLjava/lang/String;)LTableCatalog$Term;" } : Jvm.MethodName)) ∈ lw_all := lw_g (lw_at lw_m3 233 rfl) rfl
theorem q794 : (Jvm.Cond.privateMethod ({ cls := "TableCatalog$Reader", name := "call", desc := "(ICCLjava/lang/String;)LTableCatalog$Term;" } : Jvm.MethodName)) ∈ lw_tbl := lw_at lw_m3 234 rfl
theorem q795 : (Jvm.Cond.instanceMethod ({ cls := "TableCatalog$Reader", name := "call", desc := "(ICCLjava/lang/String;)LTableCatalog$Term;" } : Jvm.MethodName)) ∈ lw_all := lw_g (lw_at lw_m3 235 rfl) rfl
theorem q796 : (Jvm.Cond.code ({ cls := "TableCatalog$Reader", name := "call", desc := "(ICCLjava/lang/String;)LTableCatalog$Term;" } : Jvm.MethodName) prog_9_method_19_code (6 : Nat) (Option.some (Jvm.ClassFile.FieldType.object "TableCatalog$Term"))) ∈ lw_all := lw_g (lw_at lw_m3 236 rfl) rfl
theorem q797 : (Jvm.Cond.stringRef "TableCatalog$Reader" (258 : Nat) ")") ∈ lw_tbl := lw_at lw_m3 237 rfl
theorem q798 : (Jvm.Cond.classLink "TableCatalog$Reader" (260 : Nat) "TableCatalog$Call") ∈ lw_all := lw_g (lw_at lw_m3 238 rfl) rfl
theorem q800 : (Jvm.Cond.methodLink "TableCatalog$Reader" (262 : Nat) ({ cls := "TableCatalog$Call", name := "<init>", desc := "(ICCLTableCatalog$Formula;)V" } : Jvm.MethodName)) ∈ lw_all := lw_g (lw_at lw_m4 0 rfl) rfl
theorem q815 : (Jvm.Cond.stringRef "TableCatalog$Reader" (246 : Nat) "str") ∈ lw_tbl := lw_at lw_m4 15 rfl
theorem q816 : (Jvm.Cond.classLink "TableCatalog$Reader" (248 : Nat) "TableCatalog$Part") ∈ lw_all := lw_g (lw_at lw_m4 16 rfl) rfl
theorem q818 : (Jvm.Cond.methodLink "TableCatalog$Reader" (250 : Nat) ({ cls := "TableCatalog$Part", name := "<init>", desc := "(ILjava/lang/String;ILjava/lang/String;)V" } : Jvm.MethodName)) ∈ lw_all := lw_g (lw_at lw_m4 18 rfl) rfl
theorem q840 : (Jvm.Cond.stringRef "TableCatalog$Reader" (224 : Nat) "+") ∈ lw_tbl := lw_at lw_m4 40 rfl
theorem q841 : (Jvm.Cond.stringRef "TableCatalog$Reader" (226 : Nat) "-") ∈ lw_tbl := lw_at lw_m4 41 rfl
theorem q842 : (Jvm.Cond.stringRef "TableCatalog$Reader" (228 : Nat) "&") ∈ lw_tbl := lw_at lw_m4 42 rfl
theorem q843 : (Jvm.Cond.stringRef "TableCatalog$Reader" (190 : Nat) "from") ∈ lw_tbl := lw_at lw_m4 43 rfl
theorem q844 : (Jvm.Cond.stringRef "TableCatalog$Reader" (192 : Nat) "where") ∈ lw_tbl := lw_at lw_m4 44 rfl
theorem q845 : (Jvm.Cond.stringRef "TableCatalog$Reader" (201 : Nat) "<") ∈ lw_tbl := lw_at lw_m4 45 rfl
theorem q846 : (Jvm.Cond.stringRef "TableCatalog$Reader" (203 : Nat) "=") ∈ lw_tbl := lw_at lw_m4 46 rfl
theorem q847 : (Jvm.Cond.methodLink "TableCatalog$Reader" (141 : Nat) ({ cls := "java/lang/String", name := "valueOf", desc := "([CII)Ljava/lang/String;" } : Jvm.MethodName)) ∈ lw_all := lw_g (lw_at lw_m4 47 rfl) rfl
theorem q920 : (Jvm.Cond.selects "TableCatalog$Reader" ({ cls := "java/lang/Object", name := "equals", desc := "(Ljava/lang/Object;)Z" } : Jvm.MethodName) ({ cls := "java/lang/Object", name := "equals", desc := "(Ljava/lang/Object;)Z" } : Jvm.MethodName)) ∈ lw_all := lw_g (lw_at lw_m4 120 rfl) rfl
theorem q1651 : (Jvm.Cond.castable "TableCatalog$Reader" "java/lang/Object") ∈ lw_tbl := lw_at lw_m7 131 rfl
theorem in_X1 : ∀ w ∈ wsX10, w ∈ lw_all := lw_in wsX10 [250, 252, 254, 256, 258, 260, 262, 264, 266, 268, 270, 272, 274, 276, 278] (by decide +kernel) (by decide +kernel)
