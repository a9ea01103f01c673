/-! TableCatalog -/
set_option maxRecDepth 100000
def RX0 : String := "TableCatalog"
def TX0 : u_T := fun k => match k with
  | 0 => ("TableCatalog", "tables", "[LTableCatalog$Table;", true)
  | 1 => ("TableCatalog", "many", "I", false)
  | 2 => ("TableCatalog", "today", "I", false)
  | 3 => ("TableCatalog", "asks", "I", false)
  | 4 => ("TableCatalog", "founds", "I", false)
  | 5 => ("TableCatalog", "faultKind", "I", false)
  | 6 => ("TableCatalog", "faultPlace", "I", false)
  | 7 => ("TableCatalog", "taped", "I", false)
  | 8 => ("TableCatalog", "tape", "[B", true)
  | 9 => ("TableCatalog", "found", "[I", true)
  | 10 => ("TableCatalog", "asked", "[[I", true)
  | 11 => ("TableCatalog", "reader", "LTableCatalog$Reader;", true)
  | 12 => ("TableCatalog", "mark", "[Z", true)
  | 13 => ("TableCatalog", "step", "[Z", true)
  | _ => ("TableCatalog", "before", "[C", true)
def tyX0 : Nat → FieldType := fun k => match k with
  | 0 => .array (.object "TableCatalog$Table")
  | 1 => .int
  | 2 => .int
  | 3 => .int
  | 4 => .int
  | 5 => .int
  | 6 => .int
  | 7 => .int
  | 8 => .array .byte
  | 9 => .array .int
  | 10 => .array (.array .int)
  | 11 => .object "TableCatalog$Reader"
  | 12 => .array .boolean
  | 13 => .array .boolean
  | _ => .array .char
abbrev wsX00 : List Cond := u_ws RX0 TX0 15
set_option maxRecDepth 100000 in
theorem nmX0 : ∀ a, a < 15 → ∀ b, b < 15 → a ≠ b → (TX0 a).2.1 ≠ (TX0 b).2.1 := by decide +kernel
set_option maxRecDepth 100000 in
theorem tyX0_ok : ∀ k, k < 15 → parseFieldDescriptor (TX0 k).2.2.1 = some (tyX0 k) := by decide +kernel
abbrev cX0_init : ByteArray := prog_1_method_4_code
def yX0_init : MethodName := ⟨RX0, "<init>", "()V"⟩
def dkwX0_init_3 : List UInt8 := [188, 4, 181, 0, 69, 42, 17, 0, 128, 188, 5, 181, 0, 72, 177]
abbrev dktX0_init_3 : List UInt8 := dkwX0_init_3 ++ []
def dkwX0_init_2 : List UInt8 := [187, 0, 56, 89, 42, 183, 0, 58, 181, 0, 61, 42, 17, 0, 128, 188, 4, 181, 0, 65, 42, 17, 0, 128]
abbrev dktX0_init_2 : List UInt8 := dkwX0_init_2 ++ dktX0_init_3
def dkwX0_init_1 : List UInt8 := [181, 0, 43, 42, 17, 0, 128, 188, 10, 181, 0, 47, 42, 16, 40, 7, 197, 0, 51, 2, 181, 0, 53, 42]
abbrev dktX0_init_1 : List UInt8 := dkwX0_init_1 ++ dktX0_init_2
def dkwX0_init_0 : List UInt8 := [42, 183, 0, 27, 42, 16, 16, 189, 0, 33, 181, 0, 35, 42, 2, 181, 0, 39, 42, 17, 1, 144, 188, 8]
abbrev dktX0_init_0 : List UInt8 := dkwX0_init_0 ++ dktX0_init_1
theorem dksX0_init_0 : cX0_init.data.toList.drop 0 = dktX0_init_0 := by decide +kernel
theorem dksX0_init_1 : cX0_init.data.toList.drop 24 = dktX0_init_1 := dk_seg dksX0_init_0 24 rfl rfl
theorem dksX0_init_2 : cX0_init.data.toList.drop 48 = dktX0_init_2 := dk_seg dksX0_init_1 24 rfl rfl
theorem dksX0_init_3 : cX0_init.data.toList.drop 72 = dktX0_init_3 := dk_seg dksX0_init_2 24 rfl rfl
theorem dX0_init_0 : decode cX0_init 0 = .ok (.aload_n 0, 1) := dk_42 (dk_at dksX0_init_0 0 rfl rfl)
theorem dX0_init_1 : decode cX0_init 1 = .ok (.invokespecial 27, 3) := dk_183 0 27 (dk_at dksX0_init_0 1 rfl rfl)
theorem dX0_init_4 : decode cX0_init 4 = .ok (.aload_n 0, 1) := dk_42 (dk_at dksX0_init_0 4 rfl rfl)
theorem dX0_init_5 : decode cX0_init 5 = .ok (.bipush 16, 2) := dk_16 16 (dk_at dksX0_init_0 5 rfl rfl)
theorem dX0_init_7 : decode cX0_init 7 = .ok (.anewarray 33, 3) := dk_189 0 33 (dk_at dksX0_init_0 7 rfl rfl)
theorem dX0_init_10 : decode cX0_init 10 = .ok (.putfield 35, 3) := dk_181 0 35 (dk_at dksX0_init_0 10 rfl rfl)
theorem dX0_init_13 : decode cX0_init 13 = .ok (.aload_n 0, 1) := dk_42 (dk_at dksX0_init_0 13 rfl rfl)
theorem dX0_init_14 : decode cX0_init 14 = .ok (.iconst (-1), 1) := dk_2 (dk_at dksX0_init_0 14 rfl rfl)
theorem dX0_init_15 : decode cX0_init 15 = .ok (.putfield 39, 3) := dk_181 0 39 (dk_at dksX0_init_0 15 rfl rfl)
theorem dX0_init_18 : decode cX0_init 18 = .ok (.aload_n 0, 1) := dk_42 (dk_at dksX0_init_0 18 rfl rfl)
theorem dX0_init_19 : decode cX0_init 19 = .ok (.sipush 400, 3) := dk_17 1 144 (dk_at dksX0_init_0 19 rfl rfl)
theorem dX0_init_22 : decode cX0_init 22 = .ok (.newarray .byte, 2) := dk_188_8 (dk_at dksX0_init_0 22 rfl rfl)
theorem dX0_init_24 : decode cX0_init 24 = .ok (.putfield 43, 3) := dk_181 0 43 (dk_at dksX0_init_1 0 rfl rfl)
theorem dX0_init_27 : decode cX0_init 27 = .ok (.aload_n 0, 1) := dk_42 (dk_at dksX0_init_1 3 rfl rfl)
theorem dX0_init_28 : decode cX0_init 28 = .ok (.sipush 128, 3) := dk_17 0 128 (dk_at dksX0_init_1 4 rfl rfl)
theorem dX0_init_31 : decode cX0_init 31 = .ok (.newarray .int, 2) := dk_188_10 (dk_at dksX0_init_1 7 rfl rfl)
theorem dX0_init_33 : decode cX0_init 33 = .ok (.putfield 47, 3) := dk_181 0 47 (dk_at dksX0_init_1 9 rfl rfl)
theorem dX0_init_36 : decode cX0_init 36 = .ok (.aload_n 0, 1) := dk_42 (dk_at dksX0_init_1 12 rfl rfl)
theorem dX0_init_37 : decode cX0_init 37 = .ok (.bipush 40, 2) := dk_16 40 (dk_at dksX0_init_1 13 rfl rfl)
theorem dX0_init_39 : decode cX0_init 39 = .ok (.iconst 4, 1) := dk_7 (dk_at dksX0_init_1 15 rfl rfl)
theorem dX0_init_40 : decode cX0_init 40 = .ok (.multianewarray 51 2, 4) := by decide +kernel
theorem dX0_init_44 : decode cX0_init 44 = .ok (.putfield 53, 3) := dk_181 0 53 (dk_at dksX0_init_1 20 rfl rfl)
theorem dX0_init_47 : decode cX0_init 47 = .ok (.aload_n 0, 1) := dk_42 (dk_at dksX0_init_1 23 rfl rfl)
theorem dX0_init_48 : decode cX0_init 48 = .ok (.new 56, 3) := dk_187 0 56 (dk_at dksX0_init_2 0 rfl rfl)
theorem dX0_init_51 : decode cX0_init 51 = .ok (.dup, 1) := dk_89 (dk_at dksX0_init_2 3 rfl rfl)
theorem dX0_init_52 : decode cX0_init 52 = .ok (.aload_n 0, 1) := dk_42 (dk_at dksX0_init_2 4 rfl rfl)
theorem dX0_init_53 : decode cX0_init 53 = .ok (.invokespecial 58, 3) := dk_183 0 58 (dk_at dksX0_init_2 5 rfl rfl)
theorem dX0_init_56 : decode cX0_init 56 = .ok (.putfield 61, 3) := dk_181 0 61 (dk_at dksX0_init_2 8 rfl rfl)
theorem dX0_init_59 : decode cX0_init 59 = .ok (.aload_n 0, 1) := dk_42 (dk_at dksX0_init_2 11 rfl rfl)
theorem dX0_init_60 : decode cX0_init 60 = .ok (.sipush 128, 3) := dk_17 0 128 (dk_at dksX0_init_2 12 rfl rfl)
theorem dX0_init_63 : decode cX0_init 63 = .ok (.newarray .boolean, 2) := dk_188_4 (dk_at dksX0_init_2 15 rfl rfl)
theorem dX0_init_65 : decode cX0_init 65 = .ok (.putfield 65, 3) := dk_181 0 65 (dk_at dksX0_init_2 17 rfl rfl)
theorem dX0_init_68 : decode cX0_init 68 = .ok (.aload_n 0, 1) := dk_42 (dk_at dksX0_init_2 20 rfl rfl)
theorem dX0_init_69 : decode cX0_init 69 = .ok (.sipush 128, 3) := dk_17 0 128 (dk_at dksX0_init_2 21 rfl rfl)
theorem dX0_init_72 : decode cX0_init 72 = .ok (.newarray .boolean, 2) := dk_188_4 (dk_at dksX0_init_3 0 rfl rfl)
theorem dX0_init_74 : decode cX0_init 74 = .ok (.putfield 69, 3) := dk_181 0 69 (dk_at dksX0_init_3 2 rfl rfl)
theorem dX0_init_77 : decode cX0_init 77 = .ok (.aload_n 0, 1) := dk_42 (dk_at dksX0_init_3 5 rfl rfl)
theorem dX0_init_78 : decode cX0_init 78 = .ok (.sipush 128, 3) := dk_17 0 128 (dk_at dksX0_init_3 6 rfl rfl)
theorem dX0_init_81 : decode cX0_init 81 = .ok (.newarray .char, 2) := dk_188_5 (dk_at dksX0_init_3 9 rfl rfl)
theorem dX0_init_83 : decode cX0_init 83 = .ok (.putfield 72, 3) := dk_181 0 72 (dk_at dksX0_init_3 11 rfl rfl)
theorem dX0_init_86 : decode cX0_init 86 = .ok (.return_, 1) := dk_177 (dk_at dksX0_init_3 14 rfl rfl)
abbrev cX0_feed : ByteArray := prog_1_method_6_code
def yX0_feed : MethodName := ⟨RX0, "feed", "(IIIII)I"⟩
def dkwX0_feed_2 : List UInt8 := [172]
abbrev dktX0_feed_2 : List UInt8 := dkwX0_feed_2 ++ []
def dkwX0_feed_1 : List UInt8 := [182, 0, 79, 42, 29, 182, 0, 79, 42, 21, 4, 182, 0, 79, 42, 21, 5, 182, 0, 79, 42, 180, 0, 76]
abbrev dktX0_feed_1 : List UInt8 := dkwX0_feed_1 ++ dktX0_feed_2
def dkwX0_feed_0 : List UInt8 := [42, 180, 0, 76, 16, 20, 96, 17, 1, 144, 164, 0, 5, 2, 172, 42, 27, 182, 0, 79, 42, 28]
abbrev dktX0_feed_0 : List UInt8 := dkwX0_feed_0 ++ dktX0_feed_1
theorem dksX0_feed_0 : cX0_feed.data.toList.drop 0 = dktX0_feed_0 := by decide +kernel
theorem dksX0_feed_1 : cX0_feed.data.toList.drop 22 = dktX0_feed_1 := dk_seg dksX0_feed_0 22 rfl rfl
theorem dksX0_feed_2 : cX0_feed.data.toList.drop 46 = dktX0_feed_2 := dk_seg dksX0_feed_1 24 rfl rfl
theorem dX0_feed_0 : decode cX0_feed 0 = .ok (.aload_n 0, 1) := dk_42 (dk_at dksX0_feed_0 0 rfl rfl)
theorem dX0_feed_1 : decode cX0_feed 1 = .ok (.getfield 76, 3) := dk_180 0 76 (dk_at dksX0_feed_0 1 rfl rfl)
theorem dX0_feed_4 : decode cX0_feed 4 = .ok (.bipush 20, 2) := dk_16 20 (dk_at dksX0_feed_0 4 rfl rfl)
theorem dX0_feed_6 : decode cX0_feed 6 = .ok (.iadd, 1) := dk_96 (dk_at dksX0_feed_0 6 rfl rfl)
theorem dX0_feed_7 : decode cX0_feed 7 = .ok (.sipush 400, 3) := dk_17 1 144 (dk_at dksX0_feed_0 7 rfl rfl)
theorem dX0_feed_10 : decode cX0_feed 10 = .ok (.if_icmp .le 5, 3) := dk_164 0 5 (dk_at dksX0_feed_0 10 rfl rfl)
theorem dX0_feed_13 : decode cX0_feed 13 = .ok (.iconst (-1), 1) := dk_2 (dk_at dksX0_feed_0 13 rfl rfl)
theorem dX0_feed_14 : decode cX0_feed 14 = .ok (.ireturn, 1) := dk_172 (dk_at dksX0_feed_0 14 rfl rfl)
theorem dX0_feed_15 : decode cX0_feed 15 = .ok (.aload_n 0, 1) := dk_42 (dk_at dksX0_feed_0 15 rfl rfl)
theorem dX0_feed_16 : decode cX0_feed 16 = .ok (.iload_n 1, 1) := dk_27 (dk_at dksX0_feed_0 16 rfl rfl)
theorem dX0_feed_17 : decode cX0_feed 17 = .ok (.invokevirtual 79, 3) := dk_182 0 79 (dk_at dksX0_feed_0 17 rfl rfl)
theorem dX0_feed_20 : decode cX0_feed 20 = .ok (.aload_n 0, 1) := dk_42 (dk_at dksX0_feed_0 20 rfl rfl)
theorem dX0_feed_21 : decode cX0_feed 21 = .ok (.iload_n 2, 1) := dk_28 (dk_at dksX0_feed_0 21 rfl rfl)
theorem dX0_feed_22 : decode cX0_feed 22 = .ok (.invokevirtual 79, 3) := dk_182 0 79 (dk_at dksX0_feed_1 0 rfl rfl)
theorem dX0_feed_25 : decode cX0_feed 25 = .ok (.aload_n 0, 1) := dk_42 (dk_at dksX0_feed_1 3 rfl rfl)
theorem dX0_feed_26 : decode cX0_feed 26 = .ok (.iload_n 3, 1) := dk_29 (dk_at dksX0_feed_1 4 rfl rfl)
theorem dX0_feed_27 : decode cX0_feed 27 = .ok (.invokevirtual 79, 3) := dk_182 0 79 (dk_at dksX0_feed_1 5 rfl rfl)
theorem dX0_feed_30 : decode cX0_feed 30 = .ok (.aload_n 0, 1) := dk_42 (dk_at dksX0_feed_1 8 rfl rfl)
theorem dX0_feed_31 : decode cX0_feed 31 = .ok (.iload 4, 2) := dk_21 4 (dk_at dksX0_feed_1 9 rfl rfl)
theorem dX0_feed_33 : decode cX0_feed 33 = .ok (.invokevirtual 79, 3) := dk_182 0 79 (dk_at dksX0_feed_1 11 rfl rfl)
theorem dX0_feed_36 : decode cX0_feed 36 = .ok (.aload_n 0, 1) := dk_42 (dk_at dksX0_feed_1 14 rfl rfl)
theorem dX0_feed_37 : decode cX0_feed 37 = .ok (.iload 5, 2) := dk_21 5 (dk_at dksX0_feed_1 15 rfl rfl)
theorem dX0_feed_39 : decode cX0_feed 39 = .ok (.invokevirtual 79, 3) := dk_182 0 79 (dk_at dksX0_feed_1 17 rfl rfl)
theorem dX0_feed_42 : decode cX0_feed 42 = .ok (.aload_n 0, 1) := dk_42 (dk_at dksX0_feed_1 20 rfl rfl)
theorem dX0_feed_43 : decode cX0_feed 43 = .ok (.getfield 76, 3) := dk_180 0 76 (dk_at dksX0_feed_1 21 rfl rfl)
theorem dX0_feed_46 : decode cX0_feed 46 = .ok (.ireturn, 1) := dk_172 (dk_at dksX0_feed_2 0 rfl rfl)
abbrev cX0_put : ByteArray := prog_1_method_5_code
def yX0_put : MethodName := ⟨RX0, "put", "(I)V"⟩
def dkwX0_put_1 : List UInt8 := [122, 145, 84, 132, 2, 248, 167, 255, 229, 177]
abbrev dktX0_put_1 : List UInt8 := dkwX0_put_1 ++ []
def dkwX0_put_0 : List UInt8 := [16, 24, 61, 28, 155, 0, 29, 42, 180, 0, 43, 42, 89, 180, 0, 76, 90, 4, 96, 181, 0, 76, 27, 28]
abbrev dktX0_put_0 : List UInt8 := dkwX0_put_0 ++ dktX0_put_1
theorem dksX0_put_0 : cX0_put.data.toList.drop 0 = dktX0_put_0 := by decide +kernel
theorem dksX0_put_1 : cX0_put.data.toList.drop 24 = dktX0_put_1 := dk_seg dksX0_put_0 24 rfl rfl
theorem dX0_put_0 : decode cX0_put 0 = .ok (.bipush 24, 2) := dk_16 24 (dk_at dksX0_put_0 0 rfl rfl)
theorem dX0_put_2 : decode cX0_put 2 = .ok (.istore_n 2, 1) := dk_61 (dk_at dksX0_put_0 2 rfl rfl)
theorem dX0_put_3 : decode cX0_put 3 = .ok (.iload_n 2, 1) := dk_28 (dk_at dksX0_put_0 3 rfl rfl)
theorem dX0_put_4 : decode cX0_put 4 = .ok (.ifCond .lt 29, 3) := dk_155 0 29 (dk_at dksX0_put_0 4 rfl rfl)
theorem dX0_put_7 : decode cX0_put 7 = .ok (.aload_n 0, 1) := dk_42 (dk_at dksX0_put_0 7 rfl rfl)
theorem dX0_put_8 : decode cX0_put 8 = .ok (.getfield 43, 3) := dk_180 0 43 (dk_at dksX0_put_0 8 rfl rfl)
theorem dX0_put_11 : decode cX0_put 11 = .ok (.aload_n 0, 1) := dk_42 (dk_at dksX0_put_0 11 rfl rfl)
theorem dX0_put_12 : decode cX0_put 12 = .ok (.dup, 1) := dk_89 (dk_at dksX0_put_0 12 rfl rfl)
theorem dX0_put_13 : decode cX0_put 13 = .ok (.getfield 76, 3) := dk_180 0 76 (dk_at dksX0_put_0 13 rfl rfl)
theorem dX0_put_16 : decode cX0_put 16 = .ok (.dup_x1, 1) := dk_90 (dk_at dksX0_put_0 16 rfl rfl)
theorem dX0_put_17 : decode cX0_put 17 = .ok (.iconst 1, 1) := dk_4 (dk_at dksX0_put_0 17 rfl rfl)
theorem dX0_put_18 : decode cX0_put 18 = .ok (.iadd, 1) := dk_96 (dk_at dksX0_put_0 18 rfl rfl)
theorem dX0_put_19 : decode cX0_put 19 = .ok (.putfield 76, 3) := dk_181 0 76 (dk_at dksX0_put_0 19 rfl rfl)
theorem dX0_put_22 : decode cX0_put 22 = .ok (.iload_n 1, 1) := dk_27 (dk_at dksX0_put_0 22 rfl rfl)
theorem dX0_put_23 : decode cX0_put 23 = .ok (.iload_n 2, 1) := dk_28 (dk_at dksX0_put_0 23 rfl rfl)
theorem dX0_put_24 : decode cX0_put 24 = .ok (.ishr, 1) := dk_122 (dk_at dksX0_put_1 0 rfl rfl)
theorem dX0_put_25 : decode cX0_put 25 = .ok (.i2b, 1) := dk_145 (dk_at dksX0_put_1 1 rfl rfl)
theorem dX0_put_26 : decode cX0_put 26 = .ok (.bastore, 1) := dk_84 (dk_at dksX0_put_1 2 rfl rfl)
theorem dX0_put_27 : decode cX0_put 27 = .ok (.iinc 2 (-8), 3) := dk_132 2 248 (dk_at dksX0_put_1 3 rfl rfl)
theorem dX0_put_30 : decode cX0_put 30 = .ok (.goto (-27), 3) := dk_167 255 229 (dk_at dksX0_put_1 6 rfl rfl)
theorem dX0_put_33 : decode cX0_put 33 = .ok (.return_, 1) := dk_177 (dk_at dksX0_put_1 9 rfl rfl)
abbrev cX0_end : ByteArray := prog_1_method_7_code
def yX0_end : MethodName := ⟨RX0, "end", "(I)Z"⟩
def dkwX0_end_0 : List UInt8 := [27, 155, 0, 11, 27, 42, 180, 0, 76, 164, 0, 5, 3, 172, 42, 27, 181, 0, 76, 4, 172]
abbrev dktX0_end_0 : List UInt8 := dkwX0_end_0 ++ []
theorem dksX0_end_0 : cX0_end.data.toList.drop 0 = dktX0_end_0 := by decide +kernel
theorem dX0_end_0 : decode cX0_end 0 = .ok (.iload_n 1, 1) := dk_27 (dk_at dksX0_end_0 0 rfl rfl)
theorem dX0_end_1 : decode cX0_end 1 = .ok (.ifCond .lt 11, 3) := dk_155 0 11 (dk_at dksX0_end_0 1 rfl rfl)
theorem dX0_end_4 : decode cX0_end 4 = .ok (.iload_n 1, 1) := dk_27 (dk_at dksX0_end_0 4 rfl rfl)
theorem dX0_end_5 : decode cX0_end 5 = .ok (.aload_n 0, 1) := dk_42 (dk_at dksX0_end_0 5 rfl rfl)
theorem dX0_end_6 : decode cX0_end 6 = .ok (.getfield 76, 3) := dk_180 0 76 (dk_at dksX0_end_0 6 rfl rfl)
theorem dX0_end_9 : decode cX0_end 9 = .ok (.if_icmp .le 5, 3) := dk_164 0 5 (dk_at dksX0_end_0 9 rfl rfl)
theorem dX0_end_12 : decode cX0_end 12 = .ok (.iconst 0, 1) := dk_3 (dk_at dksX0_end_0 12 rfl rfl)
theorem dX0_end_13 : decode cX0_end 13 = .ok (.ireturn, 1) := dk_172 (dk_at dksX0_end_0 13 rfl rfl)
theorem dX0_end_14 : decode cX0_end 14 = .ok (.aload_n 0, 1) := dk_42 (dk_at dksX0_end_0 14 rfl rfl)
theorem dX0_end_15 : decode cX0_end 15 = .ok (.iload_n 1, 1) := dk_27 (dk_at dksX0_end_0 15 rfl rfl)
theorem dX0_end_16 : decode cX0_end 16 = .ok (.putfield 76, 3) := dk_181 0 76 (dk_at dksX0_end_0 16 rfl rfl)
theorem dX0_end_19 : decode cX0_end 19 = .ok (.iconst 1, 1) := dk_4 (dk_at dksX0_end_0 19 rfl rfl)
theorem dX0_end_20 : decode cX0_end 20 = .ok (.ireturn, 1) := dk_172 (dk_at dksX0_end_0 20 rfl rfl)
abbrev cX0_act : ByteArray := prog_1_method_13_code
def yX0_act : MethodName := ⟨RX0, "act", "()I"⟩
def dkwX0_act_5 : List UInt8 := [100, 172, 77, 42, 44, 180, 0, 218, 181, 0, 197, 42, 44, 180, 0, 219, 181, 0, 39, 2, 172]
abbrev dktX0_act_5 : List UInt8 := dkwX0_act_5 ++ []
def dkwX0_act_4 : List UInt8 := [180, 0, 35, 42, 180, 0, 83, 44, 83, 42, 89, 180, 0, 83, 4, 96, 181, 0, 83, 42, 180, 0, 83, 4]
abbrev dktX0_act_4 : List UInt8 := dkwX0_act_4 ++ dktX0_act_5
def dkwX0_act_3 : List UInt8 := [180, 0, 208, 153, 0, 19, 42, 180, 0, 61, 45, 180, 0, 208, 45, 180, 0, 211, 182, 0, 212, 191, 42]
abbrev dktX0_act_3 : List UInt8 := dkwX0_act_3 ++ dktX0_act_4
def dkwX0_act_2 : List UInt8 := [45, 180, 0, 208, 154, 0, 18, 42, 180, 0, 83, 16, 16, 160, 0, 9, 45, 8, 3, 182, 0, 97, 45]
abbrev dktX0_act_2 : List UInt8 := dkwX0_act_2 ++ dktX0_act_3
def dkwX0_act_1 : List UInt8 := [42, 180, 0, 43, 27, 182, 0, 200, 77, 187, 0, 98, 89, 42, 183, 0, 204, 78, 42, 44, 45, 182, 0, 205]
abbrev dktX0_act_1 : List UInt8 := dkwX0_act_1 ++ dktX0_act_2
def dkwX0_act_0 : List UInt8 := [42, 180, 0, 76, 60, 42, 3, 181, 0, 76, 42, 3, 181, 0, 197, 42, 2, 181, 0, 39, 42, 180, 0, 61]
abbrev dktX0_act_0 : List UInt8 := dkwX0_act_0 ++ dktX0_act_1
theorem dksX0_act_0 : cX0_act.data.toList.drop 0 = dktX0_act_0 := by decide +kernel
theorem dksX0_act_1 : cX0_act.data.toList.drop 24 = dktX0_act_1 := dk_seg dksX0_act_0 24 rfl rfl
theorem dksX0_act_2 : cX0_act.data.toList.drop 48 = dktX0_act_2 := dk_seg dksX0_act_1 24 rfl rfl
theorem dksX0_act_3 : cX0_act.data.toList.drop 71 = dktX0_act_3 := dk_seg dksX0_act_2 23 rfl rfl
theorem dksX0_act_4 : cX0_act.data.toList.drop 94 = dktX0_act_4 := dk_seg dksX0_act_3 23 rfl rfl
theorem dksX0_act_5 : cX0_act.data.toList.drop 118 = dktX0_act_5 := dk_seg dksX0_act_4 24 rfl rfl
theorem dX0_act_0 : decode cX0_act 0 = .ok (.aload_n 0, 1) := dk_42 (dk_at dksX0_act_0 0 rfl rfl)
theorem dX0_act_1 : decode cX0_act 1 = .ok (.getfield 76, 3) := dk_180 0 76 (dk_at dksX0_act_0 1 rfl rfl)
theorem dX0_act_4 : decode cX0_act 4 = .ok (.istore_n 1, 1) := dk_60 (dk_at dksX0_act_0 4 rfl rfl)
theorem dX0_act_5 : decode cX0_act 5 = .ok (.aload_n 0, 1) := dk_42 (dk_at dksX0_act_0 5 rfl rfl)
theorem dX0_act_6 : decode cX0_act 6 = .ok (.iconst 0, 1) := dk_3 (dk_at dksX0_act_0 6 rfl rfl)
theorem dX0_act_7 : decode cX0_act 7 = .ok (.putfield 76, 3) := dk_181 0 76 (dk_at dksX0_act_0 7 rfl rfl)
theorem dX0_act_10 : decode cX0_act 10 = .ok (.aload_n 0, 1) := dk_42 (dk_at dksX0_act_0 10 rfl rfl)
theorem dX0_act_11 : decode cX0_act 11 = .ok (.iconst 0, 1) := dk_3 (dk_at dksX0_act_0 11 rfl rfl)
theorem dX0_act_12 : decode cX0_act 12 = .ok (.putfield 197, 3) := dk_181 0 197 (dk_at dksX0_act_0 12 rfl rfl)
theorem dX0_act_15 : decode cX0_act 15 = .ok (.aload_n 0, 1) := dk_42 (dk_at dksX0_act_0 15 rfl rfl)
theorem dX0_act_16 : decode cX0_act 16 = .ok (.iconst (-1), 1) := dk_2 (dk_at dksX0_act_0 16 rfl rfl)
theorem dX0_act_17 : decode cX0_act 17 = .ok (.putfield 39, 3) := dk_181 0 39 (dk_at dksX0_act_0 17 rfl rfl)
theorem dX0_act_20 : decode cX0_act 20 = .ok (.aload_n 0, 1) := dk_42 (dk_at dksX0_act_0 20 rfl rfl)
theorem dX0_act_21 : decode cX0_act 21 = .ok (.getfield 61, 3) := dk_180 0 61 (dk_at dksX0_act_0 21 rfl rfl)
theorem dX0_act_24 : decode cX0_act 24 = .ok (.aload_n 0, 1) := dk_42 (dk_at dksX0_act_1 0 rfl rfl)
theorem dX0_act_25 : decode cX0_act 25 = .ok (.getfield 43, 3) := dk_180 0 43 (dk_at dksX0_act_1 1 rfl rfl)
theorem dX0_act_28 : decode cX0_act 28 = .ok (.iload_n 1, 1) := dk_27 (dk_at dksX0_act_1 4 rfl rfl)
theorem dX0_act_29 : decode cX0_act 29 = .ok (.invokevirtual 200, 3) := dk_182 0 200 (dk_at dksX0_act_1 5 rfl rfl)
theorem dX0_act_32 : decode cX0_act 32 = .ok (.astore_n 2, 1) := dk_77 (dk_at dksX0_act_1 8 rfl rfl)
theorem dX0_act_33 : decode cX0_act 33 = .ok (.new 98, 3) := dk_187 0 98 (dk_at dksX0_act_1 9 rfl rfl)
theorem dX0_act_36 : decode cX0_act 36 = .ok (.dup, 1) := dk_89 (dk_at dksX0_act_1 12 rfl rfl)
theorem dX0_act_37 : decode cX0_act 37 = .ok (.aload_n 0, 1) := dk_42 (dk_at dksX0_act_1 13 rfl rfl)
theorem dX0_act_38 : decode cX0_act 38 = .ok (.invokespecial 204, 3) := dk_183 0 204 (dk_at dksX0_act_1 14 rfl rfl)
theorem dX0_act_41 : decode cX0_act 41 = .ok (.astore_n 3, 1) := dk_78 (dk_at dksX0_act_1 17 rfl rfl)
theorem dX0_act_42 : decode cX0_act 42 = .ok (.aload_n 0, 1) := dk_42 (dk_at dksX0_act_1 18 rfl rfl)
theorem dX0_act_43 : decode cX0_act 43 = .ok (.aload_n 2, 1) := dk_44 (dk_at dksX0_act_1 19 rfl rfl)
theorem dX0_act_44 : decode cX0_act 44 = .ok (.aload_n 3, 1) := dk_45 (dk_at dksX0_act_1 20 rfl rfl)
theorem dX0_act_45 : decode cX0_act 45 = .ok (.invokevirtual 205, 3) := dk_182 0 205 (dk_at dksX0_act_1 21 rfl rfl)
theorem dX0_act_48 : decode cX0_act 48 = .ok (.aload_n 3, 1) := dk_45 (dk_at dksX0_act_2 0 rfl rfl)
theorem dX0_act_49 : decode cX0_act 49 = .ok (.getfield 208, 3) := dk_180 0 208 (dk_at dksX0_act_2 1 rfl rfl)
theorem dX0_act_52 : decode cX0_act 52 = .ok (.ifCond .ne 18, 3) := dk_154 0 18 (dk_at dksX0_act_2 4 rfl rfl)
theorem dX0_act_55 : decode cX0_act 55 = .ok (.aload_n 0, 1) := dk_42 (dk_at dksX0_act_2 7 rfl rfl)
theorem dX0_act_56 : decode cX0_act 56 = .ok (.getfield 83, 3) := dk_180 0 83 (dk_at dksX0_act_2 8 rfl rfl)
theorem dX0_act_59 : decode cX0_act 59 = .ok (.bipush 16, 2) := dk_16 16 (dk_at dksX0_act_2 11 rfl rfl)
theorem dX0_act_61 : decode cX0_act 61 = .ok (.if_icmp .ne 9, 3) := dk_160 0 9 (dk_at dksX0_act_2 13 rfl rfl)
theorem dX0_act_64 : decode cX0_act 64 = .ok (.aload_n 3, 1) := dk_45 (dk_at dksX0_act_2 16 rfl rfl)
theorem dX0_act_65 : decode cX0_act 65 = .ok (.iconst 5, 1) := dk_8 (dk_at dksX0_act_2 17 rfl rfl)
theorem dX0_act_66 : decode cX0_act 66 = .ok (.iconst 0, 1) := dk_3 (dk_at dksX0_act_2 18 rfl rfl)
theorem dX0_act_67 : decode cX0_act 67 = .ok (.invokevirtual 97, 3) := dk_182 0 97 (dk_at dksX0_act_2 19 rfl rfl)
theorem dX0_act_70 : decode cX0_act 70 = .ok (.aload_n 3, 1) := dk_45 (dk_at dksX0_act_2 22 rfl rfl)
theorem dX0_act_71 : decode cX0_act 71 = .ok (.getfield 208, 3) := dk_180 0 208 (dk_at dksX0_act_3 0 rfl rfl)
theorem dX0_act_74 : decode cX0_act 74 = .ok (.ifCond .eq 19, 3) := dk_153 0 19 (dk_at dksX0_act_3 3 rfl rfl)
theorem dX0_act_77 : decode cX0_act 77 = .ok (.aload_n 0, 1) := dk_42 (dk_at dksX0_act_3 6 rfl rfl)
theorem dX0_act_78 : decode cX0_act 78 = .ok (.getfield 61, 3) := dk_180 0 61 (dk_at dksX0_act_3 7 rfl rfl)
theorem dX0_act_81 : decode cX0_act 81 = .ok (.aload_n 3, 1) := dk_45 (dk_at dksX0_act_3 10 rfl rfl)
theorem dX0_act_82 : decode cX0_act 82 = .ok (.getfield 208, 3) := dk_180 0 208 (dk_at dksX0_act_3 11 rfl rfl)
theorem dX0_act_85 : decode cX0_act 85 = .ok (.aload_n 3, 1) := dk_45 (dk_at dksX0_act_3 14 rfl rfl)
theorem dX0_act_86 : decode cX0_act 86 = .ok (.getfield 211, 3) := dk_180 0 211 (dk_at dksX0_act_3 15 rfl rfl)
theorem dX0_act_89 : decode cX0_act 89 = .ok (.invokevirtual 212, 3) := dk_182 0 212 (dk_at dksX0_act_3 18 rfl rfl)
theorem dX0_act_92 : decode cX0_act 92 = .ok (.athrow, 1) := dk_191 (dk_at dksX0_act_3 21 rfl rfl)
theorem dX0_act_93 : decode cX0_act 93 = .ok (.aload_n 0, 1) := dk_42 (dk_at dksX0_act_3 22 rfl rfl)
theorem dX0_act_94 : decode cX0_act 94 = .ok (.getfield 35, 3) := dk_180 0 35 (dk_at dksX0_act_4 0 rfl rfl)
theorem dX0_act_97 : decode cX0_act 97 = .ok (.aload_n 0, 1) := dk_42 (dk_at dksX0_act_4 3 rfl rfl)
theorem dX0_act_98 : decode cX0_act 98 = .ok (.getfield 83, 3) := dk_180 0 83 (dk_at dksX0_act_4 4 rfl rfl)
theorem dX0_act_101 : decode cX0_act 101 = .ok (.aload_n 2, 1) := dk_44 (dk_at dksX0_act_4 7 rfl rfl)
theorem dX0_act_102 : decode cX0_act 102 = .ok (.aastore, 1) := dk_83 (dk_at dksX0_act_4 8 rfl rfl)
theorem dX0_act_103 : decode cX0_act 103 = .ok (.aload_n 0, 1) := dk_42 (dk_at dksX0_act_4 9 rfl rfl)
theorem dX0_act_104 : decode cX0_act 104 = .ok (.dup, 1) := dk_89 (dk_at dksX0_act_4 10 rfl rfl)
theorem dX0_act_105 : decode cX0_act 105 = .ok (.getfield 83, 3) := dk_180 0 83 (dk_at dksX0_act_4 11 rfl rfl)
theorem dX0_act_108 : decode cX0_act 108 = .ok (.iconst 1, 1) := dk_4 (dk_at dksX0_act_4 14 rfl rfl)
theorem dX0_act_109 : decode cX0_act 109 = .ok (.iadd, 1) := dk_96 (dk_at dksX0_act_4 15 rfl rfl)
theorem dX0_act_110 : decode cX0_act 110 = .ok (.putfield 83, 3) := dk_181 0 83 (dk_at dksX0_act_4 16 rfl rfl)
theorem dX0_act_113 : decode cX0_act 113 = .ok (.aload_n 0, 1) := dk_42 (dk_at dksX0_act_4 19 rfl rfl)
theorem dX0_act_114 : decode cX0_act 114 = .ok (.getfield 83, 3) := dk_180 0 83 (dk_at dksX0_act_4 20 rfl rfl)
theorem dX0_act_117 : decode cX0_act 117 = .ok (.iconst 1, 1) := dk_4 (dk_at dksX0_act_4 23 rfl rfl)
theorem dX0_act_118 : decode cX0_act 118 = .ok (.isub, 1) := dk_100 (dk_at dksX0_act_5 0 rfl rfl)
theorem dX0_act_119 : decode cX0_act 119 = .ok (.ireturn, 1) := dk_172 (dk_at dksX0_act_5 1 rfl rfl)
theorem dX0_act_120 : decode cX0_act 120 = .ok (.astore_n 2, 1) := dk_77 (dk_at dksX0_act_5 2 rfl rfl)
theorem dX0_act_121 : decode cX0_act 121 = .ok (.aload_n 0, 1) := dk_42 (dk_at dksX0_act_5 3 rfl rfl)
theorem dX0_act_122 : decode cX0_act 122 = .ok (.aload_n 2, 1) := dk_44 (dk_at dksX0_act_5 4 rfl rfl)
theorem dX0_act_123 : decode cX0_act 123 = .ok (.getfield 218, 3) := dk_180 0 218 (dk_at dksX0_act_5 5 rfl rfl)
theorem dX0_act_126 : decode cX0_act 126 = .ok (.putfield 197, 3) := dk_181 0 197 (dk_at dksX0_act_5 8 rfl rfl)
theorem dX0_act_129 : decode cX0_act 129 = .ok (.aload_n 0, 1) := dk_42 (dk_at dksX0_act_5 11 rfl rfl)
theorem dX0_act_130 : decode cX0_act 130 = .ok (.aload_n 2, 1) := dk_44 (dk_at dksX0_act_5 12 rfl rfl)
theorem dX0_act_131 : decode cX0_act 131 = .ok (.getfield 219, 3) := dk_180 0 219 (dk_at dksX0_act_5 13 rfl rfl)
theorem dX0_act_134 : decode cX0_act 134 = .ok (.putfield 39, 3) := dk_181 0 39 (dk_at dksX0_act_5 16 rfl rfl)
theorem dX0_act_137 : decode cX0_act 137 = .ok (.iconst (-1), 1) := dk_2 (dk_at dksX0_act_5 19 rfl rfl)
theorem dX0_act_138 : decode cX0_act 138 = .ok (.ireturn, 1) := dk_172 (dk_at dksX0_act_5 20 rfl rfl)
abbrev cX0_isLetter : ByteArray := prog_1_method_1_code
def yX0_isLetter : MethodName := ⟨RX0, "isLetter", "(I)Z"⟩
def dkwX0_isLetter_0 : List UInt8 := [26, 16, 97, 161, 0, 13, 26, 16, 122, 163, 0, 7, 4, 167, 0, 4, 3, 172]
abbrev dktX0_isLetter_0 : List UInt8 := dkwX0_isLetter_0 ++ []
theorem dksX0_isLetter_0 : cX0_isLetter.data.toList.drop 0 = dktX0_isLetter_0 := by decide +kernel
theorem dX0_isLetter_0 : decode cX0_isLetter 0 = .ok (.iload_n 0, 1) := dk_26 (dk_at dksX0_isLetter_0 0 rfl rfl)
theorem dX0_isLetter_1 : decode cX0_isLetter 1 = .ok (.bipush 97, 2) := dk_16 97 (dk_at dksX0_isLetter_0 1 rfl rfl)
theorem dX0_isLetter_3 : decode cX0_isLetter 3 = .ok (.if_icmp .lt 13, 3) := dk_161 0 13 (dk_at dksX0_isLetter_0 3 rfl rfl)
theorem dX0_isLetter_6 : decode cX0_isLetter 6 = .ok (.iload_n 0, 1) := dk_26 (dk_at dksX0_isLetter_0 6 rfl rfl)
theorem dX0_isLetter_7 : decode cX0_isLetter 7 = .ok (.bipush 122, 2) := dk_16 122 (dk_at dksX0_isLetter_0 7 rfl rfl)
theorem dX0_isLetter_9 : decode cX0_isLetter 9 = .ok (.if_icmp .gt 7, 3) := dk_163 0 7 (dk_at dksX0_isLetter_0 9 rfl rfl)
theorem dX0_isLetter_12 : decode cX0_isLetter 12 = .ok (.iconst 1, 1) := dk_4 (dk_at dksX0_isLetter_0 12 rfl rfl)
theorem dX0_isLetter_13 : decode cX0_isLetter 13 = .ok (.goto 4, 3) := dk_167 0 4 (dk_at dksX0_isLetter_0 13 rfl rfl)
theorem dX0_isLetter_16 : decode cX0_isLetter 16 = .ok (.iconst 0, 1) := dk_3 (dk_at dksX0_isLetter_0 16 rfl rfl)
theorem dX0_isLetter_17 : decode cX0_isLetter 17 = .ok (.ireturn, 1) := dk_172 (dk_at dksX0_isLetter_0 17 rfl rfl)
abbrev cX0_isWord : ByteArray := prog_1_method_3_code
def yX0_isWord : MethodName := ⟨RX0, "isWord", "(Ljava/lang/String;)Z"⟩
def dkwX0_isWord_8 : List UInt8 := [4, 172, 3, 172]
abbrev dktX0_isWord_8 : List UInt8 := dkwX0_isWord_8 ++ []
def dkwX0_isWord_7 : List UInt8 := [170, 0, 0, 0, 0, 0, 45, 0, 0, 0, 0, 0, 0, 0, 6, 0, 0, 0, 43, 0, 0, 0, 43, 0, 0, 0, 43, 0, 0, 0, 43, 0, 0, 0, 43, 0, 0, 0, 43, 0, 0, 0, 43]
abbrev dktX0_isWord_7 : List UInt8 := dkwX0_isWord_7 ++ dktX0_isWord_8
def dkwX0_isWord_6 : List UInt8 := [61, 28]
abbrev dktX0_isWord_6 : List UInt8 := dkwX0_isWord_6 ++ dktX0_isWord_7
def dkwX0_isWord_5 : List UInt8 := [18, 23, 182, 0, 11, 153, 0, 20, 8, 61, 167, 0, 15, 43, 18, 25, 182, 0, 11, 153, 0, 6, 16, 6]
abbrev dktX0_isWord_5 : List UInt8 := dkwX0_isWord_5 ++ dktX0_isWord_6
def dkwX0_isWord_4 : List UInt8 := [153, 0, 48, 6, 61, 167, 0, 43, 43, 18, 21, 182, 0, 11, 153, 0, 34, 7, 61, 167, 0, 29, 43]
abbrev dktX0_isWord_4 : List UInt8 := dkwX0_isWord_4 ++ dktX0_isWord_5
def dkwX0_isWord_3 : List UInt8 := [61, 167, 0, 71, 43, 18, 17, 182, 0, 11, 153, 0, 62, 5, 61, 167, 0, 57, 43, 18, 19, 182, 0, 11]
abbrev dktX0_isWord_3 : List UInt8 := dkwX0_isWord_3 ++ dktX0_isWord_4
def dkwX0_isWord_2 : List UInt8 := [43, 18, 9, 182, 0, 11, 153, 0, 90, 3, 61, 167, 0, 85, 43, 18, 15, 182, 0, 11, 153, 0, 76, 4]
abbrev dktX0_isWord_2 : List UInt8 := dkwX0_isWord_2 ++ dktX0_isWord_3
def dkwX0_isWord_1 : List UInt8 := [171, 0, 0, 0, 0, 0, 0, 164, 0, 0, 0, 7, 0, 1, 162, 21, 0, 0, 0, 138, 0, 1, 190, 49, 0, 0, 0, 152, 0, 46, 175, 117, 0, 0, 0, 82, 0, 48, 23, 170, 0, 0, 0, 110, 0, 55, 58, 165, 0, 0, 0, 68, 6, 144, 59, 206, 0, 0, 0, 96, 6, 189, 188, 231, 0, 0, 0, 124]
abbrev dktX0_isWord_1 : List UInt8 := dkwX0_isWord_1 ++ dktX0_isWord_2
def dkwX0_isWord_0 : List UInt8 := [42, 76, 2, 61, 43, 182, 0, 3]
abbrev dktX0_isWord_0 : List UInt8 := dkwX0_isWord_0 ++ dktX0_isWord_1
theorem dksX0_isWord_0 : cX0_isWord.data.toList.drop 0 = dktX0_isWord_0 := by decide +kernel
theorem dksX0_isWord_1 : cX0_isWord.data.toList.drop 8 = dktX0_isWord_1 := dk_seg dksX0_isWord_0 8 rfl rfl
theorem dksX0_isWord_2 : cX0_isWord.data.toList.drop 76 = dktX0_isWord_2 := dk_seg dksX0_isWord_1 68 rfl rfl
theorem dksX0_isWord_3 : cX0_isWord.data.toList.drop 100 = dktX0_isWord_3 := dk_seg dksX0_isWord_2 24 rfl rfl
theorem dksX0_isWord_4 : cX0_isWord.data.toList.drop 124 = dktX0_isWord_4 := dk_seg dksX0_isWord_3 24 rfl rfl
theorem dksX0_isWord_5 : cX0_isWord.data.toList.drop 147 = dktX0_isWord_5 := dk_seg dksX0_isWord_4 23 rfl rfl
theorem dksX0_isWord_6 : cX0_isWord.data.toList.drop 171 = dktX0_isWord_6 := dk_seg dksX0_isWord_5 24 rfl rfl
theorem dksX0_isWord_7 : cX0_isWord.data.toList.drop 173 = dktX0_isWord_7 := dk_seg dksX0_isWord_6 2 rfl rfl
theorem dksX0_isWord_8 : cX0_isWord.data.toList.drop 216 = dktX0_isWord_8 := dk_seg dksX0_isWord_7 43 rfl rfl
theorem dX0_isWord_0 : decode cX0_isWord 0 = .ok (.aload_n 0, 1) := dk_42 (dk_at dksX0_isWord_0 0 rfl rfl)
theorem dX0_isWord_1 : decode cX0_isWord 1 = .ok (.astore_n 1, 1) := dk_76 (dk_at dksX0_isWord_0 1 rfl rfl)
theorem dX0_isWord_2 : decode cX0_isWord 2 = .ok (.iconst (-1), 1) := dk_2 (dk_at dksX0_isWord_0 2 rfl rfl)
theorem dX0_isWord_3 : decode cX0_isWord 3 = .ok (.istore_n 2, 1) := dk_61 (dk_at dksX0_isWord_0 3 rfl rfl)
theorem dX0_isWord_4 : decode cX0_isWord 4 = .ok (.aload_n 1, 1) := dk_43 (dk_at dksX0_isWord_0 4 rfl rfl)
theorem dX0_isWord_5 : decode cX0_isWord 5 = .ok (.invokevirtual 3, 3) := dk_182 0 3 (dk_at dksX0_isWord_0 5 rfl rfl)
theorem dX0_isWord_8 : decode cX0_isWord 8 = .ok (.lookupswitch 164 #[(107029, 138), (114225, 152), (3059573, 82), (3151786, 110), (3619493, 68), (110115790, 96), (113097959, 124)], 68) := by decide +kernel
theorem dX0_isWord_76 : decode cX0_isWord 76 = .ok (.aload_n 1, 1) := dk_43 (dk_at dksX0_isWord_2 0 rfl rfl)
theorem dX0_isWord_77 : decode cX0_isWord 77 = .ok (.ldc 9, 2) := dk_18 9 (dk_at dksX0_isWord_2 1 rfl rfl)
theorem dX0_isWord_79 : decode cX0_isWord 79 = .ok (.invokevirtual 11, 3) := dk_182 0 11 (dk_at dksX0_isWord_2 3 rfl rfl)
theorem dX0_isWord_82 : decode cX0_isWord 82 = .ok (.ifCond .eq 90, 3) := dk_153 0 90 (dk_at dksX0_isWord_2 6 rfl rfl)
theorem dX0_isWord_85 : decode cX0_isWord 85 = .ok (.iconst 0, 1) := dk_3 (dk_at dksX0_isWord_2 9 rfl rfl)
theorem dX0_isWord_86 : decode cX0_isWord 86 = .ok (.istore_n 2, 1) := dk_61 (dk_at dksX0_isWord_2 10 rfl rfl)
theorem dX0_isWord_87 : decode cX0_isWord 87 = .ok (.goto 85, 3) := dk_167 0 85 (dk_at dksX0_isWord_2 11 rfl rfl)
theorem dX0_isWord_90 : decode cX0_isWord 90 = .ok (.aload_n 1, 1) := dk_43 (dk_at dksX0_isWord_2 14 rfl rfl)
theorem dX0_isWord_91 : decode cX0_isWord 91 = .ok (.ldc 15, 2) := dk_18 15 (dk_at dksX0_isWord_2 15 rfl rfl)
theorem dX0_isWord_93 : decode cX0_isWord 93 = .ok (.invokevirtual 11, 3) := dk_182 0 11 (dk_at dksX0_isWord_2 17 rfl rfl)
theorem dX0_isWord_96 : decode cX0_isWord 96 = .ok (.ifCond .eq 76, 3) := dk_153 0 76 (dk_at dksX0_isWord_2 20 rfl rfl)
theorem dX0_isWord_99 : decode cX0_isWord 99 = .ok (.iconst 1, 1) := dk_4 (dk_at dksX0_isWord_2 23 rfl rfl)
theorem dX0_isWord_100 : decode cX0_isWord 100 = .ok (.istore_n 2, 1) := dk_61 (dk_at dksX0_isWord_3 0 rfl rfl)
theorem dX0_isWord_101 : decode cX0_isWord 101 = .ok (.goto 71, 3) := dk_167 0 71 (dk_at dksX0_isWord_3 1 rfl rfl)
theorem dX0_isWord_104 : decode cX0_isWord 104 = .ok (.aload_n 1, 1) := dk_43 (dk_at dksX0_isWord_3 4 rfl rfl)
theorem dX0_isWord_105 : decode cX0_isWord 105 = .ok (.ldc 17, 2) := dk_18 17 (dk_at dksX0_isWord_3 5 rfl rfl)
theorem dX0_isWord_107 : decode cX0_isWord 107 = .ok (.invokevirtual 11, 3) := dk_182 0 11 (dk_at dksX0_isWord_3 7 rfl rfl)
theorem dX0_isWord_110 : decode cX0_isWord 110 = .ok (.ifCond .eq 62, 3) := dk_153 0 62 (dk_at dksX0_isWord_3 10 rfl rfl)
theorem dX0_isWord_113 : decode cX0_isWord 113 = .ok (.iconst 2, 1) := dk_5 (dk_at dksX0_isWord_3 13 rfl rfl)
theorem dX0_isWord_114 : decode cX0_isWord 114 = .ok (.istore_n 2, 1) := dk_61 (dk_at dksX0_isWord_3 14 rfl rfl)
theorem dX0_isWord_115 : decode cX0_isWord 115 = .ok (.goto 57, 3) := dk_167 0 57 (dk_at dksX0_isWord_3 15 rfl rfl)
theorem dX0_isWord_118 : decode cX0_isWord 118 = .ok (.aload_n 1, 1) := dk_43 (dk_at dksX0_isWord_3 18 rfl rfl)
theorem dX0_isWord_119 : decode cX0_isWord 119 = .ok (.ldc 19, 2) := dk_18 19 (dk_at dksX0_isWord_3 19 rfl rfl)
theorem dX0_isWord_121 : decode cX0_isWord 121 = .ok (.invokevirtual 11, 3) := dk_182 0 11 (dk_at dksX0_isWord_3 21 rfl rfl)
theorem dX0_isWord_124 : decode cX0_isWord 124 = .ok (.ifCond .eq 48, 3) := dk_153 0 48 (dk_at dksX0_isWord_4 0 rfl rfl)
theorem dX0_isWord_127 : decode cX0_isWord 127 = .ok (.iconst 3, 1) := dk_6 (dk_at dksX0_isWord_4 3 rfl rfl)
theorem dX0_isWord_128 : decode cX0_isWord 128 = .ok (.istore_n 2, 1) := dk_61 (dk_at dksX0_isWord_4 4 rfl rfl)
theorem dX0_isWord_129 : decode cX0_isWord 129 = .ok (.goto 43, 3) := dk_167 0 43 (dk_at dksX0_isWord_4 5 rfl rfl)
theorem dX0_isWord_132 : decode cX0_isWord 132 = .ok (.aload_n 1, 1) := dk_43 (dk_at dksX0_isWord_4 8 rfl rfl)
theorem dX0_isWord_133 : decode cX0_isWord 133 = .ok (.ldc 21, 2) := dk_18 21 (dk_at dksX0_isWord_4 9 rfl rfl)
theorem dX0_isWord_135 : decode cX0_isWord 135 = .ok (.invokevirtual 11, 3) := dk_182 0 11 (dk_at dksX0_isWord_4 11 rfl rfl)
theorem dX0_isWord_138 : decode cX0_isWord 138 = .ok (.ifCond .eq 34, 3) := dk_153 0 34 (dk_at dksX0_isWord_4 14 rfl rfl)
theorem dX0_isWord_141 : decode cX0_isWord 141 = .ok (.iconst 4, 1) := dk_7 (dk_at dksX0_isWord_4 17 rfl rfl)
theorem dX0_isWord_142 : decode cX0_isWord 142 = .ok (.istore_n 2, 1) := dk_61 (dk_at dksX0_isWord_4 18 rfl rfl)
theorem dX0_isWord_143 : decode cX0_isWord 143 = .ok (.goto 29, 3) := dk_167 0 29 (dk_at dksX0_isWord_4 19 rfl rfl)
theorem dX0_isWord_146 : decode cX0_isWord 146 = .ok (.aload_n 1, 1) := dk_43 (dk_at dksX0_isWord_4 22 rfl rfl)
theorem dX0_isWord_147 : decode cX0_isWord 147 = .ok (.ldc 23, 2) := dk_18 23 (dk_at dksX0_isWord_5 0 rfl rfl)
theorem dX0_isWord_149 : decode cX0_isWord 149 = .ok (.invokevirtual 11, 3) := dk_182 0 11 (dk_at dksX0_isWord_5 2 rfl rfl)
theorem dX0_isWord_152 : decode cX0_isWord 152 = .ok (.ifCond .eq 20, 3) := dk_153 0 20 (dk_at dksX0_isWord_5 5 rfl rfl)
theorem dX0_isWord_155 : decode cX0_isWord 155 = .ok (.iconst 5, 1) := dk_8 (dk_at dksX0_isWord_5 8 rfl rfl)
theorem dX0_isWord_156 : decode cX0_isWord 156 = .ok (.istore_n 2, 1) := dk_61 (dk_at dksX0_isWord_5 9 rfl rfl)
theorem dX0_isWord_157 : decode cX0_isWord 157 = .ok (.goto 15, 3) := dk_167 0 15 (dk_at dksX0_isWord_5 10 rfl rfl)
theorem dX0_isWord_160 : decode cX0_isWord 160 = .ok (.aload_n 1, 1) := dk_43 (dk_at dksX0_isWord_5 13 rfl rfl)
theorem dX0_isWord_161 : decode cX0_isWord 161 = .ok (.ldc 25, 2) := dk_18 25 (dk_at dksX0_isWord_5 14 rfl rfl)
theorem dX0_isWord_163 : decode cX0_isWord 163 = .ok (.invokevirtual 11, 3) := dk_182 0 11 (dk_at dksX0_isWord_5 16 rfl rfl)
theorem dX0_isWord_166 : decode cX0_isWord 166 = .ok (.ifCond .eq 6, 3) := dk_153 0 6 (dk_at dksX0_isWord_5 19 rfl rfl)
theorem dX0_isWord_169 : decode cX0_isWord 169 = .ok (.bipush 6, 2) := dk_16 6 (dk_at dksX0_isWord_5 22 rfl rfl)
theorem dX0_isWord_171 : decode cX0_isWord 171 = .ok (.istore_n 2, 1) := dk_61 (dk_at dksX0_isWord_6 0 rfl rfl)
theorem dX0_isWord_172 : decode cX0_isWord 172 = .ok (.iload_n 2, 1) := dk_28 (dk_at dksX0_isWord_6 1 rfl rfl)
theorem dX0_isWord_173 : decode cX0_isWord 173 = .ok (.tableswitch 45 0 6 #[43, 43, 43, 43, 43, 43, 43], 43) := by decide +kernel
theorem dX0_isWord_216 : decode cX0_isWord 216 = .ok (.iconst 1, 1) := dk_4 (dk_at dksX0_isWord_8 0 rfl rfl)
theorem dX0_isWord_217 : decode cX0_isWord 217 = .ok (.ireturn, 1) := dk_172 (dk_at dksX0_isWord_8 1 rfl rfl)
theorem dX0_isWord_218 : decode cX0_isWord 218 = .ok (.iconst 0, 1) := dk_3 (dk_at dksX0_isWord_8 2 rfl rfl)
theorem dX0_isWord_219 : decode cX0_isWord 219 = .ok (.ireturn, 1) := dk_172 (dk_at dksX0_isWord_8 3 rfl rfl)
abbrev cX0_isDigit : ByteArray := prog_1_method_2_code
def yX0_isDigit : MethodName := ⟨RX0, "isDigit", "(I)Z"⟩
def dkwX0_isDigit_0 : List UInt8 := [26, 16, 48, 161, 0, 13, 26, 16, 57, 163, 0, 7, 4, 167, 0, 4, 3, 172]
abbrev dktX0_isDigit_0 : List UInt8 := dkwX0_isDigit_0 ++ []
theorem dksX0_isDigit_0 : cX0_isDigit.data.toList.drop 0 = dktX0_isDigit_0 := by decide +kernel
theorem dX0_isDigit_0 : decode cX0_isDigit 0 = .ok (.iload_n 0, 1) := dk_26 (dk_at dksX0_isDigit_0 0 rfl rfl)
theorem dX0_isDigit_1 : decode cX0_isDigit 1 = .ok (.bipush 48, 2) := dk_16 48 (dk_at dksX0_isDigit_0 1 rfl rfl)
theorem dX0_isDigit_3 : decode cX0_isDigit 3 = .ok (.if_icmp .lt 13, 3) := dk_161 0 13 (dk_at dksX0_isDigit_0 3 rfl rfl)
theorem dX0_isDigit_6 : decode cX0_isDigit 6 = .ok (.iload_n 0, 1) := dk_26 (dk_at dksX0_isDigit_0 6 rfl rfl)
theorem dX0_isDigit_7 : decode cX0_isDigit 7 = .ok (.bipush 57, 2) := dk_16 57 (dk_at dksX0_isDigit_0 7 rfl rfl)
theorem dX0_isDigit_9 : decode cX0_isDigit 9 = .ok (.if_icmp .gt 7, 3) := dk_163 0 7 (dk_at dksX0_isDigit_0 9 rfl rfl)
theorem dX0_isDigit_12 : decode cX0_isDigit 12 = .ok (.iconst 1, 1) := dk_4 (dk_at dksX0_isDigit_0 12 rfl rfl)
theorem dX0_isDigit_13 : decode cX0_isDigit 13 = .ok (.goto 4, 3) := dk_167 0 4 (dk_at dksX0_isDigit_0 13 rfl rfl)
theorem dX0_isDigit_16 : decode cX0_isDigit 16 = .ok (.iconst 0, 1) := dk_3 (dk_at dksX0_isDigit_0 16 rfl rfl)
theorem dX0_isDigit_17 : decode cX0_isDigit 17 = .ok (.ireturn, 1) := dk_172 (dk_at dksX0_isDigit_0 17 rfl rfl)
abbrev cX0_finds : ByteArray := prog_1_method_10_code
def yX0_finds : MethodName := ⟨RX0, "finds", "(LTableCatalog$Table;LTableCatalog$Wrongs;)V"⟩
def dkwX0_finds_14 : List UInt8 := [21, 4, 16, 63, 159, 0, 12, 44, 6, 43, 180, 0, 165, 182, 0, 97, 177]
abbrev dktX0_finds_14 : List UInt8 := dkwX0_finds_14 ++ []
def dkwX0_finds_13 : List UInt8 := [62, 42, 43, 180, 0, 162, 44, 182, 0, 154, 54, 4, 29, 21, 4, 159, 0, 25, 29, 16, 63, 159, 0, 19]
abbrev dktX0_finds_13 : List UInt8 := dkwX0_finds_13 ++ dktX0_finds_14
def dkwX0_finds_12 : List UInt8 := [85, 132, 3, 1, 167, 255, 220, 43, 180, 0, 158, 199, 0, 4, 177, 42, 43, 180, 0, 158, 44, 182, 0, 154]
abbrev dktX0_finds_12 : List UInt8 := dkwX0_finds_12 ++ dktX0_finds_13
def dkwX0_finds_11 : List UInt8 := [162, 0, 31, 43, 180, 0, 149, 29, 42, 43, 180, 0, 146, 29, 182, 0, 112, 192, 0, 152, 44, 182, 0, 154]
abbrev dktX0_finds_11 : List UInt8 := dkwX0_finds_11 ++ dktX0_finds_12
def dkwX0_finds_10 : List UInt8 := [132, 3, 1, 167, 255, 219, 43, 182, 0, 142, 154, 0, 4, 177, 3, 62, 29, 43, 180, 0, 146, 182, 0, 107]
abbrev dktX0_finds_10 : List UInt8 := dkwX0_finds_10 ++ dktX0_finds_11
def dkwX0_finds_9 : List UInt8 := [162, 0, 29, 42, 43, 42, 180, 0, 61, 180, 0, 133, 29, 182, 0, 112, 192, 0, 136, 44, 182, 0, 138]
abbrev dktX0_finds_9 : List UInt8 := dkwX0_finds_9 ++ dktX0_finds_10
def dkwX0_finds_8 : List UInt8 := [180, 0, 123, 182, 0, 107, 181, 0, 131, 3, 62, 29, 42, 180, 0, 61, 180, 0, 133, 182, 0, 107]
abbrev dktX0_finds_8 : List UInt8 := dkwX0_finds_8 ++ dktX0_finds_9
def dkwX0_finds_7 : List UInt8 := [180, 0, 61, 180, 0, 128, 29, 46, 182, 0, 97, 132, 3, 1, 167, 255, 157, 43, 42, 180, 0, 61]
abbrev dktX0_finds_7 : List UInt8 := dkwX0_finds_7 ++ dktX0_finds_8
def dkwX0_finds_6 : List UInt8 := [180, 0, 61, 180, 0, 128, 29, 46, 182, 0, 97, 43, 180, 0, 126, 29, 46, 2, 160, 0, 17, 44, 5, 42]
abbrev dktX0_finds_6 : List UInt8 := dkwX0_finds_6 ++ dktX0_finds_7
def dkwX0_finds_5 : List UInt8 := [182, 0, 90, 79, 42, 180, 0, 61, 180, 0, 123, 25, 4, 182, 0, 116, 29, 162, 0, 17, 44, 7, 42]
abbrev dktX0_finds_5 : List UInt8 := dkwX0_finds_5 ++ dktX0_finds_6
def dkwX0_finds_4 : List UInt8 := [180, 0, 61, 180, 0, 123, 29, 182, 0, 112, 192, 0, 4, 58, 4, 43, 180, 0, 126, 29, 42, 25, 4]
abbrev dktX0_finds_4 : List UInt8 := dkwX0_finds_4 ++ dktX0_finds_5
def dkwX0_finds_3 : List UInt8 := [132, 3, 1, 167, 255, 209, 3, 62, 29, 42, 180, 0, 61, 180, 0, 123, 182, 0, 107, 162, 0, 91, 42]
abbrev dktX0_finds_3 : List UInt8 := dkwX0_finds_3 ++ dktX0_finds_4
def dkwX0_finds_2 : List UInt8 := [182, 0, 112, 182, 0, 116, 29, 162, 0, 17, 44, 7, 42, 180, 0, 61, 180, 0, 120, 29, 46, 182, 0, 97]
abbrev dktX0_finds_2 : List UInt8 := dkwX0_finds_2 ++ dktX0_finds_3
def dkwX0_finds_1 : List UInt8 := [3, 62, 29, 43, 180, 0, 103, 182, 0, 107, 162, 0, 42, 43, 180, 0, 103, 43, 180, 0, 103, 29]
abbrev dktX0_finds_1 : List UInt8 := dkwX0_finds_1 ++ dktX0_finds_2
def dkwX0_finds_0 : List UInt8 := [42, 43, 180, 0, 86, 182, 0, 90, 2, 159, 0, 15, 44, 7, 42, 180, 0, 61, 180, 0, 94, 182, 0, 97]
abbrev dktX0_finds_0 : List UInt8 := dkwX0_finds_0 ++ dktX0_finds_1
theorem dksX0_finds_0 : cX0_finds.data.toList.drop 0 = dktX0_finds_0 := by decide +kernel
theorem dksX0_finds_1 : cX0_finds.data.toList.drop 24 = dktX0_finds_1 := dk_seg dksX0_finds_0 24 rfl rfl
theorem dksX0_finds_2 : cX0_finds.data.toList.drop 46 = dktX0_finds_2 := dk_seg dksX0_finds_1 22 rfl rfl
theorem dksX0_finds_3 : cX0_finds.data.toList.drop 70 = dktX0_finds_3 := dk_seg dksX0_finds_2 24 rfl rfl
theorem dksX0_finds_4 : cX0_finds.data.toList.drop 93 = dktX0_finds_4 := dk_seg dksX0_finds_3 23 rfl rfl
theorem dksX0_finds_5 : cX0_finds.data.toList.drop 116 = dktX0_finds_5 := dk_seg dksX0_finds_4 23 rfl rfl
theorem dksX0_finds_6 : cX0_finds.data.toList.drop 139 = dktX0_finds_6 := dk_seg dksX0_finds_5 23 rfl rfl
theorem dksX0_finds_7 : cX0_finds.data.toList.drop 163 = dktX0_finds_7 := dk_seg dksX0_finds_6 24 rfl rfl
theorem dksX0_finds_8 : cX0_finds.data.toList.drop 185 = dktX0_finds_8 := dk_seg dksX0_finds_7 22 rfl rfl
theorem dksX0_finds_9 : cX0_finds.data.toList.drop 207 = dktX0_finds_9 := dk_seg dksX0_finds_8 22 rfl rfl
theorem dksX0_finds_10 : cX0_finds.data.toList.drop 230 = dktX0_finds_10 := dk_seg dksX0_finds_9 23 rfl rfl
theorem dksX0_finds_11 : cX0_finds.data.toList.drop 254 = dktX0_finds_11 := dk_seg dksX0_finds_10 24 rfl rfl
theorem dksX0_finds_12 : cX0_finds.data.toList.drop 278 = dktX0_finds_12 := dk_seg dksX0_finds_11 24 rfl rfl
theorem dksX0_finds_13 : cX0_finds.data.toList.drop 302 = dktX0_finds_13 := dk_seg dksX0_finds_12 24 rfl rfl
theorem dksX0_finds_14 : cX0_finds.data.toList.drop 326 = dktX0_finds_14 := dk_seg dksX0_finds_13 24 rfl rfl
theorem dX0_finds_0 : decode cX0_finds 0 = .ok (.aload_n 0, 1) := dk_42 (dk_at dksX0_finds_0 0 rfl rfl)
theorem dX0_finds_1 : decode cX0_finds 1 = .ok (.aload_n 1, 1) := dk_43 (dk_at dksX0_finds_0 1 rfl rfl)
theorem dX0_finds_2 : decode cX0_finds 2 = .ok (.getfield 86, 3) := dk_180 0 86 (dk_at dksX0_finds_0 2 rfl rfl)
theorem dX0_finds_5 : decode cX0_finds 5 = .ok (.invokevirtual 90, 3) := dk_182 0 90 (dk_at dksX0_finds_0 5 rfl rfl)
theorem dX0_finds_8 : decode cX0_finds 8 = .ok (.iconst (-1), 1) := dk_2 (dk_at dksX0_finds_0 8 rfl rfl)
theorem dX0_finds_9 : decode cX0_finds 9 = .ok (.if_icmp .eq 15, 3) := dk_159 0 15 (dk_at dksX0_finds_0 9 rfl rfl)
theorem dX0_finds_12 : decode cX0_finds 12 = .ok (.aload_n 2, 1) := dk_44 (dk_at dksX0_finds_0 12 rfl rfl)
theorem dX0_finds_13 : decode cX0_finds 13 = .ok (.iconst 4, 1) := dk_7 (dk_at dksX0_finds_0 13 rfl rfl)
theorem dX0_finds_14 : decode cX0_finds 14 = .ok (.aload_n 0, 1) := dk_42 (dk_at dksX0_finds_0 14 rfl rfl)
theorem dX0_finds_15 : decode cX0_finds 15 = .ok (.getfield 61, 3) := dk_180 0 61 (dk_at dksX0_finds_0 15 rfl rfl)
theorem dX0_finds_18 : decode cX0_finds 18 = .ok (.getfield 94, 3) := dk_180 0 94 (dk_at dksX0_finds_0 18 rfl rfl)
theorem dX0_finds_21 : decode cX0_finds 21 = .ok (.invokevirtual 97, 3) := dk_182 0 97 (dk_at dksX0_finds_0 21 rfl rfl)
theorem dX0_finds_24 : decode cX0_finds 24 = .ok (.iconst 0, 1) := dk_3 (dk_at dksX0_finds_1 0 rfl rfl)
theorem dX0_finds_25 : decode cX0_finds 25 = .ok (.istore_n 3, 1) := dk_62 (dk_at dksX0_finds_1 1 rfl rfl)
theorem dX0_finds_26 : decode cX0_finds 26 = .ok (.iload_n 3, 1) := dk_29 (dk_at dksX0_finds_1 2 rfl rfl)
theorem dX0_finds_27 : decode cX0_finds 27 = .ok (.aload_n 1, 1) := dk_43 (dk_at dksX0_finds_1 3 rfl rfl)
theorem dX0_finds_28 : decode cX0_finds 28 = .ok (.getfield 103, 3) := dk_180 0 103 (dk_at dksX0_finds_1 4 rfl rfl)
theorem dX0_finds_31 : decode cX0_finds 31 = .ok (.invokevirtual 107, 3) := dk_182 0 107 (dk_at dksX0_finds_1 7 rfl rfl)
theorem dX0_finds_34 : decode cX0_finds 34 = .ok (.if_icmp .ge 42, 3) := dk_162 0 42 (dk_at dksX0_finds_1 10 rfl rfl)
theorem dX0_finds_37 : decode cX0_finds 37 = .ok (.aload_n 1, 1) := dk_43 (dk_at dksX0_finds_1 13 rfl rfl)
theorem dX0_finds_38 : decode cX0_finds 38 = .ok (.getfield 103, 3) := dk_180 0 103 (dk_at dksX0_finds_1 14 rfl rfl)
theorem dX0_finds_41 : decode cX0_finds 41 = .ok (.aload_n 1, 1) := dk_43 (dk_at dksX0_finds_1 17 rfl rfl)
theorem dX0_finds_42 : decode cX0_finds 42 = .ok (.getfield 103, 3) := dk_180 0 103 (dk_at dksX0_finds_1 18 rfl rfl)
theorem dX0_finds_45 : decode cX0_finds 45 = .ok (.iload_n 3, 1) := dk_29 (dk_at dksX0_finds_1 21 rfl rfl)
theorem dX0_finds_46 : decode cX0_finds 46 = .ok (.invokevirtual 112, 3) := dk_182 0 112 (dk_at dksX0_finds_2 0 rfl rfl)
theorem dX0_finds_49 : decode cX0_finds 49 = .ok (.invokevirtual 116, 3) := dk_182 0 116 (dk_at dksX0_finds_2 3 rfl rfl)
theorem dX0_finds_52 : decode cX0_finds 52 = .ok (.iload_n 3, 1) := dk_29 (dk_at dksX0_finds_2 6 rfl rfl)
theorem dX0_finds_53 : decode cX0_finds 53 = .ok (.if_icmp .ge 17, 3) := dk_162 0 17 (dk_at dksX0_finds_2 7 rfl rfl)
theorem dX0_finds_56 : decode cX0_finds 56 = .ok (.aload_n 2, 1) := dk_44 (dk_at dksX0_finds_2 10 rfl rfl)
theorem dX0_finds_57 : decode cX0_finds 57 = .ok (.iconst 4, 1) := dk_7 (dk_at dksX0_finds_2 11 rfl rfl)
theorem dX0_finds_58 : decode cX0_finds 58 = .ok (.aload_n 0, 1) := dk_42 (dk_at dksX0_finds_2 12 rfl rfl)
theorem dX0_finds_59 : decode cX0_finds 59 = .ok (.getfield 61, 3) := dk_180 0 61 (dk_at dksX0_finds_2 13 rfl rfl)
theorem dX0_finds_62 : decode cX0_finds 62 = .ok (.getfield 120, 3) := dk_180 0 120 (dk_at dksX0_finds_2 16 rfl rfl)
theorem dX0_finds_65 : decode cX0_finds 65 = .ok (.iload_n 3, 1) := dk_29 (dk_at dksX0_finds_2 19 rfl rfl)
theorem dX0_finds_66 : decode cX0_finds 66 = .ok (.iaload, 1) := dk_46 (dk_at dksX0_finds_2 20 rfl rfl)
theorem dX0_finds_67 : decode cX0_finds 67 = .ok (.invokevirtual 97, 3) := dk_182 0 97 (dk_at dksX0_finds_2 21 rfl rfl)
theorem dX0_finds_70 : decode cX0_finds 70 = .ok (.iinc 3 1, 3) := dk_132 3 1 (dk_at dksX0_finds_3 0 rfl rfl)
theorem dX0_finds_73 : decode cX0_finds 73 = .ok (.goto (-47), 3) := dk_167 255 209 (dk_at dksX0_finds_3 3 rfl rfl)
theorem dX0_finds_76 : decode cX0_finds 76 = .ok (.iconst 0, 1) := dk_3 (dk_at dksX0_finds_3 6 rfl rfl)
theorem dX0_finds_77 : decode cX0_finds 77 = .ok (.istore_n 3, 1) := dk_62 (dk_at dksX0_finds_3 7 rfl rfl)
theorem dX0_finds_78 : decode cX0_finds 78 = .ok (.iload_n 3, 1) := dk_29 (dk_at dksX0_finds_3 8 rfl rfl)
theorem dX0_finds_79 : decode cX0_finds 79 = .ok (.aload_n 0, 1) := dk_42 (dk_at dksX0_finds_3 9 rfl rfl)
theorem dX0_finds_80 : decode cX0_finds 80 = .ok (.getfield 61, 3) := dk_180 0 61 (dk_at dksX0_finds_3 10 rfl rfl)
theorem dX0_finds_83 : decode cX0_finds 83 = .ok (.getfield 123, 3) := dk_180 0 123 (dk_at dksX0_finds_3 13 rfl rfl)
theorem dX0_finds_86 : decode cX0_finds 86 = .ok (.invokevirtual 107, 3) := dk_182 0 107 (dk_at dksX0_finds_3 16 rfl rfl)
theorem dX0_finds_89 : decode cX0_finds 89 = .ok (.if_icmp .ge 91, 3) := dk_162 0 91 (dk_at dksX0_finds_3 19 rfl rfl)
theorem dX0_finds_92 : decode cX0_finds 92 = .ok (.aload_n 0, 1) := dk_42 (dk_at dksX0_finds_3 22 rfl rfl)
theorem dX0_finds_93 : decode cX0_finds 93 = .ok (.getfield 61, 3) := dk_180 0 61 (dk_at dksX0_finds_4 0 rfl rfl)
theorem dX0_finds_96 : decode cX0_finds 96 = .ok (.getfield 123, 3) := dk_180 0 123 (dk_at dksX0_finds_4 3 rfl rfl)
theorem dX0_finds_99 : decode cX0_finds 99 = .ok (.iload_n 3, 1) := dk_29 (dk_at dksX0_finds_4 6 rfl rfl)
theorem dX0_finds_100 : decode cX0_finds 100 = .ok (.invokevirtual 112, 3) := dk_182 0 112 (dk_at dksX0_finds_4 7 rfl rfl)
theorem dX0_finds_103 : decode cX0_finds 103 = .ok (.checkcast 4, 3) := dk_192 0 4 (dk_at dksX0_finds_4 10 rfl rfl)
theorem dX0_finds_106 : decode cX0_finds 106 = .ok (.astore 4, 2) := dk_58 4 (dk_at dksX0_finds_4 13 rfl rfl)
theorem dX0_finds_108 : decode cX0_finds 108 = .ok (.aload_n 1, 1) := dk_43 (dk_at dksX0_finds_4 15 rfl rfl)
theorem dX0_finds_109 : decode cX0_finds 109 = .ok (.getfield 126, 3) := dk_180 0 126 (dk_at dksX0_finds_4 16 rfl rfl)
theorem dX0_finds_112 : decode cX0_finds 112 = .ok (.iload_n 3, 1) := dk_29 (dk_at dksX0_finds_4 19 rfl rfl)
theorem dX0_finds_113 : decode cX0_finds 113 = .ok (.aload_n 0, 1) := dk_42 (dk_at dksX0_finds_4 20 rfl rfl)
theorem dX0_finds_114 : decode cX0_finds 114 = .ok (.aload 4, 2) := dk_25 4 (dk_at dksX0_finds_4 21 rfl rfl)
theorem dX0_finds_116 : decode cX0_finds 116 = .ok (.invokevirtual 90, 3) := dk_182 0 90 (dk_at dksX0_finds_5 0 rfl rfl)
theorem dX0_finds_119 : decode cX0_finds 119 = .ok (.iastore, 1) := dk_79 (dk_at dksX0_finds_5 3 rfl rfl)
theorem dX0_finds_120 : decode cX0_finds 120 = .ok (.aload_n 0, 1) := dk_42 (dk_at dksX0_finds_5 4 rfl rfl)
theorem dX0_finds_121 : decode cX0_finds 121 = .ok (.getfield 61, 3) := dk_180 0 61 (dk_at dksX0_finds_5 5 rfl rfl)
theorem dX0_finds_124 : decode cX0_finds 124 = .ok (.getfield 123, 3) := dk_180 0 123 (dk_at dksX0_finds_5 8 rfl rfl)
theorem dX0_finds_127 : decode cX0_finds 127 = .ok (.aload 4, 2) := dk_25 4 (dk_at dksX0_finds_5 11 rfl rfl)
theorem dX0_finds_129 : decode cX0_finds 129 = .ok (.invokevirtual 116, 3) := dk_182 0 116 (dk_at dksX0_finds_5 13 rfl rfl)
theorem dX0_finds_132 : decode cX0_finds 132 = .ok (.iload_n 3, 1) := dk_29 (dk_at dksX0_finds_5 16 rfl rfl)
theorem dX0_finds_133 : decode cX0_finds 133 = .ok (.if_icmp .ge 17, 3) := dk_162 0 17 (dk_at dksX0_finds_5 17 rfl rfl)
theorem dX0_finds_136 : decode cX0_finds 136 = .ok (.aload_n 2, 1) := dk_44 (dk_at dksX0_finds_5 20 rfl rfl)
theorem dX0_finds_137 : decode cX0_finds 137 = .ok (.iconst 4, 1) := dk_7 (dk_at dksX0_finds_5 21 rfl rfl)
theorem dX0_finds_138 : decode cX0_finds 138 = .ok (.aload_n 0, 1) := dk_42 (dk_at dksX0_finds_5 22 rfl rfl)
theorem dX0_finds_139 : decode cX0_finds 139 = .ok (.getfield 61, 3) := dk_180 0 61 (dk_at dksX0_finds_6 0 rfl rfl)
theorem dX0_finds_142 : decode cX0_finds 142 = .ok (.getfield 128, 3) := dk_180 0 128 (dk_at dksX0_finds_6 3 rfl rfl)
theorem dX0_finds_145 : decode cX0_finds 145 = .ok (.iload_n 3, 1) := dk_29 (dk_at dksX0_finds_6 6 rfl rfl)
theorem dX0_finds_146 : decode cX0_finds 146 = .ok (.iaload, 1) := dk_46 (dk_at dksX0_finds_6 7 rfl rfl)
theorem dX0_finds_147 : decode cX0_finds 147 = .ok (.invokevirtual 97, 3) := dk_182 0 97 (dk_at dksX0_finds_6 8 rfl rfl)
theorem dX0_finds_150 : decode cX0_finds 150 = .ok (.aload_n 1, 1) := dk_43 (dk_at dksX0_finds_6 11 rfl rfl)
theorem dX0_finds_151 : decode cX0_finds 151 = .ok (.getfield 126, 3) := dk_180 0 126 (dk_at dksX0_finds_6 12 rfl rfl)
theorem dX0_finds_154 : decode cX0_finds 154 = .ok (.iload_n 3, 1) := dk_29 (dk_at dksX0_finds_6 15 rfl rfl)
theorem dX0_finds_155 : decode cX0_finds 155 = .ok (.iaload, 1) := dk_46 (dk_at dksX0_finds_6 16 rfl rfl)
theorem dX0_finds_156 : decode cX0_finds 156 = .ok (.iconst (-1), 1) := dk_2 (dk_at dksX0_finds_6 17 rfl rfl)
theorem dX0_finds_157 : decode cX0_finds 157 = .ok (.if_icmp .ne 17, 3) := dk_160 0 17 (dk_at dksX0_finds_6 18 rfl rfl)
theorem dX0_finds_160 : decode cX0_finds 160 = .ok (.aload_n 2, 1) := dk_44 (dk_at dksX0_finds_6 21 rfl rfl)
theorem dX0_finds_161 : decode cX0_finds 161 = .ok (.iconst 2, 1) := dk_5 (dk_at dksX0_finds_6 22 rfl rfl)
theorem dX0_finds_162 : decode cX0_finds 162 = .ok (.aload_n 0, 1) := dk_42 (dk_at dksX0_finds_6 23 rfl rfl)
theorem dX0_finds_163 : decode cX0_finds 163 = .ok (.getfield 61, 3) := dk_180 0 61 (dk_at dksX0_finds_7 0 rfl rfl)
theorem dX0_finds_166 : decode cX0_finds 166 = .ok (.getfield 128, 3) := dk_180 0 128 (dk_at dksX0_finds_7 3 rfl rfl)
theorem dX0_finds_169 : decode cX0_finds 169 = .ok (.iload_n 3, 1) := dk_29 (dk_at dksX0_finds_7 6 rfl rfl)
theorem dX0_finds_170 : decode cX0_finds 170 = .ok (.iaload, 1) := dk_46 (dk_at dksX0_finds_7 7 rfl rfl)
theorem dX0_finds_171 : decode cX0_finds 171 = .ok (.invokevirtual 97, 3) := dk_182 0 97 (dk_at dksX0_finds_7 8 rfl rfl)
theorem dX0_finds_174 : decode cX0_finds 174 = .ok (.iinc 3 1, 3) := dk_132 3 1 (dk_at dksX0_finds_7 11 rfl rfl)
theorem dX0_finds_177 : decode cX0_finds 177 = .ok (.goto (-99), 3) := dk_167 255 157 (dk_at dksX0_finds_7 14 rfl rfl)
theorem dX0_finds_180 : decode cX0_finds 180 = .ok (.aload_n 1, 1) := dk_43 (dk_at dksX0_finds_7 17 rfl rfl)
theorem dX0_finds_181 : decode cX0_finds 181 = .ok (.aload_n 0, 1) := dk_42 (dk_at dksX0_finds_7 18 rfl rfl)
theorem dX0_finds_182 : decode cX0_finds 182 = .ok (.getfield 61, 3) := dk_180 0 61 (dk_at dksX0_finds_7 19 rfl rfl)
theorem dX0_finds_185 : decode cX0_finds 185 = .ok (.getfield 123, 3) := dk_180 0 123 (dk_at dksX0_finds_8 0 rfl rfl)
theorem dX0_finds_188 : decode cX0_finds 188 = .ok (.invokevirtual 107, 3) := dk_182 0 107 (dk_at dksX0_finds_8 3 rfl rfl)
theorem dX0_finds_191 : decode cX0_finds 191 = .ok (.putfield 131, 3) := dk_181 0 131 (dk_at dksX0_finds_8 6 rfl rfl)
theorem dX0_finds_194 : decode cX0_finds 194 = .ok (.iconst 0, 1) := dk_3 (dk_at dksX0_finds_8 9 rfl rfl)
theorem dX0_finds_195 : decode cX0_finds 195 = .ok (.istore_n 3, 1) := dk_62 (dk_at dksX0_finds_8 10 rfl rfl)
theorem dX0_finds_196 : decode cX0_finds 196 = .ok (.iload_n 3, 1) := dk_29 (dk_at dksX0_finds_8 11 rfl rfl)
theorem dX0_finds_197 : decode cX0_finds 197 = .ok (.aload_n 0, 1) := dk_42 (dk_at dksX0_finds_8 12 rfl rfl)
theorem dX0_finds_198 : decode cX0_finds 198 = .ok (.getfield 61, 3) := dk_180 0 61 (dk_at dksX0_finds_8 13 rfl rfl)
theorem dX0_finds_201 : decode cX0_finds 201 = .ok (.getfield 133, 3) := dk_180 0 133 (dk_at dksX0_finds_8 16 rfl rfl)
theorem dX0_finds_204 : decode cX0_finds 204 = .ok (.invokevirtual 107, 3) := dk_182 0 107 (dk_at dksX0_finds_8 19 rfl rfl)
theorem dX0_finds_207 : decode cX0_finds 207 = .ok (.if_icmp .ge 29, 3) := dk_162 0 29 (dk_at dksX0_finds_9 0 rfl rfl)
theorem dX0_finds_210 : decode cX0_finds 210 = .ok (.aload_n 0, 1) := dk_42 (dk_at dksX0_finds_9 3 rfl rfl)
theorem dX0_finds_211 : decode cX0_finds 211 = .ok (.aload_n 1, 1) := dk_43 (dk_at dksX0_finds_9 4 rfl rfl)
theorem dX0_finds_212 : decode cX0_finds 212 = .ok (.aload_n 0, 1) := dk_42 (dk_at dksX0_finds_9 5 rfl rfl)
theorem dX0_finds_213 : decode cX0_finds 213 = .ok (.getfield 61, 3) := dk_180 0 61 (dk_at dksX0_finds_9 6 rfl rfl)
theorem dX0_finds_216 : decode cX0_finds 216 = .ok (.getfield 133, 3) := dk_180 0 133 (dk_at dksX0_finds_9 9 rfl rfl)
theorem dX0_finds_219 : decode cX0_finds 219 = .ok (.iload_n 3, 1) := dk_29 (dk_at dksX0_finds_9 12 rfl rfl)
theorem dX0_finds_220 : decode cX0_finds 220 = .ok (.invokevirtual 112, 3) := dk_182 0 112 (dk_at dksX0_finds_9 13 rfl rfl)
theorem dX0_finds_223 : decode cX0_finds 223 = .ok (.checkcast 136, 3) := dk_192 0 136 (dk_at dksX0_finds_9 16 rfl rfl)
theorem dX0_finds_226 : decode cX0_finds 226 = .ok (.aload_n 2, 1) := dk_44 (dk_at dksX0_finds_9 19 rfl rfl)
theorem dX0_finds_227 : decode cX0_finds 227 = .ok (.invokevirtual 138, 3) := dk_182 0 138 (dk_at dksX0_finds_9 20 rfl rfl)
theorem dX0_finds_230 : decode cX0_finds 230 = .ok (.iinc 3 1, 3) := dk_132 3 1 (dk_at dksX0_finds_10 0 rfl rfl)
theorem dX0_finds_233 : decode cX0_finds 233 = .ok (.goto (-37), 3) := dk_167 255 219 (dk_at dksX0_finds_10 3 rfl rfl)
theorem dX0_finds_236 : decode cX0_finds 236 = .ok (.aload_n 1, 1) := dk_43 (dk_at dksX0_finds_10 6 rfl rfl)
theorem dX0_finds_237 : decode cX0_finds 237 = .ok (.invokevirtual 142, 3) := dk_182 0 142 (dk_at dksX0_finds_10 7 rfl rfl)
theorem dX0_finds_240 : decode cX0_finds 240 = .ok (.ifCond .ne 4, 3) := dk_154 0 4 (dk_at dksX0_finds_10 10 rfl rfl)
theorem dX0_finds_243 : decode cX0_finds 243 = .ok (.return_, 1) := dk_177 (dk_at dksX0_finds_10 13 rfl rfl)
theorem dX0_finds_244 : decode cX0_finds 244 = .ok (.iconst 0, 1) := dk_3 (dk_at dksX0_finds_10 14 rfl rfl)
theorem dX0_finds_245 : decode cX0_finds 245 = .ok (.istore_n 3, 1) := dk_62 (dk_at dksX0_finds_10 15 rfl rfl)
theorem dX0_finds_246 : decode cX0_finds 246 = .ok (.iload_n 3, 1) := dk_29 (dk_at dksX0_finds_10 16 rfl rfl)
theorem dX0_finds_247 : decode cX0_finds 247 = .ok (.aload_n 1, 1) := dk_43 (dk_at dksX0_finds_10 17 rfl rfl)
theorem dX0_finds_248 : decode cX0_finds 248 = .ok (.getfield 146, 3) := dk_180 0 146 (dk_at dksX0_finds_10 18 rfl rfl)
theorem dX0_finds_251 : decode cX0_finds 251 = .ok (.invokevirtual 107, 3) := dk_182 0 107 (dk_at dksX0_finds_10 21 rfl rfl)
theorem dX0_finds_254 : decode cX0_finds 254 = .ok (.if_icmp .ge 31, 3) := dk_162 0 31 (dk_at dksX0_finds_11 0 rfl rfl)
theorem dX0_finds_257 : decode cX0_finds 257 = .ok (.aload_n 1, 1) := dk_43 (dk_at dksX0_finds_11 3 rfl rfl)
theorem dX0_finds_258 : decode cX0_finds 258 = .ok (.getfield 149, 3) := dk_180 0 149 (dk_at dksX0_finds_11 4 rfl rfl)
theorem dX0_finds_261 : decode cX0_finds 261 = .ok (.iload_n 3, 1) := dk_29 (dk_at dksX0_finds_11 7 rfl rfl)
theorem dX0_finds_262 : decode cX0_finds 262 = .ok (.aload_n 0, 1) := dk_42 (dk_at dksX0_finds_11 8 rfl rfl)
theorem dX0_finds_263 : decode cX0_finds 263 = .ok (.aload_n 1, 1) := dk_43 (dk_at dksX0_finds_11 9 rfl rfl)
theorem dX0_finds_264 : decode cX0_finds 264 = .ok (.getfield 146, 3) := dk_180 0 146 (dk_at dksX0_finds_11 10 rfl rfl)
theorem dX0_finds_267 : decode cX0_finds 267 = .ok (.iload_n 3, 1) := dk_29 (dk_at dksX0_finds_11 13 rfl rfl)
theorem dX0_finds_268 : decode cX0_finds 268 = .ok (.invokevirtual 112, 3) := dk_182 0 112 (dk_at dksX0_finds_11 14 rfl rfl)
theorem dX0_finds_271 : decode cX0_finds 271 = .ok (.checkcast 152, 3) := dk_192 0 152 (dk_at dksX0_finds_11 17 rfl rfl)
theorem dX0_finds_274 : decode cX0_finds 274 = .ok (.aload_n 2, 1) := dk_44 (dk_at dksX0_finds_11 20 rfl rfl)
theorem dX0_finds_275 : decode cX0_finds 275 = .ok (.invokevirtual 154, 3) := dk_182 0 154 (dk_at dksX0_finds_11 21 rfl rfl)
theorem dX0_finds_278 : decode cX0_finds 278 = .ok (.castore, 1) := dk_85 (dk_at dksX0_finds_12 0 rfl rfl)
theorem dX0_finds_279 : decode cX0_finds 279 = .ok (.iinc 3 1, 3) := dk_132 3 1 (dk_at dksX0_finds_12 1 rfl rfl)
theorem dX0_finds_282 : decode cX0_finds 282 = .ok (.goto (-36), 3) := dk_167 255 220 (dk_at dksX0_finds_12 4 rfl rfl)
theorem dX0_finds_285 : decode cX0_finds 285 = .ok (.aload_n 1, 1) := dk_43 (dk_at dksX0_finds_12 7 rfl rfl)
theorem dX0_finds_286 : decode cX0_finds 286 = .ok (.getfield 158, 3) := dk_180 0 158 (dk_at dksX0_finds_12 8 rfl rfl)
theorem dX0_finds_289 : decode cX0_finds 289 = .ok (.ifnonnull 4, 3) := dk_199 0 4 (dk_at dksX0_finds_12 11 rfl rfl)
theorem dX0_finds_292 : decode cX0_finds 292 = .ok (.return_, 1) := dk_177 (dk_at dksX0_finds_12 14 rfl rfl)
theorem dX0_finds_293 : decode cX0_finds 293 = .ok (.aload_n 0, 1) := dk_42 (dk_at dksX0_finds_12 15 rfl rfl)
theorem dX0_finds_294 : decode cX0_finds 294 = .ok (.aload_n 1, 1) := dk_43 (dk_at dksX0_finds_12 16 rfl rfl)
theorem dX0_finds_295 : decode cX0_finds 295 = .ok (.getfield 158, 3) := dk_180 0 158 (dk_at dksX0_finds_12 17 rfl rfl)
theorem dX0_finds_298 : decode cX0_finds 298 = .ok (.aload_n 2, 1) := dk_44 (dk_at dksX0_finds_12 20 rfl rfl)
theorem dX0_finds_299 : decode cX0_finds 299 = .ok (.invokevirtual 154, 3) := dk_182 0 154 (dk_at dksX0_finds_12 21 rfl rfl)
theorem dX0_finds_302 : decode cX0_finds 302 = .ok (.istore_n 3, 1) := dk_62 (dk_at dksX0_finds_13 0 rfl rfl)
theorem dX0_finds_303 : decode cX0_finds 303 = .ok (.aload_n 0, 1) := dk_42 (dk_at dksX0_finds_13 1 rfl rfl)
theorem dX0_finds_304 : decode cX0_finds 304 = .ok (.aload_n 1, 1) := dk_43 (dk_at dksX0_finds_13 2 rfl rfl)
theorem dX0_finds_305 : decode cX0_finds 305 = .ok (.getfield 162, 3) := dk_180 0 162 (dk_at dksX0_finds_13 3 rfl rfl)
theorem dX0_finds_308 : decode cX0_finds 308 = .ok (.aload_n 2, 1) := dk_44 (dk_at dksX0_finds_13 6 rfl rfl)
theorem dX0_finds_309 : decode cX0_finds 309 = .ok (.invokevirtual 154, 3) := dk_182 0 154 (dk_at dksX0_finds_13 7 rfl rfl)
theorem dX0_finds_312 : decode cX0_finds 312 = .ok (.istore 4, 2) := dk_54 4 (dk_at dksX0_finds_13 10 rfl rfl)
theorem dX0_finds_314 : decode cX0_finds 314 = .ok (.iload_n 3, 1) := dk_29 (dk_at dksX0_finds_13 12 rfl rfl)
theorem dX0_finds_315 : decode cX0_finds 315 = .ok (.iload 4, 2) := dk_21 4 (dk_at dksX0_finds_13 13 rfl rfl)
theorem dX0_finds_317 : decode cX0_finds 317 = .ok (.if_icmp .eq 25, 3) := dk_159 0 25 (dk_at dksX0_finds_13 15 rfl rfl)
theorem dX0_finds_320 : decode cX0_finds 320 = .ok (.iload_n 3, 1) := dk_29 (dk_at dksX0_finds_13 18 rfl rfl)
theorem dX0_finds_321 : decode cX0_finds 321 = .ok (.bipush 63, 2) := dk_16 63 (dk_at dksX0_finds_13 19 rfl rfl)
theorem dX0_finds_323 : decode cX0_finds 323 = .ok (.if_icmp .eq 19, 3) := dk_159 0 19 (dk_at dksX0_finds_13 21 rfl rfl)
theorem dX0_finds_326 : decode cX0_finds 326 = .ok (.iload 4, 2) := dk_21 4 (dk_at dksX0_finds_14 0 rfl rfl)
theorem dX0_finds_328 : decode cX0_finds 328 = .ok (.bipush 63, 2) := dk_16 63 (dk_at dksX0_finds_14 2 rfl rfl)
theorem dX0_finds_330 : decode cX0_finds 330 = .ok (.if_icmp .eq 12, 3) := dk_159 0 12 (dk_at dksX0_finds_14 4 rfl rfl)
theorem dX0_finds_333 : decode cX0_finds 333 = .ok (.aload_n 2, 1) := dk_44 (dk_at dksX0_finds_14 7 rfl rfl)
theorem dX0_finds_334 : decode cX0_finds 334 = .ok (.iconst 3, 1) := dk_6 (dk_at dksX0_finds_14 8 rfl rfl)
theorem dX0_finds_335 : decode cX0_finds 335 = .ok (.aload_n 1, 1) := dk_43 (dk_at dksX0_finds_14 9 rfl rfl)
theorem dX0_finds_336 : decode cX0_finds 336 = .ok (.getfield 165, 3) := dk_180 0 165 (dk_at dksX0_finds_14 10 rfl rfl)
theorem dX0_finds_339 : decode cX0_finds 339 = .ok (.invokevirtual 97, 3) := dk_182 0 97 (dk_at dksX0_finds_14 13 rfl rfl)
theorem dX0_finds_342 : decode cX0_finds 342 = .ok (.return_, 1) := dk_177 (dk_at dksX0_finds_14 16 rfl rfl)
abbrev cX0_numberOf : ByteArray := prog_1_method_9_code
def yX0_numberOf : MethodName := ⟨RX0, "numberOf", "(Ljava/lang/String;)I"⟩
def dkwX0_numberOf_1 : List UInt8 := [50, 180, 0, 86, 43, 182, 0, 11, 153, 0, 5, 28, 172, 132, 2, 1, 167, 255, 218, 2, 172]
abbrev dktX0_numberOf_1 : List UInt8 := dkwX0_numberOf_1 ++ []
def dkwX0_numberOf_0 : List UInt8 := [3, 61, 28, 42, 180, 0, 83, 162, 0, 36, 42, 180, 0, 35, 28, 50, 198, 0, 21, 42, 180, 0, 35, 28]
abbrev dktX0_numberOf_0 : List UInt8 := dkwX0_numberOf_0 ++ dktX0_numberOf_1
theorem dksX0_numberOf_0 : cX0_numberOf.data.toList.drop 0 = dktX0_numberOf_0 := by decide +kernel
theorem dksX0_numberOf_1 : cX0_numberOf.data.toList.drop 24 = dktX0_numberOf_1 := dk_seg dksX0_numberOf_0 24 rfl rfl
theorem dX0_numberOf_0 : decode cX0_numberOf 0 = .ok (.iconst 0, 1) := dk_3 (dk_at dksX0_numberOf_0 0 rfl rfl)
theorem dX0_numberOf_1 : decode cX0_numberOf 1 = .ok (.istore_n 2, 1) := dk_61 (dk_at dksX0_numberOf_0 1 rfl rfl)
theorem dX0_numberOf_2 : decode cX0_numberOf 2 = .ok (.iload_n 2, 1) := dk_28 (dk_at dksX0_numberOf_0 2 rfl rfl)
theorem dX0_numberOf_3 : decode cX0_numberOf 3 = .ok (.aload_n 0, 1) := dk_42 (dk_at dksX0_numberOf_0 3 rfl rfl)
theorem dX0_numberOf_4 : decode cX0_numberOf 4 = .ok (.getfield 83, 3) := dk_180 0 83 (dk_at dksX0_numberOf_0 4 rfl rfl)
theorem dX0_numberOf_7 : decode cX0_numberOf 7 = .ok (.if_icmp .ge 36, 3) := dk_162 0 36 (dk_at dksX0_numberOf_0 7 rfl rfl)
theorem dX0_numberOf_10 : decode cX0_numberOf 10 = .ok (.aload_n 0, 1) := dk_42 (dk_at dksX0_numberOf_0 10 rfl rfl)
theorem dX0_numberOf_11 : decode cX0_numberOf 11 = .ok (.getfield 35, 3) := dk_180 0 35 (dk_at dksX0_numberOf_0 11 rfl rfl)
theorem dX0_numberOf_14 : decode cX0_numberOf 14 = .ok (.iload_n 2, 1) := dk_28 (dk_at dksX0_numberOf_0 14 rfl rfl)
theorem dX0_numberOf_15 : decode cX0_numberOf 15 = .ok (.aaload, 1) := dk_50 (dk_at dksX0_numberOf_0 15 rfl rfl)
theorem dX0_numberOf_16 : decode cX0_numberOf 16 = .ok (.ifnull 21, 3) := dk_198 0 21 (dk_at dksX0_numberOf_0 16 rfl rfl)
theorem dX0_numberOf_19 : decode cX0_numberOf 19 = .ok (.aload_n 0, 1) := dk_42 (dk_at dksX0_numberOf_0 19 rfl rfl)
theorem dX0_numberOf_20 : decode cX0_numberOf 20 = .ok (.getfield 35, 3) := dk_180 0 35 (dk_at dksX0_numberOf_0 20 rfl rfl)
theorem dX0_numberOf_23 : decode cX0_numberOf 23 = .ok (.iload_n 2, 1) := dk_28 (dk_at dksX0_numberOf_0 23 rfl rfl)
theorem dX0_numberOf_24 : decode cX0_numberOf 24 = .ok (.aaload, 1) := dk_50 (dk_at dksX0_numberOf_1 0 rfl rfl)
theorem dX0_numberOf_25 : decode cX0_numberOf 25 = .ok (.getfield 86, 3) := dk_180 0 86 (dk_at dksX0_numberOf_1 1 rfl rfl)
theorem dX0_numberOf_28 : decode cX0_numberOf 28 = .ok (.aload_n 1, 1) := dk_43 (dk_at dksX0_numberOf_1 4 rfl rfl)
theorem dX0_numberOf_29 : decode cX0_numberOf 29 = .ok (.invokevirtual 11, 3) := dk_182 0 11 (dk_at dksX0_numberOf_1 5 rfl rfl)
theorem dX0_numberOf_32 : decode cX0_numberOf 32 = .ok (.ifCond .eq 5, 3) := dk_153 0 5 (dk_at dksX0_numberOf_1 8 rfl rfl)
theorem dX0_numberOf_35 : decode cX0_numberOf 35 = .ok (.iload_n 2, 1) := dk_28 (dk_at dksX0_numberOf_1 11 rfl rfl)
theorem dX0_numberOf_36 : decode cX0_numberOf 36 = .ok (.ireturn, 1) := dk_172 (dk_at dksX0_numberOf_1 12 rfl rfl)
theorem dX0_numberOf_37 : decode cX0_numberOf 37 = .ok (.iinc 2 1, 3) := dk_132 2 1 (dk_at dksX0_numberOf_1 13 rfl rfl)
theorem dX0_numberOf_40 : decode cX0_numberOf 40 = .ok (.goto (-38), 3) := dk_167 255 218 (dk_at dksX0_numberOf_1 16 rfl rfl)
theorem dX0_numberOf_43 : decode cX0_numberOf 43 = .ok (.iconst (-1), 1) := dk_2 (dk_at dksX0_numberOf_1 19 rfl rfl)
theorem dX0_numberOf_44 : decode cX0_numberOf 44 = .ok (.ireturn, 1) := dk_172 (dk_at dksX0_numberOf_1 20 rfl rfl)
abbrev cX0_finds_2 : ByteArray := prog_1_method_12_code
def yX0_finds_2 : MethodName := ⟨RX0, "finds", "(LTableCatalog$Table;LTableCatalog$Part;LTableCatalog$Wrongs;)V"⟩
def dkwX0_finds_2_4 : List UInt8 := [46, 104, 21, 5, 96, 181, 0, 194, 177]
abbrev dktX0_finds_2_4 : List UInt8 := dkwX0_finds_2_4 ++ []
def dkwX0_finds_2_3 : List UInt8 := [160, 0, 15, 45, 5, 44, 180, 0, 191, 182, 0, 97, 167, 0, 20, 44, 16, 8, 43, 180, 0, 126, 21, 4]
abbrev dktX0_finds_2_3 : List UInt8 := dkwX0_finds_2_3 ++ dktX0_finds_2_4
def dkwX0_finds_2_2 : List UInt8 := [43, 180, 0, 126, 21, 4, 46, 50, 180, 0, 103, 44, 180, 0, 188, 182, 0, 116, 54, 5, 21, 5, 2]
abbrev dktX0_finds_2_2 : List UInt8 := dkwX0_finds_2_2 ++ dktX0_finds_2_3
def dkwX0_finds_2_1 : List UInt8 := [44, 180, 0, 185, 182, 0, 97, 177, 43, 180, 0, 126, 21, 4, 46, 2, 160, 0, 4, 177, 42, 180, 0, 35]
abbrev dktX0_finds_2_1 : List UInt8 := dkwX0_finds_2_1 ++ dktX0_finds_2_2
def dkwX0_finds_2_0 : List UInt8 := [42, 180, 0, 61, 180, 0, 123, 44, 180, 0, 183, 182, 0, 116, 54, 4, 21, 4, 2, 160, 0, 13, 45, 5]
abbrev dktX0_finds_2_0 : List UInt8 := dkwX0_finds_2_0 ++ dktX0_finds_2_1
theorem dksX0_finds_2_0 : cX0_finds_2.data.toList.drop 0 = dktX0_finds_2_0 := by decide +kernel
theorem dksX0_finds_2_1 : cX0_finds_2.data.toList.drop 24 = dktX0_finds_2_1 := dk_seg dksX0_finds_2_0 24 rfl rfl
theorem dksX0_finds_2_2 : cX0_finds_2.data.toList.drop 48 = dktX0_finds_2_2 := dk_seg dksX0_finds_2_1 24 rfl rfl
theorem dksX0_finds_2_3 : cX0_finds_2.data.toList.drop 71 = dktX0_finds_2_3 := dk_seg dksX0_finds_2_2 23 rfl rfl
theorem dksX0_finds_2_4 : cX0_finds_2.data.toList.drop 95 = dktX0_finds_2_4 := dk_seg dksX0_finds_2_3 24 rfl rfl
theorem dX0_finds_2_0 : decode cX0_finds_2 0 = .ok (.aload_n 0, 1) := dk_42 (dk_at dksX0_finds_2_0 0 rfl rfl)
theorem dX0_finds_2_1 : decode cX0_finds_2 1 = .ok (.getfield 61, 3) := dk_180 0 61 (dk_at dksX0_finds_2_0 1 rfl rfl)
theorem dX0_finds_2_4 : decode cX0_finds_2 4 = .ok (.getfield 123, 3) := dk_180 0 123 (dk_at dksX0_finds_2_0 4 rfl rfl)
theorem dX0_finds_2_7 : decode cX0_finds_2 7 = .ok (.aload_n 2, 1) := dk_44 (dk_at dksX0_finds_2_0 7 rfl rfl)
theorem dX0_finds_2_8 : decode cX0_finds_2 8 = .ok (.getfield 183, 3) := dk_180 0 183 (dk_at dksX0_finds_2_0 8 rfl rfl)
theorem dX0_finds_2_11 : decode cX0_finds_2 11 = .ok (.invokevirtual 116, 3) := dk_182 0 116 (dk_at dksX0_finds_2_0 11 rfl rfl)
theorem dX0_finds_2_14 : decode cX0_finds_2 14 = .ok (.istore 4, 2) := dk_54 4 (dk_at dksX0_finds_2_0 14 rfl rfl)
theorem dX0_finds_2_16 : decode cX0_finds_2 16 = .ok (.iload 4, 2) := dk_21 4 (dk_at dksX0_finds_2_0 16 rfl rfl)
theorem dX0_finds_2_18 : decode cX0_finds_2 18 = .ok (.iconst (-1), 1) := dk_2 (dk_at dksX0_finds_2_0 18 rfl rfl)
theorem dX0_finds_2_19 : decode cX0_finds_2 19 = .ok (.if_icmp .ne 13, 3) := dk_160 0 13 (dk_at dksX0_finds_2_0 19 rfl rfl)
theorem dX0_finds_2_22 : decode cX0_finds_2 22 = .ok (.aload_n 3, 1) := dk_45 (dk_at dksX0_finds_2_0 22 rfl rfl)
theorem dX0_finds_2_23 : decode cX0_finds_2 23 = .ok (.iconst 2, 1) := dk_5 (dk_at dksX0_finds_2_0 23 rfl rfl)
theorem dX0_finds_2_24 : decode cX0_finds_2 24 = .ok (.aload_n 2, 1) := dk_44 (dk_at dksX0_finds_2_1 0 rfl rfl)
theorem dX0_finds_2_25 : decode cX0_finds_2 25 = .ok (.getfield 185, 3) := dk_180 0 185 (dk_at dksX0_finds_2_1 1 rfl rfl)
theorem dX0_finds_2_28 : decode cX0_finds_2 28 = .ok (.invokevirtual 97, 3) := dk_182 0 97 (dk_at dksX0_finds_2_1 4 rfl rfl)
theorem dX0_finds_2_31 : decode cX0_finds_2 31 = .ok (.return_, 1) := dk_177 (dk_at dksX0_finds_2_1 7 rfl rfl)
theorem dX0_finds_2_32 : decode cX0_finds_2 32 = .ok (.aload_n 1, 1) := dk_43 (dk_at dksX0_finds_2_1 8 rfl rfl)
theorem dX0_finds_2_33 : decode cX0_finds_2 33 = .ok (.getfield 126, 3) := dk_180 0 126 (dk_at dksX0_finds_2_1 9 rfl rfl)
theorem dX0_finds_2_36 : decode cX0_finds_2 36 = .ok (.iload 4, 2) := dk_21 4 (dk_at dksX0_finds_2_1 12 rfl rfl)
theorem dX0_finds_2_38 : decode cX0_finds_2 38 = .ok (.iaload, 1) := dk_46 (dk_at dksX0_finds_2_1 14 rfl rfl)
theorem dX0_finds_2_39 : decode cX0_finds_2 39 = .ok (.iconst (-1), 1) := dk_2 (dk_at dksX0_finds_2_1 15 rfl rfl)
theorem dX0_finds_2_40 : decode cX0_finds_2 40 = .ok (.if_icmp .ne 4, 3) := dk_160 0 4 (dk_at dksX0_finds_2_1 16 rfl rfl)
theorem dX0_finds_2_43 : decode cX0_finds_2 43 = .ok (.return_, 1) := dk_177 (dk_at dksX0_finds_2_1 19 rfl rfl)
theorem dX0_finds_2_44 : decode cX0_finds_2 44 = .ok (.aload_n 0, 1) := dk_42 (dk_at dksX0_finds_2_1 20 rfl rfl)
theorem dX0_finds_2_45 : decode cX0_finds_2 45 = .ok (.getfield 35, 3) := dk_180 0 35 (dk_at dksX0_finds_2_1 21 rfl rfl)
theorem dX0_finds_2_48 : decode cX0_finds_2 48 = .ok (.aload_n 1, 1) := dk_43 (dk_at dksX0_finds_2_2 0 rfl rfl)
theorem dX0_finds_2_49 : decode cX0_finds_2 49 = .ok (.getfield 126, 3) := dk_180 0 126 (dk_at dksX0_finds_2_2 1 rfl rfl)
theorem dX0_finds_2_52 : decode cX0_finds_2 52 = .ok (.iload 4, 2) := dk_21 4 (dk_at dksX0_finds_2_2 4 rfl rfl)
theorem dX0_finds_2_54 : decode cX0_finds_2 54 = .ok (.iaload, 1) := dk_46 (dk_at dksX0_finds_2_2 6 rfl rfl)
theorem dX0_finds_2_55 : decode cX0_finds_2 55 = .ok (.aaload, 1) := dk_50 (dk_at dksX0_finds_2_2 7 rfl rfl)
theorem dX0_finds_2_56 : decode cX0_finds_2 56 = .ok (.getfield 103, 3) := dk_180 0 103 (dk_at dksX0_finds_2_2 8 rfl rfl)
theorem dX0_finds_2_59 : decode cX0_finds_2 59 = .ok (.aload_n 2, 1) := dk_44 (dk_at dksX0_finds_2_2 11 rfl rfl)
theorem dX0_finds_2_60 : decode cX0_finds_2 60 = .ok (.getfield 188, 3) := dk_180 0 188 (dk_at dksX0_finds_2_2 12 rfl rfl)
theorem dX0_finds_2_63 : decode cX0_finds_2 63 = .ok (.invokevirtual 116, 3) := dk_182 0 116 (dk_at dksX0_finds_2_2 15 rfl rfl)
theorem dX0_finds_2_66 : decode cX0_finds_2 66 = .ok (.istore 5, 2) := dk_54 5 (dk_at dksX0_finds_2_2 18 rfl rfl)
theorem dX0_finds_2_68 : decode cX0_finds_2 68 = .ok (.iload 5, 2) := dk_21 5 (dk_at dksX0_finds_2_2 20 rfl rfl)
theorem dX0_finds_2_70 : decode cX0_finds_2 70 = .ok (.iconst (-1), 1) := dk_2 (dk_at dksX0_finds_2_2 22 rfl rfl)
theorem dX0_finds_2_71 : decode cX0_finds_2 71 = .ok (.if_icmp .ne 15, 3) := dk_160 0 15 (dk_at dksX0_finds_2_3 0 rfl rfl)
theorem dX0_finds_2_74 : decode cX0_finds_2 74 = .ok (.aload_n 3, 1) := dk_45 (dk_at dksX0_finds_2_3 3 rfl rfl)
theorem dX0_finds_2_75 : decode cX0_finds_2 75 = .ok (.iconst 2, 1) := dk_5 (dk_at dksX0_finds_2_3 4 rfl rfl)
theorem dX0_finds_2_76 : decode cX0_finds_2 76 = .ok (.aload_n 2, 1) := dk_44 (dk_at dksX0_finds_2_3 5 rfl rfl)
theorem dX0_finds_2_77 : decode cX0_finds_2 77 = .ok (.getfield 191, 3) := dk_180 0 191 (dk_at dksX0_finds_2_3 6 rfl rfl)
theorem dX0_finds_2_80 : decode cX0_finds_2 80 = .ok (.invokevirtual 97, 3) := dk_182 0 97 (dk_at dksX0_finds_2_3 9 rfl rfl)
theorem dX0_finds_2_83 : decode cX0_finds_2 83 = .ok (.goto 20, 3) := dk_167 0 20 (dk_at dksX0_finds_2_3 12 rfl rfl)
theorem dX0_finds_2_86 : decode cX0_finds_2 86 = .ok (.aload_n 2, 1) := dk_44 (dk_at dksX0_finds_2_3 15 rfl rfl)
theorem dX0_finds_2_87 : decode cX0_finds_2 87 = .ok (.bipush 8, 2) := dk_16 8 (dk_at dksX0_finds_2_3 16 rfl rfl)
theorem dX0_finds_2_89 : decode cX0_finds_2 89 = .ok (.aload_n 1, 1) := dk_43 (dk_at dksX0_finds_2_3 18 rfl rfl)
theorem dX0_finds_2_90 : decode cX0_finds_2 90 = .ok (.getfield 126, 3) := dk_180 0 126 (dk_at dksX0_finds_2_3 19 rfl rfl)
theorem dX0_finds_2_93 : decode cX0_finds_2 93 = .ok (.iload 4, 2) := dk_21 4 (dk_at dksX0_finds_2_3 22 rfl rfl)
theorem dX0_finds_2_95 : decode cX0_finds_2 95 = .ok (.iaload, 1) := dk_46 (dk_at dksX0_finds_2_4 0 rfl rfl)
theorem dX0_finds_2_96 : decode cX0_finds_2 96 = .ok (.imul, 1) := dk_104 (dk_at dksX0_finds_2_4 1 rfl rfl)
theorem dX0_finds_2_97 : decode cX0_finds_2 97 = .ok (.iload 5, 2) := dk_21 5 (dk_at dksX0_finds_2_4 2 rfl rfl)
theorem dX0_finds_2_99 : decode cX0_finds_2 99 = .ok (.iadd, 1) := dk_96 (dk_at dksX0_finds_2_4 4 rfl rfl)
theorem dX0_finds_2_100 : decode cX0_finds_2 100 = .ok (.putfield 194, 3) := dk_181 0 194 (dk_at dksX0_finds_2_4 5 rfl rfl)
theorem dX0_finds_2_103 : decode cX0_finds_2 103 = .ok (.return_, 1) := dk_177 (dk_at dksX0_finds_2_4 8 rfl rfl)
abbrev cX0_checked : ByteArray := prog_1_method_11_code
def yX0_checked : MethodName := ⟨RX0, "checked", "(LTableCatalog$Formula;LTableCatalog$Wrongs;)C"⟩
def dkwX0_checked_1 : List UInt8 := [6, 45, 180, 0, 180, 182, 0, 97, 21, 4, 172]
abbrev dktX0_checked_1 : List UInt8 := dkwX0_checked_1 ++ []
def dkwX0_checked_0 : List UInt8 := [187, 0, 168, 89, 42, 183, 0, 170, 78, 43, 45, 182, 0, 171, 54, 4, 45, 182, 0, 175, 153, 0, 12, 44]
abbrev dktX0_checked_0 : List UInt8 := dkwX0_checked_0 ++ dktX0_checked_1
theorem dksX0_checked_0 : cX0_checked.data.toList.drop 0 = dktX0_checked_0 := by decide +kernel
theorem dksX0_checked_1 : cX0_checked.data.toList.drop 24 = dktX0_checked_1 := dk_seg dksX0_checked_0 24 rfl rfl
theorem dX0_checked_0 : decode cX0_checked 0 = .ok (.new 168, 3) := dk_187 0 168 (dk_at dksX0_checked_0 0 rfl rfl)
theorem dX0_checked_3 : decode cX0_checked 3 = .ok (.dup, 1) := dk_89 (dk_at dksX0_checked_0 3 rfl rfl)
theorem dX0_checked_4 : decode cX0_checked 4 = .ok (.aload_n 0, 1) := dk_42 (dk_at dksX0_checked_0 4 rfl rfl)
theorem dX0_checked_5 : decode cX0_checked 5 = .ok (.invokespecial 170, 3) := dk_183 0 170 (dk_at dksX0_checked_0 5 rfl rfl)
theorem dX0_checked_8 : decode cX0_checked 8 = .ok (.astore_n 3, 1) := dk_78 (dk_at dksX0_checked_0 8 rfl rfl)
theorem dX0_checked_9 : decode cX0_checked 9 = .ok (.aload_n 1, 1) := dk_43 (dk_at dksX0_checked_0 9 rfl rfl)
theorem dX0_checked_10 : decode cX0_checked 10 = .ok (.aload_n 3, 1) := dk_45 (dk_at dksX0_checked_0 10 rfl rfl)
theorem dX0_checked_11 : decode cX0_checked 11 = .ok (.invokevirtual 171, 3) := dk_182 0 171 (dk_at dksX0_checked_0 11 rfl rfl)
theorem dX0_checked_14 : decode cX0_checked 14 = .ok (.istore 4, 2) := dk_54 4 (dk_at dksX0_checked_0 14 rfl rfl)
theorem dX0_checked_16 : decode cX0_checked 16 = .ok (.aload_n 3, 1) := dk_45 (dk_at dksX0_checked_0 16 rfl rfl)
theorem dX0_checked_17 : decode cX0_checked 17 = .ok (.invokevirtual 175, 3) := dk_182 0 175 (dk_at dksX0_checked_0 17 rfl rfl)
theorem dX0_checked_20 : decode cX0_checked 20 = .ok (.ifCond .eq 12, 3) := dk_153 0 12 (dk_at dksX0_checked_0 20 rfl rfl)
theorem dX0_checked_23 : decode cX0_checked 23 = .ok (.aload_n 2, 1) := dk_44 (dk_at dksX0_checked_0 23 rfl rfl)
theorem dX0_checked_24 : decode cX0_checked 24 = .ok (.iconst 3, 1) := dk_6 (dk_at dksX0_checked_1 0 rfl rfl)
theorem dX0_checked_25 : decode cX0_checked 25 = .ok (.aload_n 3, 1) := dk_45 (dk_at dksX0_checked_1 1 rfl rfl)
theorem dX0_checked_26 : decode cX0_checked 26 = .ok (.getfield 180, 3) := dk_180 0 180 (dk_at dksX0_checked_1 2 rfl rfl)
theorem dX0_checked_29 : decode cX0_checked 29 = .ok (.invokevirtual 97, 3) := dk_182 0 97 (dk_at dksX0_checked_1 5 rfl rfl)
theorem dX0_checked_32 : decode cX0_checked 32 = .ok (.iload 4, 2) := dk_21 4 (dk_at dksX0_checked_1 8 rfl rfl)
theorem dX0_checked_34 : decode cX0_checked 34 = .ok (.ireturn, 1) := dk_172 (dk_at dksX0_checked_1 10 rfl rfl)
abbrev cX0_fault : ByteArray := prog_1_method_14_code
def yX0_fault : MethodName := ⟨RX0, "fault", "(I)I"⟩
def dkwX0_fault_1 : List UInt8 := [172]
abbrev dktX0_fault_1 : List UInt8 := dkwX0_fault_1 ++ []
def dkwX0_fault_0 : List UInt8 := [27, 154, 0, 10, 42, 180, 0, 197, 167, 0, 16, 27, 4, 160, 0, 10, 42, 180, 0, 39, 167, 0, 4, 2]
abbrev dktX0_fault_0 : List UInt8 := dkwX0_fault_0 ++ dktX0_fault_1
theorem dksX0_fault_0 : cX0_fault.data.toList.drop 0 = dktX0_fault_0 := by decide +kernel
theorem dksX0_fault_1 : cX0_fault.data.toList.drop 24 = dktX0_fault_1 := dk_seg dksX0_fault_0 24 rfl rfl
theorem dX0_fault_0 : decode cX0_fault 0 = .ok (.iload_n 1, 1) := dk_27 (dk_at dksX0_fault_0 0 rfl rfl)
theorem dX0_fault_1 : decode cX0_fault 1 = .ok (.ifCond .ne 10, 3) := dk_154 0 10 (dk_at dksX0_fault_0 1 rfl rfl)
theorem dX0_fault_4 : decode cX0_fault 4 = .ok (.aload_n 0, 1) := dk_42 (dk_at dksX0_fault_0 4 rfl rfl)
theorem dX0_fault_5 : decode cX0_fault 5 = .ok (.getfield 197, 3) := dk_180 0 197 (dk_at dksX0_fault_0 5 rfl rfl)
theorem dX0_fault_8 : decode cX0_fault 8 = .ok (.goto 16, 3) := dk_167 0 16 (dk_at dksX0_fault_0 8 rfl rfl)
theorem dX0_fault_11 : decode cX0_fault 11 = .ok (.iload_n 1, 1) := dk_27 (dk_at dksX0_fault_0 11 rfl rfl)
theorem dX0_fault_12 : decode cX0_fault 12 = .ok (.iconst 1, 1) := dk_4 (dk_at dksX0_fault_0 12 rfl rfl)
theorem dX0_fault_13 : decode cX0_fault 13 = .ok (.if_icmp .ne 10, 3) := dk_160 0 10 (dk_at dksX0_fault_0 13 rfl rfl)
theorem dX0_fault_16 : decode cX0_fault 16 = .ok (.aload_n 0, 1) := dk_42 (dk_at dksX0_fault_0 16 rfl rfl)
theorem dX0_fault_17 : decode cX0_fault 17 = .ok (.getfield 39, 3) := dk_180 0 39 (dk_at dksX0_fault_0 17 rfl rfl)
theorem dX0_fault_20 : decode cX0_fault 20 = .ok (.goto 4, 3) := dk_167 0 4 (dk_at dksX0_fault_0 20 rfl rfl)
theorem dX0_fault_23 : decode cX0_fault 23 = .ok (.iconst (-1), 1) := dk_2 (dk_at dksX0_fault_0 23 rfl rfl)
theorem dX0_fault_24 : decode cX0_fault 24 = .ok (.ireturn, 1) := dk_172 (dk_at dksX0_fault_1 0 rfl rfl)
abbrev cX0_named : ByteArray := prog_1_method_15_code
def yX0_named : MethodName := ⟨RX0, "named", "()I"⟩
def dkwX0_named_3 : List UInt8 := [16, 254, 167, 0, 4, 29, 172, 77, 2, 172]
abbrev dktX0_named_3 : List UInt8 := dkwX0_named_3 ++ []
def dkwX0_named_2 : List UInt8 := [180, 0, 61, 182, 0, 231, 2, 159, 0, 5, 2, 172, 42, 44, 182, 0, 90, 62, 29, 2, 160, 0, 8]
abbrev dktX0_named_2 : List UInt8 := dkwX0_named_2 ++ dktX0_named_3
def dkwX0_named_1 : List UInt8 := [180, 0, 61, 27, 181, 0, 223, 42, 180, 0, 61, 3, 181, 0, 225, 42, 180, 0, 61, 182, 0, 228, 77, 42]
abbrev dktX0_named_1 : List UInt8 := dkwX0_named_1 ++ dktX0_named_2
def dkwX0_named_0 : List UInt8 := [42, 180, 0, 76, 60, 42, 3, 181, 0, 76, 42, 180, 0, 61, 42, 180, 0, 43, 181, 0, 220, 42]
abbrev dktX0_named_0 : List UInt8 := dkwX0_named_0 ++ dktX0_named_1
theorem dksX0_named_0 : cX0_named.data.toList.drop 0 = dktX0_named_0 := by decide +kernel
theorem dksX0_named_1 : cX0_named.data.toList.drop 22 = dktX0_named_1 := dk_seg dksX0_named_0 22 rfl rfl
theorem dksX0_named_2 : cX0_named.data.toList.drop 46 = dktX0_named_2 := dk_seg dksX0_named_1 24 rfl rfl
theorem dksX0_named_3 : cX0_named.data.toList.drop 69 = dktX0_named_3 := dk_seg dksX0_named_2 23 rfl rfl
theorem dX0_named_0 : decode cX0_named 0 = .ok (.aload_n 0, 1) := dk_42 (dk_at dksX0_named_0 0 rfl rfl)
theorem dX0_named_1 : decode cX0_named 1 = .ok (.getfield 76, 3) := dk_180 0 76 (dk_at dksX0_named_0 1 rfl rfl)
theorem dX0_named_4 : decode cX0_named 4 = .ok (.istore_n 1, 1) := dk_60 (dk_at dksX0_named_0 4 rfl rfl)
theorem dX0_named_5 : decode cX0_named 5 = .ok (.aload_n 0, 1) := dk_42 (dk_at dksX0_named_0 5 rfl rfl)
theorem dX0_named_6 : decode cX0_named 6 = .ok (.iconst 0, 1) := dk_3 (dk_at dksX0_named_0 6 rfl rfl)
theorem dX0_named_7 : decode cX0_named 7 = .ok (.putfield 76, 3) := dk_181 0 76 (dk_at dksX0_named_0 7 rfl rfl)
theorem dX0_named_10 : decode cX0_named 10 = .ok (.aload_n 0, 1) := dk_42 (dk_at dksX0_named_0 10 rfl rfl)
theorem dX0_named_11 : decode cX0_named 11 = .ok (.getfield 61, 3) := dk_180 0 61 (dk_at dksX0_named_0 11 rfl rfl)
theorem dX0_named_14 : decode cX0_named 14 = .ok (.aload_n 0, 1) := dk_42 (dk_at dksX0_named_0 14 rfl rfl)
theorem dX0_named_15 : decode cX0_named 15 = .ok (.getfield 43, 3) := dk_180 0 43 (dk_at dksX0_named_0 15 rfl rfl)
theorem dX0_named_18 : decode cX0_named 18 = .ok (.putfield 220, 3) := dk_181 0 220 (dk_at dksX0_named_0 18 rfl rfl)
theorem dX0_named_21 : decode cX0_named 21 = .ok (.aload_n 0, 1) := dk_42 (dk_at dksX0_named_0 21 rfl rfl)
theorem dX0_named_22 : decode cX0_named 22 = .ok (.getfield 61, 3) := dk_180 0 61 (dk_at dksX0_named_1 0 rfl rfl)
theorem dX0_named_25 : decode cX0_named 25 = .ok (.iload_n 1, 1) := dk_27 (dk_at dksX0_named_1 3 rfl rfl)
theorem dX0_named_26 : decode cX0_named 26 = .ok (.putfield 223, 3) := dk_181 0 223 (dk_at dksX0_named_1 4 rfl rfl)
theorem dX0_named_29 : decode cX0_named 29 = .ok (.aload_n 0, 1) := dk_42 (dk_at dksX0_named_1 7 rfl rfl)
theorem dX0_named_30 : decode cX0_named 30 = .ok (.getfield 61, 3) := dk_180 0 61 (dk_at dksX0_named_1 8 rfl rfl)
theorem dX0_named_33 : decode cX0_named 33 = .ok (.iconst 0, 1) := dk_3 (dk_at dksX0_named_1 11 rfl rfl)
theorem dX0_named_34 : decode cX0_named 34 = .ok (.putfield 225, 3) := dk_181 0 225 (dk_at dksX0_named_1 12 rfl rfl)
theorem dX0_named_37 : decode cX0_named 37 = .ok (.aload_n 0, 1) := dk_42 (dk_at dksX0_named_1 15 rfl rfl)
theorem dX0_named_38 : decode cX0_named 38 = .ok (.getfield 61, 3) := dk_180 0 61 (dk_at dksX0_named_1 16 rfl rfl)
theorem dX0_named_41 : decode cX0_named 41 = .ok (.invokevirtual 228, 3) := dk_182 0 228 (dk_at dksX0_named_1 19 rfl rfl)
theorem dX0_named_44 : decode cX0_named 44 = .ok (.astore_n 2, 1) := dk_77 (dk_at dksX0_named_1 22 rfl rfl)
theorem dX0_named_45 : decode cX0_named 45 = .ok (.aload_n 0, 1) := dk_42 (dk_at dksX0_named_1 23 rfl rfl)
theorem dX0_named_46 : decode cX0_named 46 = .ok (.getfield 61, 3) := dk_180 0 61 (dk_at dksX0_named_2 0 rfl rfl)
theorem dX0_named_49 : decode cX0_named 49 = .ok (.invokevirtual 231, 3) := dk_182 0 231 (dk_at dksX0_named_2 3 rfl rfl)
theorem dX0_named_52 : decode cX0_named 52 = .ok (.iconst (-1), 1) := dk_2 (dk_at dksX0_named_2 6 rfl rfl)
theorem dX0_named_53 : decode cX0_named 53 = .ok (.if_icmp .eq 5, 3) := dk_159 0 5 (dk_at dksX0_named_2 7 rfl rfl)
theorem dX0_named_56 : decode cX0_named 56 = .ok (.iconst (-1), 1) := dk_2 (dk_at dksX0_named_2 10 rfl rfl)
theorem dX0_named_57 : decode cX0_named 57 = .ok (.ireturn, 1) := dk_172 (dk_at dksX0_named_2 11 rfl rfl)
theorem dX0_named_58 : decode cX0_named 58 = .ok (.aload_n 0, 1) := dk_42 (dk_at dksX0_named_2 12 rfl rfl)
theorem dX0_named_59 : decode cX0_named 59 = .ok (.aload_n 2, 1) := dk_44 (dk_at dksX0_named_2 13 rfl rfl)
theorem dX0_named_60 : decode cX0_named 60 = .ok (.invokevirtual 90, 3) := dk_182 0 90 (dk_at dksX0_named_2 14 rfl rfl)
theorem dX0_named_63 : decode cX0_named 63 = .ok (.istore_n 3, 1) := dk_62 (dk_at dksX0_named_2 17 rfl rfl)
theorem dX0_named_64 : decode cX0_named 64 = .ok (.iload_n 3, 1) := dk_29 (dk_at dksX0_named_2 18 rfl rfl)
theorem dX0_named_65 : decode cX0_named 65 = .ok (.iconst (-1), 1) := dk_2 (dk_at dksX0_named_2 19 rfl rfl)
theorem dX0_named_66 : decode cX0_named 66 = .ok (.if_icmp .ne 8, 3) := dk_160 0 8 (dk_at dksX0_named_2 20 rfl rfl)
theorem dX0_named_69 : decode cX0_named 69 = .ok (.bipush (-2), 2) := dk_16 254 (dk_at dksX0_named_3 0 rfl rfl)
theorem dX0_named_71 : decode cX0_named 71 = .ok (.goto 4, 3) := dk_167 0 4 (dk_at dksX0_named_3 2 rfl rfl)
theorem dX0_named_74 : decode cX0_named 74 = .ok (.iload_n 3, 1) := dk_29 (dk_at dksX0_named_3 5 rfl rfl)
theorem dX0_named_75 : decode cX0_named 75 = .ok (.ireturn, 1) := dk_172 (dk_at dksX0_named_3 6 rfl rfl)
theorem dX0_named_76 : decode cX0_named 76 = .ok (.astore_n 2, 1) := dk_77 (dk_at dksX0_named_3 7 rfl rfl)
theorem dX0_named_77 : decode cX0_named 77 = .ok (.iconst (-1), 1) := dk_2 (dk_at dksX0_named_3 8 rfl rfl)
theorem dX0_named_78 : decode cX0_named 78 = .ok (.ireturn, 1) := dk_172 (dk_at dksX0_named_3 9 rfl rfl)
abbrev cX0_table : ByteArray := prog_1_method_16_code
def yX0_table : MethodName := ⟨RX0, "table", "(II)I"⟩
def dkwX0_table_4 : List UInt8 := [182, 0, 239, 172, 42, 27, 4, 182, 0, 239, 172, 42, 27, 182, 0, 243, 172, 45, 180, 0, 247, 172, 2, 172]
abbrev dktX0_table_4 : List UInt8 := dkwX0_table_4 ++ []
def dkwX0_table_3 : List UInt8 := [180, 0, 131, 162, 0, 14, 45, 180, 0, 126, 28, 6, 100, 46, 167, 0, 4, 2, 172, 42, 27, 3]
abbrev dktX0_table_3 : List UInt8 := dkwX0_table_3 ++ dktX0_table_4
def dkwX0_table_2 : List UInt8 := [45, 180, 0, 237, 172, 45, 180, 0, 103, 182, 0, 107, 172, 45, 180, 0, 131, 172, 28, 6, 100, 45]
abbrev dktX0_table_2 : List UInt8 := dkwX0_table_2 ++ dktX0_table_3
def dkwX0_table_1 : List UInt8 := [170, 0, 0, 0, 0, 0, 121, 0, 0, 0, 0, 0, 0, 0, 9, 0, 0, 0, 55, 0, 0, 0, 60, 0, 0, 0, 68, 0, 0, 0, 73, 0, 0, 0, 73, 0, 0, 0, 73, 0, 0, 0, 96, 0, 0, 0, 103, 0, 0, 0, 110, 0, 0, 0, 116]
abbrev dktX0_table_1 : List UInt8 := dkwX0_table_1 ++ dktX0_table_2
def dkwX0_table_0 : List UInt8 := [42, 27, 182, 0, 234, 78, 45, 199, 0, 5, 2, 172, 28]
abbrev dktX0_table_0 : List UInt8 := dkwX0_table_0 ++ dktX0_table_1
theorem dksX0_table_0 : cX0_table.data.toList.drop 0 = dktX0_table_0 := by decide +kernel
theorem dksX0_table_1 : cX0_table.data.toList.drop 13 = dktX0_table_1 := dk_seg dksX0_table_0 13 rfl rfl
theorem dksX0_table_2 : cX0_table.data.toList.drop 68 = dktX0_table_2 := dk_seg dksX0_table_1 55 rfl rfl
theorem dksX0_table_3 : cX0_table.data.toList.drop 90 = dktX0_table_3 := dk_seg dksX0_table_2 22 rfl rfl
theorem dksX0_table_4 : cX0_table.data.toList.drop 112 = dktX0_table_4 := dk_seg dksX0_table_3 22 rfl rfl
theorem dX0_table_0 : decode cX0_table 0 = .ok (.aload_n 0, 1) := dk_42 (dk_at dksX0_table_0 0 rfl rfl)
theorem dX0_table_1 : decode cX0_table 1 = .ok (.iload_n 1, 1) := dk_27 (dk_at dksX0_table_0 1 rfl rfl)
theorem dX0_table_2 : decode cX0_table 2 = .ok (.invokevirtual 234, 3) := dk_182 0 234 (dk_at dksX0_table_0 2 rfl rfl)
theorem dX0_table_5 : decode cX0_table 5 = .ok (.astore_n 3, 1) := dk_78 (dk_at dksX0_table_0 5 rfl rfl)
theorem dX0_table_6 : decode cX0_table 6 = .ok (.aload_n 3, 1) := dk_45 (dk_at dksX0_table_0 6 rfl rfl)
theorem dX0_table_7 : decode cX0_table 7 = .ok (.ifnonnull 5, 3) := dk_199 0 5 (dk_at dksX0_table_0 7 rfl rfl)
theorem dX0_table_10 : decode cX0_table 10 = .ok (.iconst (-1), 1) := dk_2 (dk_at dksX0_table_0 10 rfl rfl)
theorem dX0_table_11 : decode cX0_table 11 = .ok (.ireturn, 1) := dk_172 (dk_at dksX0_table_0 11 rfl rfl)
theorem dX0_table_12 : decode cX0_table 12 = .ok (.iload_n 2, 1) := dk_28 (dk_at dksX0_table_0 12 rfl rfl)
theorem dX0_table_13 : decode cX0_table 13 = .ok (.tableswitch 121 0 9 #[55, 60, 68, 73, 73, 73, 96, 103, 110, 116], 55) := by decide +kernel
theorem dX0_table_68 : decode cX0_table 68 = .ok (.aload_n 3, 1) := dk_45 (dk_at dksX0_table_2 0 rfl rfl)
theorem dX0_table_69 : decode cX0_table 69 = .ok (.getfield 237, 3) := dk_180 0 237 (dk_at dksX0_table_2 1 rfl rfl)
theorem dX0_table_72 : decode cX0_table 72 = .ok (.ireturn, 1) := dk_172 (dk_at dksX0_table_2 4 rfl rfl)
theorem dX0_table_73 : decode cX0_table 73 = .ok (.aload_n 3, 1) := dk_45 (dk_at dksX0_table_2 5 rfl rfl)
theorem dX0_table_74 : decode cX0_table 74 = .ok (.getfield 103, 3) := dk_180 0 103 (dk_at dksX0_table_2 6 rfl rfl)
theorem dX0_table_77 : decode cX0_table 77 = .ok (.invokevirtual 107, 3) := dk_182 0 107 (dk_at dksX0_table_2 9 rfl rfl)
theorem dX0_table_80 : decode cX0_table 80 = .ok (.ireturn, 1) := dk_172 (dk_at dksX0_table_2 12 rfl rfl)
theorem dX0_table_81 : decode cX0_table 81 = .ok (.aload_n 3, 1) := dk_45 (dk_at dksX0_table_2 13 rfl rfl)
theorem dX0_table_82 : decode cX0_table 82 = .ok (.getfield 131, 3) := dk_180 0 131 (dk_at dksX0_table_2 14 rfl rfl)
theorem dX0_table_85 : decode cX0_table 85 = .ok (.ireturn, 1) := dk_172 (dk_at dksX0_table_2 17 rfl rfl)
theorem dX0_table_86 : decode cX0_table 86 = .ok (.iload_n 2, 1) := dk_28 (dk_at dksX0_table_2 18 rfl rfl)
theorem dX0_table_87 : decode cX0_table 87 = .ok (.iconst 3, 1) := dk_6 (dk_at dksX0_table_2 19 rfl rfl)
theorem dX0_table_88 : decode cX0_table 88 = .ok (.isub, 1) := dk_100 (dk_at dksX0_table_2 20 rfl rfl)
theorem dX0_table_89 : decode cX0_table 89 = .ok (.aload_n 3, 1) := dk_45 (dk_at dksX0_table_2 21 rfl rfl)
theorem dX0_table_90 : decode cX0_table 90 = .ok (.getfield 131, 3) := dk_180 0 131 (dk_at dksX0_table_3 0 rfl rfl)
theorem dX0_table_93 : decode cX0_table 93 = .ok (.if_icmp .ge 14, 3) := dk_162 0 14 (dk_at dksX0_table_3 3 rfl rfl)
theorem dX0_table_96 : decode cX0_table 96 = .ok (.aload_n 3, 1) := dk_45 (dk_at dksX0_table_3 6 rfl rfl)
theorem dX0_table_97 : decode cX0_table 97 = .ok (.getfield 126, 3) := dk_180 0 126 (dk_at dksX0_table_3 7 rfl rfl)
theorem dX0_table_100 : decode cX0_table 100 = .ok (.iload_n 2, 1) := dk_28 (dk_at dksX0_table_3 10 rfl rfl)
theorem dX0_table_101 : decode cX0_table 101 = .ok (.iconst 3, 1) := dk_6 (dk_at dksX0_table_3 11 rfl rfl)
theorem dX0_table_102 : decode cX0_table 102 = .ok (.isub, 1) := dk_100 (dk_at dksX0_table_3 12 rfl rfl)
theorem dX0_table_103 : decode cX0_table 103 = .ok (.iaload, 1) := dk_46 (dk_at dksX0_table_3 13 rfl rfl)
theorem dX0_table_104 : decode cX0_table 104 = .ok (.goto 4, 3) := dk_167 0 4 (dk_at dksX0_table_3 14 rfl rfl)
theorem dX0_table_107 : decode cX0_table 107 = .ok (.iconst (-1), 1) := dk_2 (dk_at dksX0_table_3 17 rfl rfl)
theorem dX0_table_108 : decode cX0_table 108 = .ok (.ireturn, 1) := dk_172 (dk_at dksX0_table_3 18 rfl rfl)
theorem dX0_table_109 : decode cX0_table 109 = .ok (.aload_n 0, 1) := dk_42 (dk_at dksX0_table_3 19 rfl rfl)
theorem dX0_table_110 : decode cX0_table 110 = .ok (.iload_n 1, 1) := dk_27 (dk_at dksX0_table_3 20 rfl rfl)
theorem dX0_table_111 : decode cX0_table 111 = .ok (.iconst 0, 1) := dk_3 (dk_at dksX0_table_3 21 rfl rfl)
theorem dX0_table_112 : decode cX0_table 112 = .ok (.invokevirtual 239, 3) := dk_182 0 239 (dk_at dksX0_table_4 0 rfl rfl)
theorem dX0_table_115 : decode cX0_table 115 = .ok (.ireturn, 1) := dk_172 (dk_at dksX0_table_4 3 rfl rfl)
theorem dX0_table_116 : decode cX0_table 116 = .ok (.aload_n 0, 1) := dk_42 (dk_at dksX0_table_4 4 rfl rfl)
theorem dX0_table_117 : decode cX0_table 117 = .ok (.iload_n 1, 1) := dk_27 (dk_at dksX0_table_4 5 rfl rfl)
theorem dX0_table_118 : decode cX0_table 118 = .ok (.iconst 1, 1) := dk_4 (dk_at dksX0_table_4 6 rfl rfl)
theorem dX0_table_119 : decode cX0_table 119 = .ok (.invokevirtual 239, 3) := dk_182 0 239 (dk_at dksX0_table_4 7 rfl rfl)
theorem dX0_table_122 : decode cX0_table 122 = .ok (.ireturn, 1) := dk_172 (dk_at dksX0_table_4 10 rfl rfl)
theorem dX0_table_123 : decode cX0_table 123 = .ok (.aload_n 0, 1) := dk_42 (dk_at dksX0_table_4 11 rfl rfl)
theorem dX0_table_124 : decode cX0_table 124 = .ok (.iload_n 1, 1) := dk_27 (dk_at dksX0_table_4 12 rfl rfl)
theorem dX0_table_125 : decode cX0_table 125 = .ok (.invokevirtual 243, 3) := dk_182 0 243 (dk_at dksX0_table_4 13 rfl rfl)
theorem dX0_table_128 : decode cX0_table 128 = .ok (.ireturn, 1) := dk_172 (dk_at dksX0_table_4 16 rfl rfl)
theorem dX0_table_129 : decode cX0_table 129 = .ok (.aload_n 3, 1) := dk_45 (dk_at dksX0_table_4 17 rfl rfl)
theorem dX0_table_130 : decode cX0_table 130 = .ok (.getfield 247, 3) := dk_180 0 247 (dk_at dksX0_table_4 18 rfl rfl)
theorem dX0_table_133 : decode cX0_table 133 = .ok (.ireturn, 1) := dk_172 (dk_at dksX0_table_4 21 rfl rfl)
theorem dX0_table_134 : decode cX0_table 134 = .ok (.iconst (-1), 1) := dk_2 (dk_at dksX0_table_4 22 rfl rfl)
theorem dX0_table_135 : decode cX0_table 135 = .ok (.ireturn, 1) := dk_172 (dk_at dksX0_table_4 23 rfl rfl)
abbrev cX0_table_2 : ByteArray := prog_1_method_8_code
def yX0_table_2 : MethodName := ⟨RX0, "table", "(I)LTableCatalog$Table;"⟩
def dkwX0_table_2_0 : List UInt8 := [27, 155, 0, 11, 27, 42, 180, 0, 83, 161, 0, 7, 1, 167, 0, 9, 42, 180, 0, 35, 27, 50, 176]
abbrev dktX0_table_2_0 : List UInt8 := dkwX0_table_2_0 ++ []
theorem dksX0_table_2_0 : cX0_table_2.data.toList.drop 0 = dktX0_table_2_0 := by decide +kernel
theorem dX0_table_2_0 : decode cX0_table_2 0 = .ok (.iload_n 1, 1) := dk_27 (dk_at dksX0_table_2_0 0 rfl rfl)
theorem dX0_table_2_1 : decode cX0_table_2 1 = .ok (.ifCond .lt 11, 3) := dk_155 0 11 (dk_at dksX0_table_2_0 1 rfl rfl)
theorem dX0_table_2_4 : decode cX0_table_2 4 = .ok (.iload_n 1, 1) := dk_27 (dk_at dksX0_table_2_0 4 rfl rfl)
theorem dX0_table_2_5 : decode cX0_table_2 5 = .ok (.aload_n 0, 1) := dk_42 (dk_at dksX0_table_2_0 5 rfl rfl)
theorem dX0_table_2_6 : decode cX0_table_2 6 = .ok (.getfield 83, 3) := dk_180 0 83 (dk_at dksX0_table_2_0 6 rfl rfl)
theorem dX0_table_2_9 : decode cX0_table_2 9 = .ok (.if_icmp .lt 7, 3) := dk_161 0 7 (dk_at dksX0_table_2_0 9 rfl rfl)
theorem dX0_table_2_12 : decode cX0_table_2 12 = .ok (.aconst_null, 1) := dk_1 (dk_at dksX0_table_2_0 12 rfl rfl)
theorem dX0_table_2_13 : decode cX0_table_2 13 = .ok (.goto 9, 3) := dk_167 0 9 (dk_at dksX0_table_2_0 13 rfl rfl)
theorem dX0_table_2_16 : decode cX0_table_2 16 = .ok (.aload_n 0, 1) := dk_42 (dk_at dksX0_table_2_0 16 rfl rfl)
theorem dX0_table_2_17 : decode cX0_table_2 17 = .ok (.getfield 35, 3) := dk_180 0 35 (dk_at dksX0_table_2_0 17 rfl rfl)
theorem dX0_table_2_20 : decode cX0_table_2 20 = .ok (.iload_n 1, 1) := dk_27 (dk_at dksX0_table_2_0 20 rfl rfl)
theorem dX0_table_2_21 : decode cX0_table_2 21 = .ok (.aaload, 1) := dk_50 (dk_at dksX0_table_2_0 21 rfl rfl)
theorem dX0_table_2_22 : decode cX0_table_2 22 = .ok (.areturn, 1) := dk_176 (dk_at dksX0_table_2_0 22 rfl rfl)
abbrev cX0_age : ByteArray := prog_1_method_33_code
def yX0_age : MethodName := ⟨RX0, "age", "(IZ)I"⟩
def dkwX0_age_2 : List UInt8 := [172]
abbrev dktX0_age_2 : List UInt8 := dkwX0_age_2 ++ []
def dkwX0_age_1 : List UInt8 := [153, 0, 15, 42, 180, 0, 35, 27, 50, 180, 1, 35, 167, 0, 12, 42, 180, 0, 35, 27, 50, 180, 1, 38]
abbrev dktX0_age_1 : List UInt8 := dkwX0_age_1 ++ dktX0_age_2
def dkwX0_age_0 : List UInt8 := [42, 180, 0, 35, 27, 50, 180, 0, 237, 4, 160, 0, 12, 42, 27, 28, 182, 1, 32, 167, 0, 28, 28]
abbrev dktX0_age_0 : List UInt8 := dkwX0_age_0 ++ dktX0_age_1
theorem dksX0_age_0 : cX0_age.data.toList.drop 0 = dktX0_age_0 := by decide +kernel
theorem dksX0_age_1 : cX0_age.data.toList.drop 23 = dktX0_age_1 := dk_seg dksX0_age_0 23 rfl rfl
theorem dksX0_age_2 : cX0_age.data.toList.drop 47 = dktX0_age_2 := dk_seg dksX0_age_1 24 rfl rfl
theorem dX0_age_0 : decode cX0_age 0 = .ok (.aload_n 0, 1) := dk_42 (dk_at dksX0_age_0 0 rfl rfl)
theorem dX0_age_1 : decode cX0_age 1 = .ok (.getfield 35, 3) := dk_180 0 35 (dk_at dksX0_age_0 1 rfl rfl)
theorem dX0_age_4 : decode cX0_age 4 = .ok (.iload_n 1, 1) := dk_27 (dk_at dksX0_age_0 4 rfl rfl)
theorem dX0_age_5 : decode cX0_age 5 = .ok (.aaload, 1) := dk_50 (dk_at dksX0_age_0 5 rfl rfl)
theorem dX0_age_6 : decode cX0_age 6 = .ok (.getfield 237, 3) := dk_180 0 237 (dk_at dksX0_age_0 6 rfl rfl)
theorem dX0_age_9 : decode cX0_age 9 = .ok (.iconst 1, 1) := dk_4 (dk_at dksX0_age_0 9 rfl rfl)
theorem dX0_age_10 : decode cX0_age 10 = .ok (.if_icmp .ne 12, 3) := dk_160 0 12 (dk_at dksX0_age_0 10 rfl rfl)
theorem dX0_age_13 : decode cX0_age 13 = .ok (.aload_n 0, 1) := dk_42 (dk_at dksX0_age_0 13 rfl rfl)
theorem dX0_age_14 : decode cX0_age 14 = .ok (.iload_n 1, 1) := dk_27 (dk_at dksX0_age_0 14 rfl rfl)
theorem dX0_age_15 : decode cX0_age 15 = .ok (.iload_n 2, 1) := dk_28 (dk_at dksX0_age_0 15 rfl rfl)
theorem dX0_age_16 : decode cX0_age 16 = .ok (.invokevirtual 288, 3) := dk_182 1 32 (dk_at dksX0_age_0 16 rfl rfl)
theorem dX0_age_19 : decode cX0_age 19 = .ok (.goto 28, 3) := dk_167 0 28 (dk_at dksX0_age_0 19 rfl rfl)
theorem dX0_age_22 : decode cX0_age 22 = .ok (.iload_n 2, 1) := dk_28 (dk_at dksX0_age_0 22 rfl rfl)
theorem dX0_age_23 : decode cX0_age 23 = .ok (.ifCond .eq 15, 3) := dk_153 0 15 (dk_at dksX0_age_1 0 rfl rfl)
theorem dX0_age_26 : decode cX0_age 26 = .ok (.aload_n 0, 1) := dk_42 (dk_at dksX0_age_1 3 rfl rfl)
theorem dX0_age_27 : decode cX0_age 27 = .ok (.getfield 35, 3) := dk_180 0 35 (dk_at dksX0_age_1 4 rfl rfl)
theorem dX0_age_30 : decode cX0_age 30 = .ok (.iload_n 1, 1) := dk_27 (dk_at dksX0_age_1 7 rfl rfl)
theorem dX0_age_31 : decode cX0_age 31 = .ok (.aaload, 1) := dk_50 (dk_at dksX0_age_1 8 rfl rfl)
theorem dX0_age_32 : decode cX0_age 32 = .ok (.getfield 291, 3) := dk_180 1 35 (dk_at dksX0_age_1 9 rfl rfl)
theorem dX0_age_35 : decode cX0_age 35 = .ok (.goto 12, 3) := dk_167 0 12 (dk_at dksX0_age_1 12 rfl rfl)
theorem dX0_age_38 : decode cX0_age 38 = .ok (.aload_n 0, 1) := dk_42 (dk_at dksX0_age_1 15 rfl rfl)
theorem dX0_age_39 : decode cX0_age 39 = .ok (.getfield 35, 3) := dk_180 0 35 (dk_at dksX0_age_1 16 rfl rfl)
theorem dX0_age_42 : decode cX0_age 42 = .ok (.iload_n 1, 1) := dk_27 (dk_at dksX0_age_1 19 rfl rfl)
theorem dX0_age_43 : decode cX0_age 43 = .ok (.aaload, 1) := dk_50 (dk_at dksX0_age_1 20 rfl rfl)
theorem dX0_age_44 : decode cX0_age 44 = .ok (.getfield 294, 3) := dk_180 1 38 (dk_at dksX0_age_1 21 rfl rfl)
theorem dX0_age_47 : decode cX0_age 47 = .ok (.ireturn, 1) := dk_172 (dk_at dksX0_age_2 0 rfl rfl)
abbrev cX0_made : ByteArray := prog_1_method_34_code
def yX0_made : MethodName := ⟨RX0, "made", "(IZ)I"⟩
def dkwX0_made_3 : List UInt8 := [184, 1, 41, 167, 0, 10, 21, 4, 21, 6, 184, 1, 47, 54, 4, 132, 5, 1, 167, 255, 191, 21, 4, 172]
abbrev dktX0_made_3 : List UInt8 := dkwX0_made_3 ++ []
def dkwX0_made_2 : List UInt8 := [182, 0, 239, 54, 6, 21, 6, 2, 160, 0, 7, 2, 167, 0, 24, 28, 153, 0, 13, 21, 4, 21, 6]
abbrev dktX0_made_2 : List UInt8 := dkwX0_made_2 ++ dktX0_made_3
def dkwX0_made_1 : List UInt8 := [21, 5, 45, 180, 0, 131, 162, 0, 62, 21, 4, 2, 159, 0, 56, 42, 45, 180, 0, 126, 21, 5, 46, 28]
abbrev dktX0_made_1 : List UInt8 := dkwX0_made_1 ++ dktX0_made_2
def dkwX0_made_0 : List UInt8 := [42, 180, 0, 35, 27, 50, 78, 42, 45, 180, 0, 126, 3, 46, 28, 182, 0, 239, 54, 4, 4, 54, 5]
abbrev dktX0_made_0 : List UInt8 := dkwX0_made_0 ++ dktX0_made_1
theorem dksX0_made_0 : cX0_made.data.toList.drop 0 = dktX0_made_0 := by decide +kernel
theorem dksX0_made_1 : cX0_made.data.toList.drop 23 = dktX0_made_1 := dk_seg dksX0_made_0 23 rfl rfl
theorem dksX0_made_2 : cX0_made.data.toList.drop 47 = dktX0_made_2 := dk_seg dksX0_made_1 24 rfl rfl
theorem dksX0_made_3 : cX0_made.data.toList.drop 70 = dktX0_made_3 := dk_seg dksX0_made_2 23 rfl rfl
theorem dX0_made_0 : decode cX0_made 0 = .ok (.aload_n 0, 1) := dk_42 (dk_at dksX0_made_0 0 rfl rfl)
theorem dX0_made_1 : decode cX0_made 1 = .ok (.getfield 35, 3) := dk_180 0 35 (dk_at dksX0_made_0 1 rfl rfl)
theorem dX0_made_4 : decode cX0_made 4 = .ok (.iload_n 1, 1) := dk_27 (dk_at dksX0_made_0 4 rfl rfl)
theorem dX0_made_5 : decode cX0_made 5 = .ok (.aaload, 1) := dk_50 (dk_at dksX0_made_0 5 rfl rfl)
theorem dX0_made_6 : decode cX0_made 6 = .ok (.astore_n 3, 1) := dk_78 (dk_at dksX0_made_0 6 rfl rfl)
theorem dX0_made_7 : decode cX0_made 7 = .ok (.aload_n 0, 1) := dk_42 (dk_at dksX0_made_0 7 rfl rfl)
theorem dX0_made_8 : decode cX0_made 8 = .ok (.aload_n 3, 1) := dk_45 (dk_at dksX0_made_0 8 rfl rfl)
theorem dX0_made_9 : decode cX0_made 9 = .ok (.getfield 126, 3) := dk_180 0 126 (dk_at dksX0_made_0 9 rfl rfl)
theorem dX0_made_12 : decode cX0_made 12 = .ok (.iconst 0, 1) := dk_3 (dk_at dksX0_made_0 12 rfl rfl)
theorem dX0_made_13 : decode cX0_made 13 = .ok (.iaload, 1) := dk_46 (dk_at dksX0_made_0 13 rfl rfl)
theorem dX0_made_14 : decode cX0_made 14 = .ok (.iload_n 2, 1) := dk_28 (dk_at dksX0_made_0 14 rfl rfl)
theorem dX0_made_15 : decode cX0_made 15 = .ok (.invokevirtual 239, 3) := dk_182 0 239 (dk_at dksX0_made_0 15 rfl rfl)
theorem dX0_made_18 : decode cX0_made 18 = .ok (.istore 4, 2) := dk_54 4 (dk_at dksX0_made_0 18 rfl rfl)
theorem dX0_made_20 : decode cX0_made 20 = .ok (.iconst 1, 1) := dk_4 (dk_at dksX0_made_0 20 rfl rfl)
theorem dX0_made_21 : decode cX0_made 21 = .ok (.istore 5, 2) := dk_54 5 (dk_at dksX0_made_0 21 rfl rfl)
theorem dX0_made_23 : decode cX0_made 23 = .ok (.iload 5, 2) := dk_21 5 (dk_at dksX0_made_1 0 rfl rfl)
theorem dX0_made_25 : decode cX0_made 25 = .ok (.aload_n 3, 1) := dk_45 (dk_at dksX0_made_1 2 rfl rfl)
theorem dX0_made_26 : decode cX0_made 26 = .ok (.getfield 131, 3) := dk_180 0 131 (dk_at dksX0_made_1 3 rfl rfl)
theorem dX0_made_29 : decode cX0_made 29 = .ok (.if_icmp .ge 62, 3) := dk_162 0 62 (dk_at dksX0_made_1 6 rfl rfl)
theorem dX0_made_32 : decode cX0_made 32 = .ok (.iload 4, 2) := dk_21 4 (dk_at dksX0_made_1 9 rfl rfl)
theorem dX0_made_34 : decode cX0_made 34 = .ok (.iconst (-1), 1) := dk_2 (dk_at dksX0_made_1 11 rfl rfl)
theorem dX0_made_35 : decode cX0_made 35 = .ok (.if_icmp .eq 56, 3) := dk_159 0 56 (dk_at dksX0_made_1 12 rfl rfl)
theorem dX0_made_38 : decode cX0_made 38 = .ok (.aload_n 0, 1) := dk_42 (dk_at dksX0_made_1 15 rfl rfl)
theorem dX0_made_39 : decode cX0_made 39 = .ok (.aload_n 3, 1) := dk_45 (dk_at dksX0_made_1 16 rfl rfl)
theorem dX0_made_40 : decode cX0_made 40 = .ok (.getfield 126, 3) := dk_180 0 126 (dk_at dksX0_made_1 17 rfl rfl)
theorem dX0_made_43 : decode cX0_made 43 = .ok (.iload 5, 2) := dk_21 5 (dk_at dksX0_made_1 20 rfl rfl)
theorem dX0_made_45 : decode cX0_made 45 = .ok (.iaload, 1) := dk_46 (dk_at dksX0_made_1 22 rfl rfl)
theorem dX0_made_46 : decode cX0_made 46 = .ok (.iload_n 2, 1) := dk_28 (dk_at dksX0_made_1 23 rfl rfl)
theorem dX0_made_47 : decode cX0_made 47 = .ok (.invokevirtual 239, 3) := dk_182 0 239 (dk_at dksX0_made_2 0 rfl rfl)
theorem dX0_made_50 : decode cX0_made 50 = .ok (.istore 6, 2) := dk_54 6 (dk_at dksX0_made_2 3 rfl rfl)
theorem dX0_made_52 : decode cX0_made 52 = .ok (.iload 6, 2) := dk_21 6 (dk_at dksX0_made_2 5 rfl rfl)
theorem dX0_made_54 : decode cX0_made 54 = .ok (.iconst (-1), 1) := dk_2 (dk_at dksX0_made_2 7 rfl rfl)
theorem dX0_made_55 : decode cX0_made 55 = .ok (.if_icmp .ne 7, 3) := dk_160 0 7 (dk_at dksX0_made_2 8 rfl rfl)
theorem dX0_made_58 : decode cX0_made 58 = .ok (.iconst (-1), 1) := dk_2 (dk_at dksX0_made_2 11 rfl rfl)
theorem dX0_made_59 : decode cX0_made 59 = .ok (.goto 24, 3) := dk_167 0 24 (dk_at dksX0_made_2 12 rfl rfl)
theorem dX0_made_62 : decode cX0_made 62 = .ok (.iload_n 2, 1) := dk_28 (dk_at dksX0_made_2 15 rfl rfl)
theorem dX0_made_63 : decode cX0_made 63 = .ok (.ifCond .eq 13, 3) := dk_153 0 13 (dk_at dksX0_made_2 16 rfl rfl)
theorem dX0_made_66 : decode cX0_made 66 = .ok (.iload 4, 2) := dk_21 4 (dk_at dksX0_made_2 19 rfl rfl)
theorem dX0_made_68 : decode cX0_made 68 = .ok (.iload 6, 2) := dk_21 6 (dk_at dksX0_made_2 21 rfl rfl)
theorem dX0_made_70 : decode cX0_made 70 = .ok (.invokestatic 297, 3) := dk_184 1 41 (dk_at dksX0_made_3 0 rfl rfl)
theorem dX0_made_73 : decode cX0_made 73 = .ok (.goto 10, 3) := dk_167 0 10 (dk_at dksX0_made_3 3 rfl rfl)
theorem dX0_made_76 : decode cX0_made 76 = .ok (.iload 4, 2) := dk_21 4 (dk_at dksX0_made_3 6 rfl rfl)
theorem dX0_made_78 : decode cX0_made 78 = .ok (.iload 6, 2) := dk_21 6 (dk_at dksX0_made_3 8 rfl rfl)
theorem dX0_made_80 : decode cX0_made 80 = .ok (.invokestatic 303, 3) := dk_184 1 47 (dk_at dksX0_made_3 10 rfl rfl)
theorem dX0_made_83 : decode cX0_made 83 = .ok (.istore 4, 2) := dk_54 4 (dk_at dksX0_made_3 13 rfl rfl)
theorem dX0_made_85 : decode cX0_made 85 = .ok (.iinc 5 1, 3) := dk_132 5 1 (dk_at dksX0_made_3 15 rfl rfl)
theorem dX0_made_88 : decode cX0_made 88 = .ok (.goto (-65), 3) := dk_167 255 191 (dk_at dksX0_made_3 18 rfl rfl)
theorem dX0_made_91 : decode cX0_made 91 = .ok (.iload 4, 2) := dk_21 4 (dk_at dksX0_made_3 21 rfl rfl)
theorem dX0_made_93 : decode cX0_made 93 = .ok (.ireturn, 1) := dk_172 (dk_at dksX0_made_3 23 rfl rfl)
abbrev cX0_owner : ByteArray := prog_1_method_43_code
def yX0_owner : MethodName := ⟨RX0, "owner", "(I)I"⟩
def dkwX0_owner_2 : List UInt8 := [180, 1, 60, 172]
abbrev dktX0_owner_2 : List UInt8 := dkwX0_owner_2 ++ []
def dkwX0_owner_1 : List UInt8 := [158, 0, 18, 42, 180, 0, 35, 28, 50, 180, 0, 126, 3, 46, 61, 167, 255, 219, 42, 180, 0, 35, 28, 50]
abbrev dktX0_owner_1 : List UInt8 := dkwX0_owner_1 ++ dktX0_owner_2
def dkwX0_owner_0 : List UInt8 := [27, 61, 42, 180, 0, 35, 28, 50, 180, 1, 60, 2, 160, 0, 30, 42, 180, 0, 35, 28, 50, 180, 0, 131]
abbrev dktX0_owner_0 : List UInt8 := dkwX0_owner_0 ++ dktX0_owner_1
theorem dksX0_owner_0 : cX0_owner.data.toList.drop 0 = dktX0_owner_0 := by decide +kernel
theorem dksX0_owner_1 : cX0_owner.data.toList.drop 24 = dktX0_owner_1 := dk_seg dksX0_owner_0 24 rfl rfl
theorem dksX0_owner_2 : cX0_owner.data.toList.drop 48 = dktX0_owner_2 := dk_seg dksX0_owner_1 24 rfl rfl
theorem dX0_owner_0 : decode cX0_owner 0 = .ok (.iload_n 1, 1) := dk_27 (dk_at dksX0_owner_0 0 rfl rfl)
theorem dX0_owner_1 : decode cX0_owner 1 = .ok (.istore_n 2, 1) := dk_61 (dk_at dksX0_owner_0 1 rfl rfl)
theorem dX0_owner_2 : decode cX0_owner 2 = .ok (.aload_n 0, 1) := dk_42 (dk_at dksX0_owner_0 2 rfl rfl)
theorem dX0_owner_3 : decode cX0_owner 3 = .ok (.getfield 35, 3) := dk_180 0 35 (dk_at dksX0_owner_0 3 rfl rfl)
theorem dX0_owner_6 : decode cX0_owner 6 = .ok (.iload_n 2, 1) := dk_28 (dk_at dksX0_owner_0 6 rfl rfl)
theorem dX0_owner_7 : decode cX0_owner 7 = .ok (.aaload, 1) := dk_50 (dk_at dksX0_owner_0 7 rfl rfl)
theorem dX0_owner_8 : decode cX0_owner 8 = .ok (.getfield 316, 3) := dk_180 1 60 (dk_at dksX0_owner_0 8 rfl rfl)
theorem dX0_owner_11 : decode cX0_owner 11 = .ok (.iconst (-1), 1) := dk_2 (dk_at dksX0_owner_0 11 rfl rfl)
theorem dX0_owner_12 : decode cX0_owner 12 = .ok (.if_icmp .ne 30, 3) := dk_160 0 30 (dk_at dksX0_owner_0 12 rfl rfl)
theorem dX0_owner_15 : decode cX0_owner 15 = .ok (.aload_n 0, 1) := dk_42 (dk_at dksX0_owner_0 15 rfl rfl)
theorem dX0_owner_16 : decode cX0_owner 16 = .ok (.getfield 35, 3) := dk_180 0 35 (dk_at dksX0_owner_0 16 rfl rfl)
theorem dX0_owner_19 : decode cX0_owner 19 = .ok (.iload_n 2, 1) := dk_28 (dk_at dksX0_owner_0 19 rfl rfl)
theorem dX0_owner_20 : decode cX0_owner 20 = .ok (.aaload, 1) := dk_50 (dk_at dksX0_owner_0 20 rfl rfl)
theorem dX0_owner_21 : decode cX0_owner 21 = .ok (.getfield 131, 3) := dk_180 0 131 (dk_at dksX0_owner_0 21 rfl rfl)
theorem dX0_owner_24 : decode cX0_owner 24 = .ok (.ifCond .le 18, 3) := dk_158 0 18 (dk_at dksX0_owner_1 0 rfl rfl)
theorem dX0_owner_27 : decode cX0_owner 27 = .ok (.aload_n 0, 1) := dk_42 (dk_at dksX0_owner_1 3 rfl rfl)
theorem dX0_owner_28 : decode cX0_owner 28 = .ok (.getfield 35, 3) := dk_180 0 35 (dk_at dksX0_owner_1 4 rfl rfl)
theorem dX0_owner_31 : decode cX0_owner 31 = .ok (.iload_n 2, 1) := dk_28 (dk_at dksX0_owner_1 7 rfl rfl)
theorem dX0_owner_32 : decode cX0_owner 32 = .ok (.aaload, 1) := dk_50 (dk_at dksX0_owner_1 8 rfl rfl)
theorem dX0_owner_33 : decode cX0_owner 33 = .ok (.getfield 126, 3) := dk_180 0 126 (dk_at dksX0_owner_1 9 rfl rfl)
theorem dX0_owner_36 : decode cX0_owner 36 = .ok (.iconst 0, 1) := dk_3 (dk_at dksX0_owner_1 12 rfl rfl)
theorem dX0_owner_37 : decode cX0_owner 37 = .ok (.iaload, 1) := dk_46 (dk_at dksX0_owner_1 13 rfl rfl)
theorem dX0_owner_38 : decode cX0_owner 38 = .ok (.istore_n 2, 1) := dk_61 (dk_at dksX0_owner_1 14 rfl rfl)
theorem dX0_owner_39 : decode cX0_owner 39 = .ok (.goto (-37), 3) := dk_167 255 219 (dk_at dksX0_owner_1 15 rfl rfl)
theorem dX0_owner_42 : decode cX0_owner 42 = .ok (.aload_n 0, 1) := dk_42 (dk_at dksX0_owner_1 18 rfl rfl)
theorem dX0_owner_43 : decode cX0_owner 43 = .ok (.getfield 35, 3) := dk_180 0 35 (dk_at dksX0_owner_1 19 rfl rfl)
theorem dX0_owner_46 : decode cX0_owner 46 = .ok (.iload_n 2, 1) := dk_28 (dk_at dksX0_owner_1 22 rfl rfl)
theorem dX0_owner_47 : decode cX0_owner 47 = .ok (.aaload, 1) := dk_50 (dk_at dksX0_owner_1 23 rfl rfl)
theorem dX0_owner_48 : decode cX0_owner 48 = .ok (.getfield 316, 3) := dk_180 1 60 (dk_at dksX0_owner_2 0 rfl rfl)
theorem dX0_owner_51 : decode cX0_owner 51 = .ok (.ireturn, 1) := dk_172 (dk_at dksX0_owner_2 3 rfl rfl)
abbrev cX0_type : ByteArray := prog_1_method_18_code
def yX0_type : MethodName := ⟨RX0, "type", "(II)I"⟩
def dkwX0_type_1 : List UInt8 := [172]
abbrev dktX0_type_1 : List UInt8 := dkwX0_type_1 ++ []
def dkwX0_type_0 : List UInt8 := [42, 27, 28, 182, 0, 250, 153, 0, 17, 42, 180, 0, 35, 27, 50, 180, 0, 149, 28, 52, 167, 0, 4, 2]
abbrev dktX0_type_0 : List UInt8 := dkwX0_type_0 ++ dktX0_type_1
theorem dksX0_type_0 : cX0_type.data.toList.drop 0 = dktX0_type_0 := by decide +kernel
theorem dksX0_type_1 : cX0_type.data.toList.drop 24 = dktX0_type_1 := dk_seg dksX0_type_0 24 rfl rfl
theorem dX0_type_0 : decode cX0_type 0 = .ok (.aload_n 0, 1) := dk_42 (dk_at dksX0_type_0 0 rfl rfl)
theorem dX0_type_1 : decode cX0_type 1 = .ok (.iload_n 1, 1) := dk_27 (dk_at dksX0_type_0 1 rfl rfl)
theorem dX0_type_2 : decode cX0_type 2 = .ok (.iload_n 2, 1) := dk_28 (dk_at dksX0_type_0 2 rfl rfl)
theorem dX0_type_3 : decode cX0_type 3 = .ok (.invokevirtual 250, 3) := dk_182 0 250 (dk_at dksX0_type_0 3 rfl rfl)
theorem dX0_type_6 : decode cX0_type 6 = .ok (.ifCond .eq 17, 3) := dk_153 0 17 (dk_at dksX0_type_0 6 rfl rfl)
theorem dX0_type_9 : decode cX0_type 9 = .ok (.aload_n 0, 1) := dk_42 (dk_at dksX0_type_0 9 rfl rfl)
theorem dX0_type_10 : decode cX0_type 10 = .ok (.getfield 35, 3) := dk_180 0 35 (dk_at dksX0_type_0 10 rfl rfl)
theorem dX0_type_13 : decode cX0_type 13 = .ok (.iload_n 1, 1) := dk_27 (dk_at dksX0_type_0 13 rfl rfl)
theorem dX0_type_14 : decode cX0_type 14 = .ok (.aaload, 1) := dk_50 (dk_at dksX0_type_0 14 rfl rfl)
theorem dX0_type_15 : decode cX0_type 15 = .ok (.getfield 149, 3) := dk_180 0 149 (dk_at dksX0_type_0 15 rfl rfl)
theorem dX0_type_18 : decode cX0_type 18 = .ok (.iload_n 2, 1) := dk_28 (dk_at dksX0_type_0 18 rfl rfl)
theorem dX0_type_19 : decode cX0_type 19 = .ok (.caload, 1) := dk_52 (dk_at dksX0_type_0 19 rfl rfl)
theorem dX0_type_20 : decode cX0_type 20 = .ok (.goto 4, 3) := dk_167 0 4 (dk_at dksX0_type_0 20 rfl rfl)
theorem dX0_type_23 : decode cX0_type 23 = .ok (.iconst (-1), 1) := dk_2 (dk_at dksX0_type_0 23 rfl rfl)
theorem dX0_type_24 : decode cX0_type 24 = .ok (.ireturn, 1) := dk_172 (dk_at dksX0_type_1 0 rfl rfl)
abbrev cX0_isColumn : ByteArray := prog_1_method_17_code
def yX0_isColumn : MethodName := ⟨RX0, "isColumn", "(II)Z"⟩
def dkwX0_isColumn_1 : List UInt8 := [182, 0, 107, 162, 0, 7, 4, 167, 0, 4, 3, 172]
abbrev dktX0_isColumn_1 : List UInt8 := dkwX0_isColumn_1 ++ []
def dkwX0_isColumn_0 : List UInt8 := [42, 27, 182, 0, 234, 198, 0, 27, 28, 155, 0, 23, 28, 42, 180, 0, 35, 27, 50, 180, 0, 103]
abbrev dktX0_isColumn_0 : List UInt8 := dkwX0_isColumn_0 ++ dktX0_isColumn_1
theorem dksX0_isColumn_0 : cX0_isColumn.data.toList.drop 0 = dktX0_isColumn_0 := by decide +kernel
theorem dksX0_isColumn_1 : cX0_isColumn.data.toList.drop 22 = dktX0_isColumn_1 := dk_seg dksX0_isColumn_0 22 rfl rfl
theorem dX0_isColumn_0 : decode cX0_isColumn 0 = .ok (.aload_n 0, 1) := dk_42 (dk_at dksX0_isColumn_0 0 rfl rfl)
theorem dX0_isColumn_1 : decode cX0_isColumn 1 = .ok (.iload_n 1, 1) := dk_27 (dk_at dksX0_isColumn_0 1 rfl rfl)
theorem dX0_isColumn_2 : decode cX0_isColumn 2 = .ok (.invokevirtual 234, 3) := dk_182 0 234 (dk_at dksX0_isColumn_0 2 rfl rfl)
theorem dX0_isColumn_5 : decode cX0_isColumn 5 = .ok (.ifnull 27, 3) := dk_198 0 27 (dk_at dksX0_isColumn_0 5 rfl rfl)
theorem dX0_isColumn_8 : decode cX0_isColumn 8 = .ok (.iload_n 2, 1) := dk_28 (dk_at dksX0_isColumn_0 8 rfl rfl)
theorem dX0_isColumn_9 : decode cX0_isColumn 9 = .ok (.ifCond .lt 23, 3) := dk_155 0 23 (dk_at dksX0_isColumn_0 9 rfl rfl)
theorem dX0_isColumn_12 : decode cX0_isColumn 12 = .ok (.iload_n 2, 1) := dk_28 (dk_at dksX0_isColumn_0 12 rfl rfl)
theorem dX0_isColumn_13 : decode cX0_isColumn 13 = .ok (.aload_n 0, 1) := dk_42 (dk_at dksX0_isColumn_0 13 rfl rfl)
theorem dX0_isColumn_14 : decode cX0_isColumn 14 = .ok (.getfield 35, 3) := dk_180 0 35 (dk_at dksX0_isColumn_0 14 rfl rfl)
theorem dX0_isColumn_17 : decode cX0_isColumn 17 = .ok (.iload_n 1, 1) := dk_27 (dk_at dksX0_isColumn_0 17 rfl rfl)
theorem dX0_isColumn_18 : decode cX0_isColumn 18 = .ok (.aaload, 1) := dk_50 (dk_at dksX0_isColumn_0 18 rfl rfl)
theorem dX0_isColumn_19 : decode cX0_isColumn 19 = .ok (.getfield 103, 3) := dk_180 0 103 (dk_at dksX0_isColumn_0 19 rfl rfl)
theorem dX0_isColumn_22 : decode cX0_isColumn 22 = .ok (.invokevirtual 107, 3) := dk_182 0 107 (dk_at dksX0_isColumn_1 0 rfl rfl)
theorem dX0_isColumn_25 : decode cX0_isColumn 25 = .ok (.if_icmp .ge 7, 3) := dk_162 0 7 (dk_at dksX0_isColumn_1 3 rfl rfl)
theorem dX0_isColumn_28 : decode cX0_isColumn 28 = .ok (.iconst 1, 1) := dk_4 (dk_at dksX0_isColumn_1 6 rfl rfl)
theorem dX0_isColumn_29 : decode cX0_isColumn 29 = .ok (.goto 4, 3) := dk_167 0 4 (dk_at dksX0_isColumn_1 7 rfl rfl)
theorem dX0_isColumn_32 : decode cX0_isColumn 32 = .ok (.iconst 0, 1) := dk_3 (dk_at dksX0_isColumn_1 10 rfl rfl)
theorem dX0_isColumn_33 : decode cX0_isColumn 33 = .ok (.ireturn, 1) := dk_172 (dk_at dksX0_isColumn_1 11 rfl rfl)
abbrev cX0_from : ByteArray := prog_1_method_22_code
def yX0_from : MethodName := ⟨RX0, "from", "(III)I"⟩
def dkwX0_from_4 : List UInt8 := [167, 0, 4, 3, 182, 1, 11, 172]
abbrev dktX0_from_4 : List UInt8 := dkwX0_from_4 ++ []
def dkwX0_from_3 : List UInt8 := [180, 0, 65, 182, 1, 8, 132, 4, 255, 167, 255, 224, 42, 42, 180, 0, 65, 29, 5, 160, 0, 7, 4]
abbrev dktX0_from_3 : List UInt8 := dkwX0_from_3 ++ dktX0_from_4
def dkwX0_from_2 : List UInt8 := [21, 4, 155, 0, 33, 29, 158, 0, 29, 42, 180, 0, 65, 21, 4, 51, 153, 0, 13, 42, 21, 4, 42]
abbrev dktX0_from_2 : List UInt8 := dkwX0_from_2 ++ dktX0_from_3
def dkwX0_from_1 : List UInt8 := [180, 0, 65, 182, 1, 5, 42, 16, 8, 27, 104, 28, 96, 42, 180, 0, 65, 182, 1, 8, 16, 127, 54, 4]
abbrev dktX0_from_1 : List UInt8 := dkwX0_from_1 ++ dktX0_from_2
def dkwX0_from_0 : List UInt8 := [42, 27, 28, 182, 0, 250, 153, 0, 12, 29, 155, 0, 8, 29, 5, 164, 0, 5, 2, 172, 42, 42]
abbrev dktX0_from_0 : List UInt8 := dkwX0_from_0 ++ dktX0_from_1
theorem dksX0_from_0 : cX0_from.data.toList.drop 0 = dktX0_from_0 := by decide +kernel
theorem dksX0_from_1 : cX0_from.data.toList.drop 22 = dktX0_from_1 := dk_seg dksX0_from_0 22 rfl rfl
theorem dksX0_from_2 : cX0_from.data.toList.drop 46 = dktX0_from_2 := dk_seg dksX0_from_1 24 rfl rfl
theorem dksX0_from_3 : cX0_from.data.toList.drop 69 = dktX0_from_3 := dk_seg dksX0_from_2 23 rfl rfl
theorem dksX0_from_4 : cX0_from.data.toList.drop 92 = dktX0_from_4 := dk_seg dksX0_from_3 23 rfl rfl
theorem dX0_from_0 : decode cX0_from 0 = .ok (.aload_n 0, 1) := dk_42 (dk_at dksX0_from_0 0 rfl rfl)
theorem dX0_from_1 : decode cX0_from 1 = .ok (.iload_n 1, 1) := dk_27 (dk_at dksX0_from_0 1 rfl rfl)
theorem dX0_from_2 : decode cX0_from 2 = .ok (.iload_n 2, 1) := dk_28 (dk_at dksX0_from_0 2 rfl rfl)
theorem dX0_from_3 : decode cX0_from 3 = .ok (.invokevirtual 250, 3) := dk_182 0 250 (dk_at dksX0_from_0 3 rfl rfl)
theorem dX0_from_6 : decode cX0_from 6 = .ok (.ifCond .eq 12, 3) := dk_153 0 12 (dk_at dksX0_from_0 6 rfl rfl)
theorem dX0_from_9 : decode cX0_from 9 = .ok (.iload_n 3, 1) := dk_29 (dk_at dksX0_from_0 9 rfl rfl)
theorem dX0_from_10 : decode cX0_from 10 = .ok (.ifCond .lt 8, 3) := dk_155 0 8 (dk_at dksX0_from_0 10 rfl rfl)
theorem dX0_from_13 : decode cX0_from 13 = .ok (.iload_n 3, 1) := dk_29 (dk_at dksX0_from_0 13 rfl rfl)
theorem dX0_from_14 : decode cX0_from 14 = .ok (.iconst 2, 1) := dk_5 (dk_at dksX0_from_0 14 rfl rfl)
theorem dX0_from_15 : decode cX0_from 15 = .ok (.if_icmp .le 5, 3) := dk_164 0 5 (dk_at dksX0_from_0 15 rfl rfl)
theorem dX0_from_18 : decode cX0_from 18 = .ok (.iconst (-1), 1) := dk_2 (dk_at dksX0_from_0 18 rfl rfl)
theorem dX0_from_19 : decode cX0_from 19 = .ok (.ireturn, 1) := dk_172 (dk_at dksX0_from_0 19 rfl rfl)
theorem dX0_from_20 : decode cX0_from 20 = .ok (.aload_n 0, 1) := dk_42 (dk_at dksX0_from_0 20 rfl rfl)
theorem dX0_from_21 : decode cX0_from 21 = .ok (.aload_n 0, 1) := dk_42 (dk_at dksX0_from_0 21 rfl rfl)
theorem dX0_from_22 : decode cX0_from 22 = .ok (.getfield 65, 3) := dk_180 0 65 (dk_at dksX0_from_1 0 rfl rfl)
theorem dX0_from_25 : decode cX0_from 25 = .ok (.invokevirtual 261, 3) := dk_182 1 5 (dk_at dksX0_from_1 3 rfl rfl)
theorem dX0_from_28 : decode cX0_from 28 = .ok (.aload_n 0, 1) := dk_42 (dk_at dksX0_from_1 6 rfl rfl)
theorem dX0_from_29 : decode cX0_from 29 = .ok (.bipush 8, 2) := dk_16 8 (dk_at dksX0_from_1 7 rfl rfl)
theorem dX0_from_31 : decode cX0_from 31 = .ok (.iload_n 1, 1) := dk_27 (dk_at dksX0_from_1 9 rfl rfl)
theorem dX0_from_32 : decode cX0_from 32 = .ok (.imul, 1) := dk_104 (dk_at dksX0_from_1 10 rfl rfl)
theorem dX0_from_33 : decode cX0_from 33 = .ok (.iload_n 2, 1) := dk_28 (dk_at dksX0_from_1 11 rfl rfl)
theorem dX0_from_34 : decode cX0_from 34 = .ok (.iadd, 1) := dk_96 (dk_at dksX0_from_1 12 rfl rfl)
theorem dX0_from_35 : decode cX0_from 35 = .ok (.aload_n 0, 1) := dk_42 (dk_at dksX0_from_1 13 rfl rfl)
theorem dX0_from_36 : decode cX0_from 36 = .ok (.getfield 65, 3) := dk_180 0 65 (dk_at dksX0_from_1 14 rfl rfl)
theorem dX0_from_39 : decode cX0_from 39 = .ok (.invokevirtual 264, 3) := dk_182 1 8 (dk_at dksX0_from_1 17 rfl rfl)
theorem dX0_from_42 : decode cX0_from 42 = .ok (.bipush 127, 2) := dk_16 127 (dk_at dksX0_from_1 20 rfl rfl)
theorem dX0_from_44 : decode cX0_from 44 = .ok (.istore 4, 2) := dk_54 4 (dk_at dksX0_from_1 22 rfl rfl)
theorem dX0_from_46 : decode cX0_from 46 = .ok (.iload 4, 2) := dk_21 4 (dk_at dksX0_from_2 0 rfl rfl)
theorem dX0_from_48 : decode cX0_from 48 = .ok (.ifCond .lt 33, 3) := dk_155 0 33 (dk_at dksX0_from_2 2 rfl rfl)
theorem dX0_from_51 : decode cX0_from 51 = .ok (.iload_n 3, 1) := dk_29 (dk_at dksX0_from_2 5 rfl rfl)
theorem dX0_from_52 : decode cX0_from 52 = .ok (.ifCond .le 29, 3) := dk_158 0 29 (dk_at dksX0_from_2 6 rfl rfl)
theorem dX0_from_55 : decode cX0_from 55 = .ok (.aload_n 0, 1) := dk_42 (dk_at dksX0_from_2 9 rfl rfl)
theorem dX0_from_56 : decode cX0_from 56 = .ok (.getfield 65, 3) := dk_180 0 65 (dk_at dksX0_from_2 10 rfl rfl)
theorem dX0_from_59 : decode cX0_from 59 = .ok (.iload 4, 2) := dk_21 4 (dk_at dksX0_from_2 13 rfl rfl)
theorem dX0_from_61 : decode cX0_from 61 = .ok (.baload, 1) := dk_51 (dk_at dksX0_from_2 15 rfl rfl)
theorem dX0_from_62 : decode cX0_from 62 = .ok (.ifCond .eq 13, 3) := dk_153 0 13 (dk_at dksX0_from_2 16 rfl rfl)
theorem dX0_from_65 : decode cX0_from 65 = .ok (.aload_n 0, 1) := dk_42 (dk_at dksX0_from_2 19 rfl rfl)
theorem dX0_from_66 : decode cX0_from 66 = .ok (.iload 4, 2) := dk_21 4 (dk_at dksX0_from_2 20 rfl rfl)
theorem dX0_from_68 : decode cX0_from 68 = .ok (.aload_n 0, 1) := dk_42 (dk_at dksX0_from_2 22 rfl rfl)
theorem dX0_from_69 : decode cX0_from 69 = .ok (.getfield 65, 3) := dk_180 0 65 (dk_at dksX0_from_3 0 rfl rfl)
theorem dX0_from_72 : decode cX0_from 72 = .ok (.invokevirtual 264, 3) := dk_182 1 8 (dk_at dksX0_from_3 3 rfl rfl)
theorem dX0_from_75 : decode cX0_from 75 = .ok (.iinc 4 (-1), 3) := dk_132 4 255 (dk_at dksX0_from_3 6 rfl rfl)
theorem dX0_from_78 : decode cX0_from 78 = .ok (.goto (-32), 3) := dk_167 255 224 (dk_at dksX0_from_3 9 rfl rfl)
theorem dX0_from_81 : decode cX0_from 81 = .ok (.aload_n 0, 1) := dk_42 (dk_at dksX0_from_3 12 rfl rfl)
theorem dX0_from_82 : decode cX0_from 82 = .ok (.aload_n 0, 1) := dk_42 (dk_at dksX0_from_3 13 rfl rfl)
theorem dX0_from_83 : decode cX0_from 83 = .ok (.getfield 65, 3) := dk_180 0 65 (dk_at dksX0_from_3 14 rfl rfl)
theorem dX0_from_86 : decode cX0_from 86 = .ok (.iload_n 3, 1) := dk_29 (dk_at dksX0_from_3 17 rfl rfl)
theorem dX0_from_87 : decode cX0_from 87 = .ok (.iconst 2, 1) := dk_5 (dk_at dksX0_from_3 18 rfl rfl)
theorem dX0_from_88 : decode cX0_from 88 = .ok (.if_icmp .ne 7, 3) := dk_160 0 7 (dk_at dksX0_from_3 19 rfl rfl)
theorem dX0_from_91 : decode cX0_from 91 = .ok (.iconst 1, 1) := dk_4 (dk_at dksX0_from_3 22 rfl rfl)
theorem dX0_from_92 : decode cX0_from 92 = .ok (.goto 4, 3) := dk_167 0 4 (dk_at dksX0_from_4 0 rfl rfl)
theorem dX0_from_95 : decode cX0_from 95 = .ok (.iconst 0, 1) := dk_3 (dk_at dksX0_from_4 3 rfl rfl)
theorem dX0_from_96 : decode cX0_from 96 = .ok (.invokevirtual 267, 3) := dk_182 1 11 (dk_at dksX0_from_4 4 rfl rfl)
theorem dX0_from_99 : decode cX0_from 99 = .ok (.ireturn, 1) := dk_172 (dk_at dksX0_from_4 7 rfl rfl)
abbrev cX0_clear : ByteArray := prog_1_method_19_code
def yX0_clear : MethodName := ⟨RX0, "clear", "([Z)V"⟩
def dkwX0_clear_0 : List UInt8 := [3, 61, 28, 17, 0, 128, 162, 0, 13, 43, 28, 3, 84, 132, 2, 1, 167, 255, 242, 177]
abbrev dktX0_clear_0 : List UInt8 := dkwX0_clear_0 ++ []
theorem dksX0_clear_0 : cX0_clear.data.toList.drop 0 = dktX0_clear_0 := by decide +kernel
theorem dX0_clear_0 : decode cX0_clear 0 = .ok (.iconst 0, 1) := dk_3 (dk_at dksX0_clear_0 0 rfl rfl)
theorem dX0_clear_1 : decode cX0_clear 1 = .ok (.istore_n 2, 1) := dk_61 (dk_at dksX0_clear_0 1 rfl rfl)
theorem dX0_clear_2 : decode cX0_clear 2 = .ok (.iload_n 2, 1) := dk_28 (dk_at dksX0_clear_0 2 rfl rfl)
theorem dX0_clear_3 : decode cX0_clear 3 = .ok (.sipush 128, 3) := dk_17 0 128 (dk_at dksX0_clear_0 3 rfl rfl)
theorem dX0_clear_6 : decode cX0_clear 6 = .ok (.if_icmp .ge 13, 3) := dk_162 0 13 (dk_at dksX0_clear_0 6 rfl rfl)
theorem dX0_clear_9 : decode cX0_clear 9 = .ok (.aload_n 1, 1) := dk_43 (dk_at dksX0_clear_0 9 rfl rfl)
theorem dX0_clear_10 : decode cX0_clear 10 = .ok (.iload_n 2, 1) := dk_28 (dk_at dksX0_clear_0 10 rfl rfl)
theorem dX0_clear_11 : decode cX0_clear 11 = .ok (.iconst 0, 1) := dk_3 (dk_at dksX0_clear_0 11 rfl rfl)
theorem dX0_clear_12 : decode cX0_clear 12 = .ok (.bastore, 1) := dk_84 (dk_at dksX0_clear_0 12 rfl rfl)
theorem dX0_clear_13 : decode cX0_clear 13 = .ok (.iinc 2 1, 3) := dk_132 2 1 (dk_at dksX0_clear_0 13 rfl rfl)
theorem dX0_clear_16 : decode cX0_clear 16 = .ok (.goto (-14), 3) := dk_167 255 242 (dk_at dksX0_clear_0 16 rfl rfl)
theorem dX0_clear_19 : decode cX0_clear 19 = .ok (.return_, 1) := dk_177 (dk_at dksX0_clear_0 19 rfl rfl)
abbrev cX0_uses : ByteArray := prog_1_method_21_code
def yX0_uses : MethodName := ⟨RX0, "uses", "(I[Z)V"⟩
def dkwX0_uses_1 : List UInt8 := [182, 0, 112, 192, 0, 152, 44, 182, 1, 1, 177]
abbrev dktX0_uses_1 : List UInt8 := dkwX0_uses_1 ++ []
def dkwX0_uses_0 : List UInt8 := [42, 180, 0, 35, 27, 6, 122, 50, 78, 45, 182, 0, 142, 153, 0, 21, 45, 180, 0, 146, 27, 16, 7, 126]
abbrev dktX0_uses_0 : List UInt8 := dkwX0_uses_0 ++ dktX0_uses_1
theorem dksX0_uses_0 : cX0_uses.data.toList.drop 0 = dktX0_uses_0 := by decide +kernel
theorem dksX0_uses_1 : cX0_uses.data.toList.drop 24 = dktX0_uses_1 := dk_seg dksX0_uses_0 24 rfl rfl
theorem dX0_uses_0 : decode cX0_uses 0 = .ok (.aload_n 0, 1) := dk_42 (dk_at dksX0_uses_0 0 rfl rfl)
theorem dX0_uses_1 : decode cX0_uses 1 = .ok (.getfield 35, 3) := dk_180 0 35 (dk_at dksX0_uses_0 1 rfl rfl)
theorem dX0_uses_4 : decode cX0_uses 4 = .ok (.iload_n 1, 1) := dk_27 (dk_at dksX0_uses_0 4 rfl rfl)
theorem dX0_uses_5 : decode cX0_uses 5 = .ok (.iconst 3, 1) := dk_6 (dk_at dksX0_uses_0 5 rfl rfl)
theorem dX0_uses_6 : decode cX0_uses 6 = .ok (.ishr, 1) := dk_122 (dk_at dksX0_uses_0 6 rfl rfl)
theorem dX0_uses_7 : decode cX0_uses 7 = .ok (.aaload, 1) := dk_50 (dk_at dksX0_uses_0 7 rfl rfl)
theorem dX0_uses_8 : decode cX0_uses 8 = .ok (.astore_n 3, 1) := dk_78 (dk_at dksX0_uses_0 8 rfl rfl)
theorem dX0_uses_9 : decode cX0_uses 9 = .ok (.aload_n 3, 1) := dk_45 (dk_at dksX0_uses_0 9 rfl rfl)
theorem dX0_uses_10 : decode cX0_uses 10 = .ok (.invokevirtual 142, 3) := dk_182 0 142 (dk_at dksX0_uses_0 10 rfl rfl)
theorem dX0_uses_13 : decode cX0_uses 13 = .ok (.ifCond .eq 21, 3) := dk_153 0 21 (dk_at dksX0_uses_0 13 rfl rfl)
theorem dX0_uses_16 : decode cX0_uses 16 = .ok (.aload_n 3, 1) := dk_45 (dk_at dksX0_uses_0 16 rfl rfl)
theorem dX0_uses_17 : decode cX0_uses 17 = .ok (.getfield 146, 3) := dk_180 0 146 (dk_at dksX0_uses_0 17 rfl rfl)
theorem dX0_uses_20 : decode cX0_uses 20 = .ok (.iload_n 1, 1) := dk_27 (dk_at dksX0_uses_0 20 rfl rfl)
theorem dX0_uses_21 : decode cX0_uses 21 = .ok (.bipush 7, 2) := dk_16 7 (dk_at dksX0_uses_0 21 rfl rfl)
theorem dX0_uses_23 : decode cX0_uses 23 = .ok (.iand, 1) := dk_126 (dk_at dksX0_uses_0 23 rfl rfl)
theorem dX0_uses_24 : decode cX0_uses 24 = .ok (.invokevirtual 112, 3) := dk_182 0 112 (dk_at dksX0_uses_1 0 rfl rfl)
theorem dX0_uses_27 : decode cX0_uses 27 = .ok (.checkcast 152, 3) := dk_192 0 152 (dk_at dksX0_uses_1 3 rfl rfl)
theorem dX0_uses_30 : decode cX0_uses 30 = .ok (.aload_n 2, 1) := dk_44 (dk_at dksX0_uses_1 6 rfl rfl)
theorem dX0_uses_31 : decode cX0_uses 31 = .ok (.invokevirtual 257, 3) := dk_182 1 1 (dk_at dksX0_uses_1 7 rfl rfl)
theorem dX0_uses_34 : decode cX0_uses 34 = .ok (.return_, 1) := dk_177 (dk_at dksX0_uses_1 10 rfl rfl)
abbrev cX0_tells : ByteArray := prog_1_method_20_code
def yX0_tells : MethodName := ⟨RX0, "tells", "([ZZ)I"⟩
def dkwX0_tells_3 : List UInt8 := [180, 0, 254, 172]
abbrev dktX0_tells_3 : List UInt8 := dkwX0_tells_3 ++ []
def dkwX0_tells_2 : List UInt8 := [180, 0, 254, 29, 79, 42, 89, 180, 0, 254, 4, 96, 181, 0, 254, 132, 3, 1, 167, 255, 199, 42]
abbrev dktX0_tells_2 : List UInt8 := dkwX0_tells_2 ++ dktX0_tells_3
def dkwX0_tells_1 : List UInt8 := [42, 180, 0, 35, 29, 6, 122, 50, 180, 0, 237, 153, 0, 6, 167, 0, 23, 42, 180, 0, 47, 42]
abbrev dktX0_tells_1 : List UInt8 := dkwX0_tells_1 ++ dktX0_tells_2
def dkwX0_tells_0 : List UInt8 := [42, 3, 181, 0, 254, 3, 62, 29, 17, 0, 128, 162, 0, 56, 43, 29, 51, 153, 0, 44, 28, 153, 0, 20]
abbrev dktX0_tells_0 : List UInt8 := dkwX0_tells_0 ++ dktX0_tells_1
theorem dksX0_tells_0 : cX0_tells.data.toList.drop 0 = dktX0_tells_0 := by decide +kernel
theorem dksX0_tells_1 : cX0_tells.data.toList.drop 24 = dktX0_tells_1 := dk_seg dksX0_tells_0 24 rfl rfl
theorem dksX0_tells_2 : cX0_tells.data.toList.drop 46 = dktX0_tells_2 := dk_seg dksX0_tells_1 22 rfl rfl
theorem dksX0_tells_3 : cX0_tells.data.toList.drop 68 = dktX0_tells_3 := dk_seg dksX0_tells_2 22 rfl rfl
theorem dX0_tells_0 : decode cX0_tells 0 = .ok (.aload_n 0, 1) := dk_42 (dk_at dksX0_tells_0 0 rfl rfl)
theorem dX0_tells_1 : decode cX0_tells 1 = .ok (.iconst 0, 1) := dk_3 (dk_at dksX0_tells_0 1 rfl rfl)
theorem dX0_tells_2 : decode cX0_tells 2 = .ok (.putfield 254, 3) := dk_181 0 254 (dk_at dksX0_tells_0 2 rfl rfl)
theorem dX0_tells_5 : decode cX0_tells 5 = .ok (.iconst 0, 1) := dk_3 (dk_at dksX0_tells_0 5 rfl rfl)
theorem dX0_tells_6 : decode cX0_tells 6 = .ok (.istore_n 3, 1) := dk_62 (dk_at dksX0_tells_0 6 rfl rfl)
theorem dX0_tells_7 : decode cX0_tells 7 = .ok (.iload_n 3, 1) := dk_29 (dk_at dksX0_tells_0 7 rfl rfl)
theorem dX0_tells_8 : decode cX0_tells 8 = .ok (.sipush 128, 3) := dk_17 0 128 (dk_at dksX0_tells_0 8 rfl rfl)
theorem dX0_tells_11 : decode cX0_tells 11 = .ok (.if_icmp .ge 56, 3) := dk_162 0 56 (dk_at dksX0_tells_0 11 rfl rfl)
theorem dX0_tells_14 : decode cX0_tells 14 = .ok (.aload_n 1, 1) := dk_43 (dk_at dksX0_tells_0 14 rfl rfl)
theorem dX0_tells_15 : decode cX0_tells 15 = .ok (.iload_n 3, 1) := dk_29 (dk_at dksX0_tells_0 15 rfl rfl)
theorem dX0_tells_16 : decode cX0_tells 16 = .ok (.baload, 1) := dk_51 (dk_at dksX0_tells_0 16 rfl rfl)
theorem dX0_tells_17 : decode cX0_tells 17 = .ok (.ifCond .eq 44, 3) := dk_153 0 44 (dk_at dksX0_tells_0 17 rfl rfl)
theorem dX0_tells_20 : decode cX0_tells 20 = .ok (.iload_n 2, 1) := dk_28 (dk_at dksX0_tells_0 20 rfl rfl)
theorem dX0_tells_21 : decode cX0_tells 21 = .ok (.ifCond .eq 20, 3) := dk_153 0 20 (dk_at dksX0_tells_0 21 rfl rfl)
theorem dX0_tells_24 : decode cX0_tells 24 = .ok (.aload_n 0, 1) := dk_42 (dk_at dksX0_tells_1 0 rfl rfl)
theorem dX0_tells_25 : decode cX0_tells 25 = .ok (.getfield 35, 3) := dk_180 0 35 (dk_at dksX0_tells_1 1 rfl rfl)
theorem dX0_tells_28 : decode cX0_tells 28 = .ok (.iload_n 3, 1) := dk_29 (dk_at dksX0_tells_1 4 rfl rfl)
theorem dX0_tells_29 : decode cX0_tells 29 = .ok (.iconst 3, 1) := dk_6 (dk_at dksX0_tells_1 5 rfl rfl)
theorem dX0_tells_30 : decode cX0_tells 30 = .ok (.ishr, 1) := dk_122 (dk_at dksX0_tells_1 6 rfl rfl)
theorem dX0_tells_31 : decode cX0_tells 31 = .ok (.aaload, 1) := dk_50 (dk_at dksX0_tells_1 7 rfl rfl)
theorem dX0_tells_32 : decode cX0_tells 32 = .ok (.getfield 237, 3) := dk_180 0 237 (dk_at dksX0_tells_1 8 rfl rfl)
theorem dX0_tells_35 : decode cX0_tells 35 = .ok (.ifCond .eq 6, 3) := dk_153 0 6 (dk_at dksX0_tells_1 11 rfl rfl)
theorem dX0_tells_38 : decode cX0_tells 38 = .ok (.goto 23, 3) := dk_167 0 23 (dk_at dksX0_tells_1 14 rfl rfl)
theorem dX0_tells_41 : decode cX0_tells 41 = .ok (.aload_n 0, 1) := dk_42 (dk_at dksX0_tells_1 17 rfl rfl)
theorem dX0_tells_42 : decode cX0_tells 42 = .ok (.getfield 47, 3) := dk_180 0 47 (dk_at dksX0_tells_1 18 rfl rfl)
theorem dX0_tells_45 : decode cX0_tells 45 = .ok (.aload_n 0, 1) := dk_42 (dk_at dksX0_tells_1 21 rfl rfl)
theorem dX0_tells_46 : decode cX0_tells 46 = .ok (.getfield 254, 3) := dk_180 0 254 (dk_at dksX0_tells_2 0 rfl rfl)
theorem dX0_tells_49 : decode cX0_tells 49 = .ok (.iload_n 3, 1) := dk_29 (dk_at dksX0_tells_2 3 rfl rfl)
theorem dX0_tells_50 : decode cX0_tells 50 = .ok (.iastore, 1) := dk_79 (dk_at dksX0_tells_2 4 rfl rfl)
theorem dX0_tells_51 : decode cX0_tells 51 = .ok (.aload_n 0, 1) := dk_42 (dk_at dksX0_tells_2 5 rfl rfl)
theorem dX0_tells_52 : decode cX0_tells 52 = .ok (.dup, 1) := dk_89 (dk_at dksX0_tells_2 6 rfl rfl)
theorem dX0_tells_53 : decode cX0_tells 53 = .ok (.getfield 254, 3) := dk_180 0 254 (dk_at dksX0_tells_2 7 rfl rfl)
theorem dX0_tells_56 : decode cX0_tells 56 = .ok (.iconst 1, 1) := dk_4 (dk_at dksX0_tells_2 10 rfl rfl)
theorem dX0_tells_57 : decode cX0_tells 57 = .ok (.iadd, 1) := dk_96 (dk_at dksX0_tells_2 11 rfl rfl)
theorem dX0_tells_58 : decode cX0_tells 58 = .ok (.putfield 254, 3) := dk_181 0 254 (dk_at dksX0_tells_2 12 rfl rfl)
theorem dX0_tells_61 : decode cX0_tells 61 = .ok (.iinc 3 1, 3) := dk_132 3 1 (dk_at dksX0_tells_2 15 rfl rfl)
theorem dX0_tells_64 : decode cX0_tells 64 = .ok (.goto (-57), 3) := dk_167 255 199 (dk_at dksX0_tells_2 18 rfl rfl)
theorem dX0_tells_67 : decode cX0_tells 67 = .ok (.aload_n 0, 1) := dk_42 (dk_at dksX0_tells_2 21 rfl rfl)
theorem dX0_tells_68 : decode cX0_tells 68 = .ok (.getfield 254, 3) := dk_180 0 254 (dk_at dksX0_tells_3 0 rfl rfl)
theorem dX0_tells_71 : decode cX0_tells 71 = .ok (.ireturn, 1) := dk_172 (dk_at dksX0_tells_3 3 rfl rfl)
abbrev cX0_touch : ByteArray := prog_1_method_26_code
def yX0_touch : MethodName := ⟨RX0, "touch", "(II)I"⟩
def dkwX0_touch_1 : List UInt8 := [180, 0, 65, 16, 8, 27, 104, 28, 96, 3, 84, 42, 42, 180, 0, 65, 3, 182, 1, 11, 172]
abbrev dktX0_touch_1 : List UInt8 := dkwX0_touch_1 ++ []
def dkwX0_touch_0 : List UInt8 := [42, 27, 28, 182, 0, 250, 154, 0, 5, 2, 172, 42, 16, 8, 27, 104, 28, 96, 182, 1, 23, 42]
abbrev dktX0_touch_0 : List UInt8 := dkwX0_touch_0 ++ dktX0_touch_1
theorem dksX0_touch_0 : cX0_touch.data.toList.drop 0 = dktX0_touch_0 := by decide +kernel
theorem dksX0_touch_1 : cX0_touch.data.toList.drop 22 = dktX0_touch_1 := dk_seg dksX0_touch_0 22 rfl rfl
theorem dX0_touch_0 : decode cX0_touch 0 = .ok (.aload_n 0, 1) := dk_42 (dk_at dksX0_touch_0 0 rfl rfl)
theorem dX0_touch_1 : decode cX0_touch 1 = .ok (.iload_n 1, 1) := dk_27 (dk_at dksX0_touch_0 1 rfl rfl)
theorem dX0_touch_2 : decode cX0_touch 2 = .ok (.iload_n 2, 1) := dk_28 (dk_at dksX0_touch_0 2 rfl rfl)
theorem dX0_touch_3 : decode cX0_touch 3 = .ok (.invokevirtual 250, 3) := dk_182 0 250 (dk_at dksX0_touch_0 3 rfl rfl)
theorem dX0_touch_6 : decode cX0_touch 6 = .ok (.ifCond .ne 5, 3) := dk_154 0 5 (dk_at dksX0_touch_0 6 rfl rfl)
theorem dX0_touch_9 : decode cX0_touch 9 = .ok (.iconst (-1), 1) := dk_2 (dk_at dksX0_touch_0 9 rfl rfl)
theorem dX0_touch_10 : decode cX0_touch 10 = .ok (.ireturn, 1) := dk_172 (dk_at dksX0_touch_0 10 rfl rfl)
theorem dX0_touch_11 : decode cX0_touch 11 = .ok (.aload_n 0, 1) := dk_42 (dk_at dksX0_touch_0 11 rfl rfl)
theorem dX0_touch_12 : decode cX0_touch 12 = .ok (.bipush 8, 2) := dk_16 8 (dk_at dksX0_touch_0 12 rfl rfl)
theorem dX0_touch_14 : decode cX0_touch 14 = .ok (.iload_n 1, 1) := dk_27 (dk_at dksX0_touch_0 14 rfl rfl)
theorem dX0_touch_15 : decode cX0_touch 15 = .ok (.imul, 1) := dk_104 (dk_at dksX0_touch_0 15 rfl rfl)
theorem dX0_touch_16 : decode cX0_touch 16 = .ok (.iload_n 2, 1) := dk_28 (dk_at dksX0_touch_0 16 rfl rfl)
theorem dX0_touch_17 : decode cX0_touch 17 = .ok (.iadd, 1) := dk_96 (dk_at dksX0_touch_0 17 rfl rfl)
theorem dX0_touch_18 : decode cX0_touch 18 = .ok (.invokevirtual 279, 3) := dk_182 1 23 (dk_at dksX0_touch_0 18 rfl rfl)
theorem dX0_touch_21 : decode cX0_touch 21 = .ok (.aload_n 0, 1) := dk_42 (dk_at dksX0_touch_0 21 rfl rfl)
theorem dX0_touch_22 : decode cX0_touch 22 = .ok (.getfield 65, 3) := dk_180 0 65 (dk_at dksX0_touch_1 0 rfl rfl)
theorem dX0_touch_25 : decode cX0_touch 25 = .ok (.bipush 8, 2) := dk_16 8 (dk_at dksX0_touch_1 3 rfl rfl)
theorem dX0_touch_27 : decode cX0_touch 27 = .ok (.iload_n 1, 1) := dk_27 (dk_at dksX0_touch_1 5 rfl rfl)
theorem dX0_touch_28 : decode cX0_touch 28 = .ok (.imul, 1) := dk_104 (dk_at dksX0_touch_1 6 rfl rfl)
theorem dX0_touch_29 : decode cX0_touch 29 = .ok (.iload_n 2, 1) := dk_28 (dk_at dksX0_touch_1 7 rfl rfl)
theorem dX0_touch_30 : decode cX0_touch 30 = .ok (.iadd, 1) := dk_96 (dk_at dksX0_touch_1 8 rfl rfl)
theorem dX0_touch_31 : decode cX0_touch 31 = .ok (.iconst 0, 1) := dk_3 (dk_at dksX0_touch_1 9 rfl rfl)
theorem dX0_touch_32 : decode cX0_touch 32 = .ok (.bastore, 1) := dk_84 (dk_at dksX0_touch_1 10 rfl rfl)
theorem dX0_touch_33 : decode cX0_touch 33 = .ok (.aload_n 0, 1) := dk_42 (dk_at dksX0_touch_1 11 rfl rfl)
theorem dX0_touch_34 : decode cX0_touch 34 = .ok (.aload_n 0, 1) := dk_42 (dk_at dksX0_touch_1 12 rfl rfl)
theorem dX0_touch_35 : decode cX0_touch 35 = .ok (.getfield 65, 3) := dk_180 0 65 (dk_at dksX0_touch_1 13 rfl rfl)
theorem dX0_touch_38 : decode cX0_touch 38 = .ok (.iconst 0, 1) := dk_3 (dk_at dksX0_touch_1 16 rfl rfl)
theorem dX0_touch_39 : decode cX0_touch 39 = .ok (.invokevirtual 267, 3) := dk_182 1 11 (dk_at dksX0_touch_1 17 rfl rfl)
theorem dX0_touch_42 : decode cX0_touch 42 = .ok (.ireturn, 1) := dk_172 (dk_at dksX0_touch_1 20 rfl rfl)
abbrev cX0_touches : ByteArray := prog_1_method_25_code
def yX0_touches : MethodName := ⟨RX0, "touches", "(I)V"⟩
def dkwX0_touches_6 : List UInt8 := [132, 2, 1, 167, 255, 136, 177]
abbrev dktX0_touches_6 : List UInt8 := dkwX0_touches_6 ++ []
def dkwX0_touches_5 : List UInt8 := [54, 6, 42, 180, 0, 65, 16, 8, 28, 104, 21, 5, 96, 21, 6, 84, 132, 5, 1, 167, 255, 181]
abbrev dktX0_touches_5 : List UInt8 := dkwX0_touches_5 ++ dktX0_touches_6
def dkwX0_touches_4 : List UInt8 := [182, 1, 8, 21, 4, 154, 0, 14, 42, 42, 180, 0, 69, 182, 1, 15, 153, 0, 7, 4, 167, 0, 4, 3]
abbrev dktX0_touches_4 : List UInt8 := dkwX0_touches_4 ++ dktX0_touches_5
def dkwX0_touches_3 : List UInt8 := [162, 0, 69, 42, 42, 180, 0, 69, 182, 1, 5, 42, 16, 8, 28, 104, 21, 5, 96, 42, 180, 0, 69]
abbrev dktX0_touches_3 : List UInt8 := dkwX0_touches_3 ++ dktX0_touches_4
def dkwX0_touches_2 : List UInt8 := [167, 0, 91, 42, 45, 182, 1, 19, 54, 4, 3, 54, 5, 21, 5, 45, 180, 0, 103, 182, 0, 107]
abbrev dktX0_touches_2 : List UInt8 := dkwX0_touches_2 ++ dktX0_touches_3
def dkwX0_touches_1 : List UInt8 := [180, 0, 83, 162, 0, 118, 42, 180, 0, 35, 28, 50, 78, 45, 198, 0, 101, 45, 182, 0, 142, 154, 0, 6]
abbrev dktX0_touches_1 : List UInt8 := dkwX0_touches_1 ++ dktX0_touches_2
def dkwX0_touches_0 : List UInt8 := [42, 42, 180, 0, 65, 182, 1, 5, 42, 180, 0, 65, 27, 4, 84, 27, 6, 122, 4, 96, 61, 28, 42]
abbrev dktX0_touches_0 : List UInt8 := dkwX0_touches_0 ++ dktX0_touches_1
theorem dksX0_touches_0 : cX0_touches.data.toList.drop 0 = dktX0_touches_0 := by decide +kernel
theorem dksX0_touches_1 : cX0_touches.data.toList.drop 23 = dktX0_touches_1 := dk_seg dksX0_touches_0 23 rfl rfl
theorem dksX0_touches_2 : cX0_touches.data.toList.drop 47 = dktX0_touches_2 := dk_seg dksX0_touches_1 24 rfl rfl
theorem dksX0_touches_3 : cX0_touches.data.toList.drop 69 = dktX0_touches_3 := dk_seg dksX0_touches_2 22 rfl rfl
theorem dksX0_touches_4 : cX0_touches.data.toList.drop 92 = dktX0_touches_4 := dk_seg dksX0_touches_3 23 rfl rfl
theorem dksX0_touches_5 : cX0_touches.data.toList.drop 116 = dktX0_touches_5 := dk_seg dksX0_touches_4 24 rfl rfl
theorem dksX0_touches_6 : cX0_touches.data.toList.drop 138 = dktX0_touches_6 := dk_seg dksX0_touches_5 22 rfl rfl
theorem dX0_touches_0 : decode cX0_touches 0 = .ok (.aload_n 0, 1) := dk_42 (dk_at dksX0_touches_0 0 rfl rfl)
theorem dX0_touches_1 : decode cX0_touches 1 = .ok (.aload_n 0, 1) := dk_42 (dk_at dksX0_touches_0 1 rfl rfl)
theorem dX0_touches_2 : decode cX0_touches 2 = .ok (.getfield 65, 3) := dk_180 0 65 (dk_at dksX0_touches_0 2 rfl rfl)
theorem dX0_touches_5 : decode cX0_touches 5 = .ok (.invokevirtual 261, 3) := dk_182 1 5 (dk_at dksX0_touches_0 5 rfl rfl)
theorem dX0_touches_8 : decode cX0_touches 8 = .ok (.aload_n 0, 1) := dk_42 (dk_at dksX0_touches_0 8 rfl rfl)
theorem dX0_touches_9 : decode cX0_touches 9 = .ok (.getfield 65, 3) := dk_180 0 65 (dk_at dksX0_touches_0 9 rfl rfl)
theorem dX0_touches_12 : decode cX0_touches 12 = .ok (.iload_n 1, 1) := dk_27 (dk_at dksX0_touches_0 12 rfl rfl)
theorem dX0_touches_13 : decode cX0_touches 13 = .ok (.iconst 1, 1) := dk_4 (dk_at dksX0_touches_0 13 rfl rfl)
theorem dX0_touches_14 : decode cX0_touches 14 = .ok (.bastore, 1) := dk_84 (dk_at dksX0_touches_0 14 rfl rfl)
theorem dX0_touches_15 : decode cX0_touches 15 = .ok (.iload_n 1, 1) := dk_27 (dk_at dksX0_touches_0 15 rfl rfl)
theorem dX0_touches_16 : decode cX0_touches 16 = .ok (.iconst 3, 1) := dk_6 (dk_at dksX0_touches_0 16 rfl rfl)
theorem dX0_touches_17 : decode cX0_touches 17 = .ok (.ishr, 1) := dk_122 (dk_at dksX0_touches_0 17 rfl rfl)
theorem dX0_touches_18 : decode cX0_touches 18 = .ok (.iconst 1, 1) := dk_4 (dk_at dksX0_touches_0 18 rfl rfl)
theorem dX0_touches_19 : decode cX0_touches 19 = .ok (.iadd, 1) := dk_96 (dk_at dksX0_touches_0 19 rfl rfl)
theorem dX0_touches_20 : decode cX0_touches 20 = .ok (.istore_n 2, 1) := dk_61 (dk_at dksX0_touches_0 20 rfl rfl)
theorem dX0_touches_21 : decode cX0_touches 21 = .ok (.iload_n 2, 1) := dk_28 (dk_at dksX0_touches_0 21 rfl rfl)
theorem dX0_touches_22 : decode cX0_touches 22 = .ok (.aload_n 0, 1) := dk_42 (dk_at dksX0_touches_0 22 rfl rfl)
theorem dX0_touches_23 : decode cX0_touches 23 = .ok (.getfield 83, 3) := dk_180 0 83 (dk_at dksX0_touches_1 0 rfl rfl)
theorem dX0_touches_26 : decode cX0_touches 26 = .ok (.if_icmp .ge 118, 3) := dk_162 0 118 (dk_at dksX0_touches_1 3 rfl rfl)
theorem dX0_touches_29 : decode cX0_touches 29 = .ok (.aload_n 0, 1) := dk_42 (dk_at dksX0_touches_1 6 rfl rfl)
theorem dX0_touches_30 : decode cX0_touches 30 = .ok (.getfield 35, 3) := dk_180 0 35 (dk_at dksX0_touches_1 7 rfl rfl)
theorem dX0_touches_33 : decode cX0_touches 33 = .ok (.iload_n 2, 1) := dk_28 (dk_at dksX0_touches_1 10 rfl rfl)
theorem dX0_touches_34 : decode cX0_touches 34 = .ok (.aaload, 1) := dk_50 (dk_at dksX0_touches_1 11 rfl rfl)
theorem dX0_touches_35 : decode cX0_touches 35 = .ok (.astore_n 3, 1) := dk_78 (dk_at dksX0_touches_1 12 rfl rfl)
theorem dX0_touches_36 : decode cX0_touches 36 = .ok (.aload_n 3, 1) := dk_45 (dk_at dksX0_touches_1 13 rfl rfl)
theorem dX0_touches_37 : decode cX0_touches 37 = .ok (.ifnull 101, 3) := dk_198 0 101 (dk_at dksX0_touches_1 14 rfl rfl)
theorem dX0_touches_40 : decode cX0_touches 40 = .ok (.aload_n 3, 1) := dk_45 (dk_at dksX0_touches_1 17 rfl rfl)
theorem dX0_touches_41 : decode cX0_touches 41 = .ok (.invokevirtual 142, 3) := dk_182 0 142 (dk_at dksX0_touches_1 18 rfl rfl)
theorem dX0_touches_44 : decode cX0_touches 44 = .ok (.ifCond .ne 6, 3) := dk_154 0 6 (dk_at dksX0_touches_1 21 rfl rfl)
theorem dX0_touches_47 : decode cX0_touches 47 = .ok (.goto 91, 3) := dk_167 0 91 (dk_at dksX0_touches_2 0 rfl rfl)
theorem dX0_touches_50 : decode cX0_touches 50 = .ok (.aload_n 0, 1) := dk_42 (dk_at dksX0_touches_2 3 rfl rfl)
theorem dX0_touches_51 : decode cX0_touches 51 = .ok (.aload_n 3, 1) := dk_45 (dk_at dksX0_touches_2 4 rfl rfl)
theorem dX0_touches_52 : decode cX0_touches 52 = .ok (.invokevirtual 275, 3) := dk_182 1 19 (dk_at dksX0_touches_2 5 rfl rfl)
theorem dX0_touches_55 : decode cX0_touches 55 = .ok (.istore 4, 2) := dk_54 4 (dk_at dksX0_touches_2 8 rfl rfl)
theorem dX0_touches_57 : decode cX0_touches 57 = .ok (.iconst 0, 1) := dk_3 (dk_at dksX0_touches_2 10 rfl rfl)
theorem dX0_touches_58 : decode cX0_touches 58 = .ok (.istore 5, 2) := dk_54 5 (dk_at dksX0_touches_2 11 rfl rfl)
theorem dX0_touches_60 : decode cX0_touches 60 = .ok (.iload 5, 2) := dk_21 5 (dk_at dksX0_touches_2 13 rfl rfl)
theorem dX0_touches_62 : decode cX0_touches 62 = .ok (.aload_n 3, 1) := dk_45 (dk_at dksX0_touches_2 15 rfl rfl)
theorem dX0_touches_63 : decode cX0_touches 63 = .ok (.getfield 103, 3) := dk_180 0 103 (dk_at dksX0_touches_2 16 rfl rfl)
theorem dX0_touches_66 : decode cX0_touches 66 = .ok (.invokevirtual 107, 3) := dk_182 0 107 (dk_at dksX0_touches_2 19 rfl rfl)
theorem dX0_touches_69 : decode cX0_touches 69 = .ok (.if_icmp .ge 69, 3) := dk_162 0 69 (dk_at dksX0_touches_3 0 rfl rfl)
theorem dX0_touches_72 : decode cX0_touches 72 = .ok (.aload_n 0, 1) := dk_42 (dk_at dksX0_touches_3 3 rfl rfl)
theorem dX0_touches_73 : decode cX0_touches 73 = .ok (.aload_n 0, 1) := dk_42 (dk_at dksX0_touches_3 4 rfl rfl)
theorem dX0_touches_74 : decode cX0_touches 74 = .ok (.getfield 69, 3) := dk_180 0 69 (dk_at dksX0_touches_3 5 rfl rfl)
theorem dX0_touches_77 : decode cX0_touches 77 = .ok (.invokevirtual 261, 3) := dk_182 1 5 (dk_at dksX0_touches_3 8 rfl rfl)
theorem dX0_touches_80 : decode cX0_touches 80 = .ok (.aload_n 0, 1) := dk_42 (dk_at dksX0_touches_3 11 rfl rfl)
theorem dX0_touches_81 : decode cX0_touches 81 = .ok (.bipush 8, 2) := dk_16 8 (dk_at dksX0_touches_3 12 rfl rfl)
theorem dX0_touches_83 : decode cX0_touches 83 = .ok (.iload_n 2, 1) := dk_28 (dk_at dksX0_touches_3 14 rfl rfl)
theorem dX0_touches_84 : decode cX0_touches 84 = .ok (.imul, 1) := dk_104 (dk_at dksX0_touches_3 15 rfl rfl)
theorem dX0_touches_85 : decode cX0_touches 85 = .ok (.iload 5, 2) := dk_21 5 (dk_at dksX0_touches_3 16 rfl rfl)
theorem dX0_touches_87 : decode cX0_touches 87 = .ok (.iadd, 1) := dk_96 (dk_at dksX0_touches_3 18 rfl rfl)
theorem dX0_touches_88 : decode cX0_touches 88 = .ok (.aload_n 0, 1) := dk_42 (dk_at dksX0_touches_3 19 rfl rfl)
theorem dX0_touches_89 : decode cX0_touches 89 = .ok (.getfield 69, 3) := dk_180 0 69 (dk_at dksX0_touches_3 20 rfl rfl)
theorem dX0_touches_92 : decode cX0_touches 92 = .ok (.invokevirtual 264, 3) := dk_182 1 8 (dk_at dksX0_touches_4 0 rfl rfl)
theorem dX0_touches_95 : decode cX0_touches 95 = .ok (.iload 4, 2) := dk_21 4 (dk_at dksX0_touches_4 3 rfl rfl)
theorem dX0_touches_97 : decode cX0_touches 97 = .ok (.ifCond .ne 14, 3) := dk_154 0 14 (dk_at dksX0_touches_4 5 rfl rfl)
theorem dX0_touches_100 : decode cX0_touches 100 = .ok (.aload_n 0, 1) := dk_42 (dk_at dksX0_touches_4 8 rfl rfl)
theorem dX0_touches_101 : decode cX0_touches 101 = .ok (.aload_n 0, 1) := dk_42 (dk_at dksX0_touches_4 9 rfl rfl)
theorem dX0_touches_102 : decode cX0_touches 102 = .ok (.getfield 69, 3) := dk_180 0 69 (dk_at dksX0_touches_4 10 rfl rfl)
theorem dX0_touches_105 : decode cX0_touches 105 = .ok (.invokevirtual 271, 3) := dk_182 1 15 (dk_at dksX0_touches_4 13 rfl rfl)
theorem dX0_touches_108 : decode cX0_touches 108 = .ok (.ifCond .eq 7, 3) := dk_153 0 7 (dk_at dksX0_touches_4 16 rfl rfl)
theorem dX0_touches_111 : decode cX0_touches 111 = .ok (.iconst 1, 1) := dk_4 (dk_at dksX0_touches_4 19 rfl rfl)
theorem dX0_touches_112 : decode cX0_touches 112 = .ok (.goto 4, 3) := dk_167 0 4 (dk_at dksX0_touches_4 20 rfl rfl)
theorem dX0_touches_115 : decode cX0_touches 115 = .ok (.iconst 0, 1) := dk_3 (dk_at dksX0_touches_4 23 rfl rfl)
theorem dX0_touches_116 : decode cX0_touches 116 = .ok (.istore 6, 2) := dk_54 6 (dk_at dksX0_touches_5 0 rfl rfl)
theorem dX0_touches_118 : decode cX0_touches 118 = .ok (.aload_n 0, 1) := dk_42 (dk_at dksX0_touches_5 2 rfl rfl)
theorem dX0_touches_119 : decode cX0_touches 119 = .ok (.getfield 65, 3) := dk_180 0 65 (dk_at dksX0_touches_5 3 rfl rfl)
theorem dX0_touches_122 : decode cX0_touches 122 = .ok (.bipush 8, 2) := dk_16 8 (dk_at dksX0_touches_5 6 rfl rfl)
theorem dX0_touches_124 : decode cX0_touches 124 = .ok (.iload_n 2, 1) := dk_28 (dk_at dksX0_touches_5 8 rfl rfl)
theorem dX0_touches_125 : decode cX0_touches 125 = .ok (.imul, 1) := dk_104 (dk_at dksX0_touches_5 9 rfl rfl)
theorem dX0_touches_126 : decode cX0_touches 126 = .ok (.iload 5, 2) := dk_21 5 (dk_at dksX0_touches_5 10 rfl rfl)
theorem dX0_touches_128 : decode cX0_touches 128 = .ok (.iadd, 1) := dk_96 (dk_at dksX0_touches_5 12 rfl rfl)
theorem dX0_touches_129 : decode cX0_touches 129 = .ok (.iload 6, 2) := dk_21 6 (dk_at dksX0_touches_5 13 rfl rfl)
theorem dX0_touches_131 : decode cX0_touches 131 = .ok (.bastore, 1) := dk_84 (dk_at dksX0_touches_5 15 rfl rfl)
theorem dX0_touches_132 : decode cX0_touches 132 = .ok (.iinc 5 1, 3) := dk_132 5 1 (dk_at dksX0_touches_5 16 rfl rfl)
theorem dX0_touches_135 : decode cX0_touches 135 = .ok (.goto (-75), 3) := dk_167 255 181 (dk_at dksX0_touches_5 19 rfl rfl)
theorem dX0_touches_138 : decode cX0_touches 138 = .ok (.iinc 2 1, 3) := dk_132 2 1 (dk_at dksX0_touches_6 0 rfl rfl)
theorem dX0_touches_141 : decode cX0_touches 141 = .ok (.goto (-120), 3) := dk_167 255 136 (dk_at dksX0_touches_6 3 rfl rfl)
theorem dX0_touches_144 : decode cX0_touches 144 = .ok (.return_, 1) := dk_177 (dk_at dksX0_touches_6 6 rfl rfl)
abbrev cX0_hangs : ByteArray := prog_1_method_24_code
def yX0_hangs : MethodName := ⟨RX0, "hangs", "(LTableCatalog$Table;)Z"⟩
def dkwX0_hangs_2 : List UInt8 := [180, 0, 69, 182, 1, 15, 172]
abbrev dktX0_hangs_2 : List UInt8 := dkwX0_hangs_2 ++ []
def dkwX0_hangs_1 : List UInt8 := [43, 180, 0, 158, 42, 180, 0, 69, 182, 1, 1, 43, 180, 0, 162, 42, 180, 0, 69, 182, 1, 1, 42, 42]
abbrev dktX0_hangs_1 : List UInt8 := dkwX0_hangs_1 ++ dktX0_hangs_2
def dkwX0_hangs_0 : List UInt8 := [43, 182, 0, 142, 153, 0, 10, 43, 180, 0, 158, 199, 0, 5, 3, 172, 42, 42, 180, 0, 69, 182, 1, 5]
abbrev dktX0_hangs_0 : List UInt8 := dkwX0_hangs_0 ++ dktX0_hangs_1
theorem dksX0_hangs_0 : cX0_hangs.data.toList.drop 0 = dktX0_hangs_0 := by decide +kernel
theorem dksX0_hangs_1 : cX0_hangs.data.toList.drop 24 = dktX0_hangs_1 := dk_seg dksX0_hangs_0 24 rfl rfl
theorem dksX0_hangs_2 : cX0_hangs.data.toList.drop 48 = dktX0_hangs_2 := dk_seg dksX0_hangs_1 24 rfl rfl
theorem dX0_hangs_0 : decode cX0_hangs 0 = .ok (.aload_n 1, 1) := dk_43 (dk_at dksX0_hangs_0 0 rfl rfl)
theorem dX0_hangs_1 : decode cX0_hangs 1 = .ok (.invokevirtual 142, 3) := dk_182 0 142 (dk_at dksX0_hangs_0 1 rfl rfl)
theorem dX0_hangs_4 : decode cX0_hangs 4 = .ok (.ifCond .eq 10, 3) := dk_153 0 10 (dk_at dksX0_hangs_0 4 rfl rfl)
theorem dX0_hangs_7 : decode cX0_hangs 7 = .ok (.aload_n 1, 1) := dk_43 (dk_at dksX0_hangs_0 7 rfl rfl)
theorem dX0_hangs_8 : decode cX0_hangs 8 = .ok (.getfield 158, 3) := dk_180 0 158 (dk_at dksX0_hangs_0 8 rfl rfl)
theorem dX0_hangs_11 : decode cX0_hangs 11 = .ok (.ifnonnull 5, 3) := dk_199 0 5 (dk_at dksX0_hangs_0 11 rfl rfl)
theorem dX0_hangs_14 : decode cX0_hangs 14 = .ok (.iconst 0, 1) := dk_3 (dk_at dksX0_hangs_0 14 rfl rfl)
theorem dX0_hangs_15 : decode cX0_hangs 15 = .ok (.ireturn, 1) := dk_172 (dk_at dksX0_hangs_0 15 rfl rfl)
theorem dX0_hangs_16 : decode cX0_hangs 16 = .ok (.aload_n 0, 1) := dk_42 (dk_at dksX0_hangs_0 16 rfl rfl)
theorem dX0_hangs_17 : decode cX0_hangs 17 = .ok (.aload_n 0, 1) := dk_42 (dk_at dksX0_hangs_0 17 rfl rfl)
theorem dX0_hangs_18 : decode cX0_hangs 18 = .ok (.getfield 69, 3) := dk_180 0 69 (dk_at dksX0_hangs_0 18 rfl rfl)
theorem dX0_hangs_21 : decode cX0_hangs 21 = .ok (.invokevirtual 261, 3) := dk_182 1 5 (dk_at dksX0_hangs_0 21 rfl rfl)
theorem dX0_hangs_24 : decode cX0_hangs 24 = .ok (.aload_n 1, 1) := dk_43 (dk_at dksX0_hangs_1 0 rfl rfl)
theorem dX0_hangs_25 : decode cX0_hangs 25 = .ok (.getfield 158, 3) := dk_180 0 158 (dk_at dksX0_hangs_1 1 rfl rfl)
theorem dX0_hangs_28 : decode cX0_hangs 28 = .ok (.aload_n 0, 1) := dk_42 (dk_at dksX0_hangs_1 4 rfl rfl)
theorem dX0_hangs_29 : decode cX0_hangs 29 = .ok (.getfield 69, 3) := dk_180 0 69 (dk_at dksX0_hangs_1 5 rfl rfl)
theorem dX0_hangs_32 : decode cX0_hangs 32 = .ok (.invokevirtual 257, 3) := dk_182 1 1 (dk_at dksX0_hangs_1 8 rfl rfl)
theorem dX0_hangs_35 : decode cX0_hangs 35 = .ok (.aload_n 1, 1) := dk_43 (dk_at dksX0_hangs_1 11 rfl rfl)
theorem dX0_hangs_36 : decode cX0_hangs 36 = .ok (.getfield 162, 3) := dk_180 0 162 (dk_at dksX0_hangs_1 12 rfl rfl)
theorem dX0_hangs_39 : decode cX0_hangs 39 = .ok (.aload_n 0, 1) := dk_42 (dk_at dksX0_hangs_1 15 rfl rfl)
theorem dX0_hangs_40 : decode cX0_hangs 40 = .ok (.getfield 69, 3) := dk_180 0 69 (dk_at dksX0_hangs_1 16 rfl rfl)
theorem dX0_hangs_43 : decode cX0_hangs 43 = .ok (.invokevirtual 257, 3) := dk_182 1 1 (dk_at dksX0_hangs_1 19 rfl rfl)
theorem dX0_hangs_46 : decode cX0_hangs 46 = .ok (.aload_n 0, 1) := dk_42 (dk_at dksX0_hangs_1 22 rfl rfl)
theorem dX0_hangs_47 : decode cX0_hangs 47 = .ok (.aload_n 0, 1) := dk_42 (dk_at dksX0_hangs_1 23 rfl rfl)
theorem dX0_hangs_48 : decode cX0_hangs 48 = .ok (.getfield 69, 3) := dk_180 0 69 (dk_at dksX0_hangs_2 0 rfl rfl)
theorem dX0_hangs_51 : decode cX0_hangs 51 = .ok (.invokevirtual 271, 3) := dk_182 1 15 (dk_at dksX0_hangs_2 3 rfl rfl)
theorem dX0_hangs_54 : decode cX0_hangs 54 = .ok (.ireturn, 1) := dk_172 (dk_at dksX0_hangs_2 6 rfl rfl)
abbrev cX0_meets : ByteArray := prog_1_method_23_code
def yX0_meets : MethodName := ⟨RX0, "meets", "([Z)Z"⟩
def dkwX0_meets_1 : List UInt8 := [4, 172, 132, 2, 1, 167, 255, 229, 3, 172]
abbrev dktX0_meets_1 : List UInt8 := dkwX0_meets_1 ++ []
def dkwX0_meets_0 : List UInt8 := [3, 61, 28, 17, 0, 128, 162, 0, 26, 43, 28, 51, 153, 0, 14, 42, 180, 0, 65, 28, 51, 153, 0, 5]
abbrev dktX0_meets_0 : List UInt8 := dkwX0_meets_0 ++ dktX0_meets_1
theorem dksX0_meets_0 : cX0_meets.data.toList.drop 0 = dktX0_meets_0 := by decide +kernel
theorem dksX0_meets_1 : cX0_meets.data.toList.drop 24 = dktX0_meets_1 := dk_seg dksX0_meets_0 24 rfl rfl
theorem dX0_meets_0 : decode cX0_meets 0 = .ok (.iconst 0, 1) := dk_3 (dk_at dksX0_meets_0 0 rfl rfl)
theorem dX0_meets_1 : decode cX0_meets 1 = .ok (.istore_n 2, 1) := dk_61 (dk_at dksX0_meets_0 1 rfl rfl)
theorem dX0_meets_2 : decode cX0_meets 2 = .ok (.iload_n 2, 1) := dk_28 (dk_at dksX0_meets_0 2 rfl rfl)
theorem dX0_meets_3 : decode cX0_meets 3 = .ok (.sipush 128, 3) := dk_17 0 128 (dk_at dksX0_meets_0 3 rfl rfl)
theorem dX0_meets_6 : decode cX0_meets 6 = .ok (.if_icmp .ge 26, 3) := dk_162 0 26 (dk_at dksX0_meets_0 6 rfl rfl)
theorem dX0_meets_9 : decode cX0_meets 9 = .ok (.aload_n 1, 1) := dk_43 (dk_at dksX0_meets_0 9 rfl rfl)
theorem dX0_meets_10 : decode cX0_meets 10 = .ok (.iload_n 2, 1) := dk_28 (dk_at dksX0_meets_0 10 rfl rfl)
theorem dX0_meets_11 : decode cX0_meets 11 = .ok (.baload, 1) := dk_51 (dk_at dksX0_meets_0 11 rfl rfl)
theorem dX0_meets_12 : decode cX0_meets 12 = .ok (.ifCond .eq 14, 3) := dk_153 0 14 (dk_at dksX0_meets_0 12 rfl rfl)
theorem dX0_meets_15 : decode cX0_meets 15 = .ok (.aload_n 0, 1) := dk_42 (dk_at dksX0_meets_0 15 rfl rfl)
theorem dX0_meets_16 : decode cX0_meets 16 = .ok (.getfield 65, 3) := dk_180 0 65 (dk_at dksX0_meets_0 16 rfl rfl)
theorem dX0_meets_19 : decode cX0_meets 19 = .ok (.iload_n 2, 1) := dk_28 (dk_at dksX0_meets_0 19 rfl rfl)
theorem dX0_meets_20 : decode cX0_meets 20 = .ok (.baload, 1) := dk_51 (dk_at dksX0_meets_0 20 rfl rfl)
theorem dX0_meets_21 : decode cX0_meets 21 = .ok (.ifCond .eq 5, 3) := dk_153 0 5 (dk_at dksX0_meets_0 21 rfl rfl)
theorem dX0_meets_24 : decode cX0_meets 24 = .ok (.iconst 1, 1) := dk_4 (dk_at dksX0_meets_1 0 rfl rfl)
theorem dX0_meets_25 : decode cX0_meets 25 = .ok (.ireturn, 1) := dk_172 (dk_at dksX0_meets_1 1 rfl rfl)
theorem dX0_meets_26 : decode cX0_meets 26 = .ok (.iinc 2 1, 3) := dk_132 2 1 (dk_at dksX0_meets_1 2 rfl rfl)
theorem dX0_meets_29 : decode cX0_meets 29 = .ok (.goto (-27), 3) := dk_167 255 229 (dk_at dksX0_meets_1 5 rfl rfl)
theorem dX0_meets_32 : decode cX0_meets 32 = .ok (.iconst 0, 1) := dk_3 (dk_at dksX0_meets_1 8 rfl rfl)
theorem dX0_meets_33 : decode cX0_meets 33 = .ok (.ireturn, 1) := dk_172 (dk_at dksX0_meets_1 9 rfl rfl)
abbrev cX0_asked : ByteArray := prog_1_method_27_code
def yX0_asked : MethodName := ⟨RX0, "asked", "(II)I"⟩
def dkwX0_asked_6 : List UInt8 := [96, 181, 0, 254, 132, 3, 1, 167, 255, 135, 42, 180, 0, 254, 172]
abbrev dktX0_asked_6 : List UInt8 := dkwX0_asked_6 ++ []
def dkwX0_asked_5 : List UInt8 := [21, 4, 154, 0, 6, 167, 0, 23, 42, 180, 0, 47, 42, 180, 0, 254, 29, 79, 42, 89, 180, 0, 254, 4]
abbrev dktX0_asked_5 : List UInt8 := dkwX0_asked_5 ++ dktX0_asked_6
def dkwX0_asked_4 : List UInt8 := [50, 4, 46, 104, 21, 5, 96, 51, 153, 0, 7, 4, 167, 0, 4, 3, 54, 4, 132, 5, 1, 167, 255, 183]
abbrev dktX0_asked_4 : List UInt8 := dkwX0_asked_4 ++ dktX0_asked_5
def dkwX0_asked_3 : List UInt8 := [29, 50, 5, 46, 21, 5, 122, 4, 126, 4, 160, 0, 29, 42, 180, 0, 65, 16, 8, 42, 180, 0, 53, 29]
abbrev dktX0_asked_3 : List UInt8 := dkwX0_asked_3 ++ dktX0_asked_4
def dkwX0_asked_2 : List UInt8 := [162, 0, 72, 42, 180, 0, 53, 29, 50, 4, 46, 2, 159, 0, 60, 21, 4, 154, 0, 42, 42, 180, 0, 53]
abbrev dktX0_asked_2 : List UInt8 := dkwX0_asked_2 ++ dktX0_asked_3
def dkwX0_asked_1 : List UInt8 := [181, 0, 254, 3, 62, 29, 42, 180, 1, 26, 162, 0, 119, 3, 54, 4, 3, 54, 5, 21, 5, 16, 6]
abbrev dktX0_asked_1 : List UInt8 := dkwX0_asked_1 ++ dktX0_asked_2
def dkwX0_asked_0 : List UInt8 := [42, 27, 28, 182, 0, 250, 154, 0, 5, 2, 172, 42, 16, 8, 27, 104, 28, 96, 182, 1, 23, 42, 3]
abbrev dktX0_asked_0 : List UInt8 := dkwX0_asked_0 ++ dktX0_asked_1
theorem dksX0_asked_0 : cX0_asked.data.toList.drop 0 = dktX0_asked_0 := by decide +kernel
theorem dksX0_asked_1 : cX0_asked.data.toList.drop 23 = dktX0_asked_1 := dk_seg dksX0_asked_0 23 rfl rfl
theorem dksX0_asked_2 : cX0_asked.data.toList.drop 46 = dktX0_asked_2 := dk_seg dksX0_asked_1 23 rfl rfl
theorem dksX0_asked_3 : cX0_asked.data.toList.drop 70 = dktX0_asked_3 := dk_seg dksX0_asked_2 24 rfl rfl
theorem dksX0_asked_4 : cX0_asked.data.toList.drop 94 = dktX0_asked_4 := dk_seg dksX0_asked_3 24 rfl rfl
theorem dksX0_asked_5 : cX0_asked.data.toList.drop 118 = dktX0_asked_5 := dk_seg dksX0_asked_4 24 rfl rfl
theorem dksX0_asked_6 : cX0_asked.data.toList.drop 142 = dktX0_asked_6 := dk_seg dksX0_asked_5 24 rfl rfl
theorem dX0_asked_0 : decode cX0_asked 0 = .ok (.aload_n 0, 1) := dk_42 (dk_at dksX0_asked_0 0 rfl rfl)
theorem dX0_asked_1 : decode cX0_asked 1 = .ok (.iload_n 1, 1) := dk_27 (dk_at dksX0_asked_0 1 rfl rfl)
theorem dX0_asked_2 : decode cX0_asked 2 = .ok (.iload_n 2, 1) := dk_28 (dk_at dksX0_asked_0 2 rfl rfl)
theorem dX0_asked_3 : decode cX0_asked 3 = .ok (.invokevirtual 250, 3) := dk_182 0 250 (dk_at dksX0_asked_0 3 rfl rfl)
theorem dX0_asked_6 : decode cX0_asked 6 = .ok (.ifCond .ne 5, 3) := dk_154 0 5 (dk_at dksX0_asked_0 6 rfl rfl)
theorem dX0_asked_9 : decode cX0_asked 9 = .ok (.iconst (-1), 1) := dk_2 (dk_at dksX0_asked_0 9 rfl rfl)
theorem dX0_asked_10 : decode cX0_asked 10 = .ok (.ireturn, 1) := dk_172 (dk_at dksX0_asked_0 10 rfl rfl)
theorem dX0_asked_11 : decode cX0_asked 11 = .ok (.aload_n 0, 1) := dk_42 (dk_at dksX0_asked_0 11 rfl rfl)
theorem dX0_asked_12 : decode cX0_asked 12 = .ok (.bipush 8, 2) := dk_16 8 (dk_at dksX0_asked_0 12 rfl rfl)
theorem dX0_asked_14 : decode cX0_asked 14 = .ok (.iload_n 1, 1) := dk_27 (dk_at dksX0_asked_0 14 rfl rfl)
theorem dX0_asked_15 : decode cX0_asked 15 = .ok (.imul, 1) := dk_104 (dk_at dksX0_asked_0 15 rfl rfl)
theorem dX0_asked_16 : decode cX0_asked 16 = .ok (.iload_n 2, 1) := dk_28 (dk_at dksX0_asked_0 16 rfl rfl)
theorem dX0_asked_17 : decode cX0_asked 17 = .ok (.iadd, 1) := dk_96 (dk_at dksX0_asked_0 17 rfl rfl)
theorem dX0_asked_18 : decode cX0_asked 18 = .ok (.invokevirtual 279, 3) := dk_182 1 23 (dk_at dksX0_asked_0 18 rfl rfl)
theorem dX0_asked_21 : decode cX0_asked 21 = .ok (.aload_n 0, 1) := dk_42 (dk_at dksX0_asked_0 21 rfl rfl)
theorem dX0_asked_22 : decode cX0_asked 22 = .ok (.iconst 0, 1) := dk_3 (dk_at dksX0_asked_0 22 rfl rfl)
theorem dX0_asked_23 : decode cX0_asked 23 = .ok (.putfield 254, 3) := dk_181 0 254 (dk_at dksX0_asked_1 0 rfl rfl)
theorem dX0_asked_26 : decode cX0_asked 26 = .ok (.iconst 0, 1) := dk_3 (dk_at dksX0_asked_1 3 rfl rfl)
theorem dX0_asked_27 : decode cX0_asked 27 = .ok (.istore_n 3, 1) := dk_62 (dk_at dksX0_asked_1 4 rfl rfl)
theorem dX0_asked_28 : decode cX0_asked 28 = .ok (.iload_n 3, 1) := dk_29 (dk_at dksX0_asked_1 5 rfl rfl)
theorem dX0_asked_29 : decode cX0_asked 29 = .ok (.aload_n 0, 1) := dk_42 (dk_at dksX0_asked_1 6 rfl rfl)
theorem dX0_asked_30 : decode cX0_asked 30 = .ok (.getfield 282, 3) := dk_180 1 26 (dk_at dksX0_asked_1 7 rfl rfl)
theorem dX0_asked_33 : decode cX0_asked 33 = .ok (.if_icmp .ge 119, 3) := dk_162 0 119 (dk_at dksX0_asked_1 10 rfl rfl)
theorem dX0_asked_36 : decode cX0_asked 36 = .ok (.iconst 0, 1) := dk_3 (dk_at dksX0_asked_1 13 rfl rfl)
theorem dX0_asked_37 : decode cX0_asked 37 = .ok (.istore 4, 2) := dk_54 4 (dk_at dksX0_asked_1 14 rfl rfl)
theorem dX0_asked_39 : decode cX0_asked 39 = .ok (.iconst 0, 1) := dk_3 (dk_at dksX0_asked_1 16 rfl rfl)
theorem dX0_asked_40 : decode cX0_asked 40 = .ok (.istore 5, 2) := dk_54 5 (dk_at dksX0_asked_1 17 rfl rfl)
theorem dX0_asked_42 : decode cX0_asked 42 = .ok (.iload 5, 2) := dk_21 5 (dk_at dksX0_asked_1 19 rfl rfl)
theorem dX0_asked_44 : decode cX0_asked 44 = .ok (.bipush 6, 2) := dk_16 6 (dk_at dksX0_asked_1 21 rfl rfl)
theorem dX0_asked_46 : decode cX0_asked 46 = .ok (.if_icmp .ge 72, 3) := dk_162 0 72 (dk_at dksX0_asked_2 0 rfl rfl)
theorem dX0_asked_49 : decode cX0_asked 49 = .ok (.aload_n 0, 1) := dk_42 (dk_at dksX0_asked_2 3 rfl rfl)
theorem dX0_asked_50 : decode cX0_asked 50 = .ok (.getfield 53, 3) := dk_180 0 53 (dk_at dksX0_asked_2 4 rfl rfl)
theorem dX0_asked_53 : decode cX0_asked 53 = .ok (.iload_n 3, 1) := dk_29 (dk_at dksX0_asked_2 7 rfl rfl)
theorem dX0_asked_54 : decode cX0_asked 54 = .ok (.aaload, 1) := dk_50 (dk_at dksX0_asked_2 8 rfl rfl)
theorem dX0_asked_55 : decode cX0_asked 55 = .ok (.iconst 1, 1) := dk_4 (dk_at dksX0_asked_2 9 rfl rfl)
theorem dX0_asked_56 : decode cX0_asked 56 = .ok (.iaload, 1) := dk_46 (dk_at dksX0_asked_2 10 rfl rfl)
theorem dX0_asked_57 : decode cX0_asked 57 = .ok (.iconst (-1), 1) := dk_2 (dk_at dksX0_asked_2 11 rfl rfl)
theorem dX0_asked_58 : decode cX0_asked 58 = .ok (.if_icmp .eq 60, 3) := dk_159 0 60 (dk_at dksX0_asked_2 12 rfl rfl)
theorem dX0_asked_61 : decode cX0_asked 61 = .ok (.iload 4, 2) := dk_21 4 (dk_at dksX0_asked_2 15 rfl rfl)
theorem dX0_asked_63 : decode cX0_asked 63 = .ok (.ifCond .ne 42, 3) := dk_154 0 42 (dk_at dksX0_asked_2 17 rfl rfl)
theorem dX0_asked_66 : decode cX0_asked 66 = .ok (.aload_n 0, 1) := dk_42 (dk_at dksX0_asked_2 20 rfl rfl)
theorem dX0_asked_67 : decode cX0_asked 67 = .ok (.getfield 53, 3) := dk_180 0 53 (dk_at dksX0_asked_2 21 rfl rfl)
theorem dX0_asked_70 : decode cX0_asked 70 = .ok (.iload_n 3, 1) := dk_29 (dk_at dksX0_asked_3 0 rfl rfl)
theorem dX0_asked_71 : decode cX0_asked 71 = .ok (.aaload, 1) := dk_50 (dk_at dksX0_asked_3 1 rfl rfl)
theorem dX0_asked_72 : decode cX0_asked 72 = .ok (.iconst 2, 1) := dk_5 (dk_at dksX0_asked_3 2 rfl rfl)
theorem dX0_asked_73 : decode cX0_asked 73 = .ok (.iaload, 1) := dk_46 (dk_at dksX0_asked_3 3 rfl rfl)
theorem dX0_asked_74 : decode cX0_asked 74 = .ok (.iload 5, 2) := dk_21 5 (dk_at dksX0_asked_3 4 rfl rfl)
theorem dX0_asked_76 : decode cX0_asked 76 = .ok (.ishr, 1) := dk_122 (dk_at dksX0_asked_3 6 rfl rfl)
theorem dX0_asked_77 : decode cX0_asked 77 = .ok (.iconst 1, 1) := dk_4 (dk_at dksX0_asked_3 7 rfl rfl)
theorem dX0_asked_78 : decode cX0_asked 78 = .ok (.iand, 1) := dk_126 (dk_at dksX0_asked_3 8 rfl rfl)
theorem dX0_asked_79 : decode cX0_asked 79 = .ok (.iconst 1, 1) := dk_4 (dk_at dksX0_asked_3 9 rfl rfl)
theorem dX0_asked_80 : decode cX0_asked 80 = .ok (.if_icmp .ne 29, 3) := dk_160 0 29 (dk_at dksX0_asked_3 10 rfl rfl)
theorem dX0_asked_83 : decode cX0_asked 83 = .ok (.aload_n 0, 1) := dk_42 (dk_at dksX0_asked_3 13 rfl rfl)
theorem dX0_asked_84 : decode cX0_asked 84 = .ok (.getfield 65, 3) := dk_180 0 65 (dk_at dksX0_asked_3 14 rfl rfl)
theorem dX0_asked_87 : decode cX0_asked 87 = .ok (.bipush 8, 2) := dk_16 8 (dk_at dksX0_asked_3 17 rfl rfl)
theorem dX0_asked_89 : decode cX0_asked 89 = .ok (.aload_n 0, 1) := dk_42 (dk_at dksX0_asked_3 19 rfl rfl)
theorem dX0_asked_90 : decode cX0_asked 90 = .ok (.getfield 53, 3) := dk_180 0 53 (dk_at dksX0_asked_3 20 rfl rfl)
theorem dX0_asked_93 : decode cX0_asked 93 = .ok (.iload_n 3, 1) := dk_29 (dk_at dksX0_asked_3 23 rfl rfl)
theorem dX0_asked_94 : decode cX0_asked 94 = .ok (.aaload, 1) := dk_50 (dk_at dksX0_asked_4 0 rfl rfl)
theorem dX0_asked_95 : decode cX0_asked 95 = .ok (.iconst 1, 1) := dk_4 (dk_at dksX0_asked_4 1 rfl rfl)
theorem dX0_asked_96 : decode cX0_asked 96 = .ok (.iaload, 1) := dk_46 (dk_at dksX0_asked_4 2 rfl rfl)
theorem dX0_asked_97 : decode cX0_asked 97 = .ok (.imul, 1) := dk_104 (dk_at dksX0_asked_4 3 rfl rfl)
theorem dX0_asked_98 : decode cX0_asked 98 = .ok (.iload 5, 2) := dk_21 5 (dk_at dksX0_asked_4 4 rfl rfl)
theorem dX0_asked_100 : decode cX0_asked 100 = .ok (.iadd, 1) := dk_96 (dk_at dksX0_asked_4 6 rfl rfl)
theorem dX0_asked_101 : decode cX0_asked 101 = .ok (.baload, 1) := dk_51 (dk_at dksX0_asked_4 7 rfl rfl)
theorem dX0_asked_102 : decode cX0_asked 102 = .ok (.ifCond .eq 7, 3) := dk_153 0 7 (dk_at dksX0_asked_4 8 rfl rfl)
theorem dX0_asked_105 : decode cX0_asked 105 = .ok (.iconst 1, 1) := dk_4 (dk_at dksX0_asked_4 11 rfl rfl)
theorem dX0_asked_106 : decode cX0_asked 106 = .ok (.goto 4, 3) := dk_167 0 4 (dk_at dksX0_asked_4 12 rfl rfl)
theorem dX0_asked_109 : decode cX0_asked 109 = .ok (.iconst 0, 1) := dk_3 (dk_at dksX0_asked_4 15 rfl rfl)
theorem dX0_asked_110 : decode cX0_asked 110 = .ok (.istore 4, 2) := dk_54 4 (dk_at dksX0_asked_4 16 rfl rfl)
theorem dX0_asked_112 : decode cX0_asked 112 = .ok (.iinc 5 1, 3) := dk_132 5 1 (dk_at dksX0_asked_4 18 rfl rfl)
theorem dX0_asked_115 : decode cX0_asked 115 = .ok (.goto (-73), 3) := dk_167 255 183 (dk_at dksX0_asked_4 21 rfl rfl)
theorem dX0_asked_118 : decode cX0_asked 118 = .ok (.iload 4, 2) := dk_21 4 (dk_at dksX0_asked_5 0 rfl rfl)
theorem dX0_asked_120 : decode cX0_asked 120 = .ok (.ifCond .ne 6, 3) := dk_154 0 6 (dk_at dksX0_asked_5 2 rfl rfl)
theorem dX0_asked_123 : decode cX0_asked 123 = .ok (.goto 23, 3) := dk_167 0 23 (dk_at dksX0_asked_5 5 rfl rfl)
theorem dX0_asked_126 : decode cX0_asked 126 = .ok (.aload_n 0, 1) := dk_42 (dk_at dksX0_asked_5 8 rfl rfl)
theorem dX0_asked_127 : decode cX0_asked 127 = .ok (.getfield 47, 3) := dk_180 0 47 (dk_at dksX0_asked_5 9 rfl rfl)
theorem dX0_asked_130 : decode cX0_asked 130 = .ok (.aload_n 0, 1) := dk_42 (dk_at dksX0_asked_5 12 rfl rfl)
theorem dX0_asked_131 : decode cX0_asked 131 = .ok (.getfield 254, 3) := dk_180 0 254 (dk_at dksX0_asked_5 13 rfl rfl)
theorem dX0_asked_134 : decode cX0_asked 134 = .ok (.iload_n 3, 1) := dk_29 (dk_at dksX0_asked_5 16 rfl rfl)
theorem dX0_asked_135 : decode cX0_asked 135 = .ok (.iastore, 1) := dk_79 (dk_at dksX0_asked_5 17 rfl rfl)
theorem dX0_asked_136 : decode cX0_asked 136 = .ok (.aload_n 0, 1) := dk_42 (dk_at dksX0_asked_5 18 rfl rfl)
theorem dX0_asked_137 : decode cX0_asked 137 = .ok (.dup, 1) := dk_89 (dk_at dksX0_asked_5 19 rfl rfl)
theorem dX0_asked_138 : decode cX0_asked 138 = .ok (.getfield 254, 3) := dk_180 0 254 (dk_at dksX0_asked_5 20 rfl rfl)
theorem dX0_asked_141 : decode cX0_asked 141 = .ok (.iconst 1, 1) := dk_4 (dk_at dksX0_asked_5 23 rfl rfl)
theorem dX0_asked_142 : decode cX0_asked 142 = .ok (.iadd, 1) := dk_96 (dk_at dksX0_asked_6 0 rfl rfl)
theorem dX0_asked_143 : decode cX0_asked 143 = .ok (.putfield 254, 3) := dk_181 0 254 (dk_at dksX0_asked_6 1 rfl rfl)
theorem dX0_asked_146 : decode cX0_asked 146 = .ok (.iinc 3 1, 3) := dk_132 3 1 (dk_at dksX0_asked_6 4 rfl rfl)
theorem dX0_asked_149 : decode cX0_asked 149 = .ok (.goto (-121), 3) := dk_167 255 135 (dk_at dksX0_asked_6 7 rfl rfl)
theorem dX0_asked_152 : decode cX0_asked 152 = .ok (.aload_n 0, 1) := dk_42 (dk_at dksX0_asked_6 10 rfl rfl)
theorem dX0_asked_153 : decode cX0_asked 153 = .ok (.getfield 254, 3) := dk_180 0 254 (dk_at dksX0_asked_6 11 rfl rfl)
theorem dX0_asked_156 : decode cX0_asked 156 = .ok (.ireturn, 1) := dk_172 (dk_at dksX0_asked_6 14 rfl rfl)
abbrev cX0_found : ByteArray := prog_1_method_28_code
def yX0_found : MethodName := ⟨RX0, "found", "(I)I"⟩
def dkwX0_found_0 : List UInt8 := [27, 155, 0, 11, 27, 42, 180, 0, 254, 161, 0, 7, 2, 167, 0, 9, 42, 180, 0, 47, 27, 46, 172]
abbrev dktX0_found_0 : List UInt8 := dkwX0_found_0 ++ []
theorem dksX0_found_0 : cX0_found.data.toList.drop 0 = dktX0_found_0 := by decide +kernel
theorem dX0_found_0 : decode cX0_found 0 = .ok (.iload_n 1, 1) := dk_27 (dk_at dksX0_found_0 0 rfl rfl)
theorem dX0_found_1 : decode cX0_found 1 = .ok (.ifCond .lt 11, 3) := dk_155 0 11 (dk_at dksX0_found_0 1 rfl rfl)
theorem dX0_found_4 : decode cX0_found 4 = .ok (.iload_n 1, 1) := dk_27 (dk_at dksX0_found_0 4 rfl rfl)
theorem dX0_found_5 : decode cX0_found 5 = .ok (.aload_n 0, 1) := dk_42 (dk_at dksX0_found_0 5 rfl rfl)
theorem dX0_found_6 : decode cX0_found 6 = .ok (.getfield 254, 3) := dk_180 0 254 (dk_at dksX0_found_0 6 rfl rfl)
theorem dX0_found_9 : decode cX0_found 9 = .ok (.if_icmp .lt 7, 3) := dk_161 0 7 (dk_at dksX0_found_0 9 rfl rfl)
theorem dX0_found_12 : decode cX0_found 12 = .ok (.iconst (-1), 1) := dk_2 (dk_at dksX0_found_0 12 rfl rfl)
theorem dX0_found_13 : decode cX0_found 13 = .ok (.goto 9, 3) := dk_167 0 9 (dk_at dksX0_found_0 13 rfl rfl)
theorem dX0_found_16 : decode cX0_found 16 = .ok (.aload_n 0, 1) := dk_42 (dk_at dksX0_found_0 16 rfl rfl)
theorem dX0_found_17 : decode cX0_found 17 = .ok (.getfield 47, 3) := dk_180 0 47 (dk_at dksX0_found_0 17 rfl rfl)
theorem dX0_found_20 : decode cX0_found 20 = .ok (.iload_n 1, 1) := dk_27 (dk_at dksX0_found_0 20 rfl rfl)
theorem dX0_found_21 : decode cX0_found 21 = .ok (.iaload, 1) := dk_46 (dk_at dksX0_found_0 21 rfl rfl)
theorem dX0_found_22 : decode cX0_found 22 = .ok (.ireturn, 1) := dk_172 (dk_at dksX0_found_0 22 rfl rfl)
abbrev cX0_retype : ByteArray := prog_1_method_29_code
def yX0_retype : MethodName := ⟨RX0, "retype", "(III)I"⟩
def dkwX0_retype_15 : List UInt8 := [167, 255, 204, 42, 42, 180, 0, 65, 3, 182, 1, 11, 87, 16, 254, 172]
abbrev dktX0_retype_15 : List UInt8 := dkwX0_retype_15 ++ []
def dkwX0_retype_14 : List UInt8 := [21, 6, 6, 122, 50, 180, 0, 149, 21, 6, 16, 7, 126, 42, 180, 0, 72, 21, 6, 52, 85, 132, 6, 1]
abbrev dktX0_retype_14 : List UInt8 := dkwX0_retype_14 ++ dktX0_retype_15
def dkwX0_retype_13 : List UInt8 := [162, 0, 50, 42, 21, 6, 6, 122, 21, 6, 16, 7, 126, 182, 0, 250, 153, 0, 28, 42, 180, 0, 35]
abbrev dktX0_retype_13 : List UInt8 := dkwX0_retype_13 ++ dktX0_retype_14
def dkwX0_retype_12 : List UInt8 := [132, 6, 1, 167, 255, 158, 21, 4, 154, 0, 6, 21, 5, 172, 3, 54, 6, 21, 6, 17, 0, 128]
abbrev dktX0_retype_12 : List UInt8 := dkwX0_retype_12 ++ dktX0_retype_13
def dkwX0_retype_11 : List UInt8 := [6, 122, 50, 180, 0, 149, 21, 6, 16, 7, 126, 52, 159, 0, 7, 4, 167, 0, 4, 3, 96, 54, 5]
abbrev dktX0_retype_11 : List UInt8 := dkwX0_retype_11 ++ dktX0_retype_12
def dkwX0_retype_10 : List UInt8 := [21, 6, 16, 8, 27, 104, 28, 96, 159, 0, 35, 42, 180, 0, 72, 21, 6, 52, 42, 180, 0, 35, 21, 6]
abbrev dktX0_retype_10 : List UInt8 := dkwX0_retype_10 ++ dktX0_retype_11
def dkwX0_retype_9 : List UInt8 := [167, 0, 4, 3, 54, 4, 21, 5, 42, 21, 6, 6, 122, 21, 6, 16, 7, 126, 182, 0, 250, 153, 0, 46]
abbrev dktX0_retype_9 : List UInt8 := dkwX0_retype_9 ++ dktX0_retype_10
def dkwX0_retype_8 : List UInt8 := [17, 0, 128, 162, 0, 96, 21, 4, 154, 0, 13, 42, 180, 0, 65, 21, 6, 51, 153, 0, 7, 4]
abbrev dktX0_retype_8 : List UInt8 := dkwX0_retype_8 ++ dktX0_retype_9
def dkwX0_retype_7 : List UInt8 := [21, 4, 182, 1, 29, 132, 4, 1, 167, 255, 215, 3, 54, 4, 3, 54, 5, 3, 54, 6, 21, 6]
abbrev dktX0_retype_7 : List UInt8 := dkwX0_retype_7 ++ dktX0_retype_8
def dkwX0_retype_6 : List UInt8 := [180, 0, 35, 21, 4, 50, 198, 0, 22, 42, 180, 0, 35, 21, 4, 50, 182, 0, 142, 153, 0, 9, 42]
abbrev dktX0_retype_6 : List UInt8 := dkwX0_retype_6 ++ dktX0_retype_7
def dkwX0_retype_5 : List UInt8 := [180, 0, 149, 28, 29, 146, 85, 27, 4, 96, 54, 4, 21, 4, 42, 180, 0, 83, 162, 0, 38, 42]
abbrev dktX0_retype_5 : List UInt8 := dkwX0_retype_5 ++ dktX0_retype_6
def dkwX0_retype_4 : List UInt8 := [21, 4, 16, 7, 126, 52, 167, 0, 4, 3, 85, 132, 4, 1, 167, 255, 200, 42, 180, 0, 35, 27, 50]
abbrev dktX0_retype_4 : List UInt8 := dkwX0_retype_4 ++ dktX0_retype_5
def dkwX0_retype_3 : List UInt8 := [122, 21, 4, 16, 7, 126, 182, 0, 250, 153, 0, 24, 42, 180, 0, 35, 21, 4, 6, 122, 50, 180, 0, 149]
abbrev dktX0_retype_3 : List UInt8 := dkwX0_retype_3 ++ dktX0_retype_4
def dkwX0_retype_2 : List UInt8 := [182, 1, 5, 3, 54, 4, 21, 4, 17, 0, 128, 162, 0, 54, 42, 180, 0, 72, 21, 4, 42, 21, 4, 6]
abbrev dktX0_retype_2 : List UInt8 := dkwX0_retype_2 ++ dktX0_retype_3
def dkwX0_retype_1 : List UInt8 := [159, 0, 17, 29, 16, 116, 159, 0, 11, 29, 16, 100, 159, 0, 5, 2, 172, 42, 42, 180, 0, 65]
abbrev dktX0_retype_1 : List UInt8 := dkwX0_retype_1 ++ dktX0_retype_2
def dkwX0_retype_0 : List UInt8 := [42, 27, 28, 182, 0, 250, 153, 0, 33, 42, 180, 0, 35, 27, 50, 180, 0, 237, 154, 0, 21, 29, 16, 110]
abbrev dktX0_retype_0 : List UInt8 := dkwX0_retype_0 ++ dktX0_retype_1
theorem dksX0_retype_0 : cX0_retype.data.toList.drop 0 = dktX0_retype_0 := by decide +kernel
theorem dksX0_retype_1 : cX0_retype.data.toList.drop 24 = dktX0_retype_1 := dk_seg dksX0_retype_0 24 rfl rfl
theorem dksX0_retype_2 : cX0_retype.data.toList.drop 46 = dktX0_retype_2 := dk_seg dksX0_retype_1 22 rfl rfl
theorem dksX0_retype_3 : cX0_retype.data.toList.drop 70 = dktX0_retype_3 := dk_seg dksX0_retype_2 24 rfl rfl
theorem dksX0_retype_4 : cX0_retype.data.toList.drop 94 = dktX0_retype_4 := dk_seg dksX0_retype_3 24 rfl rfl
theorem dksX0_retype_5 : cX0_retype.data.toList.drop 117 = dktX0_retype_5 := dk_seg dksX0_retype_4 23 rfl rfl
theorem dksX0_retype_6 : cX0_retype.data.toList.drop 139 = dktX0_retype_6 := dk_seg dksX0_retype_5 22 rfl rfl
theorem dksX0_retype_7 : cX0_retype.data.toList.drop 162 = dktX0_retype_7 := dk_seg dksX0_retype_6 23 rfl rfl
theorem dksX0_retype_8 : cX0_retype.data.toList.drop 184 = dktX0_retype_8 := dk_seg dksX0_retype_7 22 rfl rfl
theorem dksX0_retype_9 : cX0_retype.data.toList.drop 206 = dktX0_retype_9 := dk_seg dksX0_retype_8 22 rfl rfl
theorem dksX0_retype_10 : cX0_retype.data.toList.drop 230 = dktX0_retype_10 := dk_seg dksX0_retype_9 24 rfl rfl
theorem dksX0_retype_11 : cX0_retype.data.toList.drop 254 = dktX0_retype_11 := dk_seg dksX0_retype_10 24 rfl rfl
theorem dksX0_retype_12 : cX0_retype.data.toList.drop 277 = dktX0_retype_12 := dk_seg dksX0_retype_11 23 rfl rfl
theorem dksX0_retype_13 : cX0_retype.data.toList.drop 299 = dktX0_retype_13 := dk_seg dksX0_retype_12 22 rfl rfl
theorem dksX0_retype_14 : cX0_retype.data.toList.drop 322 = dktX0_retype_14 := dk_seg dksX0_retype_13 23 rfl rfl
theorem dksX0_retype_15 : cX0_retype.data.toList.drop 346 = dktX0_retype_15 := dk_seg dksX0_retype_14 24 rfl rfl
theorem dX0_retype_0 : decode cX0_retype 0 = .ok (.aload_n 0, 1) := dk_42 (dk_at dksX0_retype_0 0 rfl rfl)
theorem dX0_retype_1 : decode cX0_retype 1 = .ok (.iload_n 1, 1) := dk_27 (dk_at dksX0_retype_0 1 rfl rfl)
theorem dX0_retype_2 : decode cX0_retype 2 = .ok (.iload_n 2, 1) := dk_28 (dk_at dksX0_retype_0 2 rfl rfl)
theorem dX0_retype_3 : decode cX0_retype 3 = .ok (.invokevirtual 250, 3) := dk_182 0 250 (dk_at dksX0_retype_0 3 rfl rfl)
theorem dX0_retype_6 : decode cX0_retype 6 = .ok (.ifCond .eq 33, 3) := dk_153 0 33 (dk_at dksX0_retype_0 6 rfl rfl)
theorem dX0_retype_9 : decode cX0_retype 9 = .ok (.aload_n 0, 1) := dk_42 (dk_at dksX0_retype_0 9 rfl rfl)
theorem dX0_retype_10 : decode cX0_retype 10 = .ok (.getfield 35, 3) := dk_180 0 35 (dk_at dksX0_retype_0 10 rfl rfl)
theorem dX0_retype_13 : decode cX0_retype 13 = .ok (.iload_n 1, 1) := dk_27 (dk_at dksX0_retype_0 13 rfl rfl)
theorem dX0_retype_14 : decode cX0_retype 14 = .ok (.aaload, 1) := dk_50 (dk_at dksX0_retype_0 14 rfl rfl)
theorem dX0_retype_15 : decode cX0_retype 15 = .ok (.getfield 237, 3) := dk_180 0 237 (dk_at dksX0_retype_0 15 rfl rfl)
theorem dX0_retype_18 : decode cX0_retype 18 = .ok (.ifCond .ne 21, 3) := dk_154 0 21 (dk_at dksX0_retype_0 18 rfl rfl)
theorem dX0_retype_21 : decode cX0_retype 21 = .ok (.iload_n 3, 1) := dk_29 (dk_at dksX0_retype_0 21 rfl rfl)
theorem dX0_retype_22 : decode cX0_retype 22 = .ok (.bipush 110, 2) := dk_16 110 (dk_at dksX0_retype_0 22 rfl rfl)
theorem dX0_retype_24 : decode cX0_retype 24 = .ok (.if_icmp .eq 17, 3) := dk_159 0 17 (dk_at dksX0_retype_1 0 rfl rfl)
theorem dX0_retype_27 : decode cX0_retype 27 = .ok (.iload_n 3, 1) := dk_29 (dk_at dksX0_retype_1 3 rfl rfl)
theorem dX0_retype_28 : decode cX0_retype 28 = .ok (.bipush 116, 2) := dk_16 116 (dk_at dksX0_retype_1 4 rfl rfl)
theorem dX0_retype_30 : decode cX0_retype 30 = .ok (.if_icmp .eq 11, 3) := dk_159 0 11 (dk_at dksX0_retype_1 6 rfl rfl)
theorem dX0_retype_33 : decode cX0_retype 33 = .ok (.iload_n 3, 1) := dk_29 (dk_at dksX0_retype_1 9 rfl rfl)
theorem dX0_retype_34 : decode cX0_retype 34 = .ok (.bipush 100, 2) := dk_16 100 (dk_at dksX0_retype_1 10 rfl rfl)
theorem dX0_retype_36 : decode cX0_retype 36 = .ok (.if_icmp .eq 5, 3) := dk_159 0 5 (dk_at dksX0_retype_1 12 rfl rfl)
theorem dX0_retype_39 : decode cX0_retype 39 = .ok (.iconst (-1), 1) := dk_2 (dk_at dksX0_retype_1 15 rfl rfl)
theorem dX0_retype_40 : decode cX0_retype 40 = .ok (.ireturn, 1) := dk_172 (dk_at dksX0_retype_1 16 rfl rfl)
theorem dX0_retype_41 : decode cX0_retype 41 = .ok (.aload_n 0, 1) := dk_42 (dk_at dksX0_retype_1 17 rfl rfl)
theorem dX0_retype_42 : decode cX0_retype 42 = .ok (.aload_n 0, 1) := dk_42 (dk_at dksX0_retype_1 18 rfl rfl)
theorem dX0_retype_43 : decode cX0_retype 43 = .ok (.getfield 65, 3) := dk_180 0 65 (dk_at dksX0_retype_1 19 rfl rfl)
theorem dX0_retype_46 : decode cX0_retype 46 = .ok (.invokevirtual 261, 3) := dk_182 1 5 (dk_at dksX0_retype_2 0 rfl rfl)
theorem dX0_retype_49 : decode cX0_retype 49 = .ok (.iconst 0, 1) := dk_3 (dk_at dksX0_retype_2 3 rfl rfl)
theorem dX0_retype_50 : decode cX0_retype 50 = .ok (.istore 4, 2) := dk_54 4 (dk_at dksX0_retype_2 4 rfl rfl)
theorem dX0_retype_52 : decode cX0_retype 52 = .ok (.iload 4, 2) := dk_21 4 (dk_at dksX0_retype_2 6 rfl rfl)
theorem dX0_retype_54 : decode cX0_retype 54 = .ok (.sipush 128, 3) := dk_17 0 128 (dk_at dksX0_retype_2 8 rfl rfl)
theorem dX0_retype_57 : decode cX0_retype 57 = .ok (.if_icmp .ge 54, 3) := dk_162 0 54 (dk_at dksX0_retype_2 11 rfl rfl)
theorem dX0_retype_60 : decode cX0_retype 60 = .ok (.aload_n 0, 1) := dk_42 (dk_at dksX0_retype_2 14 rfl rfl)
theorem dX0_retype_61 : decode cX0_retype 61 = .ok (.getfield 72, 3) := dk_180 0 72 (dk_at dksX0_retype_2 15 rfl rfl)
theorem dX0_retype_64 : decode cX0_retype 64 = .ok (.iload 4, 2) := dk_21 4 (dk_at dksX0_retype_2 18 rfl rfl)
theorem dX0_retype_66 : decode cX0_retype 66 = .ok (.aload_n 0, 1) := dk_42 (dk_at dksX0_retype_2 20 rfl rfl)
theorem dX0_retype_67 : decode cX0_retype 67 = .ok (.iload 4, 2) := dk_21 4 (dk_at dksX0_retype_2 21 rfl rfl)
theorem dX0_retype_69 : decode cX0_retype 69 = .ok (.iconst 3, 1) := dk_6 (dk_at dksX0_retype_2 23 rfl rfl)
theorem dX0_retype_70 : decode cX0_retype 70 = .ok (.ishr, 1) := dk_122 (dk_at dksX0_retype_3 0 rfl rfl)
theorem dX0_retype_71 : decode cX0_retype 71 = .ok (.iload 4, 2) := dk_21 4 (dk_at dksX0_retype_3 1 rfl rfl)
theorem dX0_retype_73 : decode cX0_retype 73 = .ok (.bipush 7, 2) := dk_16 7 (dk_at dksX0_retype_3 3 rfl rfl)
theorem dX0_retype_75 : decode cX0_retype 75 = .ok (.iand, 1) := dk_126 (dk_at dksX0_retype_3 5 rfl rfl)
theorem dX0_retype_76 : decode cX0_retype 76 = .ok (.invokevirtual 250, 3) := dk_182 0 250 (dk_at dksX0_retype_3 6 rfl rfl)
theorem dX0_retype_79 : decode cX0_retype 79 = .ok (.ifCond .eq 24, 3) := dk_153 0 24 (dk_at dksX0_retype_3 9 rfl rfl)
theorem dX0_retype_82 : decode cX0_retype 82 = .ok (.aload_n 0, 1) := dk_42 (dk_at dksX0_retype_3 12 rfl rfl)
theorem dX0_retype_83 : decode cX0_retype 83 = .ok (.getfield 35, 3) := dk_180 0 35 (dk_at dksX0_retype_3 13 rfl rfl)
theorem dX0_retype_86 : decode cX0_retype 86 = .ok (.iload 4, 2) := dk_21 4 (dk_at dksX0_retype_3 16 rfl rfl)
theorem dX0_retype_88 : decode cX0_retype 88 = .ok (.iconst 3, 1) := dk_6 (dk_at dksX0_retype_3 18 rfl rfl)
theorem dX0_retype_89 : decode cX0_retype 89 = .ok (.ishr, 1) := dk_122 (dk_at dksX0_retype_3 19 rfl rfl)
theorem dX0_retype_90 : decode cX0_retype 90 = .ok (.aaload, 1) := dk_50 (dk_at dksX0_retype_3 20 rfl rfl)
theorem dX0_retype_91 : decode cX0_retype 91 = .ok (.getfield 149, 3) := dk_180 0 149 (dk_at dksX0_retype_3 21 rfl rfl)
theorem dX0_retype_94 : decode cX0_retype 94 = .ok (.iload 4, 2) := dk_21 4 (dk_at dksX0_retype_4 0 rfl rfl)
theorem dX0_retype_96 : decode cX0_retype 96 = .ok (.bipush 7, 2) := dk_16 7 (dk_at dksX0_retype_4 2 rfl rfl)
theorem dX0_retype_98 : decode cX0_retype 98 = .ok (.iand, 1) := dk_126 (dk_at dksX0_retype_4 4 rfl rfl)
theorem dX0_retype_99 : decode cX0_retype 99 = .ok (.caload, 1) := dk_52 (dk_at dksX0_retype_4 5 rfl rfl)
theorem dX0_retype_100 : decode cX0_retype 100 = .ok (.goto 4, 3) := dk_167 0 4 (dk_at dksX0_retype_4 6 rfl rfl)
theorem dX0_retype_103 : decode cX0_retype 103 = .ok (.iconst 0, 1) := dk_3 (dk_at dksX0_retype_4 9 rfl rfl)
theorem dX0_retype_104 : decode cX0_retype 104 = .ok (.castore, 1) := dk_85 (dk_at dksX0_retype_4 10 rfl rfl)
theorem dX0_retype_105 : decode cX0_retype 105 = .ok (.iinc 4 1, 3) := dk_132 4 1 (dk_at dksX0_retype_4 11 rfl rfl)
theorem dX0_retype_108 : decode cX0_retype 108 = .ok (.goto (-56), 3) := dk_167 255 200 (dk_at dksX0_retype_4 14 rfl rfl)
theorem dX0_retype_111 : decode cX0_retype 111 = .ok (.aload_n 0, 1) := dk_42 (dk_at dksX0_retype_4 17 rfl rfl)
theorem dX0_retype_112 : decode cX0_retype 112 = .ok (.getfield 35, 3) := dk_180 0 35 (dk_at dksX0_retype_4 18 rfl rfl)
theorem dX0_retype_115 : decode cX0_retype 115 = .ok (.iload_n 1, 1) := dk_27 (dk_at dksX0_retype_4 21 rfl rfl)
theorem dX0_retype_116 : decode cX0_retype 116 = .ok (.aaload, 1) := dk_50 (dk_at dksX0_retype_4 22 rfl rfl)
theorem dX0_retype_117 : decode cX0_retype 117 = .ok (.getfield 149, 3) := dk_180 0 149 (dk_at dksX0_retype_5 0 rfl rfl)
theorem dX0_retype_120 : decode cX0_retype 120 = .ok (.iload_n 2, 1) := dk_28 (dk_at dksX0_retype_5 3 rfl rfl)
theorem dX0_retype_121 : decode cX0_retype 121 = .ok (.iload_n 3, 1) := dk_29 (dk_at dksX0_retype_5 4 rfl rfl)
theorem dX0_retype_122 : decode cX0_retype 122 = .ok (.i2c, 1) := dk_146 (dk_at dksX0_retype_5 5 rfl rfl)
theorem dX0_retype_123 : decode cX0_retype 123 = .ok (.castore, 1) := dk_85 (dk_at dksX0_retype_5 6 rfl rfl)
theorem dX0_retype_124 : decode cX0_retype 124 = .ok (.iload_n 1, 1) := dk_27 (dk_at dksX0_retype_5 7 rfl rfl)
theorem dX0_retype_125 : decode cX0_retype 125 = .ok (.iconst 1, 1) := dk_4 (dk_at dksX0_retype_5 8 rfl rfl)
theorem dX0_retype_126 : decode cX0_retype 126 = .ok (.iadd, 1) := dk_96 (dk_at dksX0_retype_5 9 rfl rfl)
theorem dX0_retype_127 : decode cX0_retype 127 = .ok (.istore 4, 2) := dk_54 4 (dk_at dksX0_retype_5 10 rfl rfl)
theorem dX0_retype_129 : decode cX0_retype 129 = .ok (.iload 4, 2) := dk_21 4 (dk_at dksX0_retype_5 12 rfl rfl)
theorem dX0_retype_131 : decode cX0_retype 131 = .ok (.aload_n 0, 1) := dk_42 (dk_at dksX0_retype_5 14 rfl rfl)
theorem dX0_retype_132 : decode cX0_retype 132 = .ok (.getfield 83, 3) := dk_180 0 83 (dk_at dksX0_retype_5 15 rfl rfl)
theorem dX0_retype_135 : decode cX0_retype 135 = .ok (.if_icmp .ge 38, 3) := dk_162 0 38 (dk_at dksX0_retype_5 18 rfl rfl)
theorem dX0_retype_138 : decode cX0_retype 138 = .ok (.aload_n 0, 1) := dk_42 (dk_at dksX0_retype_5 21 rfl rfl)
theorem dX0_retype_139 : decode cX0_retype 139 = .ok (.getfield 35, 3) := dk_180 0 35 (dk_at dksX0_retype_6 0 rfl rfl)
theorem dX0_retype_142 : decode cX0_retype 142 = .ok (.iload 4, 2) := dk_21 4 (dk_at dksX0_retype_6 3 rfl rfl)
theorem dX0_retype_144 : decode cX0_retype 144 = .ok (.aaload, 1) := dk_50 (dk_at dksX0_retype_6 5 rfl rfl)
theorem dX0_retype_145 : decode cX0_retype 145 = .ok (.ifnull 22, 3) := dk_198 0 22 (dk_at dksX0_retype_6 6 rfl rfl)
theorem dX0_retype_148 : decode cX0_retype 148 = .ok (.aload_n 0, 1) := dk_42 (dk_at dksX0_retype_6 9 rfl rfl)
theorem dX0_retype_149 : decode cX0_retype 149 = .ok (.getfield 35, 3) := dk_180 0 35 (dk_at dksX0_retype_6 10 rfl rfl)
theorem dX0_retype_152 : decode cX0_retype 152 = .ok (.iload 4, 2) := dk_21 4 (dk_at dksX0_retype_6 13 rfl rfl)
theorem dX0_retype_154 : decode cX0_retype 154 = .ok (.aaload, 1) := dk_50 (dk_at dksX0_retype_6 15 rfl rfl)
theorem dX0_retype_155 : decode cX0_retype 155 = .ok (.invokevirtual 142, 3) := dk_182 0 142 (dk_at dksX0_retype_6 16 rfl rfl)
theorem dX0_retype_158 : decode cX0_retype 158 = .ok (.ifCond .eq 9, 3) := dk_153 0 9 (dk_at dksX0_retype_6 19 rfl rfl)
theorem dX0_retype_161 : decode cX0_retype 161 = .ok (.aload_n 0, 1) := dk_42 (dk_at dksX0_retype_6 22 rfl rfl)
theorem dX0_retype_162 : decode cX0_retype 162 = .ok (.iload 4, 2) := dk_21 4 (dk_at dksX0_retype_7 0 rfl rfl)
theorem dX0_retype_164 : decode cX0_retype 164 = .ok (.invokevirtual 285, 3) := dk_182 1 29 (dk_at dksX0_retype_7 2 rfl rfl)
theorem dX0_retype_167 : decode cX0_retype 167 = .ok (.iinc 4 1, 3) := dk_132 4 1 (dk_at dksX0_retype_7 5 rfl rfl)
theorem dX0_retype_170 : decode cX0_retype 170 = .ok (.goto (-41), 3) := dk_167 255 215 (dk_at dksX0_retype_7 8 rfl rfl)
theorem dX0_retype_173 : decode cX0_retype 173 = .ok (.iconst 0, 1) := dk_3 (dk_at dksX0_retype_7 11 rfl rfl)
theorem dX0_retype_174 : decode cX0_retype 174 = .ok (.istore 4, 2) := dk_54 4 (dk_at dksX0_retype_7 12 rfl rfl)
theorem dX0_retype_176 : decode cX0_retype 176 = .ok (.iconst 0, 1) := dk_3 (dk_at dksX0_retype_7 14 rfl rfl)
theorem dX0_retype_177 : decode cX0_retype 177 = .ok (.istore 5, 2) := dk_54 5 (dk_at dksX0_retype_7 15 rfl rfl)
theorem dX0_retype_179 : decode cX0_retype 179 = .ok (.iconst 0, 1) := dk_3 (dk_at dksX0_retype_7 17 rfl rfl)
theorem dX0_retype_180 : decode cX0_retype 180 = .ok (.istore 6, 2) := dk_54 6 (dk_at dksX0_retype_7 18 rfl rfl)
theorem dX0_retype_182 : decode cX0_retype 182 = .ok (.iload 6, 2) := dk_21 6 (dk_at dksX0_retype_7 20 rfl rfl)
theorem dX0_retype_184 : decode cX0_retype 184 = .ok (.sipush 128, 3) := dk_17 0 128 (dk_at dksX0_retype_8 0 rfl rfl)
theorem dX0_retype_187 : decode cX0_retype 187 = .ok (.if_icmp .ge 96, 3) := dk_162 0 96 (dk_at dksX0_retype_8 3 rfl rfl)
theorem dX0_retype_190 : decode cX0_retype 190 = .ok (.iload 4, 2) := dk_21 4 (dk_at dksX0_retype_8 6 rfl rfl)
theorem dX0_retype_192 : decode cX0_retype 192 = .ok (.ifCond .ne 13, 3) := dk_154 0 13 (dk_at dksX0_retype_8 8 rfl rfl)
theorem dX0_retype_195 : decode cX0_retype 195 = .ok (.aload_n 0, 1) := dk_42 (dk_at dksX0_retype_8 11 rfl rfl)
theorem dX0_retype_196 : decode cX0_retype 196 = .ok (.getfield 65, 3) := dk_180 0 65 (dk_at dksX0_retype_8 12 rfl rfl)
theorem dX0_retype_199 : decode cX0_retype 199 = .ok (.iload 6, 2) := dk_21 6 (dk_at dksX0_retype_8 15 rfl rfl)
theorem dX0_retype_201 : decode cX0_retype 201 = .ok (.baload, 1) := dk_51 (dk_at dksX0_retype_8 17 rfl rfl)
theorem dX0_retype_202 : decode cX0_retype 202 = .ok (.ifCond .eq 7, 3) := dk_153 0 7 (dk_at dksX0_retype_8 18 rfl rfl)
theorem dX0_retype_205 : decode cX0_retype 205 = .ok (.iconst 1, 1) := dk_4 (dk_at dksX0_retype_8 21 rfl rfl)
theorem dX0_retype_206 : decode cX0_retype 206 = .ok (.goto 4, 3) := dk_167 0 4 (dk_at dksX0_retype_9 0 rfl rfl)
theorem dX0_retype_209 : decode cX0_retype 209 = .ok (.iconst 0, 1) := dk_3 (dk_at dksX0_retype_9 3 rfl rfl)
theorem dX0_retype_210 : decode cX0_retype 210 = .ok (.istore 4, 2) := dk_54 4 (dk_at dksX0_retype_9 4 rfl rfl)
theorem dX0_retype_212 : decode cX0_retype 212 = .ok (.iload 5, 2) := dk_21 5 (dk_at dksX0_retype_9 6 rfl rfl)
theorem dX0_retype_214 : decode cX0_retype 214 = .ok (.aload_n 0, 1) := dk_42 (dk_at dksX0_retype_9 8 rfl rfl)
theorem dX0_retype_215 : decode cX0_retype 215 = .ok (.iload 6, 2) := dk_21 6 (dk_at dksX0_retype_9 9 rfl rfl)
theorem dX0_retype_217 : decode cX0_retype 217 = .ok (.iconst 3, 1) := dk_6 (dk_at dksX0_retype_9 11 rfl rfl)
theorem dX0_retype_218 : decode cX0_retype 218 = .ok (.ishr, 1) := dk_122 (dk_at dksX0_retype_9 12 rfl rfl)
theorem dX0_retype_219 : decode cX0_retype 219 = .ok (.iload 6, 2) := dk_21 6 (dk_at dksX0_retype_9 13 rfl rfl)
theorem dX0_retype_221 : decode cX0_retype 221 = .ok (.bipush 7, 2) := dk_16 7 (dk_at dksX0_retype_9 15 rfl rfl)
theorem dX0_retype_223 : decode cX0_retype 223 = .ok (.iand, 1) := dk_126 (dk_at dksX0_retype_9 17 rfl rfl)
theorem dX0_retype_224 : decode cX0_retype 224 = .ok (.invokevirtual 250, 3) := dk_182 0 250 (dk_at dksX0_retype_9 18 rfl rfl)
theorem dX0_retype_227 : decode cX0_retype 227 = .ok (.ifCond .eq 46, 3) := dk_153 0 46 (dk_at dksX0_retype_9 21 rfl rfl)
theorem dX0_retype_230 : decode cX0_retype 230 = .ok (.iload 6, 2) := dk_21 6 (dk_at dksX0_retype_10 0 rfl rfl)
theorem dX0_retype_232 : decode cX0_retype 232 = .ok (.bipush 8, 2) := dk_16 8 (dk_at dksX0_retype_10 2 rfl rfl)
theorem dX0_retype_234 : decode cX0_retype 234 = .ok (.iload_n 1, 1) := dk_27 (dk_at dksX0_retype_10 4 rfl rfl)
theorem dX0_retype_235 : decode cX0_retype 235 = .ok (.imul, 1) := dk_104 (dk_at dksX0_retype_10 5 rfl rfl)
theorem dX0_retype_236 : decode cX0_retype 236 = .ok (.iload_n 2, 1) := dk_28 (dk_at dksX0_retype_10 6 rfl rfl)
theorem dX0_retype_237 : decode cX0_retype 237 = .ok (.iadd, 1) := dk_96 (dk_at dksX0_retype_10 7 rfl rfl)
theorem dX0_retype_238 : decode cX0_retype 238 = .ok (.if_icmp .eq 35, 3) := dk_159 0 35 (dk_at dksX0_retype_10 8 rfl rfl)
theorem dX0_retype_241 : decode cX0_retype 241 = .ok (.aload_n 0, 1) := dk_42 (dk_at dksX0_retype_10 11 rfl rfl)
theorem dX0_retype_242 : decode cX0_retype 242 = .ok (.getfield 72, 3) := dk_180 0 72 (dk_at dksX0_retype_10 12 rfl rfl)
theorem dX0_retype_245 : decode cX0_retype 245 = .ok (.iload 6, 2) := dk_21 6 (dk_at dksX0_retype_10 15 rfl rfl)
theorem dX0_retype_247 : decode cX0_retype 247 = .ok (.caload, 1) := dk_52 (dk_at dksX0_retype_10 17 rfl rfl)
theorem dX0_retype_248 : decode cX0_retype 248 = .ok (.aload_n 0, 1) := dk_42 (dk_at dksX0_retype_10 18 rfl rfl)
theorem dX0_retype_249 : decode cX0_retype 249 = .ok (.getfield 35, 3) := dk_180 0 35 (dk_at dksX0_retype_10 19 rfl rfl)
theorem dX0_retype_252 : decode cX0_retype 252 = .ok (.iload 6, 2) := dk_21 6 (dk_at dksX0_retype_10 22 rfl rfl)
theorem dX0_retype_254 : decode cX0_retype 254 = .ok (.iconst 3, 1) := dk_6 (dk_at dksX0_retype_11 0 rfl rfl)
theorem dX0_retype_255 : decode cX0_retype 255 = .ok (.ishr, 1) := dk_122 (dk_at dksX0_retype_11 1 rfl rfl)
theorem dX0_retype_256 : decode cX0_retype 256 = .ok (.aaload, 1) := dk_50 (dk_at dksX0_retype_11 2 rfl rfl)
theorem dX0_retype_257 : decode cX0_retype 257 = .ok (.getfield 149, 3) := dk_180 0 149 (dk_at dksX0_retype_11 3 rfl rfl)
theorem dX0_retype_260 : decode cX0_retype 260 = .ok (.iload 6, 2) := dk_21 6 (dk_at dksX0_retype_11 6 rfl rfl)
theorem dX0_retype_262 : decode cX0_retype 262 = .ok (.bipush 7, 2) := dk_16 7 (dk_at dksX0_retype_11 8 rfl rfl)
theorem dX0_retype_264 : decode cX0_retype 264 = .ok (.iand, 1) := dk_126 (dk_at dksX0_retype_11 10 rfl rfl)
theorem dX0_retype_265 : decode cX0_retype 265 = .ok (.caload, 1) := dk_52 (dk_at dksX0_retype_11 11 rfl rfl)
theorem dX0_retype_266 : decode cX0_retype 266 = .ok (.if_icmp .eq 7, 3) := dk_159 0 7 (dk_at dksX0_retype_11 12 rfl rfl)
theorem dX0_retype_269 : decode cX0_retype 269 = .ok (.iconst 1, 1) := dk_4 (dk_at dksX0_retype_11 15 rfl rfl)
theorem dX0_retype_270 : decode cX0_retype 270 = .ok (.goto 4, 3) := dk_167 0 4 (dk_at dksX0_retype_11 16 rfl rfl)
theorem dX0_retype_273 : decode cX0_retype 273 = .ok (.iconst 0, 1) := dk_3 (dk_at dksX0_retype_11 19 rfl rfl)
theorem dX0_retype_274 : decode cX0_retype 274 = .ok (.iadd, 1) := dk_96 (dk_at dksX0_retype_11 20 rfl rfl)
theorem dX0_retype_275 : decode cX0_retype 275 = .ok (.istore 5, 2) := dk_54 5 (dk_at dksX0_retype_11 21 rfl rfl)
theorem dX0_retype_277 : decode cX0_retype 277 = .ok (.iinc 6 1, 3) := dk_132 6 1 (dk_at dksX0_retype_12 0 rfl rfl)
theorem dX0_retype_280 : decode cX0_retype 280 = .ok (.goto (-98), 3) := dk_167 255 158 (dk_at dksX0_retype_12 3 rfl rfl)
theorem dX0_retype_283 : decode cX0_retype 283 = .ok (.iload 4, 2) := dk_21 4 (dk_at dksX0_retype_12 6 rfl rfl)
theorem dX0_retype_285 : decode cX0_retype 285 = .ok (.ifCond .ne 6, 3) := dk_154 0 6 (dk_at dksX0_retype_12 8 rfl rfl)
theorem dX0_retype_288 : decode cX0_retype 288 = .ok (.iload 5, 2) := dk_21 5 (dk_at dksX0_retype_12 11 rfl rfl)
theorem dX0_retype_290 : decode cX0_retype 290 = .ok (.ireturn, 1) := dk_172 (dk_at dksX0_retype_12 13 rfl rfl)
theorem dX0_retype_291 : decode cX0_retype 291 = .ok (.iconst 0, 1) := dk_3 (dk_at dksX0_retype_12 14 rfl rfl)
theorem dX0_retype_292 : decode cX0_retype 292 = .ok (.istore 6, 2) := dk_54 6 (dk_at dksX0_retype_12 15 rfl rfl)
theorem dX0_retype_294 : decode cX0_retype 294 = .ok (.iload 6, 2) := dk_21 6 (dk_at dksX0_retype_12 17 rfl rfl)
theorem dX0_retype_296 : decode cX0_retype 296 = .ok (.sipush 128, 3) := dk_17 0 128 (dk_at dksX0_retype_12 19 rfl rfl)
theorem dX0_retype_299 : decode cX0_retype 299 = .ok (.if_icmp .ge 50, 3) := dk_162 0 50 (dk_at dksX0_retype_13 0 rfl rfl)
theorem dX0_retype_302 : decode cX0_retype 302 = .ok (.aload_n 0, 1) := dk_42 (dk_at dksX0_retype_13 3 rfl rfl)
theorem dX0_retype_303 : decode cX0_retype 303 = .ok (.iload 6, 2) := dk_21 6 (dk_at dksX0_retype_13 4 rfl rfl)
theorem dX0_retype_305 : decode cX0_retype 305 = .ok (.iconst 3, 1) := dk_6 (dk_at dksX0_retype_13 6 rfl rfl)
theorem dX0_retype_306 : decode cX0_retype 306 = .ok (.ishr, 1) := dk_122 (dk_at dksX0_retype_13 7 rfl rfl)
theorem dX0_retype_307 : decode cX0_retype 307 = .ok (.iload 6, 2) := dk_21 6 (dk_at dksX0_retype_13 8 rfl rfl)
theorem dX0_retype_309 : decode cX0_retype 309 = .ok (.bipush 7, 2) := dk_16 7 (dk_at dksX0_retype_13 10 rfl rfl)
theorem dX0_retype_311 : decode cX0_retype 311 = .ok (.iand, 1) := dk_126 (dk_at dksX0_retype_13 12 rfl rfl)
theorem dX0_retype_312 : decode cX0_retype 312 = .ok (.invokevirtual 250, 3) := dk_182 0 250 (dk_at dksX0_retype_13 13 rfl rfl)
theorem dX0_retype_315 : decode cX0_retype 315 = .ok (.ifCond .eq 28, 3) := dk_153 0 28 (dk_at dksX0_retype_13 16 rfl rfl)
theorem dX0_retype_318 : decode cX0_retype 318 = .ok (.aload_n 0, 1) := dk_42 (dk_at dksX0_retype_13 19 rfl rfl)
theorem dX0_retype_319 : decode cX0_retype 319 = .ok (.getfield 35, 3) := dk_180 0 35 (dk_at dksX0_retype_13 20 rfl rfl)
theorem dX0_retype_322 : decode cX0_retype 322 = .ok (.iload 6, 2) := dk_21 6 (dk_at dksX0_retype_14 0 rfl rfl)
theorem dX0_retype_324 : decode cX0_retype 324 = .ok (.iconst 3, 1) := dk_6 (dk_at dksX0_retype_14 2 rfl rfl)
theorem dX0_retype_325 : decode cX0_retype 325 = .ok (.ishr, 1) := dk_122 (dk_at dksX0_retype_14 3 rfl rfl)
theorem dX0_retype_326 : decode cX0_retype 326 = .ok (.aaload, 1) := dk_50 (dk_at dksX0_retype_14 4 rfl rfl)
theorem dX0_retype_327 : decode cX0_retype 327 = .ok (.getfield 149, 3) := dk_180 0 149 (dk_at dksX0_retype_14 5 rfl rfl)
theorem dX0_retype_330 : decode cX0_retype 330 = .ok (.iload 6, 2) := dk_21 6 (dk_at dksX0_retype_14 8 rfl rfl)
theorem dX0_retype_332 : decode cX0_retype 332 = .ok (.bipush 7, 2) := dk_16 7 (dk_at dksX0_retype_14 10 rfl rfl)
theorem dX0_retype_334 : decode cX0_retype 334 = .ok (.iand, 1) := dk_126 (dk_at dksX0_retype_14 12 rfl rfl)
theorem dX0_retype_335 : decode cX0_retype 335 = .ok (.aload_n 0, 1) := dk_42 (dk_at dksX0_retype_14 13 rfl rfl)
theorem dX0_retype_336 : decode cX0_retype 336 = .ok (.getfield 72, 3) := dk_180 0 72 (dk_at dksX0_retype_14 14 rfl rfl)
theorem dX0_retype_339 : decode cX0_retype 339 = .ok (.iload 6, 2) := dk_21 6 (dk_at dksX0_retype_14 17 rfl rfl)
theorem dX0_retype_341 : decode cX0_retype 341 = .ok (.caload, 1) := dk_52 (dk_at dksX0_retype_14 19 rfl rfl)
theorem dX0_retype_342 : decode cX0_retype 342 = .ok (.castore, 1) := dk_85 (dk_at dksX0_retype_14 20 rfl rfl)
theorem dX0_retype_343 : decode cX0_retype 343 = .ok (.iinc 6 1, 3) := dk_132 6 1 (dk_at dksX0_retype_14 21 rfl rfl)
theorem dX0_retype_346 : decode cX0_retype 346 = .ok (.goto (-52), 3) := dk_167 255 204 (dk_at dksX0_retype_15 0 rfl rfl)
theorem dX0_retype_349 : decode cX0_retype 349 = .ok (.aload_n 0, 1) := dk_42 (dk_at dksX0_retype_15 3 rfl rfl)
theorem dX0_retype_350 : decode cX0_retype 350 = .ok (.aload_n 0, 1) := dk_42 (dk_at dksX0_retype_15 4 rfl rfl)
theorem dX0_retype_351 : decode cX0_retype 351 = .ok (.getfield 65, 3) := dk_180 0 65 (dk_at dksX0_retype_15 5 rfl rfl)
theorem dX0_retype_354 : decode cX0_retype 354 = .ok (.iconst 0, 1) := dk_3 (dk_at dksX0_retype_15 8 rfl rfl)
theorem dX0_retype_355 : decode cX0_retype 355 = .ok (.invokevirtual 267, 3) := dk_182 1 11 (dk_at dksX0_retype_15 9 rfl rfl)
theorem dX0_retype_358 : decode cX0_retype 358 = .ok (.pop, 1) := dk_87 (dk_at dksX0_retype_15 12 rfl rfl)
theorem dX0_retype_359 : decode cX0_retype 359 = .ok (.bipush (-2), 2) := dk_16 254 (dk_at dksX0_retype_15 13 rfl rfl)
theorem dX0_retype_361 : decode cX0_retype 361 = .ok (.ireturn, 1) := dk_172 (dk_at dksX0_retype_15 15 rfl rfl)
abbrev cX0_retypes : ByteArray := prog_1_method_30_code
def yX0_retypes : MethodName := ⟨RX0, "retypes", "(I)V"⟩
def dkwX0_retypes_6 : List UInt8 := [159, 0, 7, 4, 167, 0, 4, 3, 84, 177]
abbrev dktX0_retypes_6 : List UInt8 := dkwX0_retypes_6 ++ []
def dkwX0_retypes_5 : List UInt8 := [54, 5, 42, 180, 0, 65, 16, 8, 27, 104, 16, 6, 96, 45, 182, 0, 175, 154, 0, 10, 21, 4, 21, 5]
abbrev dktX0_retypes_5 : List UInt8 := dkwX0_retypes_5 ++ dktX0_retypes_6
def dkwX0_retypes_4 : List UInt8 := [89, 42, 183, 0, 170, 78, 44, 180, 0, 158, 45, 182, 0, 171, 54, 4, 44, 180, 0, 162, 45, 182, 0, 171]
abbrev dktX0_retypes_4 : List UInt8 := dkwX0_retypes_4 ++ dktX0_retypes_5
def dkwX0_retypes_3 : List UInt8 := [180, 0, 149, 29, 21, 5, 85, 132, 3, 1, 167, 255, 183, 44, 180, 0, 158, 199, 0, 4, 177, 187, 0, 168]
abbrev dktX0_retypes_3 : List UInt8 := dkwX0_retypes_3 ++ dktX0_retypes_4
def dkwX0_retypes_2 : List UInt8 := [25, 4, 182, 0, 175, 153, 0, 18, 42, 180, 0, 65, 16, 8, 27, 104, 29, 96, 4, 84, 167, 0, 11, 44]
abbrev dktX0_retypes_2 : List UInt8 := dkwX0_retypes_2 ++ dktX0_retypes_3
def dkwX0_retypes_1 : List UInt8 := [42, 183, 0, 170, 58, 4, 44, 180, 0, 146, 29, 182, 0, 112, 192, 0, 152, 25, 4, 182, 0, 171, 54, 5]
abbrev dktX0_retypes_1 : List UInt8 := dkwX0_retypes_1 ++ dktX0_retypes_2
def dkwX0_retypes_0 : List UInt8 := [42, 180, 0, 35, 27, 50, 77, 3, 62, 29, 44, 180, 0, 146, 182, 0, 107, 162, 0, 68, 187, 0, 168, 89]
abbrev dktX0_retypes_0 : List UInt8 := dkwX0_retypes_0 ++ dktX0_retypes_1
theorem dksX0_retypes_0 : cX0_retypes.data.toList.drop 0 = dktX0_retypes_0 := by decide +kernel
theorem dksX0_retypes_1 : cX0_retypes.data.toList.drop 24 = dktX0_retypes_1 := dk_seg dksX0_retypes_0 24 rfl rfl
theorem dksX0_retypes_2 : cX0_retypes.data.toList.drop 48 = dktX0_retypes_2 := dk_seg dksX0_retypes_1 24 rfl rfl
theorem dksX0_retypes_3 : cX0_retypes.data.toList.drop 72 = dktX0_retypes_3 := dk_seg dksX0_retypes_2 24 rfl rfl
theorem dksX0_retypes_4 : cX0_retypes.data.toList.drop 96 = dktX0_retypes_4 := dk_seg dksX0_retypes_3 24 rfl rfl
theorem dksX0_retypes_5 : cX0_retypes.data.toList.drop 120 = dktX0_retypes_5 := dk_seg dksX0_retypes_4 24 rfl rfl
theorem dksX0_retypes_6 : cX0_retypes.data.toList.drop 144 = dktX0_retypes_6 := dk_seg dksX0_retypes_5 24 rfl rfl
theorem dX0_retypes_0 : decode cX0_retypes 0 = .ok (.aload_n 0, 1) := dk_42 (dk_at dksX0_retypes_0 0 rfl rfl)
theorem dX0_retypes_1 : decode cX0_retypes 1 = .ok (.getfield 35, 3) := dk_180 0 35 (dk_at dksX0_retypes_0 1 rfl rfl)
theorem dX0_retypes_4 : decode cX0_retypes 4 = .ok (.iload_n 1, 1) := dk_27 (dk_at dksX0_retypes_0 4 rfl rfl)
theorem dX0_retypes_5 : decode cX0_retypes 5 = .ok (.aaload, 1) := dk_50 (dk_at dksX0_retypes_0 5 rfl rfl)
theorem dX0_retypes_6 : decode cX0_retypes 6 = .ok (.astore_n 2, 1) := dk_77 (dk_at dksX0_retypes_0 6 rfl rfl)
theorem dX0_retypes_7 : decode cX0_retypes 7 = .ok (.iconst 0, 1) := dk_3 (dk_at dksX0_retypes_0 7 rfl rfl)
theorem dX0_retypes_8 : decode cX0_retypes 8 = .ok (.istore_n 3, 1) := dk_62 (dk_at dksX0_retypes_0 8 rfl rfl)
theorem dX0_retypes_9 : decode cX0_retypes 9 = .ok (.iload_n 3, 1) := dk_29 (dk_at dksX0_retypes_0 9 rfl rfl)
theorem dX0_retypes_10 : decode cX0_retypes 10 = .ok (.aload_n 2, 1) := dk_44 (dk_at dksX0_retypes_0 10 rfl rfl)
theorem dX0_retypes_11 : decode cX0_retypes 11 = .ok (.getfield 146, 3) := dk_180 0 146 (dk_at dksX0_retypes_0 11 rfl rfl)
theorem dX0_retypes_14 : decode cX0_retypes 14 = .ok (.invokevirtual 107, 3) := dk_182 0 107 (dk_at dksX0_retypes_0 14 rfl rfl)
theorem dX0_retypes_17 : decode cX0_retypes 17 = .ok (.if_icmp .ge 68, 3) := dk_162 0 68 (dk_at dksX0_retypes_0 17 rfl rfl)
theorem dX0_retypes_20 : decode cX0_retypes 20 = .ok (.new 168, 3) := dk_187 0 168 (dk_at dksX0_retypes_0 20 rfl rfl)
theorem dX0_retypes_23 : decode cX0_retypes 23 = .ok (.dup, 1) := dk_89 (dk_at dksX0_retypes_0 23 rfl rfl)
theorem dX0_retypes_24 : decode cX0_retypes 24 = .ok (.aload_n 0, 1) := dk_42 (dk_at dksX0_retypes_1 0 rfl rfl)
theorem dX0_retypes_25 : decode cX0_retypes 25 = .ok (.invokespecial 170, 3) := dk_183 0 170 (dk_at dksX0_retypes_1 1 rfl rfl)
theorem dX0_retypes_28 : decode cX0_retypes 28 = .ok (.astore 4, 2) := dk_58 4 (dk_at dksX0_retypes_1 4 rfl rfl)
theorem dX0_retypes_30 : decode cX0_retypes 30 = .ok (.aload_n 2, 1) := dk_44 (dk_at dksX0_retypes_1 6 rfl rfl)
theorem dX0_retypes_31 : decode cX0_retypes 31 = .ok (.getfield 146, 3) := dk_180 0 146 (dk_at dksX0_retypes_1 7 rfl rfl)
theorem dX0_retypes_34 : decode cX0_retypes 34 = .ok (.iload_n 3, 1) := dk_29 (dk_at dksX0_retypes_1 10 rfl rfl)
theorem dX0_retypes_35 : decode cX0_retypes 35 = .ok (.invokevirtual 112, 3) := dk_182 0 112 (dk_at dksX0_retypes_1 11 rfl rfl)
theorem dX0_retypes_38 : decode cX0_retypes 38 = .ok (.checkcast 152, 3) := dk_192 0 152 (dk_at dksX0_retypes_1 14 rfl rfl)
theorem dX0_retypes_41 : decode cX0_retypes 41 = .ok (.aload 4, 2) := dk_25 4 (dk_at dksX0_retypes_1 17 rfl rfl)
theorem dX0_retypes_43 : decode cX0_retypes 43 = .ok (.invokevirtual 171, 3) := dk_182 0 171 (dk_at dksX0_retypes_1 19 rfl rfl)
theorem dX0_retypes_46 : decode cX0_retypes 46 = .ok (.istore 5, 2) := dk_54 5 (dk_at dksX0_retypes_1 22 rfl rfl)
theorem dX0_retypes_48 : decode cX0_retypes 48 = .ok (.aload 4, 2) := dk_25 4 (dk_at dksX0_retypes_2 0 rfl rfl)
theorem dX0_retypes_50 : decode cX0_retypes 50 = .ok (.invokevirtual 175, 3) := dk_182 0 175 (dk_at dksX0_retypes_2 2 rfl rfl)
theorem dX0_retypes_53 : decode cX0_retypes 53 = .ok (.ifCond .eq 18, 3) := dk_153 0 18 (dk_at dksX0_retypes_2 5 rfl rfl)
theorem dX0_retypes_56 : decode cX0_retypes 56 = .ok (.aload_n 0, 1) := dk_42 (dk_at dksX0_retypes_2 8 rfl rfl)
theorem dX0_retypes_57 : decode cX0_retypes 57 = .ok (.getfield 65, 3) := dk_180 0 65 (dk_at dksX0_retypes_2 9 rfl rfl)
theorem dX0_retypes_60 : decode cX0_retypes 60 = .ok (.bipush 8, 2) := dk_16 8 (dk_at dksX0_retypes_2 12 rfl rfl)
theorem dX0_retypes_62 : decode cX0_retypes 62 = .ok (.iload_n 1, 1) := dk_27 (dk_at dksX0_retypes_2 14 rfl rfl)
theorem dX0_retypes_63 : decode cX0_retypes 63 = .ok (.imul, 1) := dk_104 (dk_at dksX0_retypes_2 15 rfl rfl)
theorem dX0_retypes_64 : decode cX0_retypes 64 = .ok (.iload_n 3, 1) := dk_29 (dk_at dksX0_retypes_2 16 rfl rfl)
theorem dX0_retypes_65 : decode cX0_retypes 65 = .ok (.iadd, 1) := dk_96 (dk_at dksX0_retypes_2 17 rfl rfl)
theorem dX0_retypes_66 : decode cX0_retypes 66 = .ok (.iconst 1, 1) := dk_4 (dk_at dksX0_retypes_2 18 rfl rfl)
theorem dX0_retypes_67 : decode cX0_retypes 67 = .ok (.bastore, 1) := dk_84 (dk_at dksX0_retypes_2 19 rfl rfl)
theorem dX0_retypes_68 : decode cX0_retypes 68 = .ok (.goto 11, 3) := dk_167 0 11 (dk_at dksX0_retypes_2 20 rfl rfl)
theorem dX0_retypes_71 : decode cX0_retypes 71 = .ok (.aload_n 2, 1) := dk_44 (dk_at dksX0_retypes_2 23 rfl rfl)
theorem dX0_retypes_72 : decode cX0_retypes 72 = .ok (.getfield 149, 3) := dk_180 0 149 (dk_at dksX0_retypes_3 0 rfl rfl)
theorem dX0_retypes_75 : decode cX0_retypes 75 = .ok (.iload_n 3, 1) := dk_29 (dk_at dksX0_retypes_3 3 rfl rfl)
theorem dX0_retypes_76 : decode cX0_retypes 76 = .ok (.iload 5, 2) := dk_21 5 (dk_at dksX0_retypes_3 4 rfl rfl)
theorem dX0_retypes_78 : decode cX0_retypes 78 = .ok (.castore, 1) := dk_85 (dk_at dksX0_retypes_3 6 rfl rfl)
theorem dX0_retypes_79 : decode cX0_retypes 79 = .ok (.iinc 3 1, 3) := dk_132 3 1 (dk_at dksX0_retypes_3 7 rfl rfl)
theorem dX0_retypes_82 : decode cX0_retypes 82 = .ok (.goto (-73), 3) := dk_167 255 183 (dk_at dksX0_retypes_3 10 rfl rfl)
theorem dX0_retypes_85 : decode cX0_retypes 85 = .ok (.aload_n 2, 1) := dk_44 (dk_at dksX0_retypes_3 13 rfl rfl)
theorem dX0_retypes_86 : decode cX0_retypes 86 = .ok (.getfield 158, 3) := dk_180 0 158 (dk_at dksX0_retypes_3 14 rfl rfl)
theorem dX0_retypes_89 : decode cX0_retypes 89 = .ok (.ifnonnull 4, 3) := dk_199 0 4 (dk_at dksX0_retypes_3 17 rfl rfl)
theorem dX0_retypes_92 : decode cX0_retypes 92 = .ok (.return_, 1) := dk_177 (dk_at dksX0_retypes_3 20 rfl rfl)
theorem dX0_retypes_93 : decode cX0_retypes 93 = .ok (.new 168, 3) := dk_187 0 168 (dk_at dksX0_retypes_3 21 rfl rfl)
theorem dX0_retypes_96 : decode cX0_retypes 96 = .ok (.dup, 1) := dk_89 (dk_at dksX0_retypes_4 0 rfl rfl)
theorem dX0_retypes_97 : decode cX0_retypes 97 = .ok (.aload_n 0, 1) := dk_42 (dk_at dksX0_retypes_4 1 rfl rfl)
theorem dX0_retypes_98 : decode cX0_retypes 98 = .ok (.invokespecial 170, 3) := dk_183 0 170 (dk_at dksX0_retypes_4 2 rfl rfl)
theorem dX0_retypes_101 : decode cX0_retypes 101 = .ok (.astore_n 3, 1) := dk_78 (dk_at dksX0_retypes_4 5 rfl rfl)
theorem dX0_retypes_102 : decode cX0_retypes 102 = .ok (.aload_n 2, 1) := dk_44 (dk_at dksX0_retypes_4 6 rfl rfl)
theorem dX0_retypes_103 : decode cX0_retypes 103 = .ok (.getfield 158, 3) := dk_180 0 158 (dk_at dksX0_retypes_4 7 rfl rfl)
theorem dX0_retypes_106 : decode cX0_retypes 106 = .ok (.aload_n 3, 1) := dk_45 (dk_at dksX0_retypes_4 10 rfl rfl)
theorem dX0_retypes_107 : decode cX0_retypes 107 = .ok (.invokevirtual 171, 3) := dk_182 0 171 (dk_at dksX0_retypes_4 11 rfl rfl)
theorem dX0_retypes_110 : decode cX0_retypes 110 = .ok (.istore 4, 2) := dk_54 4 (dk_at dksX0_retypes_4 14 rfl rfl)
theorem dX0_retypes_112 : decode cX0_retypes 112 = .ok (.aload_n 2, 1) := dk_44 (dk_at dksX0_retypes_4 16 rfl rfl)
theorem dX0_retypes_113 : decode cX0_retypes 113 = .ok (.getfield 162, 3) := dk_180 0 162 (dk_at dksX0_retypes_4 17 rfl rfl)
theorem dX0_retypes_116 : decode cX0_retypes 116 = .ok (.aload_n 3, 1) := dk_45 (dk_at dksX0_retypes_4 20 rfl rfl)
theorem dX0_retypes_117 : decode cX0_retypes 117 = .ok (.invokevirtual 171, 3) := dk_182 0 171 (dk_at dksX0_retypes_4 21 rfl rfl)
theorem dX0_retypes_120 : decode cX0_retypes 120 = .ok (.istore 5, 2) := dk_54 5 (dk_at dksX0_retypes_5 0 rfl rfl)
theorem dX0_retypes_122 : decode cX0_retypes 122 = .ok (.aload_n 0, 1) := dk_42 (dk_at dksX0_retypes_5 2 rfl rfl)
theorem dX0_retypes_123 : decode cX0_retypes 123 = .ok (.getfield 65, 3) := dk_180 0 65 (dk_at dksX0_retypes_5 3 rfl rfl)
theorem dX0_retypes_126 : decode cX0_retypes 126 = .ok (.bipush 8, 2) := dk_16 8 (dk_at dksX0_retypes_5 6 rfl rfl)
theorem dX0_retypes_128 : decode cX0_retypes 128 = .ok (.iload_n 1, 1) := dk_27 (dk_at dksX0_retypes_5 8 rfl rfl)
theorem dX0_retypes_129 : decode cX0_retypes 129 = .ok (.imul, 1) := dk_104 (dk_at dksX0_retypes_5 9 rfl rfl)
theorem dX0_retypes_130 : decode cX0_retypes 130 = .ok (.bipush 6, 2) := dk_16 6 (dk_at dksX0_retypes_5 10 rfl rfl)
theorem dX0_retypes_132 : decode cX0_retypes 132 = .ok (.iadd, 1) := dk_96 (dk_at dksX0_retypes_5 12 rfl rfl)
theorem dX0_retypes_133 : decode cX0_retypes 133 = .ok (.aload_n 3, 1) := dk_45 (dk_at dksX0_retypes_5 13 rfl rfl)
theorem dX0_retypes_134 : decode cX0_retypes 134 = .ok (.invokevirtual 175, 3) := dk_182 0 175 (dk_at dksX0_retypes_5 14 rfl rfl)
theorem dX0_retypes_137 : decode cX0_retypes 137 = .ok (.ifCond .ne 10, 3) := dk_154 0 10 (dk_at dksX0_retypes_5 17 rfl rfl)
theorem dX0_retypes_140 : decode cX0_retypes 140 = .ok (.iload 4, 2) := dk_21 4 (dk_at dksX0_retypes_5 20 rfl rfl)
theorem dX0_retypes_142 : decode cX0_retypes 142 = .ok (.iload 5, 2) := dk_21 5 (dk_at dksX0_retypes_5 22 rfl rfl)
theorem dX0_retypes_144 : decode cX0_retypes 144 = .ok (.if_icmp .eq 7, 3) := dk_159 0 7 (dk_at dksX0_retypes_6 0 rfl rfl)
theorem dX0_retypes_147 : decode cX0_retypes 147 = .ok (.iconst 1, 1) := dk_4 (dk_at dksX0_retypes_6 3 rfl rfl)
theorem dX0_retypes_148 : decode cX0_retypes 148 = .ok (.goto 4, 3) := dk_167 0 4 (dk_at dksX0_retypes_6 4 rfl rfl)
theorem dX0_retypes_151 : decode cX0_retypes 151 = .ok (.iconst 0, 1) := dk_3 (dk_at dksX0_retypes_6 7 rfl rfl)
theorem dX0_retypes_152 : decode cX0_retypes 152 = .ok (.bastore, 1) := dk_84 (dk_at dksX0_retypes_6 8 rfl rfl)
theorem dX0_retypes_153 : decode cX0_retypes 153 = .ok (.return_, 1) := dk_177 (dk_at dksX0_retypes_6 9 rfl rfl)
abbrev cX0_drop : ByteArray := prog_1_method_31_code
def yX0_drop : MethodName := ⟨RX0, "drop", "(I)I"⟩
def dkwX0_drop_5 : List UInt8 := [4, 2, 79, 132, 2, 1, 132, 3, 1, 167, 255, 218, 28, 172]
abbrev dktX0_drop_5 : List UInt8 := dkwX0_drop_5 ++ []
def dkwX0_drop_4 : List UInt8 := [162, 0, 36, 42, 180, 0, 53, 29, 50, 4, 46, 27, 159, 0, 6, 167, 0, 15, 42, 180, 0, 53, 29, 50]
abbrev dktX0_drop_4 : List UInt8 := dkwX0_drop_4 ++ dktX0_drop_5
def dkwX0_drop_3 : List UInt8 := [132, 2, 1, 167, 255, 197, 42, 180, 0, 35, 27, 1, 83, 3, 61, 3, 62, 29, 42, 180, 1, 26]
abbrev dktX0_drop_3 : List UInt8 := dkwX0_drop_3 ++ dktX0_drop_4
def dkwX0_drop_2 : List UInt8 := [180, 0, 35, 28, 50, 180, 0, 126, 29, 46, 27, 160, 0, 6, 16, 254, 172, 132, 3, 1, 167, 255, 213]
abbrev dktX0_drop_2 : List UInt8 := dkwX0_drop_2 ++ dktX0_drop_3
def dkwX0_drop_1 : List UInt8 := [180, 0, 35, 28, 50, 198, 0, 40, 29, 42, 180, 0, 35, 28, 50, 180, 0, 131, 162, 0, 27, 42]
abbrev dktX0_drop_1 : List UInt8 := dkwX0_drop_1 ++ dktX0_drop_2
def dkwX0_drop_0 : List UInt8 := [42, 27, 182, 0, 234, 199, 0, 5, 2, 172, 3, 61, 28, 42, 180, 0, 83, 162, 0, 57, 3, 62, 42]
abbrev dktX0_drop_0 : List UInt8 := dkwX0_drop_0 ++ dktX0_drop_1
theorem dksX0_drop_0 : cX0_drop.data.toList.drop 0 = dktX0_drop_0 := by decide +kernel
theorem dksX0_drop_1 : cX0_drop.data.toList.drop 23 = dktX0_drop_1 := dk_seg dksX0_drop_0 23 rfl rfl
theorem dksX0_drop_2 : cX0_drop.data.toList.drop 45 = dktX0_drop_2 := dk_seg dksX0_drop_1 22 rfl rfl
theorem dksX0_drop_3 : cX0_drop.data.toList.drop 68 = dktX0_drop_3 := dk_seg dksX0_drop_2 23 rfl rfl
theorem dksX0_drop_4 : cX0_drop.data.toList.drop 90 = dktX0_drop_4 := dk_seg dksX0_drop_3 22 rfl rfl
theorem dksX0_drop_5 : cX0_drop.data.toList.drop 114 = dktX0_drop_5 := dk_seg dksX0_drop_4 24 rfl rfl
theorem dX0_drop_0 : decode cX0_drop 0 = .ok (.aload_n 0, 1) := dk_42 (dk_at dksX0_drop_0 0 rfl rfl)
theorem dX0_drop_1 : decode cX0_drop 1 = .ok (.iload_n 1, 1) := dk_27 (dk_at dksX0_drop_0 1 rfl rfl)
theorem dX0_drop_2 : decode cX0_drop 2 = .ok (.invokevirtual 234, 3) := dk_182 0 234 (dk_at dksX0_drop_0 2 rfl rfl)
theorem dX0_drop_5 : decode cX0_drop 5 = .ok (.ifnonnull 5, 3) := dk_199 0 5 (dk_at dksX0_drop_0 5 rfl rfl)
theorem dX0_drop_8 : decode cX0_drop 8 = .ok (.iconst (-1), 1) := dk_2 (dk_at dksX0_drop_0 8 rfl rfl)
theorem dX0_drop_9 : decode cX0_drop 9 = .ok (.ireturn, 1) := dk_172 (dk_at dksX0_drop_0 9 rfl rfl)
theorem dX0_drop_10 : decode cX0_drop 10 = .ok (.iconst 0, 1) := dk_3 (dk_at dksX0_drop_0 10 rfl rfl)
theorem dX0_drop_11 : decode cX0_drop 11 = .ok (.istore_n 2, 1) := dk_61 (dk_at dksX0_drop_0 11 rfl rfl)
theorem dX0_drop_12 : decode cX0_drop 12 = .ok (.iload_n 2, 1) := dk_28 (dk_at dksX0_drop_0 12 rfl rfl)
theorem dX0_drop_13 : decode cX0_drop 13 = .ok (.aload_n 0, 1) := dk_42 (dk_at dksX0_drop_0 13 rfl rfl)
theorem dX0_drop_14 : decode cX0_drop 14 = .ok (.getfield 83, 3) := dk_180 0 83 (dk_at dksX0_drop_0 14 rfl rfl)
theorem dX0_drop_17 : decode cX0_drop 17 = .ok (.if_icmp .ge 57, 3) := dk_162 0 57 (dk_at dksX0_drop_0 17 rfl rfl)
theorem dX0_drop_20 : decode cX0_drop 20 = .ok (.iconst 0, 1) := dk_3 (dk_at dksX0_drop_0 20 rfl rfl)
theorem dX0_drop_21 : decode cX0_drop 21 = .ok (.istore_n 3, 1) := dk_62 (dk_at dksX0_drop_0 21 rfl rfl)
theorem dX0_drop_22 : decode cX0_drop 22 = .ok (.aload_n 0, 1) := dk_42 (dk_at dksX0_drop_0 22 rfl rfl)
theorem dX0_drop_23 : decode cX0_drop 23 = .ok (.getfield 35, 3) := dk_180 0 35 (dk_at dksX0_drop_1 0 rfl rfl)
theorem dX0_drop_26 : decode cX0_drop 26 = .ok (.iload_n 2, 1) := dk_28 (dk_at dksX0_drop_1 3 rfl rfl)
theorem dX0_drop_27 : decode cX0_drop 27 = .ok (.aaload, 1) := dk_50 (dk_at dksX0_drop_1 4 rfl rfl)
theorem dX0_drop_28 : decode cX0_drop 28 = .ok (.ifnull 40, 3) := dk_198 0 40 (dk_at dksX0_drop_1 5 rfl rfl)
theorem dX0_drop_31 : decode cX0_drop 31 = .ok (.iload_n 3, 1) := dk_29 (dk_at dksX0_drop_1 8 rfl rfl)
theorem dX0_drop_32 : decode cX0_drop 32 = .ok (.aload_n 0, 1) := dk_42 (dk_at dksX0_drop_1 9 rfl rfl)
theorem dX0_drop_33 : decode cX0_drop 33 = .ok (.getfield 35, 3) := dk_180 0 35 (dk_at dksX0_drop_1 10 rfl rfl)
theorem dX0_drop_36 : decode cX0_drop 36 = .ok (.iload_n 2, 1) := dk_28 (dk_at dksX0_drop_1 13 rfl rfl)
theorem dX0_drop_37 : decode cX0_drop 37 = .ok (.aaload, 1) := dk_50 (dk_at dksX0_drop_1 14 rfl rfl)
theorem dX0_drop_38 : decode cX0_drop 38 = .ok (.getfield 131, 3) := dk_180 0 131 (dk_at dksX0_drop_1 15 rfl rfl)
theorem dX0_drop_41 : decode cX0_drop 41 = .ok (.if_icmp .ge 27, 3) := dk_162 0 27 (dk_at dksX0_drop_1 18 rfl rfl)
theorem dX0_drop_44 : decode cX0_drop 44 = .ok (.aload_n 0, 1) := dk_42 (dk_at dksX0_drop_1 21 rfl rfl)
theorem dX0_drop_45 : decode cX0_drop 45 = .ok (.getfield 35, 3) := dk_180 0 35 (dk_at dksX0_drop_2 0 rfl rfl)
theorem dX0_drop_48 : decode cX0_drop 48 = .ok (.iload_n 2, 1) := dk_28 (dk_at dksX0_drop_2 3 rfl rfl)
theorem dX0_drop_49 : decode cX0_drop 49 = .ok (.aaload, 1) := dk_50 (dk_at dksX0_drop_2 4 rfl rfl)
theorem dX0_drop_50 : decode cX0_drop 50 = .ok (.getfield 126, 3) := dk_180 0 126 (dk_at dksX0_drop_2 5 rfl rfl)
theorem dX0_drop_53 : decode cX0_drop 53 = .ok (.iload_n 3, 1) := dk_29 (dk_at dksX0_drop_2 8 rfl rfl)
theorem dX0_drop_54 : decode cX0_drop 54 = .ok (.iaload, 1) := dk_46 (dk_at dksX0_drop_2 9 rfl rfl)
theorem dX0_drop_55 : decode cX0_drop 55 = .ok (.iload_n 1, 1) := dk_27 (dk_at dksX0_drop_2 10 rfl rfl)
theorem dX0_drop_56 : decode cX0_drop 56 = .ok (.if_icmp .ne 6, 3) := dk_160 0 6 (dk_at dksX0_drop_2 11 rfl rfl)
theorem dX0_drop_59 : decode cX0_drop 59 = .ok (.bipush (-2), 2) := dk_16 254 (dk_at dksX0_drop_2 14 rfl rfl)
theorem dX0_drop_61 : decode cX0_drop 61 = .ok (.ireturn, 1) := dk_172 (dk_at dksX0_drop_2 16 rfl rfl)
theorem dX0_drop_62 : decode cX0_drop 62 = .ok (.iinc 3 1, 3) := dk_132 3 1 (dk_at dksX0_drop_2 17 rfl rfl)
theorem dX0_drop_65 : decode cX0_drop 65 = .ok (.goto (-43), 3) := dk_167 255 213 (dk_at dksX0_drop_2 20 rfl rfl)
theorem dX0_drop_68 : decode cX0_drop 68 = .ok (.iinc 2 1, 3) := dk_132 2 1 (dk_at dksX0_drop_3 0 rfl rfl)
theorem dX0_drop_71 : decode cX0_drop 71 = .ok (.goto (-59), 3) := dk_167 255 197 (dk_at dksX0_drop_3 3 rfl rfl)
theorem dX0_drop_74 : decode cX0_drop 74 = .ok (.aload_n 0, 1) := dk_42 (dk_at dksX0_drop_3 6 rfl rfl)
theorem dX0_drop_75 : decode cX0_drop 75 = .ok (.getfield 35, 3) := dk_180 0 35 (dk_at dksX0_drop_3 7 rfl rfl)
theorem dX0_drop_78 : decode cX0_drop 78 = .ok (.iload_n 1, 1) := dk_27 (dk_at dksX0_drop_3 10 rfl rfl)
theorem dX0_drop_79 : decode cX0_drop 79 = .ok (.aconst_null, 1) := dk_1 (dk_at dksX0_drop_3 11 rfl rfl)
theorem dX0_drop_80 : decode cX0_drop 80 = .ok (.aastore, 1) := dk_83 (dk_at dksX0_drop_3 12 rfl rfl)
theorem dX0_drop_81 : decode cX0_drop 81 = .ok (.iconst 0, 1) := dk_3 (dk_at dksX0_drop_3 13 rfl rfl)
theorem dX0_drop_82 : decode cX0_drop 82 = .ok (.istore_n 2, 1) := dk_61 (dk_at dksX0_drop_3 14 rfl rfl)
theorem dX0_drop_83 : decode cX0_drop 83 = .ok (.iconst 0, 1) := dk_3 (dk_at dksX0_drop_3 15 rfl rfl)
theorem dX0_drop_84 : decode cX0_drop 84 = .ok (.istore_n 3, 1) := dk_62 (dk_at dksX0_drop_3 16 rfl rfl)
theorem dX0_drop_85 : decode cX0_drop 85 = .ok (.iload_n 3, 1) := dk_29 (dk_at dksX0_drop_3 17 rfl rfl)
theorem dX0_drop_86 : decode cX0_drop 86 = .ok (.aload_n 0, 1) := dk_42 (dk_at dksX0_drop_3 18 rfl rfl)
theorem dX0_drop_87 : decode cX0_drop 87 = .ok (.getfield 282, 3) := dk_180 1 26 (dk_at dksX0_drop_3 19 rfl rfl)
theorem dX0_drop_90 : decode cX0_drop 90 = .ok (.if_icmp .ge 36, 3) := dk_162 0 36 (dk_at dksX0_drop_4 0 rfl rfl)
theorem dX0_drop_93 : decode cX0_drop 93 = .ok (.aload_n 0, 1) := dk_42 (dk_at dksX0_drop_4 3 rfl rfl)
theorem dX0_drop_94 : decode cX0_drop 94 = .ok (.getfield 53, 3) := dk_180 0 53 (dk_at dksX0_drop_4 4 rfl rfl)
theorem dX0_drop_97 : decode cX0_drop 97 = .ok (.iload_n 3, 1) := dk_29 (dk_at dksX0_drop_4 7 rfl rfl)
theorem dX0_drop_98 : decode cX0_drop 98 = .ok (.aaload, 1) := dk_50 (dk_at dksX0_drop_4 8 rfl rfl)
theorem dX0_drop_99 : decode cX0_drop 99 = .ok (.iconst 1, 1) := dk_4 (dk_at dksX0_drop_4 9 rfl rfl)
theorem dX0_drop_100 : decode cX0_drop 100 = .ok (.iaload, 1) := dk_46 (dk_at dksX0_drop_4 10 rfl rfl)
theorem dX0_drop_101 : decode cX0_drop 101 = .ok (.iload_n 1, 1) := dk_27 (dk_at dksX0_drop_4 11 rfl rfl)
theorem dX0_drop_102 : decode cX0_drop 102 = .ok (.if_icmp .eq 6, 3) := dk_159 0 6 (dk_at dksX0_drop_4 12 rfl rfl)
theorem dX0_drop_105 : decode cX0_drop 105 = .ok (.goto 15, 3) := dk_167 0 15 (dk_at dksX0_drop_4 15 rfl rfl)
theorem dX0_drop_108 : decode cX0_drop 108 = .ok (.aload_n 0, 1) := dk_42 (dk_at dksX0_drop_4 18 rfl rfl)
theorem dX0_drop_109 : decode cX0_drop 109 = .ok (.getfield 53, 3) := dk_180 0 53 (dk_at dksX0_drop_4 19 rfl rfl)
theorem dX0_drop_112 : decode cX0_drop 112 = .ok (.iload_n 3, 1) := dk_29 (dk_at dksX0_drop_4 22 rfl rfl)
theorem dX0_drop_113 : decode cX0_drop 113 = .ok (.aaload, 1) := dk_50 (dk_at dksX0_drop_4 23 rfl rfl)
theorem dX0_drop_114 : decode cX0_drop 114 = .ok (.iconst 1, 1) := dk_4 (dk_at dksX0_drop_5 0 rfl rfl)
theorem dX0_drop_115 : decode cX0_drop 115 = .ok (.iconst (-1), 1) := dk_2 (dk_at dksX0_drop_5 1 rfl rfl)
theorem dX0_drop_116 : decode cX0_drop 116 = .ok (.iastore, 1) := dk_79 (dk_at dksX0_drop_5 2 rfl rfl)
theorem dX0_drop_117 : decode cX0_drop 117 = .ok (.iinc 2 1, 3) := dk_132 2 1 (dk_at dksX0_drop_5 3 rfl rfl)
theorem dX0_drop_120 : decode cX0_drop 120 = .ok (.iinc 3 1, 3) := dk_132 3 1 (dk_at dksX0_drop_5 6 rfl rfl)
theorem dX0_drop_123 : decode cX0_drop 123 = .ok (.goto (-38), 3) := dk_167 255 218 (dk_at dksX0_drop_5 9 rfl rfl)
theorem dX0_drop_126 : decode cX0_drop 126 = .ok (.iload_n 2, 1) := dk_28 (dk_at dksX0_drop_5 12 rfl rfl)
theorem dX0_drop_127 : decode cX0_drop 127 = .ok (.ireturn, 1) := dk_172 (dk_at dksX0_drop_5 13 rfl rfl)
abbrev cX0_freeze : ByteArray := prog_1_method_32_code
def yX0_freeze : MethodName := ⟨RX0, "freeze", "(I)Z"⟩
def dkwX0_freeze_1 : List UInt8 := [180, 0, 35, 27, 50, 6, 181, 0, 237, 42, 180, 0, 35, 27, 50, 3, 181, 0, 131, 4, 172]
abbrev dktX0_freeze_1 : List UInt8 := dkwX0_freeze_1 ++ []
def dkwX0_freeze_0 : List UInt8 := [42, 27, 182, 0, 234, 198, 0, 16, 42, 180, 0, 35, 27, 50, 180, 0, 237, 5, 159, 0, 5, 3, 172, 42]
abbrev dktX0_freeze_0 : List UInt8 := dkwX0_freeze_0 ++ dktX0_freeze_1
theorem dksX0_freeze_0 : cX0_freeze.data.toList.drop 0 = dktX0_freeze_0 := by decide +kernel
theorem dksX0_freeze_1 : cX0_freeze.data.toList.drop 24 = dktX0_freeze_1 := dk_seg dksX0_freeze_0 24 rfl rfl
theorem dX0_freeze_0 : decode cX0_freeze 0 = .ok (.aload_n 0, 1) := dk_42 (dk_at dksX0_freeze_0 0 rfl rfl)
theorem dX0_freeze_1 : decode cX0_freeze 1 = .ok (.iload_n 1, 1) := dk_27 (dk_at dksX0_freeze_0 1 rfl rfl)
theorem dX0_freeze_2 : decode cX0_freeze 2 = .ok (.invokevirtual 234, 3) := dk_182 0 234 (dk_at dksX0_freeze_0 2 rfl rfl)
theorem dX0_freeze_5 : decode cX0_freeze 5 = .ok (.ifnull 16, 3) := dk_198 0 16 (dk_at dksX0_freeze_0 5 rfl rfl)
theorem dX0_freeze_8 : decode cX0_freeze 8 = .ok (.aload_n 0, 1) := dk_42 (dk_at dksX0_freeze_0 8 rfl rfl)
theorem dX0_freeze_9 : decode cX0_freeze 9 = .ok (.getfield 35, 3) := dk_180 0 35 (dk_at dksX0_freeze_0 9 rfl rfl)
theorem dX0_freeze_12 : decode cX0_freeze 12 = .ok (.iload_n 1, 1) := dk_27 (dk_at dksX0_freeze_0 12 rfl rfl)
theorem dX0_freeze_13 : decode cX0_freeze 13 = .ok (.aaload, 1) := dk_50 (dk_at dksX0_freeze_0 13 rfl rfl)
theorem dX0_freeze_14 : decode cX0_freeze 14 = .ok (.getfield 237, 3) := dk_180 0 237 (dk_at dksX0_freeze_0 14 rfl rfl)
theorem dX0_freeze_17 : decode cX0_freeze 17 = .ok (.iconst 2, 1) := dk_5 (dk_at dksX0_freeze_0 17 rfl rfl)
theorem dX0_freeze_18 : decode cX0_freeze 18 = .ok (.if_icmp .eq 5, 3) := dk_159 0 5 (dk_at dksX0_freeze_0 18 rfl rfl)
theorem dX0_freeze_21 : decode cX0_freeze 21 = .ok (.iconst 0, 1) := dk_3 (dk_at dksX0_freeze_0 21 rfl rfl)
theorem dX0_freeze_22 : decode cX0_freeze 22 = .ok (.ireturn, 1) := dk_172 (dk_at dksX0_freeze_0 22 rfl rfl)
theorem dX0_freeze_23 : decode cX0_freeze 23 = .ok (.aload_n 0, 1) := dk_42 (dk_at dksX0_freeze_0 23 rfl rfl)
theorem dX0_freeze_24 : decode cX0_freeze 24 = .ok (.getfield 35, 3) := dk_180 0 35 (dk_at dksX0_freeze_1 0 rfl rfl)
theorem dX0_freeze_27 : decode cX0_freeze 27 = .ok (.iload_n 1, 1) := dk_27 (dk_at dksX0_freeze_1 3 rfl rfl)
theorem dX0_freeze_28 : decode cX0_freeze 28 = .ok (.aaload, 1) := dk_50 (dk_at dksX0_freeze_1 4 rfl rfl)
theorem dX0_freeze_29 : decode cX0_freeze 29 = .ok (.iconst 3, 1) := dk_6 (dk_at dksX0_freeze_1 5 rfl rfl)
theorem dX0_freeze_30 : decode cX0_freeze 30 = .ok (.putfield 237, 3) := dk_181 0 237 (dk_at dksX0_freeze_1 6 rfl rfl)
theorem dX0_freeze_33 : decode cX0_freeze 33 = .ok (.aload_n 0, 1) := dk_42 (dk_at dksX0_freeze_1 9 rfl rfl)
theorem dX0_freeze_34 : decode cX0_freeze 34 = .ok (.getfield 35, 3) := dk_180 0 35 (dk_at dksX0_freeze_1 10 rfl rfl)
theorem dX0_freeze_37 : decode cX0_freeze 37 = .ok (.iload_n 1, 1) := dk_27 (dk_at dksX0_freeze_1 13 rfl rfl)
theorem dX0_freeze_38 : decode cX0_freeze 38 = .ok (.aaload, 1) := dk_50 (dk_at dksX0_freeze_1 14 rfl rfl)
theorem dX0_freeze_39 : decode cX0_freeze 39 = .ok (.iconst 0, 1) := dk_3 (dk_at dksX0_freeze_1 15 rfl rfl)
theorem dX0_freeze_40 : decode cX0_freeze 40 = .ok (.putfield 131, 3) := dk_181 0 131 (dk_at dksX0_freeze_1 16 rfl rfl)
theorem dX0_freeze_43 : decode cX0_freeze 43 = .ok (.iconst 1, 1) := dk_4 (dk_at dksX0_freeze_1 19 rfl rfl)
theorem dX0_freeze_44 : decode cX0_freeze 44 = .ok (.ireturn, 1) := dk_172 (dk_at dksX0_freeze_1 20 rfl rfl)
abbrev cX0_today : ByteArray := prog_1_method_35_code
def yX0_today : MethodName := ⟨RX0, "today", "(I)Z"⟩
def dkwX0_today_0 : List UInt8 := [27, 42, 180, 1, 50, 161, 0, 10, 27, 17, 117, 48, 164, 0, 5, 3, 172, 42, 27, 181, 1, 50, 4, 172]
abbrev dktX0_today_0 : List UInt8 := dkwX0_today_0 ++ []
theorem dksX0_today_0 : cX0_today.data.toList.drop 0 = dktX0_today_0 := by decide +kernel
theorem dX0_today_0 : decode cX0_today 0 = .ok (.iload_n 1, 1) := dk_27 (dk_at dksX0_today_0 0 rfl rfl)
theorem dX0_today_1 : decode cX0_today 1 = .ok (.aload_n 0, 1) := dk_42 (dk_at dksX0_today_0 1 rfl rfl)
theorem dX0_today_2 : decode cX0_today 2 = .ok (.getfield 306, 3) := dk_180 1 50 (dk_at dksX0_today_0 2 rfl rfl)
theorem dX0_today_5 : decode cX0_today 5 = .ok (.if_icmp .lt 10, 3) := dk_161 0 10 (dk_at dksX0_today_0 5 rfl rfl)
theorem dX0_today_8 : decode cX0_today 8 = .ok (.iload_n 1, 1) := dk_27 (dk_at dksX0_today_0 8 rfl rfl)
theorem dX0_today_9 : decode cX0_today 9 = .ok (.sipush 30000, 3) := dk_17 117 48 (dk_at dksX0_today_0 9 rfl rfl)
theorem dX0_today_12 : decode cX0_today 12 = .ok (.if_icmp .le 5, 3) := dk_164 0 5 (dk_at dksX0_today_0 12 rfl rfl)
theorem dX0_today_15 : decode cX0_today 15 = .ok (.iconst 0, 1) := dk_3 (dk_at dksX0_today_0 15 rfl rfl)
theorem dX0_today_16 : decode cX0_today 16 = .ok (.ireturn, 1) := dk_172 (dk_at dksX0_today_0 16 rfl rfl)
theorem dX0_today_17 : decode cX0_today 17 = .ok (.aload_n 0, 1) := dk_42 (dk_at dksX0_today_0 17 rfl rfl)
theorem dX0_today_18 : decode cX0_today 18 = .ok (.iload_n 1, 1) := dk_27 (dk_at dksX0_today_0 18 rfl rfl)
theorem dX0_today_19 : decode cX0_today 19 = .ok (.putfield 306, 3) := dk_181 1 50 (dk_at dksX0_today_0 19 rfl rfl)
theorem dX0_today_22 : decode cX0_today 22 = .ok (.iconst 1, 1) := dk_4 (dk_at dksX0_today_0 22 rfl rfl)
theorem dX0_today_23 : decode cX0_today 23 = .ok (.ireturn, 1) := dk_172 (dk_at dksX0_today_0 23 rfl rfl)
abbrev cX0_fed : ByteArray := prog_1_method_36_code
def yX0_fed : MethodName := ⟨RX0, "fed", "(III)Z"⟩
def dkwX0_fed_2 : List UInt8 := [181, 1, 38, 42, 180, 0, 35, 27, 50, 29, 181, 1, 35, 4, 172]
abbrev dktX0_fed_2 : List UInt8 := dkwX0_fed_2 ++ []
def dkwX0_fed_1 : List UInt8 := [28, 29, 163, 0, 11, 29, 42, 180, 1, 50, 164, 0, 5, 3, 172, 42, 180, 0, 35, 27, 50, 28]
abbrev dktX0_fed_1 : List UInt8 := dkwX0_fed_1 ++ dktX0_fed_2
def dkwX0_fed_0 : List UInt8 := [42, 27, 182, 0, 234, 198, 0, 32, 42, 180, 0, 35, 27, 50, 180, 0, 237, 154, 0, 20, 28, 155, 0, 16]
abbrev dktX0_fed_0 : List UInt8 := dkwX0_fed_0 ++ dktX0_fed_1
theorem dksX0_fed_0 : cX0_fed.data.toList.drop 0 = dktX0_fed_0 := by decide +kernel
theorem dksX0_fed_1 : cX0_fed.data.toList.drop 24 = dktX0_fed_1 := dk_seg dksX0_fed_0 24 rfl rfl
theorem dksX0_fed_2 : cX0_fed.data.toList.drop 46 = dktX0_fed_2 := dk_seg dksX0_fed_1 22 rfl rfl
theorem dX0_fed_0 : decode cX0_fed 0 = .ok (.aload_n 0, 1) := dk_42 (dk_at dksX0_fed_0 0 rfl rfl)
theorem dX0_fed_1 : decode cX0_fed 1 = .ok (.iload_n 1, 1) := dk_27 (dk_at dksX0_fed_0 1 rfl rfl)
theorem dX0_fed_2 : decode cX0_fed 2 = .ok (.invokevirtual 234, 3) := dk_182 0 234 (dk_at dksX0_fed_0 2 rfl rfl)
theorem dX0_fed_5 : decode cX0_fed 5 = .ok (.ifnull 32, 3) := dk_198 0 32 (dk_at dksX0_fed_0 5 rfl rfl)
theorem dX0_fed_8 : decode cX0_fed 8 = .ok (.aload_n 0, 1) := dk_42 (dk_at dksX0_fed_0 8 rfl rfl)
theorem dX0_fed_9 : decode cX0_fed 9 = .ok (.getfield 35, 3) := dk_180 0 35 (dk_at dksX0_fed_0 9 rfl rfl)
theorem dX0_fed_12 : decode cX0_fed 12 = .ok (.iload_n 1, 1) := dk_27 (dk_at dksX0_fed_0 12 rfl rfl)
theorem dX0_fed_13 : decode cX0_fed 13 = .ok (.aaload, 1) := dk_50 (dk_at dksX0_fed_0 13 rfl rfl)
theorem dX0_fed_14 : decode cX0_fed 14 = .ok (.getfield 237, 3) := dk_180 0 237 (dk_at dksX0_fed_0 14 rfl rfl)
theorem dX0_fed_17 : decode cX0_fed 17 = .ok (.ifCond .ne 20, 3) := dk_154 0 20 (dk_at dksX0_fed_0 17 rfl rfl)
theorem dX0_fed_20 : decode cX0_fed 20 = .ok (.iload_n 2, 1) := dk_28 (dk_at dksX0_fed_0 20 rfl rfl)
theorem dX0_fed_21 : decode cX0_fed 21 = .ok (.ifCond .lt 16, 3) := dk_155 0 16 (dk_at dksX0_fed_0 21 rfl rfl)
theorem dX0_fed_24 : decode cX0_fed 24 = .ok (.iload_n 2, 1) := dk_28 (dk_at dksX0_fed_1 0 rfl rfl)
theorem dX0_fed_25 : decode cX0_fed 25 = .ok (.iload_n 3, 1) := dk_29 (dk_at dksX0_fed_1 1 rfl rfl)
theorem dX0_fed_26 : decode cX0_fed 26 = .ok (.if_icmp .gt 11, 3) := dk_163 0 11 (dk_at dksX0_fed_1 2 rfl rfl)
theorem dX0_fed_29 : decode cX0_fed 29 = .ok (.iload_n 3, 1) := dk_29 (dk_at dksX0_fed_1 5 rfl rfl)
theorem dX0_fed_30 : decode cX0_fed 30 = .ok (.aload_n 0, 1) := dk_42 (dk_at dksX0_fed_1 6 rfl rfl)
theorem dX0_fed_31 : decode cX0_fed 31 = .ok (.getfield 306, 3) := dk_180 1 50 (dk_at dksX0_fed_1 7 rfl rfl)
theorem dX0_fed_34 : decode cX0_fed 34 = .ok (.if_icmp .le 5, 3) := dk_164 0 5 (dk_at dksX0_fed_1 10 rfl rfl)
theorem dX0_fed_37 : decode cX0_fed 37 = .ok (.iconst 0, 1) := dk_3 (dk_at dksX0_fed_1 13 rfl rfl)
theorem dX0_fed_38 : decode cX0_fed 38 = .ok (.ireturn, 1) := dk_172 (dk_at dksX0_fed_1 14 rfl rfl)
theorem dX0_fed_39 : decode cX0_fed 39 = .ok (.aload_n 0, 1) := dk_42 (dk_at dksX0_fed_1 15 rfl rfl)
theorem dX0_fed_40 : decode cX0_fed 40 = .ok (.getfield 35, 3) := dk_180 0 35 (dk_at dksX0_fed_1 16 rfl rfl)
theorem dX0_fed_43 : decode cX0_fed 43 = .ok (.iload_n 1, 1) := dk_27 (dk_at dksX0_fed_1 19 rfl rfl)
theorem dX0_fed_44 : decode cX0_fed 44 = .ok (.aaload, 1) := dk_50 (dk_at dksX0_fed_1 20 rfl rfl)
theorem dX0_fed_45 : decode cX0_fed 45 = .ok (.iload_n 2, 1) := dk_28 (dk_at dksX0_fed_1 21 rfl rfl)
theorem dX0_fed_46 : decode cX0_fed 46 = .ok (.putfield 294, 3) := dk_181 1 38 (dk_at dksX0_fed_2 0 rfl rfl)
theorem dX0_fed_49 : decode cX0_fed 49 = .ok (.aload_n 0, 1) := dk_42 (dk_at dksX0_fed_2 3 rfl rfl)
theorem dX0_fed_50 : decode cX0_fed 50 = .ok (.getfield 35, 3) := dk_180 0 35 (dk_at dksX0_fed_2 4 rfl rfl)
theorem dX0_fed_53 : decode cX0_fed 53 = .ok (.iload_n 1, 1) := dk_27 (dk_at dksX0_fed_2 7 rfl rfl)
theorem dX0_fed_54 : decode cX0_fed 54 = .ok (.aaload, 1) := dk_50 (dk_at dksX0_fed_2 8 rfl rfl)
theorem dX0_fed_55 : decode cX0_fed 55 = .ok (.iload_n 3, 1) := dk_29 (dk_at dksX0_fed_2 9 rfl rfl)
theorem dX0_fed_56 : decode cX0_fed 56 = .ok (.putfield 291, 3) := dk_181 1 35 (dk_at dksX0_fed_2 10 rfl rfl)
theorem dX0_fed_59 : decode cX0_fed 59 = .ok (.iconst 1, 1) := dk_4 (dk_at dksX0_fed_2 13 rfl rfl)
theorem dX0_fed_60 : decode cX0_fed 60 = .ok (.ireturn, 1) := dk_172 (dk_at dksX0_fed_2 14 rfl rfl)
abbrev cX0_run : ByteArray := prog_1_method_37_code
def yX0_run : MethodName := ⟨RX0, "run", "(I)Z"⟩
def dkwX0_run_2 : List UInt8 := [4, 182, 1, 32, 181, 1, 35, 42, 180, 0, 35, 27, 50, 28, 181, 1, 38, 4, 172]
abbrev dktX0_run_2 : List UInt8 := dkwX0_run_2 ++ []
def dkwX0_run_1 : List UInt8 := [182, 1, 32, 2, 160, 0, 5, 3, 172, 42, 27, 3, 182, 1, 32, 61, 42, 180, 0, 35, 27, 50, 42, 27]
abbrev dktX0_run_1 : List UInt8 := dkwX0_run_1 ++ dktX0_run_2
def dkwX0_run_0 : List UInt8 := [42, 27, 182, 0, 234, 198, 0, 26, 42, 180, 0, 35, 27, 50, 180, 0, 237, 5, 160, 0, 13, 42, 27, 4]
abbrev dktX0_run_0 : List UInt8 := dkwX0_run_0 ++ dktX0_run_1
theorem dksX0_run_0 : cX0_run.data.toList.drop 0 = dktX0_run_0 := by decide +kernel
theorem dksX0_run_1 : cX0_run.data.toList.drop 24 = dktX0_run_1 := dk_seg dksX0_run_0 24 rfl rfl
theorem dksX0_run_2 : cX0_run.data.toList.drop 48 = dktX0_run_2 := dk_seg dksX0_run_1 24 rfl rfl
theorem dX0_run_0 : decode cX0_run 0 = .ok (.aload_n 0, 1) := dk_42 (dk_at dksX0_run_0 0 rfl rfl)
theorem dX0_run_1 : decode cX0_run 1 = .ok (.iload_n 1, 1) := dk_27 (dk_at dksX0_run_0 1 rfl rfl)
theorem dX0_run_2 : decode cX0_run 2 = .ok (.invokevirtual 234, 3) := dk_182 0 234 (dk_at dksX0_run_0 2 rfl rfl)
theorem dX0_run_5 : decode cX0_run 5 = .ok (.ifnull 26, 3) := dk_198 0 26 (dk_at dksX0_run_0 5 rfl rfl)
theorem dX0_run_8 : decode cX0_run 8 = .ok (.aload_n 0, 1) := dk_42 (dk_at dksX0_run_0 8 rfl rfl)
theorem dX0_run_9 : decode cX0_run 9 = .ok (.getfield 35, 3) := dk_180 0 35 (dk_at dksX0_run_0 9 rfl rfl)
theorem dX0_run_12 : decode cX0_run 12 = .ok (.iload_n 1, 1) := dk_27 (dk_at dksX0_run_0 12 rfl rfl)
theorem dX0_run_13 : decode cX0_run 13 = .ok (.aaload, 1) := dk_50 (dk_at dksX0_run_0 13 rfl rfl)
theorem dX0_run_14 : decode cX0_run 14 = .ok (.getfield 237, 3) := dk_180 0 237 (dk_at dksX0_run_0 14 rfl rfl)
theorem dX0_run_17 : decode cX0_run 17 = .ok (.iconst 2, 1) := dk_5 (dk_at dksX0_run_0 17 rfl rfl)
theorem dX0_run_18 : decode cX0_run 18 = .ok (.if_icmp .ne 13, 3) := dk_160 0 13 (dk_at dksX0_run_0 18 rfl rfl)
theorem dX0_run_21 : decode cX0_run 21 = .ok (.aload_n 0, 1) := dk_42 (dk_at dksX0_run_0 21 rfl rfl)
theorem dX0_run_22 : decode cX0_run 22 = .ok (.iload_n 1, 1) := dk_27 (dk_at dksX0_run_0 22 rfl rfl)
theorem dX0_run_23 : decode cX0_run 23 = .ok (.iconst 1, 1) := dk_4 (dk_at dksX0_run_0 23 rfl rfl)
theorem dX0_run_24 : decode cX0_run 24 = .ok (.invokevirtual 288, 3) := dk_182 1 32 (dk_at dksX0_run_1 0 rfl rfl)
theorem dX0_run_27 : decode cX0_run 27 = .ok (.iconst (-1), 1) := dk_2 (dk_at dksX0_run_1 3 rfl rfl)
theorem dX0_run_28 : decode cX0_run 28 = .ok (.if_icmp .ne 5, 3) := dk_160 0 5 (dk_at dksX0_run_1 4 rfl rfl)
theorem dX0_run_31 : decode cX0_run 31 = .ok (.iconst 0, 1) := dk_3 (dk_at dksX0_run_1 7 rfl rfl)
theorem dX0_run_32 : decode cX0_run 32 = .ok (.ireturn, 1) := dk_172 (dk_at dksX0_run_1 8 rfl rfl)
theorem dX0_run_33 : decode cX0_run 33 = .ok (.aload_n 0, 1) := dk_42 (dk_at dksX0_run_1 9 rfl rfl)
theorem dX0_run_34 : decode cX0_run 34 = .ok (.iload_n 1, 1) := dk_27 (dk_at dksX0_run_1 10 rfl rfl)
theorem dX0_run_35 : decode cX0_run 35 = .ok (.iconst 0, 1) := dk_3 (dk_at dksX0_run_1 11 rfl rfl)
theorem dX0_run_36 : decode cX0_run 36 = .ok (.invokevirtual 288, 3) := dk_182 1 32 (dk_at dksX0_run_1 12 rfl rfl)
theorem dX0_run_39 : decode cX0_run 39 = .ok (.istore_n 2, 1) := dk_61 (dk_at dksX0_run_1 15 rfl rfl)
theorem dX0_run_40 : decode cX0_run 40 = .ok (.aload_n 0, 1) := dk_42 (dk_at dksX0_run_1 16 rfl rfl)
theorem dX0_run_41 : decode cX0_run 41 = .ok (.getfield 35, 3) := dk_180 0 35 (dk_at dksX0_run_1 17 rfl rfl)
theorem dX0_run_44 : decode cX0_run 44 = .ok (.iload_n 1, 1) := dk_27 (dk_at dksX0_run_1 20 rfl rfl)
theorem dX0_run_45 : decode cX0_run 45 = .ok (.aaload, 1) := dk_50 (dk_at dksX0_run_1 21 rfl rfl)
theorem dX0_run_46 : decode cX0_run 46 = .ok (.aload_n 0, 1) := dk_42 (dk_at dksX0_run_1 22 rfl rfl)
theorem dX0_run_47 : decode cX0_run 47 = .ok (.iload_n 1, 1) := dk_27 (dk_at dksX0_run_1 23 rfl rfl)
theorem dX0_run_48 : decode cX0_run 48 = .ok (.iconst 1, 1) := dk_4 (dk_at dksX0_run_2 0 rfl rfl)
theorem dX0_run_49 : decode cX0_run 49 = .ok (.invokevirtual 288, 3) := dk_182 1 32 (dk_at dksX0_run_2 1 rfl rfl)
theorem dX0_run_52 : decode cX0_run 52 = .ok (.putfield 291, 3) := dk_181 1 35 (dk_at dksX0_run_2 4 rfl rfl)
theorem dX0_run_55 : decode cX0_run 55 = .ok (.aload_n 0, 1) := dk_42 (dk_at dksX0_run_2 7 rfl rfl)
theorem dX0_run_56 : decode cX0_run 56 = .ok (.getfield 35, 3) := dk_180 0 35 (dk_at dksX0_run_2 8 rfl rfl)
theorem dX0_run_59 : decode cX0_run 59 = .ok (.iload_n 1, 1) := dk_27 (dk_at dksX0_run_2 11 rfl rfl)
theorem dX0_run_60 : decode cX0_run 60 = .ok (.aaload, 1) := dk_50 (dk_at dksX0_run_2 12 rfl rfl)
theorem dX0_run_61 : decode cX0_run 61 = .ok (.iload_n 2, 1) := dk_28 (dk_at dksX0_run_2 13 rfl rfl)
theorem dX0_run_62 : decode cX0_run 62 = .ok (.putfield 294, 3) := dk_181 1 38 (dk_at dksX0_run_2 14 rfl rfl)
theorem dX0_run_65 : decode cX0_run 65 = .ok (.iconst 1, 1) := dk_4 (dk_at dksX0_run_2 17 rfl rfl)
theorem dX0_run_66 : decode cX0_run 66 = .ok (.ireturn, 1) := dk_172 (dk_at dksX0_run_2 18 rfl rfl)
abbrev cX0_promise : ByteArray := prog_1_method_38_code
def yX0_promise : MethodName := ⟨RX0, "promise", "(II)Z"⟩
def dkwX0_promise_1 : List UInt8 := [180, 0, 35, 27, 50, 28, 181, 0, 247, 4, 172]
abbrev dktX0_promise_1 : List UInt8 := dkwX0_promise_1 ++ []
def dkwX0_promise_0 : List UInt8 := [42, 27, 182, 0, 234, 198, 0, 15, 28, 2, 161, 0, 10, 28, 17, 3, 232, 164, 0, 5, 3, 172, 42]
abbrev dktX0_promise_0 : List UInt8 := dkwX0_promise_0 ++ dktX0_promise_1
theorem dksX0_promise_0 : cX0_promise.data.toList.drop 0 = dktX0_promise_0 := by decide +kernel
theorem dksX0_promise_1 : cX0_promise.data.toList.drop 23 = dktX0_promise_1 := dk_seg dksX0_promise_0 23 rfl rfl
theorem dX0_promise_0 : decode cX0_promise 0 = .ok (.aload_n 0, 1) := dk_42 (dk_at dksX0_promise_0 0 rfl rfl)
theorem dX0_promise_1 : decode cX0_promise 1 = .ok (.iload_n 1, 1) := dk_27 (dk_at dksX0_promise_0 1 rfl rfl)
theorem dX0_promise_2 : decode cX0_promise 2 = .ok (.invokevirtual 234, 3) := dk_182 0 234 (dk_at dksX0_promise_0 2 rfl rfl)
theorem dX0_promise_5 : decode cX0_promise 5 = .ok (.ifnull 15, 3) := dk_198 0 15 (dk_at dksX0_promise_0 5 rfl rfl)
theorem dX0_promise_8 : decode cX0_promise 8 = .ok (.iload_n 2, 1) := dk_28 (dk_at dksX0_promise_0 8 rfl rfl)
theorem dX0_promise_9 : decode cX0_promise 9 = .ok (.iconst (-1), 1) := dk_2 (dk_at dksX0_promise_0 9 rfl rfl)
theorem dX0_promise_10 : decode cX0_promise 10 = .ok (.if_icmp .lt 10, 3) := dk_161 0 10 (dk_at dksX0_promise_0 10 rfl rfl)
theorem dX0_promise_13 : decode cX0_promise 13 = .ok (.iload_n 2, 1) := dk_28 (dk_at dksX0_promise_0 13 rfl rfl)
theorem dX0_promise_14 : decode cX0_promise 14 = .ok (.sipush 1000, 3) := dk_17 3 232 (dk_at dksX0_promise_0 14 rfl rfl)
theorem dX0_promise_17 : decode cX0_promise 17 = .ok (.if_icmp .le 5, 3) := dk_164 0 5 (dk_at dksX0_promise_0 17 rfl rfl)
theorem dX0_promise_20 : decode cX0_promise 20 = .ok (.iconst 0, 1) := dk_3 (dk_at dksX0_promise_0 20 rfl rfl)
theorem dX0_promise_21 : decode cX0_promise 21 = .ok (.ireturn, 1) := dk_172 (dk_at dksX0_promise_0 21 rfl rfl)
theorem dX0_promise_22 : decode cX0_promise 22 = .ok (.aload_n 0, 1) := dk_42 (dk_at dksX0_promise_0 22 rfl rfl)
theorem dX0_promise_23 : decode cX0_promise 23 = .ok (.getfield 35, 3) := dk_180 0 35 (dk_at dksX0_promise_1 0 rfl rfl)
theorem dX0_promise_26 : decode cX0_promise 26 = .ok (.iload_n 1, 1) := dk_27 (dk_at dksX0_promise_1 3 rfl rfl)
theorem dX0_promise_27 : decode cX0_promise 27 = .ok (.aaload, 1) := dk_50 (dk_at dksX0_promise_1 4 rfl rfl)
theorem dX0_promise_28 : decode cX0_promise 28 = .ok (.iload_n 2, 1) := dk_28 (dk_at dksX0_promise_1 5 rfl rfl)
theorem dX0_promise_29 : decode cX0_promise 29 = .ok (.putfield 247, 3) := dk_181 0 247 (dk_at dksX0_promise_1 6 rfl rfl)
theorem dX0_promise_32 : decode cX0_promise 32 = .ok (.iconst 1, 1) := dk_4 (dk_at dksX0_promise_1 9 rfl rfl)
theorem dX0_promise_33 : decode cX0_promise 33 = .ok (.ireturn, 1) := dk_172 (dk_at dksX0_promise_1 10 rfl rfl)
abbrev cX0_broken : ByteArray := prog_1_method_41_code
def yX0_broken : MethodName := ⟨RX0, "broken", "()I"⟩
def dkwX0_broken_2 : List UInt8 := [132, 1, 1, 167, 255, 214, 42, 180, 0, 254, 172]
abbrev dktX0_broken_2 : List UInt8 := dkwX0_broken_2 ++ []
def dkwX0_broken_1 : List UInt8 := [167, 0, 23, 42, 180, 0, 47, 42, 180, 0, 254, 27, 79, 42, 89, 180, 0, 254, 4, 96, 181, 0, 254]
abbrev dktX0_broken_1 : List UInt8 := dkwX0_broken_1 ++ dktX0_broken_2
def dkwX0_broken_0 : List UInt8 := [42, 3, 181, 0, 254, 3, 60, 27, 42, 180, 0, 83, 162, 0, 40, 42, 27, 182, 1, 56, 154, 0, 6]
abbrev dktX0_broken_0 : List UInt8 := dkwX0_broken_0 ++ dktX0_broken_1
theorem dksX0_broken_0 : cX0_broken.data.toList.drop 0 = dktX0_broken_0 := by decide +kernel
theorem dksX0_broken_1 : cX0_broken.data.toList.drop 23 = dktX0_broken_1 := dk_seg dksX0_broken_0 23 rfl rfl
theorem dksX0_broken_2 : cX0_broken.data.toList.drop 46 = dktX0_broken_2 := dk_seg dksX0_broken_1 23 rfl rfl
theorem dX0_broken_0 : decode cX0_broken 0 = .ok (.aload_n 0, 1) := dk_42 (dk_at dksX0_broken_0 0 rfl rfl)
theorem dX0_broken_1 : decode cX0_broken 1 = .ok (.iconst 0, 1) := dk_3 (dk_at dksX0_broken_0 1 rfl rfl)
theorem dX0_broken_2 : decode cX0_broken 2 = .ok (.putfield 254, 3) := dk_181 0 254 (dk_at dksX0_broken_0 2 rfl rfl)
theorem dX0_broken_5 : decode cX0_broken 5 = .ok (.iconst 0, 1) := dk_3 (dk_at dksX0_broken_0 5 rfl rfl)
theorem dX0_broken_6 : decode cX0_broken 6 = .ok (.istore_n 1, 1) := dk_60 (dk_at dksX0_broken_0 6 rfl rfl)
theorem dX0_broken_7 : decode cX0_broken 7 = .ok (.iload_n 1, 1) := dk_27 (dk_at dksX0_broken_0 7 rfl rfl)
theorem dX0_broken_8 : decode cX0_broken 8 = .ok (.aload_n 0, 1) := dk_42 (dk_at dksX0_broken_0 8 rfl rfl)
theorem dX0_broken_9 : decode cX0_broken 9 = .ok (.getfield 83, 3) := dk_180 0 83 (dk_at dksX0_broken_0 9 rfl rfl)
theorem dX0_broken_12 : decode cX0_broken 12 = .ok (.if_icmp .ge 40, 3) := dk_162 0 40 (dk_at dksX0_broken_0 12 rfl rfl)
theorem dX0_broken_15 : decode cX0_broken 15 = .ok (.aload_n 0, 1) := dk_42 (dk_at dksX0_broken_0 15 rfl rfl)
theorem dX0_broken_16 : decode cX0_broken 16 = .ok (.iload_n 1, 1) := dk_27 (dk_at dksX0_broken_0 16 rfl rfl)
theorem dX0_broken_17 : decode cX0_broken 17 = .ok (.invokevirtual 312, 3) := dk_182 1 56 (dk_at dksX0_broken_0 17 rfl rfl)
theorem dX0_broken_20 : decode cX0_broken 20 = .ok (.ifCond .ne 6, 3) := dk_154 0 6 (dk_at dksX0_broken_0 20 rfl rfl)
theorem dX0_broken_23 : decode cX0_broken 23 = .ok (.goto 23, 3) := dk_167 0 23 (dk_at dksX0_broken_1 0 rfl rfl)
theorem dX0_broken_26 : decode cX0_broken 26 = .ok (.aload_n 0, 1) := dk_42 (dk_at dksX0_broken_1 3 rfl rfl)
theorem dX0_broken_27 : decode cX0_broken 27 = .ok (.getfield 47, 3) := dk_180 0 47 (dk_at dksX0_broken_1 4 rfl rfl)
theorem dX0_broken_30 : decode cX0_broken 30 = .ok (.aload_n 0, 1) := dk_42 (dk_at dksX0_broken_1 7 rfl rfl)
theorem dX0_broken_31 : decode cX0_broken 31 = .ok (.getfield 254, 3) := dk_180 0 254 (dk_at dksX0_broken_1 8 rfl rfl)
theorem dX0_broken_34 : decode cX0_broken 34 = .ok (.iload_n 1, 1) := dk_27 (dk_at dksX0_broken_1 11 rfl rfl)
theorem dX0_broken_35 : decode cX0_broken 35 = .ok (.iastore, 1) := dk_79 (dk_at dksX0_broken_1 12 rfl rfl)
theorem dX0_broken_36 : decode cX0_broken 36 = .ok (.aload_n 0, 1) := dk_42 (dk_at dksX0_broken_1 13 rfl rfl)
theorem dX0_broken_37 : decode cX0_broken 37 = .ok (.dup, 1) := dk_89 (dk_at dksX0_broken_1 14 rfl rfl)
theorem dX0_broken_38 : decode cX0_broken 38 = .ok (.getfield 254, 3) := dk_180 0 254 (dk_at dksX0_broken_1 15 rfl rfl)
theorem dX0_broken_41 : decode cX0_broken 41 = .ok (.iconst 1, 1) := dk_4 (dk_at dksX0_broken_1 18 rfl rfl)
theorem dX0_broken_42 : decode cX0_broken 42 = .ok (.iadd, 1) := dk_96 (dk_at dksX0_broken_1 19 rfl rfl)
theorem dX0_broken_43 : decode cX0_broken 43 = .ok (.putfield 254, 3) := dk_181 0 254 (dk_at dksX0_broken_1 20 rfl rfl)
theorem dX0_broken_46 : decode cX0_broken 46 = .ok (.iinc 1 1, 3) := dk_132 1 1 (dk_at dksX0_broken_2 0 rfl rfl)
theorem dX0_broken_49 : decode cX0_broken 49 = .ok (.goto (-42), 3) := dk_167 255 214 (dk_at dksX0_broken_2 3 rfl rfl)
theorem dX0_broken_52 : decode cX0_broken 52 = .ok (.aload_n 0, 1) := dk_42 (dk_at dksX0_broken_2 6 rfl rfl)
theorem dX0_broken_53 : decode cX0_broken 53 = .ok (.getfield 254, 3) := dk_180 0 254 (dk_at dksX0_broken_2 7 rfl rfl)
theorem dX0_broken_56 : decode cX0_broken 56 = .ok (.ireturn, 1) := dk_172 (dk_at dksX0_broken_2 10 rfl rfl)
abbrev cX0_isBroken : ByteArray := prog_1_method_40_code
def yX0_isBroken : MethodName := ⟨RX0, "isBroken", "(I)Z"⟩
def dkwX0_isBroken_1 : List UInt8 := [180, 0, 35, 27, 50, 180, 0, 247, 182, 1, 53, 153, 0, 7, 4, 167, 0, 4, 3, 172]
abbrev dktX0_isBroken_1 : List UInt8 := dkwX0_isBroken_1 ++ []
def dkwX0_isBroken_0 : List UInt8 := [42, 27, 182, 0, 234, 198, 0, 37, 42, 180, 0, 35, 27, 50, 180, 0, 247, 2, 159, 0, 24, 42, 27, 42]
abbrev dktX0_isBroken_0 : List UInt8 := dkwX0_isBroken_0 ++ dktX0_isBroken_1
theorem dksX0_isBroken_0 : cX0_isBroken.data.toList.drop 0 = dktX0_isBroken_0 := by decide +kernel
theorem dksX0_isBroken_1 : cX0_isBroken.data.toList.drop 24 = dktX0_isBroken_1 := dk_seg dksX0_isBroken_0 24 rfl rfl
theorem dX0_isBroken_0 : decode cX0_isBroken 0 = .ok (.aload_n 0, 1) := dk_42 (dk_at dksX0_isBroken_0 0 rfl rfl)
theorem dX0_isBroken_1 : decode cX0_isBroken 1 = .ok (.iload_n 1, 1) := dk_27 (dk_at dksX0_isBroken_0 1 rfl rfl)
theorem dX0_isBroken_2 : decode cX0_isBroken 2 = .ok (.invokevirtual 234, 3) := dk_182 0 234 (dk_at dksX0_isBroken_0 2 rfl rfl)
theorem dX0_isBroken_5 : decode cX0_isBroken 5 = .ok (.ifnull 37, 3) := dk_198 0 37 (dk_at dksX0_isBroken_0 5 rfl rfl)
theorem dX0_isBroken_8 : decode cX0_isBroken 8 = .ok (.aload_n 0, 1) := dk_42 (dk_at dksX0_isBroken_0 8 rfl rfl)
theorem dX0_isBroken_9 : decode cX0_isBroken 9 = .ok (.getfield 35, 3) := dk_180 0 35 (dk_at dksX0_isBroken_0 9 rfl rfl)
theorem dX0_isBroken_12 : decode cX0_isBroken 12 = .ok (.iload_n 1, 1) := dk_27 (dk_at dksX0_isBroken_0 12 rfl rfl)
theorem dX0_isBroken_13 : decode cX0_isBroken 13 = .ok (.aaload, 1) := dk_50 (dk_at dksX0_isBroken_0 13 rfl rfl)
theorem dX0_isBroken_14 : decode cX0_isBroken 14 = .ok (.getfield 247, 3) := dk_180 0 247 (dk_at dksX0_isBroken_0 14 rfl rfl)
theorem dX0_isBroken_17 : decode cX0_isBroken 17 = .ok (.iconst (-1), 1) := dk_2 (dk_at dksX0_isBroken_0 17 rfl rfl)
theorem dX0_isBroken_18 : decode cX0_isBroken 18 = .ok (.if_icmp .eq 24, 3) := dk_159 0 24 (dk_at dksX0_isBroken_0 18 rfl rfl)
theorem dX0_isBroken_21 : decode cX0_isBroken 21 = .ok (.aload_n 0, 1) := dk_42 (dk_at dksX0_isBroken_0 21 rfl rfl)
theorem dX0_isBroken_22 : decode cX0_isBroken 22 = .ok (.iload_n 1, 1) := dk_27 (dk_at dksX0_isBroken_0 22 rfl rfl)
theorem dX0_isBroken_23 : decode cX0_isBroken 23 = .ok (.aload_n 0, 1) := dk_42 (dk_at dksX0_isBroken_0 23 rfl rfl)
theorem dX0_isBroken_24 : decode cX0_isBroken 24 = .ok (.getfield 35, 3) := dk_180 0 35 (dk_at dksX0_isBroken_1 0 rfl rfl)
theorem dX0_isBroken_27 : decode cX0_isBroken 27 = .ok (.iload_n 1, 1) := dk_27 (dk_at dksX0_isBroken_1 3 rfl rfl)
theorem dX0_isBroken_28 : decode cX0_isBroken 28 = .ok (.aaload, 1) := dk_50 (dk_at dksX0_isBroken_1 4 rfl rfl)
theorem dX0_isBroken_29 : decode cX0_isBroken 29 = .ok (.getfield 247, 3) := dk_180 0 247 (dk_at dksX0_isBroken_1 5 rfl rfl)
theorem dX0_isBroken_32 : decode cX0_isBroken 32 = .ok (.invokevirtual 309, 3) := dk_182 1 53 (dk_at dksX0_isBroken_1 8 rfl rfl)
theorem dX0_isBroken_35 : decode cX0_isBroken 35 = .ok (.ifCond .eq 7, 3) := dk_153 0 7 (dk_at dksX0_isBroken_1 11 rfl rfl)
theorem dX0_isBroken_38 : decode cX0_isBroken 38 = .ok (.iconst 1, 1) := dk_4 (dk_at dksX0_isBroken_1 14 rfl rfl)
theorem dX0_isBroken_39 : decode cX0_isBroken 39 = .ok (.goto 4, 3) := dk_167 0 4 (dk_at dksX0_isBroken_1 15 rfl rfl)
theorem dX0_isBroken_42 : decode cX0_isBroken 42 = .ok (.iconst 0, 1) := dk_3 (dk_at dksX0_isBroken_1 18 rfl rfl)
theorem dX0_isBroken_43 : decode cX0_isBroken 43 = .ok (.ireturn, 1) := dk_172 (dk_at dksX0_isBroken_1 19 rfl rfl)
abbrev cX0_isLate : ByteArray := prog_1_method_39_code
def yX0_isLate : MethodName := ⟨RX0, "isLate", "(II)Z"⟩
def dkwX0_isLate_1 : List UInt8 := [162, 0, 7, 4, 167, 0, 4, 3, 172]
abbrev dktX0_isLate_1 : List UInt8 := dkwX0_isLate_1 ++ []
def dkwX0_isLate_0 : List UInt8 := [42, 27, 4, 182, 0, 239, 2, 159, 0, 18, 42, 27, 4, 182, 0, 239, 42, 180, 1, 50, 28, 100]
abbrev dktX0_isLate_0 : List UInt8 := dkwX0_isLate_0 ++ dktX0_isLate_1
theorem dksX0_isLate_0 : cX0_isLate.data.toList.drop 0 = dktX0_isLate_0 := by decide +kernel
theorem dksX0_isLate_1 : cX0_isLate.data.toList.drop 22 = dktX0_isLate_1 := dk_seg dksX0_isLate_0 22 rfl rfl
theorem dX0_isLate_0 : decode cX0_isLate 0 = .ok (.aload_n 0, 1) := dk_42 (dk_at dksX0_isLate_0 0 rfl rfl)
theorem dX0_isLate_1 : decode cX0_isLate 1 = .ok (.iload_n 1, 1) := dk_27 (dk_at dksX0_isLate_0 1 rfl rfl)
theorem dX0_isLate_2 : decode cX0_isLate 2 = .ok (.iconst 1, 1) := dk_4 (dk_at dksX0_isLate_0 2 rfl rfl)
theorem dX0_isLate_3 : decode cX0_isLate 3 = .ok (.invokevirtual 239, 3) := dk_182 0 239 (dk_at dksX0_isLate_0 3 rfl rfl)
theorem dX0_isLate_6 : decode cX0_isLate 6 = .ok (.iconst (-1), 1) := dk_2 (dk_at dksX0_isLate_0 6 rfl rfl)
theorem dX0_isLate_7 : decode cX0_isLate 7 = .ok (.if_icmp .eq 18, 3) := dk_159 0 18 (dk_at dksX0_isLate_0 7 rfl rfl)
theorem dX0_isLate_10 : decode cX0_isLate 10 = .ok (.aload_n 0, 1) := dk_42 (dk_at dksX0_isLate_0 10 rfl rfl)
theorem dX0_isLate_11 : decode cX0_isLate 11 = .ok (.iload_n 1, 1) := dk_27 (dk_at dksX0_isLate_0 11 rfl rfl)
theorem dX0_isLate_12 : decode cX0_isLate 12 = .ok (.iconst 1, 1) := dk_4 (dk_at dksX0_isLate_0 12 rfl rfl)
theorem dX0_isLate_13 : decode cX0_isLate 13 = .ok (.invokevirtual 239, 3) := dk_182 0 239 (dk_at dksX0_isLate_0 13 rfl rfl)
theorem dX0_isLate_16 : decode cX0_isLate 16 = .ok (.aload_n 0, 1) := dk_42 (dk_at dksX0_isLate_0 16 rfl rfl)
theorem dX0_isLate_17 : decode cX0_isLate 17 = .ok (.getfield 306, 3) := dk_180 1 50 (dk_at dksX0_isLate_0 17 rfl rfl)
theorem dX0_isLate_20 : decode cX0_isLate 20 = .ok (.iload_n 2, 1) := dk_28 (dk_at dksX0_isLate_0 20 rfl rfl)
theorem dX0_isLate_21 : decode cX0_isLate 21 = .ok (.isub, 1) := dk_100 (dk_at dksX0_isLate_0 21 rfl rfl)
theorem dX0_isLate_22 : decode cX0_isLate 22 = .ok (.if_icmp .ge 7, 3) := dk_162 0 7 (dk_at dksX0_isLate_1 0 rfl rfl)
theorem dX0_isLate_25 : decode cX0_isLate 25 = .ok (.iconst 1, 1) := dk_4 (dk_at dksX0_isLate_1 3 rfl rfl)
theorem dX0_isLate_26 : decode cX0_isLate 26 = .ok (.goto 4, 3) := dk_167 0 4 (dk_at dksX0_isLate_1 4 rfl rfl)
theorem dX0_isLate_29 : decode cX0_isLate 29 = .ok (.iconst 0, 1) := dk_3 (dk_at dksX0_isLate_1 7 rfl rfl)
theorem dX0_isLate_30 : decode cX0_isLate 30 = .ok (.ireturn, 1) := dk_172 (dk_at dksX0_isLate_1 8 rfl rfl)
abbrev cX0_late : ByteArray := prog_1_method_42_code
def yX0_late : MethodName := ⟨RX0, "late", "(I)I"⟩
def dkwX0_late_3 : List UInt8 := [62, 167, 255, 207, 132, 5, 1, 167, 255, 212, 29, 172]
abbrev dktX0_late_3 : List UInt8 := dkwX0_late_3 ++ []
def dkwX0_late_2 : List UInt8 := [180, 0, 126, 21, 5, 46, 28, 182, 1, 53, 154, 0, 6, 167, 0, 15, 25, 4, 180, 0, 126, 21, 5, 46]
abbrev dktX0_late_2 : List UInt8 := dkwX0_late_2 ++ dktX0_late_3
def dkwX0_late_1 : List UInt8 := [180, 0, 35, 29, 50, 58, 4, 3, 54, 5, 21, 5, 25, 4, 180, 0, 131, 162, 0, 40, 42, 25, 4]
abbrev dktX0_late_1 : List UInt8 := dkwX0_late_1 ++ dktX0_late_2
def dkwX0_late_0 : List UInt8 := [42, 27, 182, 1, 56, 154, 0, 5, 2, 172, 42, 180, 0, 35, 27, 50, 180, 0, 247, 61, 27, 62, 42]
abbrev dktX0_late_0 : List UInt8 := dkwX0_late_0 ++ dktX0_late_1
theorem dksX0_late_0 : cX0_late.data.toList.drop 0 = dktX0_late_0 := by decide +kernel
theorem dksX0_late_1 : cX0_late.data.toList.drop 23 = dktX0_late_1 := dk_seg dksX0_late_0 23 rfl rfl
theorem dksX0_late_2 : cX0_late.data.toList.drop 46 = dktX0_late_2 := dk_seg dksX0_late_1 23 rfl rfl
theorem dksX0_late_3 : cX0_late.data.toList.drop 70 = dktX0_late_3 := dk_seg dksX0_late_2 24 rfl rfl
theorem dX0_late_0 : decode cX0_late 0 = .ok (.aload_n 0, 1) := dk_42 (dk_at dksX0_late_0 0 rfl rfl)
theorem dX0_late_1 : decode cX0_late 1 = .ok (.iload_n 1, 1) := dk_27 (dk_at dksX0_late_0 1 rfl rfl)
theorem dX0_late_2 : decode cX0_late 2 = .ok (.invokevirtual 312, 3) := dk_182 1 56 (dk_at dksX0_late_0 2 rfl rfl)
theorem dX0_late_5 : decode cX0_late 5 = .ok (.ifCond .ne 5, 3) := dk_154 0 5 (dk_at dksX0_late_0 5 rfl rfl)
theorem dX0_late_8 : decode cX0_late 8 = .ok (.iconst (-1), 1) := dk_2 (dk_at dksX0_late_0 8 rfl rfl)
theorem dX0_late_9 : decode cX0_late 9 = .ok (.ireturn, 1) := dk_172 (dk_at dksX0_late_0 9 rfl rfl)
theorem dX0_late_10 : decode cX0_late 10 = .ok (.aload_n 0, 1) := dk_42 (dk_at dksX0_late_0 10 rfl rfl)
theorem dX0_late_11 : decode cX0_late 11 = .ok (.getfield 35, 3) := dk_180 0 35 (dk_at dksX0_late_0 11 rfl rfl)
theorem dX0_late_14 : decode cX0_late 14 = .ok (.iload_n 1, 1) := dk_27 (dk_at dksX0_late_0 14 rfl rfl)
theorem dX0_late_15 : decode cX0_late 15 = .ok (.aaload, 1) := dk_50 (dk_at dksX0_late_0 15 rfl rfl)
theorem dX0_late_16 : decode cX0_late 16 = .ok (.getfield 247, 3) := dk_180 0 247 (dk_at dksX0_late_0 16 rfl rfl)
theorem dX0_late_19 : decode cX0_late 19 = .ok (.istore_n 2, 1) := dk_61 (dk_at dksX0_late_0 19 rfl rfl)
theorem dX0_late_20 : decode cX0_late 20 = .ok (.iload_n 1, 1) := dk_27 (dk_at dksX0_late_0 20 rfl rfl)
theorem dX0_late_21 : decode cX0_late 21 = .ok (.istore_n 3, 1) := dk_62 (dk_at dksX0_late_0 21 rfl rfl)
theorem dX0_late_22 : decode cX0_late 22 = .ok (.aload_n 0, 1) := dk_42 (dk_at dksX0_late_0 22 rfl rfl)
theorem dX0_late_23 : decode cX0_late 23 = .ok (.getfield 35, 3) := dk_180 0 35 (dk_at dksX0_late_1 0 rfl rfl)
theorem dX0_late_26 : decode cX0_late 26 = .ok (.iload_n 3, 1) := dk_29 (dk_at dksX0_late_1 3 rfl rfl)
theorem dX0_late_27 : decode cX0_late 27 = .ok (.aaload, 1) := dk_50 (dk_at dksX0_late_1 4 rfl rfl)
theorem dX0_late_28 : decode cX0_late 28 = .ok (.astore 4, 2) := dk_58 4 (dk_at dksX0_late_1 5 rfl rfl)
theorem dX0_late_30 : decode cX0_late 30 = .ok (.iconst 0, 1) := dk_3 (dk_at dksX0_late_1 7 rfl rfl)
theorem dX0_late_31 : decode cX0_late 31 = .ok (.istore 5, 2) := dk_54 5 (dk_at dksX0_late_1 8 rfl rfl)
theorem dX0_late_33 : decode cX0_late 33 = .ok (.iload 5, 2) := dk_21 5 (dk_at dksX0_late_1 10 rfl rfl)
theorem dX0_late_35 : decode cX0_late 35 = .ok (.aload 4, 2) := dk_25 4 (dk_at dksX0_late_1 12 rfl rfl)
theorem dX0_late_37 : decode cX0_late 37 = .ok (.getfield 131, 3) := dk_180 0 131 (dk_at dksX0_late_1 14 rfl rfl)
theorem dX0_late_40 : decode cX0_late 40 = .ok (.if_icmp .ge 40, 3) := dk_162 0 40 (dk_at dksX0_late_1 17 rfl rfl)
theorem dX0_late_43 : decode cX0_late 43 = .ok (.aload_n 0, 1) := dk_42 (dk_at dksX0_late_1 20 rfl rfl)
theorem dX0_late_44 : decode cX0_late 44 = .ok (.aload 4, 2) := dk_25 4 (dk_at dksX0_late_1 21 rfl rfl)
theorem dX0_late_46 : decode cX0_late 46 = .ok (.getfield 126, 3) := dk_180 0 126 (dk_at dksX0_late_2 0 rfl rfl)
theorem dX0_late_49 : decode cX0_late 49 = .ok (.iload 5, 2) := dk_21 5 (dk_at dksX0_late_2 3 rfl rfl)
theorem dX0_late_51 : decode cX0_late 51 = .ok (.iaload, 1) := dk_46 (dk_at dksX0_late_2 5 rfl rfl)
theorem dX0_late_52 : decode cX0_late 52 = .ok (.iload_n 2, 1) := dk_28 (dk_at dksX0_late_2 6 rfl rfl)
theorem dX0_late_53 : decode cX0_late 53 = .ok (.invokevirtual 309, 3) := dk_182 1 53 (dk_at dksX0_late_2 7 rfl rfl)
theorem dX0_late_56 : decode cX0_late 56 = .ok (.ifCond .ne 6, 3) := dk_154 0 6 (dk_at dksX0_late_2 10 rfl rfl)
theorem dX0_late_59 : decode cX0_late 59 = .ok (.goto 15, 3) := dk_167 0 15 (dk_at dksX0_late_2 13 rfl rfl)
theorem dX0_late_62 : decode cX0_late 62 = .ok (.aload 4, 2) := dk_25 4 (dk_at dksX0_late_2 16 rfl rfl)
theorem dX0_late_64 : decode cX0_late 64 = .ok (.getfield 126, 3) := dk_180 0 126 (dk_at dksX0_late_2 18 rfl rfl)
theorem dX0_late_67 : decode cX0_late 67 = .ok (.iload 5, 2) := dk_21 5 (dk_at dksX0_late_2 21 rfl rfl)
theorem dX0_late_69 : decode cX0_late 69 = .ok (.iaload, 1) := dk_46 (dk_at dksX0_late_2 23 rfl rfl)
theorem dX0_late_70 : decode cX0_late 70 = .ok (.istore_n 3, 1) := dk_62 (dk_at dksX0_late_3 0 rfl rfl)
theorem dX0_late_71 : decode cX0_late 71 = .ok (.goto (-49), 3) := dk_167 255 207 (dk_at dksX0_late_3 1 rfl rfl)
theorem dX0_late_74 : decode cX0_late 74 = .ok (.iinc 5 1, 3) := dk_132 5 1 (dk_at dksX0_late_3 4 rfl rfl)
theorem dX0_late_77 : decode cX0_late 77 = .ok (.goto (-44), 3) := dk_167 255 212 (dk_at dksX0_late_3 7 rfl rfl)
theorem dX0_late_80 : decode cX0_late 80 = .ok (.iload_n 3, 1) := dk_29 (dk_at dksX0_late_3 10 rfl rfl)
theorem dX0_late_81 : decode cX0_late 81 = .ok (.ireturn, 1) := dk_172 (dk_at dksX0_late_3 11 rfl rfl)
abbrev cX0_own : ByteArray := prog_1_method_44_code
def yX0_own : MethodName := ⟨RX0, "own", "(II)Z"⟩
def dkwX0_own_1 : List UInt8 := [180, 0, 35, 27, 50, 28, 181, 1, 60, 4, 172]
abbrev dktX0_own_1 : List UInt8 := dkwX0_own_1 ++ []
def dkwX0_own_0 : List UInt8 := [42, 27, 182, 0, 234, 198, 0, 14, 28, 2, 161, 0, 9, 28, 16, 10, 161, 0, 5, 3, 172, 42]
abbrev dktX0_own_0 : List UInt8 := dkwX0_own_0 ++ dktX0_own_1
theorem dksX0_own_0 : cX0_own.data.toList.drop 0 = dktX0_own_0 := by decide +kernel
theorem dksX0_own_1 : cX0_own.data.toList.drop 22 = dktX0_own_1 := dk_seg dksX0_own_0 22 rfl rfl
theorem dX0_own_0 : decode cX0_own 0 = .ok (.aload_n 0, 1) := dk_42 (dk_at dksX0_own_0 0 rfl rfl)
theorem dX0_own_1 : decode cX0_own 1 = .ok (.iload_n 1, 1) := dk_27 (dk_at dksX0_own_0 1 rfl rfl)
theorem dX0_own_2 : decode cX0_own 2 = .ok (.invokevirtual 234, 3) := dk_182 0 234 (dk_at dksX0_own_0 2 rfl rfl)
theorem dX0_own_5 : decode cX0_own 5 = .ok (.ifnull 14, 3) := dk_198 0 14 (dk_at dksX0_own_0 5 rfl rfl)
theorem dX0_own_8 : decode cX0_own 8 = .ok (.iload_n 2, 1) := dk_28 (dk_at dksX0_own_0 8 rfl rfl)
theorem dX0_own_9 : decode cX0_own 9 = .ok (.iconst (-1), 1) := dk_2 (dk_at dksX0_own_0 9 rfl rfl)
theorem dX0_own_10 : decode cX0_own 10 = .ok (.if_icmp .lt 9, 3) := dk_161 0 9 (dk_at dksX0_own_0 10 rfl rfl)
theorem dX0_own_13 : decode cX0_own 13 = .ok (.iload_n 2, 1) := dk_28 (dk_at dksX0_own_0 13 rfl rfl)
theorem dX0_own_14 : decode cX0_own 14 = .ok (.bipush 10, 2) := dk_16 10 (dk_at dksX0_own_0 14 rfl rfl)
theorem dX0_own_16 : decode cX0_own 16 = .ok (.if_icmp .lt 5, 3) := dk_161 0 5 (dk_at dksX0_own_0 16 rfl rfl)
theorem dX0_own_19 : decode cX0_own 19 = .ok (.iconst 0, 1) := dk_3 (dk_at dksX0_own_0 19 rfl rfl)
theorem dX0_own_20 : decode cX0_own 20 = .ok (.ireturn, 1) := dk_172 (dk_at dksX0_own_0 20 rfl rfl)
theorem dX0_own_21 : decode cX0_own 21 = .ok (.aload_n 0, 1) := dk_42 (dk_at dksX0_own_0 21 rfl rfl)
theorem dX0_own_22 : decode cX0_own 22 = .ok (.getfield 35, 3) := dk_180 0 35 (dk_at dksX0_own_1 0 rfl rfl)
theorem dX0_own_25 : decode cX0_own 25 = .ok (.iload_n 1, 1) := dk_27 (dk_at dksX0_own_1 3 rfl rfl)
theorem dX0_own_26 : decode cX0_own 26 = .ok (.aaload, 1) := dk_50 (dk_at dksX0_own_1 4 rfl rfl)
theorem dX0_own_27 : decode cX0_own 27 = .ok (.iload_n 2, 1) := dk_28 (dk_at dksX0_own_1 5 rfl rfl)
theorem dX0_own_28 : decode cX0_own 28 = .ok (.putfield 316, 3) := dk_181 1 60 (dk_at dksX0_own_1 6 rfl rfl)
theorem dX0_own_31 : decode cX0_own 31 = .ok (.iconst 1, 1) := dk_4 (dk_at dksX0_own_1 9 rfl rfl)
theorem dX0_own_32 : decode cX0_own 32 = .ok (.ireturn, 1) := dk_172 (dk_at dksX0_own_1 10 rfl rfl)
abbrev cX0_ask : ByteArray := prog_1_method_45_code
def yX0_ask : MethodName := ⟨RX0, "ask", "(III)I"⟩
def dkwX0_ask_4 : List UInt8 := [181, 1, 26, 42, 180, 1, 26, 4, 100, 172]
abbrev dktX0_ask_4 : List UInt8 := dkwX0_ask_4 ++ []
def dkwX0_ask_3 : List UInt8 := [28, 79, 25, 4, 5, 29, 79, 25, 4, 6, 42, 180, 1, 50, 79, 42, 89, 180, 1, 26, 4, 96]
abbrev dktX0_ask_3 : List UInt8 := dkwX0_ask_3 ++ dktX0_ask_4
def dkwX0_ask_2 : List UInt8 := [160, 0, 5, 2, 172, 42, 180, 0, 53, 42, 180, 1, 26, 50, 58, 4, 25, 4, 3, 27, 79, 25, 4, 4]
abbrev dktX0_ask_2 : List UInt8 := dkwX0_ask_2 ++ dktX0_ask_3
def dkwX0_ask_1 : List UInt8 := [4, 42, 180, 0, 35, 28, 50, 180, 0, 103, 182, 0, 107, 120, 162, 0, 12, 42, 180, 1, 26, 16, 40]
abbrev dktX0_ask_1 : List UInt8 := dkwX0_ask_1 ++ dktX0_ask_2
def dkwX0_ask_0 : List UInt8 := [27, 155, 0, 49, 27, 16, 10, 162, 0, 43, 42, 28, 182, 0, 234, 198, 0, 35, 29, 4, 161, 0, 30, 29]
abbrev dktX0_ask_0 : List UInt8 := dkwX0_ask_0 ++ dktX0_ask_1
theorem dksX0_ask_0 : cX0_ask.data.toList.drop 0 = dktX0_ask_0 := by decide +kernel
theorem dksX0_ask_1 : cX0_ask.data.toList.drop 24 = dktX0_ask_1 := dk_seg dksX0_ask_0 24 rfl rfl
theorem dksX0_ask_2 : cX0_ask.data.toList.drop 47 = dktX0_ask_2 := dk_seg dksX0_ask_1 23 rfl rfl
theorem dksX0_ask_3 : cX0_ask.data.toList.drop 71 = dktX0_ask_3 := dk_seg dksX0_ask_2 24 rfl rfl
theorem dksX0_ask_4 : cX0_ask.data.toList.drop 93 = dktX0_ask_4 := dk_seg dksX0_ask_3 22 rfl rfl
theorem dX0_ask_0 : decode cX0_ask 0 = .ok (.iload_n 1, 1) := dk_27 (dk_at dksX0_ask_0 0 rfl rfl)
theorem dX0_ask_1 : decode cX0_ask 1 = .ok (.ifCond .lt 49, 3) := dk_155 0 49 (dk_at dksX0_ask_0 1 rfl rfl)
theorem dX0_ask_4 : decode cX0_ask 4 = .ok (.iload_n 1, 1) := dk_27 (dk_at dksX0_ask_0 4 rfl rfl)
theorem dX0_ask_5 : decode cX0_ask 5 = .ok (.bipush 10, 2) := dk_16 10 (dk_at dksX0_ask_0 5 rfl rfl)
theorem dX0_ask_7 : decode cX0_ask 7 = .ok (.if_icmp .ge 43, 3) := dk_162 0 43 (dk_at dksX0_ask_0 7 rfl rfl)
theorem dX0_ask_10 : decode cX0_ask 10 = .ok (.aload_n 0, 1) := dk_42 (dk_at dksX0_ask_0 10 rfl rfl)
theorem dX0_ask_11 : decode cX0_ask 11 = .ok (.iload_n 2, 1) := dk_28 (dk_at dksX0_ask_0 11 rfl rfl)
theorem dX0_ask_12 : decode cX0_ask 12 = .ok (.invokevirtual 234, 3) := dk_182 0 234 (dk_at dksX0_ask_0 12 rfl rfl)
theorem dX0_ask_15 : decode cX0_ask 15 = .ok (.ifnull 35, 3) := dk_198 0 35 (dk_at dksX0_ask_0 15 rfl rfl)
theorem dX0_ask_18 : decode cX0_ask 18 = .ok (.iload_n 3, 1) := dk_29 (dk_at dksX0_ask_0 18 rfl rfl)
theorem dX0_ask_19 : decode cX0_ask 19 = .ok (.iconst 1, 1) := dk_4 (dk_at dksX0_ask_0 19 rfl rfl)
theorem dX0_ask_20 : decode cX0_ask 20 = .ok (.if_icmp .lt 30, 3) := dk_161 0 30 (dk_at dksX0_ask_0 20 rfl rfl)
theorem dX0_ask_23 : decode cX0_ask 23 = .ok (.iload_n 3, 1) := dk_29 (dk_at dksX0_ask_0 23 rfl rfl)
theorem dX0_ask_24 : decode cX0_ask 24 = .ok (.iconst 1, 1) := dk_4 (dk_at dksX0_ask_1 0 rfl rfl)
theorem dX0_ask_25 : decode cX0_ask 25 = .ok (.aload_n 0, 1) := dk_42 (dk_at dksX0_ask_1 1 rfl rfl)
theorem dX0_ask_26 : decode cX0_ask 26 = .ok (.getfield 35, 3) := dk_180 0 35 (dk_at dksX0_ask_1 2 rfl rfl)
theorem dX0_ask_29 : decode cX0_ask 29 = .ok (.iload_n 2, 1) := dk_28 (dk_at dksX0_ask_1 5 rfl rfl)
theorem dX0_ask_30 : decode cX0_ask 30 = .ok (.aaload, 1) := dk_50 (dk_at dksX0_ask_1 6 rfl rfl)
theorem dX0_ask_31 : decode cX0_ask 31 = .ok (.getfield 103, 3) := dk_180 0 103 (dk_at dksX0_ask_1 7 rfl rfl)
theorem dX0_ask_34 : decode cX0_ask 34 = .ok (.invokevirtual 107, 3) := dk_182 0 107 (dk_at dksX0_ask_1 10 rfl rfl)
theorem dX0_ask_37 : decode cX0_ask 37 = .ok (.ishl, 1) := dk_120 (dk_at dksX0_ask_1 13 rfl rfl)
theorem dX0_ask_38 : decode cX0_ask 38 = .ok (.if_icmp .ge 12, 3) := dk_162 0 12 (dk_at dksX0_ask_1 14 rfl rfl)
theorem dX0_ask_41 : decode cX0_ask 41 = .ok (.aload_n 0, 1) := dk_42 (dk_at dksX0_ask_1 17 rfl rfl)
theorem dX0_ask_42 : decode cX0_ask 42 = .ok (.getfield 282, 3) := dk_180 1 26 (dk_at dksX0_ask_1 18 rfl rfl)
theorem dX0_ask_45 : decode cX0_ask 45 = .ok (.bipush 40, 2) := dk_16 40 (dk_at dksX0_ask_1 21 rfl rfl)
theorem dX0_ask_47 : decode cX0_ask 47 = .ok (.if_icmp .ne 5, 3) := dk_160 0 5 (dk_at dksX0_ask_2 0 rfl rfl)
theorem dX0_ask_50 : decode cX0_ask 50 = .ok (.iconst (-1), 1) := dk_2 (dk_at dksX0_ask_2 3 rfl rfl)
theorem dX0_ask_51 : decode cX0_ask 51 = .ok (.ireturn, 1) := dk_172 (dk_at dksX0_ask_2 4 rfl rfl)
theorem dX0_ask_52 : decode cX0_ask 52 = .ok (.aload_n 0, 1) := dk_42 (dk_at dksX0_ask_2 5 rfl rfl)
theorem dX0_ask_53 : decode cX0_ask 53 = .ok (.getfield 53, 3) := dk_180 0 53 (dk_at dksX0_ask_2 6 rfl rfl)
theorem dX0_ask_56 : decode cX0_ask 56 = .ok (.aload_n 0, 1) := dk_42 (dk_at dksX0_ask_2 9 rfl rfl)
theorem dX0_ask_57 : decode cX0_ask 57 = .ok (.getfield 282, 3) := dk_180 1 26 (dk_at dksX0_ask_2 10 rfl rfl)
theorem dX0_ask_60 : decode cX0_ask 60 = .ok (.aaload, 1) := dk_50 (dk_at dksX0_ask_2 13 rfl rfl)
theorem dX0_ask_61 : decode cX0_ask 61 = .ok (.astore 4, 2) := dk_58 4 (dk_at dksX0_ask_2 14 rfl rfl)
theorem dX0_ask_63 : decode cX0_ask 63 = .ok (.aload 4, 2) := dk_25 4 (dk_at dksX0_ask_2 16 rfl rfl)
theorem dX0_ask_65 : decode cX0_ask 65 = .ok (.iconst 0, 1) := dk_3 (dk_at dksX0_ask_2 18 rfl rfl)
theorem dX0_ask_66 : decode cX0_ask 66 = .ok (.iload_n 1, 1) := dk_27 (dk_at dksX0_ask_2 19 rfl rfl)
theorem dX0_ask_67 : decode cX0_ask 67 = .ok (.iastore, 1) := dk_79 (dk_at dksX0_ask_2 20 rfl rfl)
theorem dX0_ask_68 : decode cX0_ask 68 = .ok (.aload 4, 2) := dk_25 4 (dk_at dksX0_ask_2 21 rfl rfl)
theorem dX0_ask_70 : decode cX0_ask 70 = .ok (.iconst 1, 1) := dk_4 (dk_at dksX0_ask_2 23 rfl rfl)
theorem dX0_ask_71 : decode cX0_ask 71 = .ok (.iload_n 2, 1) := dk_28 (dk_at dksX0_ask_3 0 rfl rfl)
theorem dX0_ask_72 : decode cX0_ask 72 = .ok (.iastore, 1) := dk_79 (dk_at dksX0_ask_3 1 rfl rfl)
theorem dX0_ask_73 : decode cX0_ask 73 = .ok (.aload 4, 2) := dk_25 4 (dk_at dksX0_ask_3 2 rfl rfl)
theorem dX0_ask_75 : decode cX0_ask 75 = .ok (.iconst 2, 1) := dk_5 (dk_at dksX0_ask_3 4 rfl rfl)
theorem dX0_ask_76 : decode cX0_ask 76 = .ok (.iload_n 3, 1) := dk_29 (dk_at dksX0_ask_3 5 rfl rfl)
theorem dX0_ask_77 : decode cX0_ask 77 = .ok (.iastore, 1) := dk_79 (dk_at dksX0_ask_3 6 rfl rfl)
theorem dX0_ask_78 : decode cX0_ask 78 = .ok (.aload 4, 2) := dk_25 4 (dk_at dksX0_ask_3 7 rfl rfl)
theorem dX0_ask_80 : decode cX0_ask 80 = .ok (.iconst 3, 1) := dk_6 (dk_at dksX0_ask_3 9 rfl rfl)
theorem dX0_ask_81 : decode cX0_ask 81 = .ok (.aload_n 0, 1) := dk_42 (dk_at dksX0_ask_3 10 rfl rfl)
theorem dX0_ask_82 : decode cX0_ask 82 = .ok (.getfield 306, 3) := dk_180 1 50 (dk_at dksX0_ask_3 11 rfl rfl)
theorem dX0_ask_85 : decode cX0_ask 85 = .ok (.iastore, 1) := dk_79 (dk_at dksX0_ask_3 14 rfl rfl)
theorem dX0_ask_86 : decode cX0_ask 86 = .ok (.aload_n 0, 1) := dk_42 (dk_at dksX0_ask_3 15 rfl rfl)
theorem dX0_ask_87 : decode cX0_ask 87 = .ok (.dup, 1) := dk_89 (dk_at dksX0_ask_3 16 rfl rfl)
theorem dX0_ask_88 : decode cX0_ask 88 = .ok (.getfield 282, 3) := dk_180 1 26 (dk_at dksX0_ask_3 17 rfl rfl)
theorem dX0_ask_91 : decode cX0_ask 91 = .ok (.iconst 1, 1) := dk_4 (dk_at dksX0_ask_3 20 rfl rfl)
theorem dX0_ask_92 : decode cX0_ask 92 = .ok (.iadd, 1) := dk_96 (dk_at dksX0_ask_3 21 rfl rfl)
theorem dX0_ask_93 : decode cX0_ask 93 = .ok (.putfield 282, 3) := dk_181 1 26 (dk_at dksX0_ask_4 0 rfl rfl)
theorem dX0_ask_96 : decode cX0_ask 96 = .ok (.aload_n 0, 1) := dk_42 (dk_at dksX0_ask_4 3 rfl rfl)
theorem dX0_ask_97 : decode cX0_ask 97 = .ok (.getfield 282, 3) := dk_180 1 26 (dk_at dksX0_ask_4 4 rfl rfl)
theorem dX0_ask_100 : decode cX0_ask 100 = .ok (.iconst 1, 1) := dk_4 (dk_at dksX0_ask_4 7 rfl rfl)
theorem dX0_ask_101 : decode cX0_ask 101 = .ok (.isub, 1) := dk_100 (dk_at dksX0_ask_4 8 rfl rfl)
theorem dX0_ask_102 : decode cX0_ask 102 = .ok (.ireturn, 1) := dk_172 (dk_at dksX0_ask_4 9 rfl rfl)
abbrev cX0_unused : ByteArray := prog_1_method_46_code
def yX0_unused : MethodName := ⟨RX0, "unused", "(I)I"⟩
def dkwX0_unused_8 : List UInt8 := [180, 0, 254, 172]
abbrev dktX0_unused_8 : List UInt8 := dkwX0_unused_8 ++ []
def dkwX0_unused_7 : List UInt8 := [180, 0, 254, 29, 79, 42, 89, 180, 0, 254, 4, 96, 181, 0, 254, 132, 3, 1, 167, 255, 207, 42]
abbrev dktX0_unused_7 : List UInt8 := dkwX0_unused_7 ++ dktX0_unused_8
def dkwX0_unused_6 : List UInt8 := [180, 0, 35, 29, 50, 198, 0, 32, 44, 29, 51, 153, 0, 6, 167, 0, 23, 42, 180, 0, 47, 42]
abbrev dktX0_unused_6 : List UInt8 := dkwX0_unused_6 ++ dktX0_unused_7
def dkwX0_unused_5 : List UInt8 := [132, 3, 255, 167, 255, 205, 42, 3, 181, 0, 254, 3, 62, 29, 42, 180, 0, 83, 162, 0, 47, 42]
abbrev dktX0_unused_5 : List UInt8 := dkwX0_unused_5 ++ dktX0_unused_6
def dkwX0_unused_4 : List UInt8 := [162, 0, 24, 44, 42, 180, 0, 35, 29, 50, 180, 0, 126, 21, 4, 46, 4, 84, 132, 4, 1, 167, 255, 218]
abbrev dktX0_unused_4 : List UInt8 := dkwX0_unused_4 ++ dktX0_unused_5
def dkwX0_unused_3 : List UInt8 := [155, 0, 53, 3, 54, 4, 44, 29, 51, 153, 0, 38, 21, 4, 42, 180, 0, 35, 29, 50, 180, 0, 131]
abbrev dktX0_unused_3 : List UInt8 := dkwX0_unused_3 ++ dktX0_unused_4
def dkwX0_unused_2 : List UInt8 := [180, 0, 53, 29, 50, 4, 46, 4, 84, 132, 3, 1, 167, 255, 210, 42, 180, 0, 83, 4, 100, 62, 29]
abbrev dktX0_unused_2 : List UInt8 := dkwX0_unused_2 ++ dktX0_unused_3
def dkwX0_unused_1 : List UInt8 := [29, 50, 4, 46, 2, 159, 0, 26, 42, 180, 0, 53, 29, 50, 6, 46, 27, 161, 0, 14, 44, 42]
abbrev dktX0_unused_1 : List UInt8 := dkwX0_unused_1 ++ dktX0_unused_2
def dkwX0_unused_0 : List UInt8 := [42, 180, 0, 69, 77, 42, 44, 182, 1, 5, 3, 62, 29, 42, 180, 1, 26, 162, 0, 44, 42, 180, 0, 53]
abbrev dktX0_unused_0 : List UInt8 := dkwX0_unused_0 ++ dktX0_unused_1
theorem dksX0_unused_0 : cX0_unused.data.toList.drop 0 = dktX0_unused_0 := by decide +kernel
theorem dksX0_unused_1 : cX0_unused.data.toList.drop 24 = dktX0_unused_1 := dk_seg dksX0_unused_0 24 rfl rfl
theorem dksX0_unused_2 : cX0_unused.data.toList.drop 46 = dktX0_unused_2 := dk_seg dksX0_unused_1 22 rfl rfl
theorem dksX0_unused_3 : cX0_unused.data.toList.drop 69 = dktX0_unused_3 := dk_seg dksX0_unused_2 23 rfl rfl
theorem dksX0_unused_4 : cX0_unused.data.toList.drop 92 = dktX0_unused_4 := dk_seg dksX0_unused_3 23 rfl rfl
theorem dksX0_unused_5 : cX0_unused.data.toList.drop 116 = dktX0_unused_5 := dk_seg dksX0_unused_4 24 rfl rfl
theorem dksX0_unused_6 : cX0_unused.data.toList.drop 138 = dktX0_unused_6 := dk_seg dksX0_unused_5 22 rfl rfl
theorem dksX0_unused_7 : cX0_unused.data.toList.drop 160 = dktX0_unused_7 := dk_seg dksX0_unused_6 22 rfl rfl
theorem dksX0_unused_8 : cX0_unused.data.toList.drop 182 = dktX0_unused_8 := dk_seg dksX0_unused_7 22 rfl rfl
theorem dX0_unused_0 : decode cX0_unused 0 = .ok (.aload_n 0, 1) := dk_42 (dk_at dksX0_unused_0 0 rfl rfl)
theorem dX0_unused_1 : decode cX0_unused 1 = .ok (.getfield 69, 3) := dk_180 0 69 (dk_at dksX0_unused_0 1 rfl rfl)
theorem dX0_unused_4 : decode cX0_unused 4 = .ok (.astore_n 2, 1) := dk_77 (dk_at dksX0_unused_0 4 rfl rfl)
theorem dX0_unused_5 : decode cX0_unused 5 = .ok (.aload_n 0, 1) := dk_42 (dk_at dksX0_unused_0 5 rfl rfl)
theorem dX0_unused_6 : decode cX0_unused 6 = .ok (.aload_n 2, 1) := dk_44 (dk_at dksX0_unused_0 6 rfl rfl)
theorem dX0_unused_7 : decode cX0_unused 7 = .ok (.invokevirtual 261, 3) := dk_182 1 5 (dk_at dksX0_unused_0 7 rfl rfl)
theorem dX0_unused_10 : decode cX0_unused 10 = .ok (.iconst 0, 1) := dk_3 (dk_at dksX0_unused_0 10 rfl rfl)
theorem dX0_unused_11 : decode cX0_unused 11 = .ok (.istore_n 3, 1) := dk_62 (dk_at dksX0_unused_0 11 rfl rfl)
theorem dX0_unused_12 : decode cX0_unused 12 = .ok (.iload_n 3, 1) := dk_29 (dk_at dksX0_unused_0 12 rfl rfl)
theorem dX0_unused_13 : decode cX0_unused 13 = .ok (.aload_n 0, 1) := dk_42 (dk_at dksX0_unused_0 13 rfl rfl)
theorem dX0_unused_14 : decode cX0_unused 14 = .ok (.getfield 282, 3) := dk_180 1 26 (dk_at dksX0_unused_0 14 rfl rfl)
theorem dX0_unused_17 : decode cX0_unused 17 = .ok (.if_icmp .ge 44, 3) := dk_162 0 44 (dk_at dksX0_unused_0 17 rfl rfl)
theorem dX0_unused_20 : decode cX0_unused 20 = .ok (.aload_n 0, 1) := dk_42 (dk_at dksX0_unused_0 20 rfl rfl)
theorem dX0_unused_21 : decode cX0_unused 21 = .ok (.getfield 53, 3) := dk_180 0 53 (dk_at dksX0_unused_0 21 rfl rfl)
theorem dX0_unused_24 : decode cX0_unused 24 = .ok (.iload_n 3, 1) := dk_29 (dk_at dksX0_unused_1 0 rfl rfl)
theorem dX0_unused_25 : decode cX0_unused 25 = .ok (.aaload, 1) := dk_50 (dk_at dksX0_unused_1 1 rfl rfl)
theorem dX0_unused_26 : decode cX0_unused 26 = .ok (.iconst 1, 1) := dk_4 (dk_at dksX0_unused_1 2 rfl rfl)
theorem dX0_unused_27 : decode cX0_unused 27 = .ok (.iaload, 1) := dk_46 (dk_at dksX0_unused_1 3 rfl rfl)
theorem dX0_unused_28 : decode cX0_unused 28 = .ok (.iconst (-1), 1) := dk_2 (dk_at dksX0_unused_1 4 rfl rfl)
theorem dX0_unused_29 : decode cX0_unused 29 = .ok (.if_icmp .eq 26, 3) := dk_159 0 26 (dk_at dksX0_unused_1 5 rfl rfl)
theorem dX0_unused_32 : decode cX0_unused 32 = .ok (.aload_n 0, 1) := dk_42 (dk_at dksX0_unused_1 8 rfl rfl)
theorem dX0_unused_33 : decode cX0_unused 33 = .ok (.getfield 53, 3) := dk_180 0 53 (dk_at dksX0_unused_1 9 rfl rfl)
theorem dX0_unused_36 : decode cX0_unused 36 = .ok (.iload_n 3, 1) := dk_29 (dk_at dksX0_unused_1 12 rfl rfl)
theorem dX0_unused_37 : decode cX0_unused 37 = .ok (.aaload, 1) := dk_50 (dk_at dksX0_unused_1 13 rfl rfl)
theorem dX0_unused_38 : decode cX0_unused 38 = .ok (.iconst 3, 1) := dk_6 (dk_at dksX0_unused_1 14 rfl rfl)
theorem dX0_unused_39 : decode cX0_unused 39 = .ok (.iaload, 1) := dk_46 (dk_at dksX0_unused_1 15 rfl rfl)
theorem dX0_unused_40 : decode cX0_unused 40 = .ok (.iload_n 1, 1) := dk_27 (dk_at dksX0_unused_1 16 rfl rfl)
theorem dX0_unused_41 : decode cX0_unused 41 = .ok (.if_icmp .lt 14, 3) := dk_161 0 14 (dk_at dksX0_unused_1 17 rfl rfl)
theorem dX0_unused_44 : decode cX0_unused 44 = .ok (.aload_n 2, 1) := dk_44 (dk_at dksX0_unused_1 20 rfl rfl)
theorem dX0_unused_45 : decode cX0_unused 45 = .ok (.aload_n 0, 1) := dk_42 (dk_at dksX0_unused_1 21 rfl rfl)
theorem dX0_unused_46 : decode cX0_unused 46 = .ok (.getfield 53, 3) := dk_180 0 53 (dk_at dksX0_unused_2 0 rfl rfl)
theorem dX0_unused_49 : decode cX0_unused 49 = .ok (.iload_n 3, 1) := dk_29 (dk_at dksX0_unused_2 3 rfl rfl)
theorem dX0_unused_50 : decode cX0_unused 50 = .ok (.aaload, 1) := dk_50 (dk_at dksX0_unused_2 4 rfl rfl)
theorem dX0_unused_51 : decode cX0_unused 51 = .ok (.iconst 1, 1) := dk_4 (dk_at dksX0_unused_2 5 rfl rfl)
theorem dX0_unused_52 : decode cX0_unused 52 = .ok (.iaload, 1) := dk_46 (dk_at dksX0_unused_2 6 rfl rfl)
theorem dX0_unused_53 : decode cX0_unused 53 = .ok (.iconst 1, 1) := dk_4 (dk_at dksX0_unused_2 7 rfl rfl)
theorem dX0_unused_54 : decode cX0_unused 54 = .ok (.bastore, 1) := dk_84 (dk_at dksX0_unused_2 8 rfl rfl)
theorem dX0_unused_55 : decode cX0_unused 55 = .ok (.iinc 3 1, 3) := dk_132 3 1 (dk_at dksX0_unused_2 9 rfl rfl)
theorem dX0_unused_58 : decode cX0_unused 58 = .ok (.goto (-46), 3) := dk_167 255 210 (dk_at dksX0_unused_2 12 rfl rfl)
theorem dX0_unused_61 : decode cX0_unused 61 = .ok (.aload_n 0, 1) := dk_42 (dk_at dksX0_unused_2 15 rfl rfl)
theorem dX0_unused_62 : decode cX0_unused 62 = .ok (.getfield 83, 3) := dk_180 0 83 (dk_at dksX0_unused_2 16 rfl rfl)
theorem dX0_unused_65 : decode cX0_unused 65 = .ok (.iconst 1, 1) := dk_4 (dk_at dksX0_unused_2 19 rfl rfl)
theorem dX0_unused_66 : decode cX0_unused 66 = .ok (.isub, 1) := dk_100 (dk_at dksX0_unused_2 20 rfl rfl)
theorem dX0_unused_67 : decode cX0_unused 67 = .ok (.istore_n 3, 1) := dk_62 (dk_at dksX0_unused_2 21 rfl rfl)
theorem dX0_unused_68 : decode cX0_unused 68 = .ok (.iload_n 3, 1) := dk_29 (dk_at dksX0_unused_2 22 rfl rfl)
theorem dX0_unused_69 : decode cX0_unused 69 = .ok (.ifCond .lt 53, 3) := dk_155 0 53 (dk_at dksX0_unused_3 0 rfl rfl)
theorem dX0_unused_72 : decode cX0_unused 72 = .ok (.iconst 0, 1) := dk_3 (dk_at dksX0_unused_3 3 rfl rfl)
theorem dX0_unused_73 : decode cX0_unused 73 = .ok (.istore 4, 2) := dk_54 4 (dk_at dksX0_unused_3 4 rfl rfl)
theorem dX0_unused_75 : decode cX0_unused 75 = .ok (.aload_n 2, 1) := dk_44 (dk_at dksX0_unused_3 6 rfl rfl)
theorem dX0_unused_76 : decode cX0_unused 76 = .ok (.iload_n 3, 1) := dk_29 (dk_at dksX0_unused_3 7 rfl rfl)
theorem dX0_unused_77 : decode cX0_unused 77 = .ok (.baload, 1) := dk_51 (dk_at dksX0_unused_3 8 rfl rfl)
theorem dX0_unused_78 : decode cX0_unused 78 = .ok (.ifCond .eq 38, 3) := dk_153 0 38 (dk_at dksX0_unused_3 9 rfl rfl)
theorem dX0_unused_81 : decode cX0_unused 81 = .ok (.iload 4, 2) := dk_21 4 (dk_at dksX0_unused_3 12 rfl rfl)
theorem dX0_unused_83 : decode cX0_unused 83 = .ok (.aload_n 0, 1) := dk_42 (dk_at dksX0_unused_3 14 rfl rfl)
theorem dX0_unused_84 : decode cX0_unused 84 = .ok (.getfield 35, 3) := dk_180 0 35 (dk_at dksX0_unused_3 15 rfl rfl)
theorem dX0_unused_87 : decode cX0_unused 87 = .ok (.iload_n 3, 1) := dk_29 (dk_at dksX0_unused_3 18 rfl rfl)
theorem dX0_unused_88 : decode cX0_unused 88 = .ok (.aaload, 1) := dk_50 (dk_at dksX0_unused_3 19 rfl rfl)
theorem dX0_unused_89 : decode cX0_unused 89 = .ok (.getfield 131, 3) := dk_180 0 131 (dk_at dksX0_unused_3 20 rfl rfl)
theorem dX0_unused_92 : decode cX0_unused 92 = .ok (.if_icmp .ge 24, 3) := dk_162 0 24 (dk_at dksX0_unused_4 0 rfl rfl)
theorem dX0_unused_95 : decode cX0_unused 95 = .ok (.aload_n 2, 1) := dk_44 (dk_at dksX0_unused_4 3 rfl rfl)
theorem dX0_unused_96 : decode cX0_unused 96 = .ok (.aload_n 0, 1) := dk_42 (dk_at dksX0_unused_4 4 rfl rfl)
theorem dX0_unused_97 : decode cX0_unused 97 = .ok (.getfield 35, 3) := dk_180 0 35 (dk_at dksX0_unused_4 5 rfl rfl)
theorem dX0_unused_100 : decode cX0_unused 100 = .ok (.iload_n 3, 1) := dk_29 (dk_at dksX0_unused_4 8 rfl rfl)
theorem dX0_unused_101 : decode cX0_unused 101 = .ok (.aaload, 1) := dk_50 (dk_at dksX0_unused_4 9 rfl rfl)
theorem dX0_unused_102 : decode cX0_unused 102 = .ok (.getfield 126, 3) := dk_180 0 126 (dk_at dksX0_unused_4 10 rfl rfl)
theorem dX0_unused_105 : decode cX0_unused 105 = .ok (.iload 4, 2) := dk_21 4 (dk_at dksX0_unused_4 13 rfl rfl)
theorem dX0_unused_107 : decode cX0_unused 107 = .ok (.iaload, 1) := dk_46 (dk_at dksX0_unused_4 15 rfl rfl)
theorem dX0_unused_108 : decode cX0_unused 108 = .ok (.iconst 1, 1) := dk_4 (dk_at dksX0_unused_4 16 rfl rfl)
theorem dX0_unused_109 : decode cX0_unused 109 = .ok (.bastore, 1) := dk_84 (dk_at dksX0_unused_4 17 rfl rfl)
theorem dX0_unused_110 : decode cX0_unused 110 = .ok (.iinc 4 1, 3) := dk_132 4 1 (dk_at dksX0_unused_4 18 rfl rfl)
theorem dX0_unused_113 : decode cX0_unused 113 = .ok (.goto (-38), 3) := dk_167 255 218 (dk_at dksX0_unused_4 21 rfl rfl)
theorem dX0_unused_116 : decode cX0_unused 116 = .ok (.iinc 3 (-1), 3) := dk_132 3 255 (dk_at dksX0_unused_5 0 rfl rfl)
theorem dX0_unused_119 : decode cX0_unused 119 = .ok (.goto (-51), 3) := dk_167 255 205 (dk_at dksX0_unused_5 3 rfl rfl)
theorem dX0_unused_122 : decode cX0_unused 122 = .ok (.aload_n 0, 1) := dk_42 (dk_at dksX0_unused_5 6 rfl rfl)
theorem dX0_unused_123 : decode cX0_unused 123 = .ok (.iconst 0, 1) := dk_3 (dk_at dksX0_unused_5 7 rfl rfl)
theorem dX0_unused_124 : decode cX0_unused 124 = .ok (.putfield 254, 3) := dk_181 0 254 (dk_at dksX0_unused_5 8 rfl rfl)
theorem dX0_unused_127 : decode cX0_unused 127 = .ok (.iconst 0, 1) := dk_3 (dk_at dksX0_unused_5 11 rfl rfl)
theorem dX0_unused_128 : decode cX0_unused 128 = .ok (.istore_n 3, 1) := dk_62 (dk_at dksX0_unused_5 12 rfl rfl)
theorem dX0_unused_129 : decode cX0_unused 129 = .ok (.iload_n 3, 1) := dk_29 (dk_at dksX0_unused_5 13 rfl rfl)
theorem dX0_unused_130 : decode cX0_unused 130 = .ok (.aload_n 0, 1) := dk_42 (dk_at dksX0_unused_5 14 rfl rfl)
theorem dX0_unused_131 : decode cX0_unused 131 = .ok (.getfield 83, 3) := dk_180 0 83 (dk_at dksX0_unused_5 15 rfl rfl)
theorem dX0_unused_134 : decode cX0_unused 134 = .ok (.if_icmp .ge 47, 3) := dk_162 0 47 (dk_at dksX0_unused_5 18 rfl rfl)
theorem dX0_unused_137 : decode cX0_unused 137 = .ok (.aload_n 0, 1) := dk_42 (dk_at dksX0_unused_5 21 rfl rfl)
theorem dX0_unused_138 : decode cX0_unused 138 = .ok (.getfield 35, 3) := dk_180 0 35 (dk_at dksX0_unused_6 0 rfl rfl)
theorem dX0_unused_141 : decode cX0_unused 141 = .ok (.iload_n 3, 1) := dk_29 (dk_at dksX0_unused_6 3 rfl rfl)
theorem dX0_unused_142 : decode cX0_unused 142 = .ok (.aaload, 1) := dk_50 (dk_at dksX0_unused_6 4 rfl rfl)
theorem dX0_unused_143 : decode cX0_unused 143 = .ok (.ifnull 32, 3) := dk_198 0 32 (dk_at dksX0_unused_6 5 rfl rfl)
theorem dX0_unused_146 : decode cX0_unused 146 = .ok (.aload_n 2, 1) := dk_44 (dk_at dksX0_unused_6 8 rfl rfl)
theorem dX0_unused_147 : decode cX0_unused 147 = .ok (.iload_n 3, 1) := dk_29 (dk_at dksX0_unused_6 9 rfl rfl)
theorem dX0_unused_148 : decode cX0_unused 148 = .ok (.baload, 1) := dk_51 (dk_at dksX0_unused_6 10 rfl rfl)
theorem dX0_unused_149 : decode cX0_unused 149 = .ok (.ifCond .eq 6, 3) := dk_153 0 6 (dk_at dksX0_unused_6 11 rfl rfl)
theorem dX0_unused_152 : decode cX0_unused 152 = .ok (.goto 23, 3) := dk_167 0 23 (dk_at dksX0_unused_6 14 rfl rfl)
theorem dX0_unused_155 : decode cX0_unused 155 = .ok (.aload_n 0, 1) := dk_42 (dk_at dksX0_unused_6 17 rfl rfl)
theorem dX0_unused_156 : decode cX0_unused 156 = .ok (.getfield 47, 3) := dk_180 0 47 (dk_at dksX0_unused_6 18 rfl rfl)
theorem dX0_unused_159 : decode cX0_unused 159 = .ok (.aload_n 0, 1) := dk_42 (dk_at dksX0_unused_6 21 rfl rfl)
theorem dX0_unused_160 : decode cX0_unused 160 = .ok (.getfield 254, 3) := dk_180 0 254 (dk_at dksX0_unused_7 0 rfl rfl)
theorem dX0_unused_163 : decode cX0_unused 163 = .ok (.iload_n 3, 1) := dk_29 (dk_at dksX0_unused_7 3 rfl rfl)
theorem dX0_unused_164 : decode cX0_unused 164 = .ok (.iastore, 1) := dk_79 (dk_at dksX0_unused_7 4 rfl rfl)
theorem dX0_unused_165 : decode cX0_unused 165 = .ok (.aload_n 0, 1) := dk_42 (dk_at dksX0_unused_7 5 rfl rfl)
theorem dX0_unused_166 : decode cX0_unused 166 = .ok (.dup, 1) := dk_89 (dk_at dksX0_unused_7 6 rfl rfl)
theorem dX0_unused_167 : decode cX0_unused 167 = .ok (.getfield 254, 3) := dk_180 0 254 (dk_at dksX0_unused_7 7 rfl rfl)
theorem dX0_unused_170 : decode cX0_unused 170 = .ok (.iconst 1, 1) := dk_4 (dk_at dksX0_unused_7 10 rfl rfl)
theorem dX0_unused_171 : decode cX0_unused 171 = .ok (.iadd, 1) := dk_96 (dk_at dksX0_unused_7 11 rfl rfl)
theorem dX0_unused_172 : decode cX0_unused 172 = .ok (.putfield 254, 3) := dk_181 0 254 (dk_at dksX0_unused_7 12 rfl rfl)
theorem dX0_unused_175 : decode cX0_unused 175 = .ok (.iinc 3 1, 3) := dk_132 3 1 (dk_at dksX0_unused_7 15 rfl rfl)
theorem dX0_unused_178 : decode cX0_unused 178 = .ok (.goto (-49), 3) := dk_167 255 207 (dk_at dksX0_unused_7 18 rfl rfl)
theorem dX0_unused_181 : decode cX0_unused 181 = .ok (.aload_n 0, 1) := dk_42 (dk_at dksX0_unused_7 21 rfl rfl)
theorem dX0_unused_182 : decode cX0_unused 182 = .ok (.getfield 254, 3) := dk_180 0 254 (dk_at dksX0_unused_8 0 rfl rfl)
theorem dX0_unused_185 : decode cX0_unused 185 = .ok (.ireturn, 1) := dk_172 (dk_at dksX0_unused_8 3 rfl rfl)
abbrev cX0_alike : ByteArray := prog_1_method_47_code
def yX0_alike : MethodName := ⟨RX0, "alike", "(II)I"⟩
def dkwX0_alike_3 : List UInt8 := [153, 0, 7, 4, 167, 0, 4, 3, 172]
abbrev dktX0_alike_3 : List UInt8 := dkwX0_alike_3 ++ []
def dkwX0_alike_2 : List UInt8 := [172, 42, 180, 0, 35, 27, 50, 180, 1, 62, 42, 180, 0, 35, 28, 50, 180, 1, 62, 182, 0, 11]
abbrev dktX0_alike_2 : List UInt8 := dkwX0_alike_2 ++ dktX0_alike_3
def dkwX0_alike_1 : List UInt8 := [180, 0, 35, 27, 50, 182, 0, 142, 153, 0, 15, 42, 180, 0, 35, 28, 50, 182, 0, 142, 154, 0, 5, 2]
abbrev dktX0_alike_1 : List UInt8 := dkwX0_alike_1 ++ dktX0_alike_2
def dkwX0_alike_0 : List UInt8 := [42, 27, 182, 0, 234, 198, 0, 40, 42, 28, 182, 0, 234, 198, 0, 32, 27, 28, 159, 0, 27, 42]
abbrev dktX0_alike_0 : List UInt8 := dkwX0_alike_0 ++ dktX0_alike_1
theorem dksX0_alike_0 : cX0_alike.data.toList.drop 0 = dktX0_alike_0 := by decide +kernel
theorem dksX0_alike_1 : cX0_alike.data.toList.drop 22 = dktX0_alike_1 := dk_seg dksX0_alike_0 22 rfl rfl
theorem dksX0_alike_2 : cX0_alike.data.toList.drop 46 = dktX0_alike_2 := dk_seg dksX0_alike_1 24 rfl rfl
theorem dksX0_alike_3 : cX0_alike.data.toList.drop 68 = dktX0_alike_3 := dk_seg dksX0_alike_2 22 rfl rfl
theorem dX0_alike_0 : decode cX0_alike 0 = .ok (.aload_n 0, 1) := dk_42 (dk_at dksX0_alike_0 0 rfl rfl)
theorem dX0_alike_1 : decode cX0_alike 1 = .ok (.iload_n 1, 1) := dk_27 (dk_at dksX0_alike_0 1 rfl rfl)
theorem dX0_alike_2 : decode cX0_alike 2 = .ok (.invokevirtual 234, 3) := dk_182 0 234 (dk_at dksX0_alike_0 2 rfl rfl)
theorem dX0_alike_5 : decode cX0_alike 5 = .ok (.ifnull 40, 3) := dk_198 0 40 (dk_at dksX0_alike_0 5 rfl rfl)
theorem dX0_alike_8 : decode cX0_alike 8 = .ok (.aload_n 0, 1) := dk_42 (dk_at dksX0_alike_0 8 rfl rfl)
theorem dX0_alike_9 : decode cX0_alike 9 = .ok (.iload_n 2, 1) := dk_28 (dk_at dksX0_alike_0 9 rfl rfl)
theorem dX0_alike_10 : decode cX0_alike 10 = .ok (.invokevirtual 234, 3) := dk_182 0 234 (dk_at dksX0_alike_0 10 rfl rfl)
theorem dX0_alike_13 : decode cX0_alike 13 = .ok (.ifnull 32, 3) := dk_198 0 32 (dk_at dksX0_alike_0 13 rfl rfl)
theorem dX0_alike_16 : decode cX0_alike 16 = .ok (.iload_n 1, 1) := dk_27 (dk_at dksX0_alike_0 16 rfl rfl)
theorem dX0_alike_17 : decode cX0_alike 17 = .ok (.iload_n 2, 1) := dk_28 (dk_at dksX0_alike_0 17 rfl rfl)
theorem dX0_alike_18 : decode cX0_alike 18 = .ok (.if_icmp .eq 27, 3) := dk_159 0 27 (dk_at dksX0_alike_0 18 rfl rfl)
theorem dX0_alike_21 : decode cX0_alike 21 = .ok (.aload_n 0, 1) := dk_42 (dk_at dksX0_alike_0 21 rfl rfl)
theorem dX0_alike_22 : decode cX0_alike 22 = .ok (.getfield 35, 3) := dk_180 0 35 (dk_at dksX0_alike_1 0 rfl rfl)
theorem dX0_alike_25 : decode cX0_alike 25 = .ok (.iload_n 1, 1) := dk_27 (dk_at dksX0_alike_1 3 rfl rfl)
theorem dX0_alike_26 : decode cX0_alike 26 = .ok (.aaload, 1) := dk_50 (dk_at dksX0_alike_1 4 rfl rfl)
theorem dX0_alike_27 : decode cX0_alike 27 = .ok (.invokevirtual 142, 3) := dk_182 0 142 (dk_at dksX0_alike_1 5 rfl rfl)
theorem dX0_alike_30 : decode cX0_alike 30 = .ok (.ifCond .eq 15, 3) := dk_153 0 15 (dk_at dksX0_alike_1 8 rfl rfl)
theorem dX0_alike_33 : decode cX0_alike 33 = .ok (.aload_n 0, 1) := dk_42 (dk_at dksX0_alike_1 11 rfl rfl)
theorem dX0_alike_34 : decode cX0_alike 34 = .ok (.getfield 35, 3) := dk_180 0 35 (dk_at dksX0_alike_1 12 rfl rfl)
theorem dX0_alike_37 : decode cX0_alike 37 = .ok (.iload_n 2, 1) := dk_28 (dk_at dksX0_alike_1 15 rfl rfl)
theorem dX0_alike_38 : decode cX0_alike 38 = .ok (.aaload, 1) := dk_50 (dk_at dksX0_alike_1 16 rfl rfl)
theorem dX0_alike_39 : decode cX0_alike 39 = .ok (.invokevirtual 142, 3) := dk_182 0 142 (dk_at dksX0_alike_1 17 rfl rfl)
theorem dX0_alike_42 : decode cX0_alike 42 = .ok (.ifCond .ne 5, 3) := dk_154 0 5 (dk_at dksX0_alike_1 20 rfl rfl)
theorem dX0_alike_45 : decode cX0_alike 45 = .ok (.iconst (-1), 1) := dk_2 (dk_at dksX0_alike_1 23 rfl rfl)
theorem dX0_alike_46 : decode cX0_alike 46 = .ok (.ireturn, 1) := dk_172 (dk_at dksX0_alike_2 0 rfl rfl)
theorem dX0_alike_47 : decode cX0_alike 47 = .ok (.aload_n 0, 1) := dk_42 (dk_at dksX0_alike_2 1 rfl rfl)
theorem dX0_alike_48 : decode cX0_alike 48 = .ok (.getfield 35, 3) := dk_180 0 35 (dk_at dksX0_alike_2 2 rfl rfl)
theorem dX0_alike_51 : decode cX0_alike 51 = .ok (.iload_n 1, 1) := dk_27 (dk_at dksX0_alike_2 5 rfl rfl)
theorem dX0_alike_52 : decode cX0_alike 52 = .ok (.aaload, 1) := dk_50 (dk_at dksX0_alike_2 6 rfl rfl)
theorem dX0_alike_53 : decode cX0_alike 53 = .ok (.getfield 318, 3) := dk_180 1 62 (dk_at dksX0_alike_2 7 rfl rfl)
theorem dX0_alike_56 : decode cX0_alike 56 = .ok (.aload_n 0, 1) := dk_42 (dk_at dksX0_alike_2 10 rfl rfl)
theorem dX0_alike_57 : decode cX0_alike 57 = .ok (.getfield 35, 3) := dk_180 0 35 (dk_at dksX0_alike_2 11 rfl rfl)
theorem dX0_alike_60 : decode cX0_alike 60 = .ok (.iload_n 2, 1) := dk_28 (dk_at dksX0_alike_2 14 rfl rfl)
theorem dX0_alike_61 : decode cX0_alike 61 = .ok (.aaload, 1) := dk_50 (dk_at dksX0_alike_2 15 rfl rfl)
theorem dX0_alike_62 : decode cX0_alike 62 = .ok (.getfield 318, 3) := dk_180 1 62 (dk_at dksX0_alike_2 16 rfl rfl)
theorem dX0_alike_65 : decode cX0_alike 65 = .ok (.invokevirtual 11, 3) := dk_182 0 11 (dk_at dksX0_alike_2 19 rfl rfl)
theorem dX0_alike_68 : decode cX0_alike 68 = .ok (.ifCond .eq 7, 3) := dk_153 0 7 (dk_at dksX0_alike_3 0 rfl rfl)
theorem dX0_alike_71 : decode cX0_alike 71 = .ok (.iconst 1, 1) := dk_4 (dk_at dksX0_alike_3 3 rfl rfl)
theorem dX0_alike_72 : decode cX0_alike 72 = .ok (.goto 4, 3) := dk_167 0 4 (dk_at dksX0_alike_3 4 rfl rfl)
theorem dX0_alike_75 : decode cX0_alike 75 = .ok (.iconst 0, 1) := dk_3 (dk_at dksX0_alike_3 7 rfl rfl)
theorem dX0_alike_76 : decode cX0_alike 76 = .ok (.ireturn, 1) := dk_172 (dk_at dksX0_alike_3 8 rfl rfl)
theorem q81 : (Jvm.Cond.initialized "TableCatalog") ∈ lw_all := lw_g (lw_at lw_m1 1 rfl) rfl
theorem q110 : (Jvm.Cond.instantiable "TableCatalog" (15 : Nat)) ∈ lw_all := lw_g (lw_at lw_m1 30 rfl) rfl
theorem q112 : (Jvm.Cond.instanceMethod ({ cls := "TableCatalog", name := "<init>", desc := "()V" } : Jvm.MethodName)) ∈ lw_all := lw_g (lw_at lw_m1 32 rfl) rfl
theorem q113 : (Jvm.Cond.code ({ cls := "TableCatalog", name := "<init>", desc := "()V" } : Jvm.MethodName) prog_1_method_4_code (1 : Nat) (Option.none : Option Jvm.ClassFile.FieldType)) ∈ lw_all := lw_g (lw_at lw_m1 33 rfl) rfl
theorem q114 : (Jvm.Cond.methodLink "TableCatalog" (27 : Nat) ({ cls := "java/lang/Object", name := "<init>", desc := "()V" } : Jvm.MethodName)) ∈ lw_all := lw_g (lw_at lw_m1 34 rfl) rfl
theorem q117 : (Jvm.Cond.classLink "TableCatalog" (33 : Nat) "TableCatalog$Table") ∈ lw_all := lw_g (lw_at lw_m1 37 rfl) rfl
theorem q119 : (Jvm.Cond.classLink "TableCatalog" (51 : Nat) "[[I") ∈ lw_all := lw_g (lw_at lw_m1 39 rfl) rfl
theorem q121 : (Jvm.Cond.classLink "TableCatalog" (56 : Nat) "TableCatalog$Reader") ∈ lw_all := lw_g (lw_at lw_m1 41 rfl) rfl
theorem q123 : (Jvm.Cond.methodLinkNest "TableCatalog" (58 : Nat) ({ cls := "TableCatalog$Reader", name := "<init>", desc := "(LTableCatalog;)V" } : Jvm.MethodName) "TableCatalog") ∈ lw_tbl := lw_at lw_m1 43 rfl
theorem q179 : (Jvm.Cond.fieldLinkNest "TableCatalog" (218 : Nat) "TableCatalog$Fault" "kind" "I" "TableCatalog") ∈ lw_tbl := lw_at lw_m1 99 rfl
theorem q181 : (Jvm.Cond.fieldLinkNest "TableCatalog" (219 : Nat) "TableCatalog$Fault" "place" "I" "TableCatalog") ∈ lw_tbl := lw_at lw_m1 101 rfl
theorem q229 : (Jvm.Cond.fieldLinkNest "TableCatalog" (220 : Nat) "TableCatalog$Reader" "text" "[B" "TableCatalog") ∈ lw_tbl := lw_at lw_m1 149 rfl
theorem q231 : (Jvm.Cond.fieldLinkNest "TableCatalog" (223 : Nat) "TableCatalog$Reader" "size" "I" "TableCatalog") ∈ lw_tbl := lw_at lw_m1 151 rfl
theorem q233 : (Jvm.Cond.fieldLinkNest "TableCatalog" (225 : Nat) "TableCatalog$Reader" "at" "I" "TableCatalog") ∈ lw_tbl := lw_at lw_m1 153 rfl
theorem q238 : (Jvm.Cond.fieldLinkNest "TableCatalog" (133 : Nat) "TableCatalog$Reader" "parts" "Ljava/util/ArrayList;" "TableCatalog") ∈ lw_tbl := lw_at lw_m1 158 rfl
theorem q240 : (Jvm.Cond.fieldLinkNest "TableCatalog" (123 : Nat) "TableCatalog$Reader" "froms" "Ljava/util/ArrayList;" "TableCatalog") ∈ lw_tbl := lw_at lw_m1 160 rfl
theorem q242 : (Jvm.Cond.fieldLinkNest "TableCatalog" (128 : Nat) "TableCatalog$Reader" "fromPlaces" "[I" "TableCatalog") ∈ lw_tbl := lw_at lw_m1 162 rfl
theorem q244 : (Jvm.Cond.fieldLinkNest "TableCatalog" (120 : Nat) "TableCatalog$Reader" "columnPlaces" "[I" "TableCatalog") ∈ lw_tbl := lw_at lw_m1 164 rfl
theorem q246 : (Jvm.Cond.fieldLinkNest "TableCatalog" (94 : Nat) "TableCatalog$Reader" "namePlace" "I" "TableCatalog") ∈ lw_tbl := lw_at lw_m1 166 rfl
theorem q283 : (Jvm.Cond.fieldLink "TableCatalog" (35 : Nat) "TableCatalog" "tables" "[LTableCatalog$Table;") ∈ lw_all := lw_g (lw_at lw_m1 203 rfl) rfl
theorem q284 : (Jvm.Cond.fieldLink "TableCatalog" (83 : Nat) "TableCatalog" "many" "I") ∈ lw_all := lw_g (lw_at lw_m1 204 rfl) rfl
theorem q285 : (Jvm.Cond.fieldLink "TableCatalog" (306 : Nat) "TableCatalog" "today" "I") ∈ lw_all := lw_g (lw_at lw_m1 205 rfl) rfl
theorem q286 : (Jvm.Cond.fieldLink "TableCatalog" (282 : Nat) "TableCatalog" "asks" "I") ∈ lw_all := lw_g (lw_at lw_m1 206 rfl) rfl
theorem q287 : (Jvm.Cond.fieldLink "TableCatalog" (254 : Nat) "TableCatalog" "founds" "I") ∈ lw_all := lw_g (lw_at lw_m1 207 rfl) rfl
theorem q288 : (Jvm.Cond.fieldLink "TableCatalog" (197 : Nat) "TableCatalog" "faultKind" "I") ∈ lw_all := lw_g (lw_at lw_m1 208 rfl) rfl
theorem q289 : (Jvm.Cond.fieldLink "TableCatalog" (39 : Nat) "TableCatalog" "faultPlace" "I") ∈ lw_all := lw_g (lw_at lw_m1 209 rfl) rfl
theorem q290 : (Jvm.Cond.fieldLink "TableCatalog" (76 : Nat) "TableCatalog" "taped" "I") ∈ lw_all := lw_g (lw_at lw_m1 210 rfl) rfl
theorem q291 : (Jvm.Cond.fieldLink "TableCatalog" (43 : Nat) "TableCatalog" "tape" "[B") ∈ lw_all := lw_g (lw_at lw_m1 211 rfl) rfl
theorem q292 : (Jvm.Cond.fieldLink "TableCatalog" (47 : Nat) "TableCatalog" "found" "[I") ∈ lw_all := lw_g (lw_at lw_m1 212 rfl) rfl
theorem q293 : (Jvm.Cond.fieldLink "TableCatalog" (53 : Nat) "TableCatalog" "asked" "[[I") ∈ lw_all := lw_g (lw_at lw_m1 213 rfl) rfl
theorem q294 : (Jvm.Cond.fieldLink "TableCatalog" (61 : Nat) "TableCatalog" "reader" "LTableCatalog$Reader;") ∈ lw_all := lw_g (lw_at lw_m1 214 rfl) rfl
theorem q295 : (Jvm.Cond.fieldLink "TableCatalog" (65 : Nat) "TableCatalog" "mark" "[Z") ∈ lw_all := lw_g (lw_at lw_m1 215 rfl) rfl
theorem q296 : (Jvm.Cond.fieldLink "TableCatalog" (69 : Nat) "TableCatalog" "step" "[Z") ∈ lw_all := lw_g (lw_at lw_m1 216 rfl) rfl
theorem q297 : (Jvm.Cond.fieldLink "TableCatalog" (72 : Nat) "TableCatalog" "before" "[C") ∈ lw_all := lw_g (lw_at lw_m1 217 rfl) rfl
theorem q298 : (Jvm.Cond.laysFinal "TableCatalog" "TableCatalog" "tables" "[LTableCatalog$Table;") ∈ lw_all := lw_g (lw_at lw_m1 218 rfl) rfl
theorem q299 : (Jvm.Cond.soleField "TableCatalog" "tables") ∈ lw_all := lw_g (lw_at lw_m1 219 rfl) rfl
theorem q300 : (Jvm.Cond.lays "TableCatalog" "TableCatalog" "many" "I") ∈ lw_all := lw_g (lw_at lw_m1 220 rfl) rfl
theorem q301 : (Jvm.Cond.soleField "TableCatalog" "many") ∈ lw_all := lw_g (lw_at lw_m1 221 rfl) rfl
theorem q302 : (Jvm.Cond.lays "TableCatalog" "TableCatalog" "today" "I") ∈ lw_all := lw_g (lw_at lw_m1 222 rfl) rfl
theorem q303 : (Jvm.Cond.soleField "TableCatalog" "today") ∈ lw_all := lw_g (lw_at lw_m1 223 rfl) rfl
theorem q304 : (Jvm.Cond.lays "TableCatalog" "TableCatalog" "asks" "I") ∈ lw_all := lw_g (lw_at lw_m1 224 rfl) rfl
theorem q305 : (Jvm.Cond.soleField "TableCatalog" "asks") ∈ lw_all := lw_g (lw_at lw_m1 225 rfl) rfl
theorem q306 : (Jvm.Cond.lays "TableCatalog" "TableCatalog" "founds" "I") ∈ lw_all := lw_g (lw_at lw_m1 226 rfl) rfl
theorem q307 : (Jvm.Cond.soleField "TableCatalog" "founds") ∈ lw_all := lw_g (lw_at lw_m1 227 rfl) rfl
theorem q308 : (Jvm.Cond.lays "TableCatalog" "TableCatalog" "faultKind" "I") ∈ lw_all := lw_g (lw_at lw_m1 228 rfl) rfl
theorem q309 : (Jvm.Cond.soleField "TableCatalog" "faultKind") ∈ lw_all := lw_g (lw_at lw_m1 229 rfl) rfl
theorem q310 : (Jvm.Cond.lays "TableCatalog" "TableCatalog" "faultPlace" "I") ∈ lw_all := lw_g (lw_at lw_m1 230 rfl) rfl
theorem q311 : (Jvm.Cond.soleField "TableCatalog" "faultPlace") ∈ lw_all := lw_g (lw_at lw_m1 231 rfl) rfl
theorem q312 : (Jvm.Cond.lays "TableCatalog" "TableCatalog" "taped" "I") ∈ lw_all := lw_g (lw_at lw_m1 232 rfl) rfl
theorem q313 : (Jvm.Cond.soleField "TableCatalog" "taped") ∈ lw_all := lw_g (lw_at lw_m1 233 rfl) rfl
theorem q314 : (Jvm.Cond.laysFinal "TableCatalog" "TableCatalog" "tape" "[B") ∈ lw_all := lw_g (lw_at lw_m1 234 rfl) rfl
theorem q315 : (Jvm.Cond.soleField "TableCatalog" "tape") ∈ lw_all := lw_g (lw_at lw_m1 235 rfl) rfl
theorem q316 : (Jvm.Cond.laysFinal "TableCatalog" "TableCatalog" "found" "[I") ∈ lw_all := lw_g (lw_at lw_m1 236 rfl) rfl
theorem q317 : (Jvm.Cond.soleField "TableCatalog" "found") ∈ lw_all := lw_g (lw_at lw_m1 237 rfl) rfl
theorem q318 : (Jvm.Cond.laysFinal "TableCatalog" "TableCatalog" "asked" "[[I") ∈ lw_all := lw_g (lw_at lw_m1 238 rfl) rfl
theorem q319 : (Jvm.Cond.soleField "TableCatalog" "asked") ∈ lw_all := lw_g (lw_at lw_m1 239 rfl) rfl
theorem q320 : (Jvm.Cond.laysFinal "TableCatalog" "TableCatalog" "reader" "LTableCatalog$Reader;") ∈ lw_all := lw_g (lw_at lw_m2 0 rfl) rfl
theorem q321 : (Jvm.Cond.soleField "TableCatalog" "reader") ∈ lw_all := lw_g (lw_at lw_m2 1 rfl) rfl
theorem q322 : (Jvm.Cond.laysFinal "TableCatalog" "TableCatalog" "mark" "[Z") ∈ lw_all := lw_g (lw_at lw_m2 2 rfl) rfl
theorem q323 : (Jvm.Cond.soleField "TableCatalog" "mark") ∈ lw_all := lw_g (lw_at lw_m2 3 rfl) rfl
theorem q324 : (Jvm.Cond.laysFinal "TableCatalog" "TableCatalog" "step" "[Z") ∈ lw_all := lw_g (lw_at lw_m2 4 rfl) rfl
theorem q325 : (Jvm.Cond.soleField "TableCatalog" "step") ∈ lw_all := lw_g (lw_at lw_m2 5 rfl) rfl
theorem q326 : (Jvm.Cond.laysFinal "TableCatalog" "TableCatalog" "before" "[C") ∈ lw_all := lw_g (lw_at lw_m2 6 rfl) rfl
theorem q327 : (Jvm.Cond.soleField "TableCatalog" "before") ∈ lw_all := lw_g (lw_at lw_m2 7 rfl) rfl
theorem q328 : (Jvm.Cond.superclass "TableCatalog" "java/lang/Object") ∈ lw_all := lw_g (lw_at lw_m2 8 rfl) rfl
theorem q331 : (Jvm.Cond.instanceMethod ({ cls := "TableCatalog", name := "feed", desc := "(IIIII)I" } : Jvm.MethodName)) ∈ lw_all := lw_g (lw_at lw_m2 11 rfl) rfl
theorem q332 : (Jvm.Cond.selects "TableCatalog" ({ cls := "TableCatalog", name := "feed", desc := "(IIIII)I" } : Jvm.MethodName) ({ cls := "TableCatalog", name := "feed", desc := "(IIIII)I" } : Jvm.MethodName)) ∈ lw_all := lw_g (lw_at lw_m2 12 rfl) rfl
theorem q333 : (Jvm.Cond.code ({ cls := "TableCatalog", name := "feed", desc := "(IIIII)I" } : Jvm.MethodName) prog_1_method_6_code (6 : Nat) (Option.some Jvm.ClassFile.FieldType.int)) ∈ lw_all := lw_g (lw_at lw_m2 13 rfl) rfl
theorem q334 : (Jvm.Cond.methodLink "TableCatalog" (79 : Nat) ({ cls := "TableCatalog", name := "put", desc := "(I)V" } : Jvm.MethodName)) ∈ lw_all := lw_g (lw_at lw_m2 14 rfl) rfl
theorem q335 : (Jvm.Cond.privateMethod ({ cls := "TableCatalog", name := "put", desc := "(I)V" } : Jvm.MethodName)) ∈ lw_tbl := lw_at lw_m2 15 rfl
theorem q336 : (Jvm.Cond.instanceMethod ({ cls := "TableCatalog", name := "put", desc := "(I)V" } : Jvm.MethodName)) ∈ lw_all := lw_g (lw_at lw_m2 16 rfl) rfl
theorem q337 : (Jvm.Cond.code ({ cls := "TableCatalog", name := "put", desc := "(I)V" } : Jvm.MethodName) prog_1_method_5_code (3 : Nat) (Option.none : Option Jvm.ClassFile.FieldType)) ∈ lw_all := lw_g (lw_at lw_m2 17 rfl) rfl
theorem q339 : (Jvm.Cond.instanceMethod ({ cls := "TableCatalog", name := "end", desc := "(I)Z" } : Jvm.MethodName)) ∈ lw_all := lw_g (lw_at lw_m2 19 rfl) rfl
theorem q340 : (Jvm.Cond.selects "TableCatalog" ({ cls := "TableCatalog", name := "end", desc := "(I)Z" } : Jvm.MethodName) ({ cls := "TableCatalog", name := "end", desc := "(I)Z" } : Jvm.MethodName)) ∈ lw_all := lw_g (lw_at lw_m2 20 rfl) rfl
theorem q341 : (Jvm.Cond.code ({ cls := "TableCatalog", name := "end", desc := "(I)Z" } : Jvm.MethodName) prog_1_method_7_code (2 : Nat) (Option.some Jvm.ClassFile.FieldType.boolean)) ∈ lw_all := lw_g (lw_at lw_m2 21 rfl) rfl
theorem q343 : (Jvm.Cond.instanceMethod ({ cls := "TableCatalog", name := "act", desc := "()I" } : Jvm.MethodName)) ∈ lw_all := lw_g (lw_at lw_m2 23 rfl) rfl
theorem q344 : (Jvm.Cond.selects "TableCatalog" ({ cls := "TableCatalog", name := "act", desc := "()I" } : Jvm.MethodName) ({ cls := "TableCatalog", name := "act", desc := "()I" } : Jvm.MethodName)) ∈ lw_all := lw_g (lw_at lw_m2 24 rfl) rfl
theorem q345 : (Jvm.Cond.codeWith ({ cls := "TableCatalog", name := "act", desc := "()I" } : Jvm.MethodName) prog_1_method_13_code (4 : Nat) (Option.some Jvm.ClassFile.FieldType.int) [((20 : Nat), (119 : Nat), (120 : Nat), (216 : Nat))]) ∈ lw_all := lw_g (lw_at lw_m2 25 rfl) rfl
theorem q346 : (Jvm.Cond.classLink "TableCatalog" (216 : Nat) "TableCatalog$Fault") ∈ lw_all := lw_g (lw_at lw_m2 26 rfl) rfl
theorem q347 : (Jvm.Cond.methodLink "TableCatalog" (200 : Nat) ({ cls := "TableCatalog$Reader", name := "all", desc := "([BI)LTableCatalog$Table;" } : Jvm.MethodName)) ∈ lw_all := lw_g (lw_at lw_m2 27 rfl) rfl
theorem q365 : (Jvm.Cond.static ({ cls := "TableCatalog", name := "isLetter", desc := "(I)Z" } : Jvm.MethodName)) ∈ lw_all := lw_g (lw_at lw_m2 45 rfl) rfl
theorem q366 : (Jvm.Cond.code ({ cls := "TableCatalog", name := "isLetter", desc := "(I)Z" } : Jvm.MethodName) prog_1_method_1_code (1 : Nat) (Option.some Jvm.ClassFile.FieldType.boolean)) ∈ lw_all := lw_g (lw_at lw_m2 46 rfl) rfl
theorem q474 : (Jvm.Cond.static ({ cls := "TableCatalog", name := "isWord", desc := "(Ljava/lang/String;)Z" } : Jvm.MethodName)) ∈ lw_all := lw_g (lw_at lw_m2 154 rfl) rfl
theorem q475 : (Jvm.Cond.code ({ cls := "TableCatalog", name := "isWord", desc := "(Ljava/lang/String;)Z" } : Jvm.MethodName) prog_1_method_3_code (3 : Nat) (Option.some Jvm.ClassFile.FieldType.boolean)) ∈ lw_all := lw_g (lw_at lw_m2 155 rfl) rfl
theorem q476 : (Jvm.Cond.methodLink "TableCatalog" (3 : Nat) ({ cls := "java/lang/String", name := "hashCode", desc := "()I" } : Jvm.MethodName)) ∈ lw_all := lw_g (lw_at lw_m2 156 rfl) rfl
theorem q529 : (Jvm.Cond.stringRef "TableCatalog" (9 : Nat) "view") ∈ lw_tbl := lw_at lw_m2 209 rfl
theorem q530 : (Jvm.Cond.methodLink "TableCatalog" (11 : Nat) ({ cls := "java/lang/String", name := "equals", desc := "(Ljava/lang/Object;)Z" } : Jvm.MethodName)) ∈ lw_all := lw_g (lw_at lw_m2 210 rfl) rfl
theorem q531 : (Jvm.Cond.stringRef "TableCatalog" (15 : Nat) "copy") ∈ lw_tbl := lw_at lw_m2 211 rfl
theorem q532 : (Jvm.Cond.stringRef "TableCatalog" (17 : Nat) "table") ∈ lw_tbl := lw_at lw_m2 212 rfl
theorem q533 : (Jvm.Cond.stringRef "TableCatalog" (19 : Nat) "from") ∈ lw_tbl := lw_at lw_m2 213 rfl
theorem q534 : (Jvm.Cond.stringRef "TableCatalog" (21 : Nat) "where") ∈ lw_tbl := lw_at lw_m2 214 rfl
theorem q535 : (Jvm.Cond.stringRef "TableCatalog" (23 : Nat) "len") ∈ lw_tbl := lw_at lw_m2 215 rfl
theorem q536 : (Jvm.Cond.stringRef "TableCatalog" (25 : Nat) "str") ∈ lw_tbl := lw_at lw_m2 216 rfl
theorem q553 : (Jvm.Cond.fieldLinkNest "TableCatalog" (86 : Nat) "TableCatalog$Table" "name" "Ljava/lang/String;" "TableCatalog") ∈ lw_tbl := lw_at lw_m2 233 rfl
theorem q555 : (Jvm.Cond.fieldLinkNest "TableCatalog" (237 : Nat) "TableCatalog$Table" "is" "I" "TableCatalog") ∈ lw_tbl := lw_at lw_m2 235 rfl
theorem q558 : (Jvm.Cond.fieldLinkNest "TableCatalog" (103 : Nat) "TableCatalog$Table" "columns" "Ljava/util/ArrayList;" "TableCatalog") ∈ lw_tbl := lw_at lw_m2 238 rfl
theorem q560 : (Jvm.Cond.fieldLinkNest "TableCatalog" (146 : Nat) "TableCatalog$Table" "formulas" "Ljava/util/ArrayList;" "TableCatalog") ∈ lw_tbl := lw_at lw_m3 0 rfl
theorem q564 : (Jvm.Cond.fieldLinkNest "TableCatalog" (149 : Nat) "TableCatalog$Table" "types" "[C" "TableCatalog") ∈ lw_tbl := lw_at lw_m3 4 rfl
theorem q567 : (Jvm.Cond.fieldLinkNest "TableCatalog" (126 : Nat) "TableCatalog$Table" "from" "[I" "TableCatalog") ∈ lw_tbl := lw_at lw_m3 7 rfl
theorem q568 : (Jvm.Cond.fieldLinkNest "TableCatalog" (131 : Nat) "TableCatalog$Table" "froms" "I" "TableCatalog") ∈ lw_tbl := lw_at lw_m3 8 rfl
theorem q569 : (Jvm.Cond.fieldLinkNest "TableCatalog" (158 : Nat) "TableCatalog$Table" "left" "LTableCatalog$Formula;" "TableCatalog") ∈ lw_tbl := lw_at lw_m3 9 rfl
theorem q571 : (Jvm.Cond.fieldLinkNest "TableCatalog" (162 : Nat) "TableCatalog$Table" "right" "LTableCatalog$Formula;" "TableCatalog") ∈ lw_tbl := lw_at lw_m3 11 rfl
theorem q573 : (Jvm.Cond.fieldLinkNest "TableCatalog" (165 : Nat) "TableCatalog$Table" "sign" "I" "TableCatalog") ∈ lw_tbl := lw_at lw_m3 13 rfl
theorem q577 : (Jvm.Cond.fieldLinkNest "TableCatalog" (318 : Nat) "TableCatalog$Table" "text" "Ljava/lang/String;" "TableCatalog") ∈ lw_tbl := lw_at lw_m3 17 rfl
theorem q579 : (Jvm.Cond.fieldLinkNest "TableCatalog" (294 : Nat) "TableCatalog$Table" "oldest" "I" "TableCatalog") ∈ lw_tbl := lw_at lw_m3 19 rfl
theorem q581 : (Jvm.Cond.fieldLinkNest "TableCatalog" (291 : Nat) "TableCatalog$Table" "newest" "I" "TableCatalog") ∈ lw_tbl := lw_at lw_m3 21 rfl
theorem q583 : (Jvm.Cond.fieldLinkNest "TableCatalog" (316 : Nat) "TableCatalog$Table" "owner" "I" "TableCatalog") ∈ lw_tbl := lw_at lw_m3 23 rfl
theorem q585 : (Jvm.Cond.fieldLinkNest "TableCatalog" (247 : Nat) "TableCatalog$Table" "lag" "I" "TableCatalog") ∈ lw_tbl := lw_at lw_m3 25 rfl
theorem q665 : (Jvm.Cond.selects "TableCatalog" ({ cls := "java/lang/Object", name := "getClass", desc := "()Ljava/lang/Class;" } : Jvm.MethodName) ({ cls := "java/lang/Object", name := "getClass", desc := "()Ljava/lang/Class;" } : Jvm.MethodName)) ∈ lw_all := lw_g (lw_at lw_m3 105 rfl) rfl
theorem q762 : (Jvm.Cond.static ({ cls := "TableCatalog", name := "isDigit", desc := "(I)Z" } : Jvm.MethodName)) ∈ lw_all := lw_g (lw_at lw_m3 202 rfl) rfl
theorem q763 : (Jvm.Cond.code ({ cls := "TableCatalog", name := "isDigit", desc := "(I)Z" } : Jvm.MethodName) prog_1_method_2_code (1 : Nat) (Option.some Jvm.ClassFile.FieldType.boolean)) ∈ lw_all := lw_g (lw_at lw_m3 203 rfl) rfl
theorem q781 : (Jvm.Cond.fieldLink "TableCatalog" (185 : Nat) "TableCatalog$Part" "place" "I") ∈ lw_all := lw_g (lw_at lw_m3 221 rfl) rfl
theorem q823 : (Jvm.Cond.fieldLinkNest "TableCatalog" (183 : Nat) "TableCatalog$Part" "table" "Ljava/lang/String;" "TableCatalog") ∈ lw_tbl := lw_at lw_m4 23 rfl
theorem q825 : (Jvm.Cond.fieldLinkNest "TableCatalog" (188 : Nat) "TableCatalog$Part" "column" "Ljava/lang/String;" "TableCatalog") ∈ lw_tbl := lw_at lw_m4 25 rfl
theorem q827 : (Jvm.Cond.fieldLinkNest "TableCatalog" (191 : Nat) "TableCatalog$Part" "columnPlace" "I" "TableCatalog") ∈ lw_tbl := lw_at lw_m4 27 rfl
theorem q829 : (Jvm.Cond.fieldLinkNest "TableCatalog" (194 : Nat) "TableCatalog$Part" "code" "I" "TableCatalog") ∈ lw_tbl := lw_at lw_m4 29 rfl
theorem q857 : (Jvm.Cond.classLink "TableCatalog" (98 : Nat) "TableCatalog$Wrongs") ∈ lw_all := lw_g (lw_at lw_m4 57 rfl) rfl
theorem q859 : (Jvm.Cond.methodLinkNest "TableCatalog" (204 : Nat) ({ cls := "TableCatalog$Wrongs", name := "<init>", desc := "(LTableCatalog;)V" } : Jvm.MethodName) "TableCatalog") ∈ lw_tbl := lw_at lw_m4 59 rfl
theorem q865 : (Jvm.Cond.fieldLinkNest "TableCatalog" (208 : Nat) "TableCatalog$Wrongs" "kind" "I" "TableCatalog") ∈ lw_tbl := lw_at lw_m4 65 rfl
theorem q867 : (Jvm.Cond.fieldLinkNest "TableCatalog" (211 : Nat) "TableCatalog$Wrongs" "place" "I" "TableCatalog") ∈ lw_tbl := lw_at lw_m4 67 rfl
theorem q876 : (Jvm.Cond.methodLink "TableCatalog" (205 : Nat) ({ cls := "TableCatalog", name := "finds", desc := "(LTableCatalog$Table;LTableCatalog$Wrongs;)V" } : Jvm.MethodName)) ∈ lw_all := lw_g (lw_at lw_m4 76 rfl) rfl
theorem q877 : (Jvm.Cond.privateMethod ({ cls := "TableCatalog", name := "finds", desc := "(LTableCatalog$Table;LTableCatalog$Wrongs;)V" } : Jvm.MethodName)) ∈ lw_tbl := lw_at lw_m4 77 rfl
theorem q878 : (Jvm.Cond.instanceMethod ({ cls := "TableCatalog", name := "finds", desc := "(LTableCatalog$Table;LTableCatalog$Wrongs;)V" } : Jvm.MethodName)) ∈ lw_all := lw_g (lw_at lw_m4 78 rfl) rfl
theorem q879 : (Jvm.Cond.code ({ cls := "TableCatalog", name := "finds", desc := "(LTableCatalog$Table;LTableCatalog$Wrongs;)V" } : Jvm.MethodName) prog_1_method_10_code (5 : Nat) (Option.none : Option Jvm.ClassFile.FieldType)) ∈ lw_all := lw_g (lw_at lw_m4 79 rfl) rfl
theorem q880 : (Jvm.Cond.methodLink "TableCatalog" (90 : Nat) ({ cls := "TableCatalog", name := "numberOf", desc := "(Ljava/lang/String;)I" } : Jvm.MethodName)) ∈ lw_all := lw_g (lw_at lw_m4 80 rfl) rfl
theorem q881 : (Jvm.Cond.privateMethod ({ cls := "TableCatalog", name := "numberOf", desc := "(Ljava/lang/String;)I" } : Jvm.MethodName)) ∈ lw_tbl := lw_at lw_m4 81 rfl
theorem q882 : (Jvm.Cond.instanceMethod ({ cls := "TableCatalog", name := "numberOf", desc := "(Ljava/lang/String;)I" } : Jvm.MethodName)) ∈ lw_all := lw_g (lw_at lw_m4 82 rfl) rfl
theorem q883 : (Jvm.Cond.code ({ cls := "TableCatalog", name := "numberOf", desc := "(Ljava/lang/String;)I" } : Jvm.MethodName) prog_1_method_9_code (3 : Nat) (Option.some Jvm.ClassFile.FieldType.int)) ∈ lw_all := lw_g (lw_at lw_m4 83 rfl) rfl
theorem q884 : (Jvm.Cond.methodLink "TableCatalog" (97 : Nat) ({ cls := "TableCatalog$Wrongs", name := "is", desc := "(II)V" } : Jvm.MethodName)) ∈ lw_all := lw_g (lw_at lw_m4 84 rfl) rfl
theorem q888 : (Jvm.Cond.methodLink "TableCatalog" (107 : Nat) ({ cls := "java/util/ArrayList", name := "size", desc := "()I" } : Jvm.MethodName)) ∈ lw_all := lw_g (lw_at lw_m4 88 rfl) rfl
theorem q889 : (Jvm.Cond.methodLink "TableCatalog" (112 : Nat) ({ cls := "java/util/ArrayList", name := "get", desc := "(I)Ljava/lang/Object;" } : Jvm.MethodName)) ∈ lw_all := lw_g (lw_at lw_m4 89 rfl) rfl
theorem q901 : (Jvm.Cond.methodLink "TableCatalog" (116 : Nat) ({ cls := "java/util/ArrayList", name := "indexOf", desc := "(Ljava/lang/Object;)I" } : Jvm.MethodName)) ∈ lw_all := lw_g (lw_at lw_m4 101 rfl) rfl
theorem q913 : (Jvm.Cond.selects "TableCatalog" ({ cls := "java/lang/Object", name := "equals", desc := "(Ljava/lang/Object;)Z" } : Jvm.MethodName) ({ cls := "java/lang/Object", name := "equals", desc := "(Ljava/lang/Object;)Z" } : Jvm.MethodName)) ∈ lw_all := lw_g (lw_at lw_m4 113 rfl) rfl
theorem q927 : (Jvm.Cond.classLink "TableCatalog" (4 : Nat) "java/lang/String") ∈ lw_all := lw_g (lw_at lw_m4 127 rfl) rfl
theorem q928 : (Jvm.Cond.classLink "TableCatalog" (136 : Nat) "TableCatalog$Part") ∈ lw_all := lw_g (lw_at lw_m4 128 rfl) rfl
theorem q929 : (Jvm.Cond.methodLink "TableCatalog" (138 : Nat) ({ cls := "TableCatalog", name := "finds", desc := "(LTableCatalog$Table;LTableCatalog$Part;LTableCatalog$Wrongs;)V" } : Jvm.MethodName)) ∈ lw_all := lw_g (lw_at lw_m4 129 rfl) rfl
theorem q930 : (Jvm.Cond.privateMethod ({ cls := "TableCatalog", name := "finds", desc := "(LTableCatalog$Table;LTableCatalog$Part;LTableCatalog$Wrongs;)V" } : Jvm.MethodName)) ∈ lw_tbl := lw_at lw_m4 130 rfl
theorem q931 : (Jvm.Cond.instanceMethod ({ cls := "TableCatalog", name := "finds", desc := "(LTableCatalog$Table;LTableCatalog$Part;LTableCatalog$Wrongs;)V" } : Jvm.MethodName)) ∈ lw_all := lw_g (lw_at lw_m4 131 rfl) rfl
theorem q932 : (Jvm.Cond.code ({ cls := "TableCatalog", name := "finds", desc := "(LTableCatalog$Table;LTableCatalog$Part;LTableCatalog$Wrongs;)V" } : Jvm.MethodName) prog_1_method_12_code (6 : Nat) (Option.none : Option Jvm.ClassFile.FieldType)) ∈ lw_all := lw_g (lw_at lw_m4 132 rfl) rfl
theorem q933 : (Jvm.Cond.methodLink "TableCatalog" (142 : Nat) ({ cls := "TableCatalog$Table", name := "isMade", desc := "()Z" } : Jvm.MethodName)) ∈ lw_all := lw_g (lw_at lw_m4 133 rfl) rfl
theorem q937 : (Jvm.Cond.classLink "TableCatalog" (152 : Nat) "TableCatalog$Formula") ∈ lw_all := lw_g (lw_at lw_m4 137 rfl) rfl
theorem q938 : (Jvm.Cond.methodLink "TableCatalog" (154 : Nat) ({ cls := "TableCatalog", name := "checked", desc := "(LTableCatalog$Formula;LTableCatalog$Wrongs;)C" } : Jvm.MethodName)) ∈ lw_all := lw_g (lw_at lw_m4 138 rfl) rfl
theorem q939 : (Jvm.Cond.privateMethod ({ cls := "TableCatalog", name := "checked", desc := "(LTableCatalog$Formula;LTableCatalog$Wrongs;)C" } : Jvm.MethodName)) ∈ lw_tbl := lw_at lw_m4 139 rfl
theorem q940 : (Jvm.Cond.instanceMethod ({ cls := "TableCatalog", name := "checked", desc := "(LTableCatalog$Formula;LTableCatalog$Wrongs;)C" } : Jvm.MethodName)) ∈ lw_all := lw_g (lw_at lw_m4 140 rfl) rfl
theorem q941 : (Jvm.Cond.code ({ cls := "TableCatalog", name := "checked", desc := "(LTableCatalog$Formula;LTableCatalog$Wrongs;)C" } : Jvm.MethodName) prog_1_method_11_code (5 : Nat) (Option.some Jvm.ClassFile.FieldType.char)) ∈ lw_all := lw_g (lw_at lw_m4 141 rfl) rfl
theorem q942 : (Jvm.Cond.classLink "TableCatalog" (168 : Nat) "TableCatalog$Known") ∈ lw_all := lw_g (lw_at lw_m4 142 rfl) rfl
theorem q944 : (Jvm.Cond.methodLinkNest "TableCatalog" (170 : Nat) ({ cls := "TableCatalog$Known", name := "<init>", desc := "(LTableCatalog;)V" } : Jvm.MethodName) "TableCatalog") ∈ lw_tbl := lw_at lw_m4 144 rfl
theorem q954 : (Jvm.Cond.fieldLinkNest "TableCatalog" (180 : Nat) "TableCatalog$Checker" "first" "I" "TableCatalog") ∈ lw_tbl := lw_at lw_m4 154 rfl
theorem q960 : (Jvm.Cond.methodLink "TableCatalog" (171 : Nat) ({ cls := "TableCatalog$Formula", name := "type", desc := "(LTableCatalog$Checker;)C" } : Jvm.MethodName)) ∈ lw_all := lw_g (lw_at lw_m4 160 rfl) rfl
theorem q996 : (Jvm.Cond.methodLink "TableCatalog" (175 : Nat) ({ cls := "TableCatalog$Checker", name := "isWrong", desc := "()Z" } : Jvm.MethodName)) ∈ lw_all := lw_g (lw_at lw_m4 196 rfl) rfl
theorem q1001 : (Jvm.Cond.methodLinkNest "TableCatalog" (212 : Nat) ({ cls := "TableCatalog$Reader", name := "wrong", desc := "(II)LTableCatalog$Fault;" } : Jvm.MethodName) "TableCatalog") ∈ lw_tbl := lw_at lw_m4 201 rfl
theorem q1003 : (Jvm.Cond.instanceMethod ({ cls := "TableCatalog", name := "fault", desc := "(I)I" } : Jvm.MethodName)) ∈ lw_all := lw_g (lw_at lw_m4 203 rfl) rfl
theorem q1004 : (Jvm.Cond.selects "TableCatalog" ({ cls := "TableCatalog", name := "fault", desc := "(I)I" } : Jvm.MethodName) ({ cls := "TableCatalog", name := "fault", desc := "(I)I" } : Jvm.MethodName)) ∈ lw_all := lw_g (lw_at lw_m4 204 rfl) rfl
theorem q1005 : (Jvm.Cond.code ({ cls := "TableCatalog", name := "fault", desc := "(I)I" } : Jvm.MethodName) prog_1_method_14_code (2 : Nat) (Option.some Jvm.ClassFile.FieldType.int)) ∈ lw_all := lw_g (lw_at lw_m4 205 rfl) rfl
theorem q1007 : (Jvm.Cond.instanceMethod ({ cls := "TableCatalog", name := "named", desc := "()I" } : Jvm.MethodName)) ∈ lw_all := lw_g (lw_at lw_m4 207 rfl) rfl
theorem q1008 : (Jvm.Cond.selects "TableCatalog" ({ cls := "TableCatalog", name := "named", desc := "()I" } : Jvm.MethodName) ({ cls := "TableCatalog", name := "named", desc := "()I" } : Jvm.MethodName)) ∈ lw_all := lw_g (lw_at lw_m4 208 rfl) rfl
theorem q1009 : (Jvm.Cond.codeWith ({ cls := "TableCatalog", name := "named", desc := "()I" } : Jvm.MethodName) prog_1_method_15_code (4 : Nat) (Option.some Jvm.ClassFile.FieldType.int) [((37 : Nat), (57 : Nat), (76 : Nat), (216 : Nat)), ((58 : Nat), (75 : Nat), (76 : Nat), (216 : Nat))]) ∈ lw_all := lw_g (lw_at lw_m4 209 rfl) rfl
theorem q1010 : (Jvm.Cond.methodLinkNest "TableCatalog" (228 : Nat) ({ cls := "TableCatalog$Reader", name := "name", desc := "()Ljava/lang/String;" } : Jvm.MethodName) "TableCatalog") ∈ lw_tbl := lw_at lw_m4 210 rfl
theorem q1011 : (Jvm.Cond.methodLinkNest "TableCatalog" (231 : Nat) ({ cls := "TableCatalog$Reader", name := "here", desc := "()I" } : Jvm.MethodName) "TableCatalog") ∈ lw_tbl := lw_at lw_m4 211 rfl
theorem q1013 : (Jvm.Cond.instanceMethod ({ cls := "TableCatalog", name := "table", desc := "(II)I" } : Jvm.MethodName)) ∈ lw_all := lw_g (lw_at lw_m4 213 rfl) rfl
theorem q1014 : (Jvm.Cond.selects "TableCatalog" ({ cls := "TableCatalog", name := "table", desc := "(II)I" } : Jvm.MethodName) ({ cls := "TableCatalog", name := "table", desc := "(II)I" } : Jvm.MethodName)) ∈ lw_all := lw_g (lw_at lw_m4 214 rfl) rfl
theorem q1015 : (Jvm.Cond.code ({ cls := "TableCatalog", name := "table", desc := "(II)I" } : Jvm.MethodName) prog_1_method_16_code (4 : Nat) (Option.some Jvm.ClassFile.FieldType.int)) ∈ lw_all := lw_g (lw_at lw_m4 215 rfl) rfl
theorem q1016 : (Jvm.Cond.methodLink "TableCatalog" (234 : Nat) ({ cls := "TableCatalog", name := "table", desc := "(I)LTableCatalog$Table;" } : Jvm.MethodName)) ∈ lw_all := lw_g (lw_at lw_m4 216 rfl) rfl
theorem q1017 : (Jvm.Cond.privateMethod ({ cls := "TableCatalog", name := "table", desc := "(I)LTableCatalog$Table;" } : Jvm.MethodName)) ∈ lw_tbl := lw_at lw_m4 217 rfl
theorem q1018 : (Jvm.Cond.instanceMethod ({ cls := "TableCatalog", name := "table", desc := "(I)LTableCatalog$Table;" } : Jvm.MethodName)) ∈ lw_all := lw_g (lw_at lw_m4 218 rfl) rfl
theorem q1019 : (Jvm.Cond.code ({ cls := "TableCatalog", name := "table", desc := "(I)LTableCatalog$Table;" } : Jvm.MethodName) prog_1_method_8_code (2 : Nat) (Option.some (Jvm.ClassFile.FieldType.object "TableCatalog$Table"))) ∈ lw_all := lw_g (lw_at lw_m4 219 rfl) rfl
theorem q1020 : (Jvm.Cond.methodLink "TableCatalog" (239 : Nat) ({ cls := "TableCatalog", name := "age", desc := "(IZ)I" } : Jvm.MethodName)) ∈ lw_all := lw_g (lw_at lw_m4 220 rfl) rfl
theorem q1021 : (Jvm.Cond.privateMethod ({ cls := "TableCatalog", name := "age", desc := "(IZ)I" } : Jvm.MethodName)) ∈ lw_tbl := lw_at lw_m4 221 rfl
theorem q1022 : (Jvm.Cond.instanceMethod ({ cls := "TableCatalog", name := "age", desc := "(IZ)I" } : Jvm.MethodName)) ∈ lw_all := lw_g (lw_at lw_m4 222 rfl) rfl
theorem q1023 : (Jvm.Cond.code ({ cls := "TableCatalog", name := "age", desc := "(IZ)I" } : Jvm.MethodName) prog_1_method_33_code (3 : Nat) (Option.some Jvm.ClassFile.FieldType.int)) ∈ lw_all := lw_g (lw_at lw_m4 223 rfl) rfl
theorem q1024 : (Jvm.Cond.methodLink "TableCatalog" (288 : Nat) ({ cls := "TableCatalog", name := "made", desc := "(IZ)I" } : Jvm.MethodName)) ∈ lw_all := lw_g (lw_at lw_m4 224 rfl) rfl
theorem q1025 : (Jvm.Cond.privateMethod ({ cls := "TableCatalog", name := "made", desc := "(IZ)I" } : Jvm.MethodName)) ∈ lw_tbl := lw_at lw_m4 225 rfl
theorem q1026 : (Jvm.Cond.instanceMethod ({ cls := "TableCatalog", name := "made", desc := "(IZ)I" } : Jvm.MethodName)) ∈ lw_all := lw_g (lw_at lw_m4 226 rfl) rfl
theorem q1027 : (Jvm.Cond.code ({ cls := "TableCatalog", name := "made", desc := "(IZ)I" } : Jvm.MethodName) prog_1_method_34_code (7 : Nat) (Option.some Jvm.ClassFile.FieldType.int)) ∈ lw_all := lw_g (lw_at lw_m4 227 rfl) rfl
theorem q1028 : (Jvm.Cond.methodLink "TableCatalog" (297 : Nat) ({ cls := "java/lang/Math", name := "max", desc := "(II)I" } : Jvm.MethodName)) ∈ lw_all := lw_g (lw_at lw_m4 228 rfl) rfl
theorem q1029 : (Jvm.Cond.methodLink "TableCatalog" (303 : Nat) ({ cls := "java/lang/Math", name := "min", desc := "(II)I" } : Jvm.MethodName)) ∈ lw_all := lw_g (lw_at lw_m4 229 rfl) rfl
theorem q1030 : (Jvm.Cond.methodLink "TableCatalog" (243 : Nat) ({ cls := "TableCatalog", name := "owner", desc := "(I)I" } : Jvm.MethodName)) ∈ lw_all := lw_g (lw_at lw_m4 230 rfl) rfl
theorem q1031 : (Jvm.Cond.privateMethod ({ cls := "TableCatalog", name := "owner", desc := "(I)I" } : Jvm.MethodName)) ∈ lw_tbl := lw_at lw_m4 231 rfl
theorem q1032 : (Jvm.Cond.instanceMethod ({ cls := "TableCatalog", name := "owner", desc := "(I)I" } : Jvm.MethodName)) ∈ lw_all := lw_g (lw_at lw_m4 232 rfl) rfl
theorem q1033 : (Jvm.Cond.code ({ cls := "TableCatalog", name := "owner", desc := "(I)I" } : Jvm.MethodName) prog_1_method_43_code (3 : Nat) (Option.some Jvm.ClassFile.FieldType.int)) ∈ lw_all := lw_g (lw_at lw_m4 233 rfl) rfl
theorem q1035 : (Jvm.Cond.instanceMethod ({ cls := "TableCatalog", name := "type", desc := "(II)I" } : Jvm.MethodName)) ∈ lw_all := lw_g (lw_at lw_m4 235 rfl) rfl
theorem q1036 : (Jvm.Cond.selects "TableCatalog" ({ cls := "TableCatalog", name := "type", desc := "(II)I" } : Jvm.MethodName) ({ cls := "TableCatalog", name := "type", desc := "(II)I" } : Jvm.MethodName)) ∈ lw_all := lw_g (lw_at lw_m4 236 rfl) rfl
theorem q1037 : (Jvm.Cond.code ({ cls := "TableCatalog", name := "type", desc := "(II)I" } : Jvm.MethodName) prog_1_method_18_code (3 : Nat) (Option.some Jvm.ClassFile.FieldType.int)) ∈ lw_all := lw_g (lw_at lw_m4 237 rfl) rfl
theorem q1038 : (Jvm.Cond.methodLink "TableCatalog" (250 : Nat) ({ cls := "TableCatalog", name := "isColumn", desc := "(II)Z" } : Jvm.MethodName)) ∈ lw_all := lw_g (lw_at lw_m4 238 rfl) rfl
theorem q1039 : (Jvm.Cond.privateMethod ({ cls := "TableCatalog", name := "isColumn", desc := "(II)Z" } : Jvm.MethodName)) ∈ lw_tbl := lw_at lw_m4 239 rfl
theorem q1040 : (Jvm.Cond.instanceMethod ({ cls := "TableCatalog", name := "isColumn", desc := "(II)Z" } : Jvm.MethodName)) ∈ lw_all := lw_g (lw_at lw_m5 0 rfl) rfl
theorem q1041 : (Jvm.Cond.code ({ cls := "TableCatalog", name := "isColumn", desc := "(II)Z" } : Jvm.MethodName) prog_1_method_17_code (3 : Nat) (Option.some Jvm.ClassFile.FieldType.boolean)) ∈ lw_all := lw_g (lw_at lw_m5 1 rfl) rfl
theorem q1043 : (Jvm.Cond.instanceMethod ({ cls := "TableCatalog", name := "from", desc := "(III)I" } : Jvm.MethodName)) ∈ lw_all := lw_g (lw_at lw_m5 3 rfl) rfl
theorem q1044 : (Jvm.Cond.selects "TableCatalog" ({ cls := "TableCatalog", name := "from", desc := "(III)I" } : Jvm.MethodName) ({ cls := "TableCatalog", name := "from", desc := "(III)I" } : Jvm.MethodName)) ∈ lw_all := lw_g (lw_at lw_m5 4 rfl) rfl
theorem q1045 : (Jvm.Cond.code ({ cls := "TableCatalog", name := "from", desc := "(III)I" } : Jvm.MethodName) prog_1_method_22_code (5 : Nat) (Option.some Jvm.ClassFile.FieldType.int)) ∈ lw_all := lw_g (lw_at lw_m5 5 rfl) rfl
theorem q1046 : (Jvm.Cond.methodLink "TableCatalog" (261 : Nat) ({ cls := "TableCatalog", name := "clear", desc := "([Z)V" } : Jvm.MethodName)) ∈ lw_all := lw_g (lw_at lw_m5 6 rfl) rfl
theorem q1047 : (Jvm.Cond.privateMethod ({ cls := "TableCatalog", name := "clear", desc := "([Z)V" } : Jvm.MethodName)) ∈ lw_tbl := lw_at lw_m5 7 rfl
theorem q1048 : (Jvm.Cond.instanceMethod ({ cls := "TableCatalog", name := "clear", desc := "([Z)V" } : Jvm.MethodName)) ∈ lw_all := lw_g (lw_at lw_m5 8 rfl) rfl
theorem q1049 : (Jvm.Cond.code ({ cls := "TableCatalog", name := "clear", desc := "([Z)V" } : Jvm.MethodName) prog_1_method_19_code (3 : Nat) (Option.none : Option Jvm.ClassFile.FieldType)) ∈ lw_all := lw_g (lw_at lw_m5 9 rfl) rfl
theorem q1050 : (Jvm.Cond.methodLink "TableCatalog" (264 : Nat) ({ cls := "TableCatalog", name := "uses", desc := "(I[Z)V" } : Jvm.MethodName)) ∈ lw_all := lw_g (lw_at lw_m5 10 rfl) rfl
theorem q1051 : (Jvm.Cond.privateMethod ({ cls := "TableCatalog", name := "uses", desc := "(I[Z)V" } : Jvm.MethodName)) ∈ lw_tbl := lw_at lw_m5 11 rfl
theorem q1052 : (Jvm.Cond.instanceMethod ({ cls := "TableCatalog", name := "uses", desc := "(I[Z)V" } : Jvm.MethodName)) ∈ lw_all := lw_g (lw_at lw_m5 12 rfl) rfl
theorem q1053 : (Jvm.Cond.code ({ cls := "TableCatalog", name := "uses", desc := "(I[Z)V" } : Jvm.MethodName) prog_1_method_21_code (4 : Nat) (Option.none : Option Jvm.ClassFile.FieldType)) ∈ lw_all := lw_g (lw_at lw_m5 13 rfl) rfl
theorem q1054 : (Jvm.Cond.methodLink "TableCatalog" (257 : Nat) ({ cls := "TableCatalog$Formula", name := "uses", desc := "([Z)V" } : Jvm.MethodName)) ∈ lw_all := lw_g (lw_at lw_m5 14 rfl) rfl
theorem q1070 : (Jvm.Cond.methodLink "TableCatalog" (267 : Nat) ({ cls := "TableCatalog", name := "tells", desc := "([ZZ)I" } : Jvm.MethodName)) ∈ lw_all := lw_g (lw_at lw_m5 30 rfl) rfl
theorem q1071 : (Jvm.Cond.privateMethod ({ cls := "TableCatalog", name := "tells", desc := "([ZZ)I" } : Jvm.MethodName)) ∈ lw_tbl := lw_at lw_m5 31 rfl
theorem q1072 : (Jvm.Cond.instanceMethod ({ cls := "TableCatalog", name := "tells", desc := "([ZZ)I" } : Jvm.MethodName)) ∈ lw_all := lw_g (lw_at lw_m5 32 rfl) rfl
theorem q1073 : (Jvm.Cond.code ({ cls := "TableCatalog", name := "tells", desc := "([ZZ)I" } : Jvm.MethodName) prog_1_method_20_code (4 : Nat) (Option.some Jvm.ClassFile.FieldType.int)) ∈ lw_all := lw_g (lw_at lw_m5 33 rfl) rfl
theorem q1075 : (Jvm.Cond.instanceMethod ({ cls := "TableCatalog", name := "touch", desc := "(II)I" } : Jvm.MethodName)) ∈ lw_all := lw_g (lw_at lw_m5 35 rfl) rfl
theorem q1076 : (Jvm.Cond.selects "TableCatalog" ({ cls := "TableCatalog", name := "touch", desc := "(II)I" } : Jvm.MethodName) ({ cls := "TableCatalog", name := "touch", desc := "(II)I" } : Jvm.MethodName)) ∈ lw_all := lw_g (lw_at lw_m5 36 rfl) rfl
theorem q1077 : (Jvm.Cond.code ({ cls := "TableCatalog", name := "touch", desc := "(II)I" } : Jvm.MethodName) prog_1_method_26_code (3 : Nat) (Option.some Jvm.ClassFile.FieldType.int)) ∈ lw_all := lw_g (lw_at lw_m5 37 rfl) rfl
theorem q1078 : (Jvm.Cond.methodLink "TableCatalog" (279 : Nat) ({ cls := "TableCatalog", name := "touches", desc := "(I)V" } : Jvm.MethodName)) ∈ lw_all := lw_g (lw_at lw_m5 38 rfl) rfl
theorem q1079 : (Jvm.Cond.privateMethod ({ cls := "TableCatalog", name := "touches", desc := "(I)V" } : Jvm.MethodName)) ∈ lw_tbl := lw_at lw_m5 39 rfl
theorem q1080 : (Jvm.Cond.instanceMethod ({ cls := "TableCatalog", name := "touches", desc := "(I)V" } : Jvm.MethodName)) ∈ lw_all := lw_g (lw_at lw_m5 40 rfl) rfl
theorem q1081 : (Jvm.Cond.code ({ cls := "TableCatalog", name := "touches", desc := "(I)V" } : Jvm.MethodName) prog_1_method_25_code (7 : Nat) (Option.none : Option Jvm.ClassFile.FieldType)) ∈ lw_all := lw_g (lw_at lw_m5 41 rfl) rfl
theorem q1082 : (Jvm.Cond.methodLink "TableCatalog" (275 : Nat) ({ cls := "TableCatalog", name := "hangs", desc := "(LTableCatalog$Table;)Z" } : Jvm.MethodName)) ∈ lw_all := lw_g (lw_at lw_m5 42 rfl) rfl
theorem q1083 : (Jvm.Cond.privateMethod ({ cls := "TableCatalog", name := "hangs", desc := "(LTableCatalog$Table;)Z" } : Jvm.MethodName)) ∈ lw_tbl := lw_at lw_m5 43 rfl
theorem q1084 : (Jvm.Cond.instanceMethod ({ cls := "TableCatalog", name := "hangs", desc := "(LTableCatalog$Table;)Z" } : Jvm.MethodName)) ∈ lw_all := lw_g (lw_at lw_m5 44 rfl) rfl
theorem q1085 : (Jvm.Cond.code ({ cls := "TableCatalog", name := "hangs", desc := "(LTableCatalog$Table;)Z" } : Jvm.MethodName) prog_1_method_24_code (2 : Nat) (Option.some Jvm.ClassFile.FieldType.boolean)) ∈ lw_all := lw_g (lw_at lw_m5 45 rfl) rfl
theorem q1086 : (Jvm.Cond.methodLink "TableCatalog" (271 : Nat) ({ cls := "TableCatalog", name := "meets", desc := "([Z)Z" } : Jvm.MethodName)) ∈ lw_all := lw_g (lw_at lw_m5 46 rfl) rfl
theorem q1087 : (Jvm.Cond.privateMethod ({ cls := "TableCatalog", name := "meets", desc := "([Z)Z" } : Jvm.MethodName)) ∈ lw_tbl := lw_at lw_m5 47 rfl
theorem q1088 : (Jvm.Cond.instanceMethod ({ cls := "TableCatalog", name := "meets", desc := "([Z)Z" } : Jvm.MethodName)) ∈ lw_all := lw_g (lw_at lw_m5 48 rfl) rfl
theorem q1089 : (Jvm.Cond.code ({ cls := "TableCatalog", name := "meets", desc := "([Z)Z" } : Jvm.MethodName) prog_1_method_23_code (3 : Nat) (Option.some Jvm.ClassFile.FieldType.boolean)) ∈ lw_all := lw_g (lw_at lw_m5 49 rfl) rfl
theorem q1091 : (Jvm.Cond.instanceMethod ({ cls := "TableCatalog", name := "asked", desc := "(II)I" } : Jvm.MethodName)) ∈ lw_all := lw_g (lw_at lw_m5 51 rfl) rfl
theorem q1092 : (Jvm.Cond.selects "TableCatalog" ({ cls := "TableCatalog", name := "asked", desc := "(II)I" } : Jvm.MethodName) ({ cls := "TableCatalog", name := "asked", desc := "(II)I" } : Jvm.MethodName)) ∈ lw_all := lw_g (lw_at lw_m5 52 rfl) rfl
theorem q1093 : (Jvm.Cond.code ({ cls := "TableCatalog", name := "asked", desc := "(II)I" } : Jvm.MethodName) prog_1_method_27_code (6 : Nat) (Option.some Jvm.ClassFile.FieldType.int)) ∈ lw_all := lw_g (lw_at lw_m5 53 rfl) rfl
theorem q1095 : (Jvm.Cond.instanceMethod ({ cls := "TableCatalog", name := "found", desc := "(I)I" } : Jvm.MethodName)) ∈ lw_all := lw_g (lw_at lw_m5 55 rfl) rfl
theorem q1096 : (Jvm.Cond.selects "TableCatalog" ({ cls := "TableCatalog", name := "found", desc := "(I)I" } : Jvm.MethodName) ({ cls := "TableCatalog", name := "found", desc := "(I)I" } : Jvm.MethodName)) ∈ lw_all := lw_g (lw_at lw_m5 56 rfl) rfl
theorem q1097 : (Jvm.Cond.code ({ cls := "TableCatalog", name := "found", desc := "(I)I" } : Jvm.MethodName) prog_1_method_28_code (2 : Nat) (Option.some Jvm.ClassFile.FieldType.int)) ∈ lw_all := lw_g (lw_at lw_m5 57 rfl) rfl
theorem q1099 : (Jvm.Cond.instanceMethod ({ cls := "TableCatalog", name := "retype", desc := "(III)I" } : Jvm.MethodName)) ∈ lw_all := lw_g (lw_at lw_m5 59 rfl) rfl
theorem q1100 : (Jvm.Cond.selects "TableCatalog" ({ cls := "TableCatalog", name := "retype", desc := "(III)I" } : Jvm.MethodName) ({ cls := "TableCatalog", name := "retype", desc := "(III)I" } : Jvm.MethodName)) ∈ lw_all := lw_g (lw_at lw_m5 60 rfl) rfl
theorem q1101 : (Jvm.Cond.code ({ cls := "TableCatalog", name := "retype", desc := "(III)I" } : Jvm.MethodName) prog_1_method_29_code (7 : Nat) (Option.some Jvm.ClassFile.FieldType.int)) ∈ lw_all := lw_g (lw_at lw_m5 61 rfl) rfl
theorem q1102 : (Jvm.Cond.methodLink "TableCatalog" (285 : Nat) ({ cls := "TableCatalog", name := "retypes", desc := "(I)V" } : Jvm.MethodName)) ∈ lw_all := lw_g (lw_at lw_m5 62 rfl) rfl
theorem q1103 : (Jvm.Cond.privateMethod ({ cls := "TableCatalog", name := "retypes", desc := "(I)V" } : Jvm.MethodName)) ∈ lw_tbl := lw_at lw_m5 63 rfl
theorem q1104 : (Jvm.Cond.instanceMethod ({ cls := "TableCatalog", name := "retypes", desc := "(I)V" } : Jvm.MethodName)) ∈ lw_all := lw_g (lw_at lw_m5 64 rfl) rfl
theorem q1105 : (Jvm.Cond.code ({ cls := "TableCatalog", name := "retypes", desc := "(I)V" } : Jvm.MethodName) prog_1_method_30_code (6 : Nat) (Option.none : Option Jvm.ClassFile.FieldType)) ∈ lw_all := lw_g (lw_at lw_m5 65 rfl) rfl
theorem q1107 : (Jvm.Cond.instanceMethod ({ cls := "TableCatalog", name := "drop", desc := "(I)I" } : Jvm.MethodName)) ∈ lw_all := lw_g (lw_at lw_m5 67 rfl) rfl
theorem q1108 : (Jvm.Cond.selects "TableCatalog" ({ cls := "TableCatalog", name := "drop", desc := "(I)I" } : Jvm.MethodName) ({ cls := "TableCatalog", name := "drop", desc := "(I)I" } : Jvm.MethodName)) ∈ lw_all := lw_g (lw_at lw_m5 68 rfl) rfl
theorem q1109 : (Jvm.Cond.code ({ cls := "TableCatalog", name := "drop", desc := "(I)I" } : Jvm.MethodName) prog_1_method_31_code (4 : Nat) (Option.some Jvm.ClassFile.FieldType.int)) ∈ lw_all := lw_g (lw_at lw_m5 69 rfl) rfl
theorem q1111 : (Jvm.Cond.instanceMethod ({ cls := "TableCatalog", name := "freeze", desc := "(I)Z" } : Jvm.MethodName)) ∈ lw_all := lw_g (lw_at lw_m5 71 rfl) rfl
theorem q1112 : (Jvm.Cond.selects "TableCatalog" ({ cls := "TableCatalog", name := "freeze", desc := "(I)Z" } : Jvm.MethodName) ({ cls := "TableCatalog", name := "freeze", desc := "(I)Z" } : Jvm.MethodName)) ∈ lw_all := lw_g (lw_at lw_m5 72 rfl) rfl
theorem q1113 : (Jvm.Cond.code ({ cls := "TableCatalog", name := "freeze", desc := "(I)Z" } : Jvm.MethodName) prog_1_method_32_code (2 : Nat) (Option.some Jvm.ClassFile.FieldType.boolean)) ∈ lw_all := lw_g (lw_at lw_m5 73 rfl) rfl
theorem q1115 : (Jvm.Cond.instanceMethod ({ cls := "TableCatalog", name := "today", desc := "(I)Z" } : Jvm.MethodName)) ∈ lw_all := lw_g (lw_at lw_m5 75 rfl) rfl
theorem q1116 : (Jvm.Cond.selects "TableCatalog" ({ cls := "TableCatalog", name := "today", desc := "(I)Z" } : Jvm.MethodName) ({ cls := "TableCatalog", name := "today", desc := "(I)Z" } : Jvm.MethodName)) ∈ lw_all := lw_g (lw_at lw_m5 76 rfl) rfl
theorem q1117 : (Jvm.Cond.code ({ cls := "TableCatalog", name := "today", desc := "(I)Z" } : Jvm.MethodName) prog_1_method_35_code (2 : Nat) (Option.some Jvm.ClassFile.FieldType.boolean)) ∈ lw_all := lw_g (lw_at lw_m5 77 rfl) rfl
theorem q1119 : (Jvm.Cond.instanceMethod ({ cls := "TableCatalog", name := "fed", desc := "(III)Z" } : Jvm.MethodName)) ∈ lw_all := lw_g (lw_at lw_m5 79 rfl) rfl
theorem q1120 : (Jvm.Cond.selects "TableCatalog" ({ cls := "TableCatalog", name := "fed", desc := "(III)Z" } : Jvm.MethodName) ({ cls := "TableCatalog", name := "fed", desc := "(III)Z" } : Jvm.MethodName)) ∈ lw_all := lw_g (lw_at lw_m5 80 rfl) rfl
theorem q1121 : (Jvm.Cond.code ({ cls := "TableCatalog", name := "fed", desc := "(III)Z" } : Jvm.MethodName) prog_1_method_36_code (4 : Nat) (Option.some Jvm.ClassFile.FieldType.boolean)) ∈ lw_all := lw_g (lw_at lw_m5 81 rfl) rfl
theorem q1123 : (Jvm.Cond.instanceMethod ({ cls := "TableCatalog", name := "run", desc := "(I)Z" } : Jvm.MethodName)) ∈ lw_all := lw_g (lw_at lw_m5 83 rfl) rfl
theorem q1124 : (Jvm.Cond.selects "TableCatalog" ({ cls := "TableCatalog", name := "run", desc := "(I)Z" } : Jvm.MethodName) ({ cls := "TableCatalog", name := "run", desc := "(I)Z" } : Jvm.MethodName)) ∈ lw_all := lw_g (lw_at lw_m5 84 rfl) rfl
theorem q1125 : (Jvm.Cond.code ({ cls := "TableCatalog", name := "run", desc := "(I)Z" } : Jvm.MethodName) prog_1_method_37_code (3 : Nat) (Option.some Jvm.ClassFile.FieldType.boolean)) ∈ lw_all := lw_g (lw_at lw_m5 85 rfl) rfl
theorem q1127 : (Jvm.Cond.instanceMethod ({ cls := "TableCatalog", name := "promise", desc := "(II)Z" } : Jvm.MethodName)) ∈ lw_all := lw_g (lw_at lw_m5 87 rfl) rfl
theorem q1128 : (Jvm.Cond.selects "TableCatalog" ({ cls := "TableCatalog", name := "promise", desc := "(II)Z" } : Jvm.MethodName) ({ cls := "TableCatalog", name := "promise", desc := "(II)Z" } : Jvm.MethodName)) ∈ lw_all := lw_g (lw_at lw_m5 88 rfl) rfl
theorem q1129 : (Jvm.Cond.code ({ cls := "TableCatalog", name := "promise", desc := "(II)Z" } : Jvm.MethodName) prog_1_method_38_code (3 : Nat) (Option.some Jvm.ClassFile.FieldType.boolean)) ∈ lw_all := lw_g (lw_at lw_m5 89 rfl) rfl
theorem q1131 : (Jvm.Cond.instanceMethod ({ cls := "TableCatalog", name := "broken", desc := "()I" } : Jvm.MethodName)) ∈ lw_all := lw_g (lw_at lw_m5 91 rfl) rfl
theorem q1132 : (Jvm.Cond.selects "TableCatalog" ({ cls := "TableCatalog", name := "broken", desc := "()I" } : Jvm.MethodName) ({ cls := "TableCatalog", name := "broken", desc := "()I" } : Jvm.MethodName)) ∈ lw_all := lw_g (lw_at lw_m5 92 rfl) rfl
theorem q1133 : (Jvm.Cond.code ({ cls := "TableCatalog", name := "broken", desc := "()I" } : Jvm.MethodName) prog_1_method_41_code (2 : Nat) (Option.some Jvm.ClassFile.FieldType.int)) ∈ lw_all := lw_g (lw_at lw_m5 93 rfl) rfl
theorem q1134 : (Jvm.Cond.methodLink "TableCatalog" (312 : Nat) ({ cls := "TableCatalog", name := "isBroken", desc := "(I)Z" } : Jvm.MethodName)) ∈ lw_all := lw_g (lw_at lw_m5 94 rfl) rfl
theorem q1135 : (Jvm.Cond.privateMethod ({ cls := "TableCatalog", name := "isBroken", desc := "(I)Z" } : Jvm.MethodName)) ∈ lw_tbl := lw_at lw_m5 95 rfl
theorem q1136 : (Jvm.Cond.instanceMethod ({ cls := "TableCatalog", name := "isBroken", desc := "(I)Z" } : Jvm.MethodName)) ∈ lw_all := lw_g (lw_at lw_m5 96 rfl) rfl
theorem q1137 : (Jvm.Cond.code ({ cls := "TableCatalog", name := "isBroken", desc := "(I)Z" } : Jvm.MethodName) prog_1_method_40_code (2 : Nat) (Option.some Jvm.ClassFile.FieldType.boolean)) ∈ lw_all := lw_g (lw_at lw_m5 97 rfl) rfl
theorem q1138 : (Jvm.Cond.methodLink "TableCatalog" (309 : Nat) ({ cls := "TableCatalog", name := "isLate", desc := "(II)Z" } : Jvm.MethodName)) ∈ lw_all := lw_g (lw_at lw_m5 98 rfl) rfl
theorem q1139 : (Jvm.Cond.privateMethod ({ cls := "TableCatalog", name := "isLate", desc := "(II)Z" } : Jvm.MethodName)) ∈ lw_tbl := lw_at lw_m5 99 rfl
theorem q1140 : (Jvm.Cond.instanceMethod ({ cls := "TableCatalog", name := "isLate", desc := "(II)Z" } : Jvm.MethodName)) ∈ lw_all := lw_g (lw_at lw_m5 100 rfl) rfl
theorem q1141 : (Jvm.Cond.code ({ cls := "TableCatalog", name := "isLate", desc := "(II)Z" } : Jvm.MethodName) prog_1_method_39_code (3 : Nat) (Option.some Jvm.ClassFile.FieldType.boolean)) ∈ lw_all := lw_g (lw_at lw_m5 101 rfl) rfl
theorem q1143 : (Jvm.Cond.instanceMethod ({ cls := "TableCatalog", name := "late", desc := "(I)I" } : Jvm.MethodName)) ∈ lw_all := lw_g (lw_at lw_m5 103 rfl) rfl
theorem q1144 : (Jvm.Cond.selects "TableCatalog" ({ cls := "TableCatalog", name := "late", desc := "(I)I" } : Jvm.MethodName) ({ cls := "TableCatalog", name := "late", desc := "(I)I" } : Jvm.MethodName)) ∈ lw_all := lw_g (lw_at lw_m5 104 rfl) rfl
theorem q1145 : (Jvm.Cond.code ({ cls := "TableCatalog", name := "late", desc := "(I)I" } : Jvm.MethodName) prog_1_method_42_code (6 : Nat) (Option.some Jvm.ClassFile.FieldType.int)) ∈ lw_all := lw_g (lw_at lw_m5 105 rfl) rfl
theorem q1147 : (Jvm.Cond.instanceMethod ({ cls := "TableCatalog", name := "own", desc := "(II)Z" } : Jvm.MethodName)) ∈ lw_all := lw_g (lw_at lw_m5 107 rfl) rfl
theorem q1148 : (Jvm.Cond.selects "TableCatalog" ({ cls := "TableCatalog", name := "own", desc := "(II)Z" } : Jvm.MethodName) ({ cls := "TableCatalog", name := "own", desc := "(II)Z" } : Jvm.MethodName)) ∈ lw_all := lw_g (lw_at lw_m5 108 rfl) rfl
theorem q1149 : (Jvm.Cond.code ({ cls := "TableCatalog", name := "own", desc := "(II)Z" } : Jvm.MethodName) prog_1_method_44_code (3 : Nat) (Option.some Jvm.ClassFile.FieldType.boolean)) ∈ lw_all := lw_g (lw_at lw_m5 109 rfl) rfl
theorem q1151 : (Jvm.Cond.instanceMethod ({ cls := "TableCatalog", name := "ask", desc := "(III)I" } : Jvm.MethodName)) ∈ lw_all := lw_g (lw_at lw_m5 111 rfl) rfl
theorem q1152 : (Jvm.Cond.selects "TableCatalog" ({ cls := "TableCatalog", name := "ask", desc := "(III)I" } : Jvm.MethodName) ({ cls := "TableCatalog", name := "ask", desc := "(III)I" } : Jvm.MethodName)) ∈ lw_all := lw_g (lw_at lw_m5 112 rfl) rfl
theorem q1153 : (Jvm.Cond.code ({ cls := "TableCatalog", name := "ask", desc := "(III)I" } : Jvm.MethodName) prog_1_method_45_code (5 : Nat) (Option.some Jvm.ClassFile.FieldType.int)) ∈ lw_all := lw_g (lw_at lw_m5 113 rfl) rfl
theorem q1155 : (Jvm.Cond.instanceMethod ({ cls := "TableCatalog", name := "unused", desc := "(I)I" } : Jvm.MethodName)) ∈ lw_all := lw_g (lw_at lw_m5 115 rfl) rfl
theorem q1156 : (Jvm.Cond.selects "TableCatalog" ({ cls := "TableCatalog", name := "unused", desc := "(I)I" } : Jvm.MethodName) ({ cls := "TableCatalog", name := "unused", desc := "(I)I" } : Jvm.MethodName)) ∈ lw_all := lw_g (lw_at lw_m5 116 rfl) rfl
theorem q1157 : (Jvm.Cond.code ({ cls := "TableCatalog", name := "unused", desc := "(I)I" } : Jvm.MethodName) prog_1_method_46_code (5 : Nat) (Option.some Jvm.ClassFile.FieldType.int)) ∈ lw_all := lw_g (lw_at lw_m5 117 rfl) rfl
theorem q1159 : (Jvm.Cond.instanceMethod ({ cls := "TableCatalog", name := "alike", desc := "(II)I" } : Jvm.MethodName)) ∈ lw_all := lw_g (lw_at lw_m5 119 rfl) rfl
theorem q1160 : (Jvm.Cond.selects "TableCatalog" ({ cls := "TableCatalog", name := "alike", desc := "(II)I" } : Jvm.MethodName) ({ cls := "TableCatalog", name := "alike", desc := "(II)I" } : Jvm.MethodName)) ∈ lw_all := lw_g (lw_at lw_m5 120 rfl) rfl
theorem q1161 : (Jvm.Cond.code ({ cls := "TableCatalog", name := "alike", desc := "(II)I" } : Jvm.MethodName) prog_1_method_47_code (3 : Nat) (Option.some Jvm.ClassFile.FieldType.int)) ∈ lw_all := lw_g (lw_at lw_m5 121 rfl) rfl
theorem q1650 : (Jvm.Cond.castable "TableCatalog" "java/lang/Object") ∈ lw_tbl := lw_at lw_m7 130 rfl
theorem in_X0 : ∀ w ∈ wsX00, w ∈ lw_all := lw_in wsX00 [298, 300, 302, 304, 306, 308, 310, 312, 314, 316, 318, 320, 322, 324, 326] (by decide +kernel) (by decide +kernel)
