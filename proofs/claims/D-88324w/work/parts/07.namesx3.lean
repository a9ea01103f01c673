/-! TableCatalogModel -/
set_option maxRecDepth 100000
def RX3 : String := "TableCatalogModel"
def TX3 : u_T := fun k => match k with
  | 0 => ("TableCatalogModel", "tables", "I", false)
  | 1 => ("TableCatalogModel", "isThere", "[Z", true)
  | 2 => ("TableCatalogModel", "name", "[J", true)
  | 3 => ("TableCatalogModel", "sort", "[I", true)
  | 4 => ("TableCatalogModel", "columns", "[I", true)
  | 5 => ("TableCatalogModel", "columnName", "[J", true)
  | 6 => ("TableCatalogModel", "type", "[I", true)
  | 7 => ("TableCatalogModel", "behind", "[I", true)
  | 8 => ("TableCatalogModel", "from", "[I", true)
  | 9 => ("TableCatalogModel", "owner", "[I", true)
  | 10 => ("TableCatalogModel", "lag", "[I", true)
  | 11 => ("TableCatalogModel", "oldest", "[I", true)
  | 12 => ("TableCatalogModel", "newest", "[I", true)
  | 13 => ("TableCatalogModel", "tokens", "[I", true)
  | 14 => ("TableCatalogModel", "token", "[I", true)
  | 15 => ("TableCatalogModel", "tokenAt", "[I", true)
  | 16 => ("TableCatalogModel", "tokenLong", "[I", true)
  | 17 => ("TableCatalogModel", "text", "[I", true)
  | 18 => ("TableCatalogModel", "formulaFrom", "[I", true)
  | 19 => ("TableCatalogModel", "formulaTo", "[I", true)
  | 20 => ("TableCatalogModel", "equal", "[I", true)
  | 21 => ("TableCatalogModel", "tape", "[I", true)
  | 22 => ("TableCatalogModel", "taped", "I", false)
  | 23 => ("TableCatalogModel", "at", "I", false)
  | 24 => ("TableCatalogModel", "size", "I", false)
  | 25 => ("TableCatalogModel", "bad", "I", false)
  | 26 => ("TableCatalogModel", "badPlace", "I", false)
  | 27 => ("TableCatalogModel", "fault", "I", false)
  | 28 => ("TableCatalogModel", "faultPlace", "I", false)
  | 29 => ("TableCatalogModel", "now", "I", false)
  | 30 => ("TableCatalogModel", "begun", "I", false)
  | 31 => ("TableCatalogModel", "over", "I", false)
  | 32 => ("TableCatalogModel", "word", "J", false)
  | 33 => ("TableCatalogModel", "view", "J", true)
  | 34 => ("TableCatalogModel", "copy", "J", true)
  | 35 => ("TableCatalogModel", "table", "J", true)
  | 36 => ("TableCatalogModel", "fromWord", "J", true)
  | 37 => ("TableCatalogModel", "where", "J", true)
  | 38 => ("TableCatalogModel", "len", "J", true)
  | 39 => ("TableCatalogModel", "str", "J", true)
  | 40 => ("TableCatalogModel", "terms", "[I", true)
  | 41 => ("TableCatalogModel", "fromToken", "I", false)
  | 42 => ("TableCatalogModel", "signPlace", "I", false)
  | 43 => ("TableCatalogModel", "fromName", "[J", true)
  | 44 => ("TableCatalogModel", "fromPlace", "[I", true)
  | 45 => ("TableCatalogModel", "left", "[I", true)
  | 46 => ("TableCatalogModel", "waits", "[I", true)
  | 47 => ("TableCatalogModel", "waitsAt", "[I", true)
  | 48 => ("TableCatalogModel", "called", "[I", true)
  | 49 => ("TableCatalogModel", "calledAt", "[I", true)
  | 50 => ("TableCatalogModel", "errors", "I", false)
  | 51 => ("TableCatalogModel", "depth", "I", false)
  | 52 => ("TableCatalogModel", "isMeant", "Z", false)
  | 53 => ("TableCatalogModel", "newType", "[I", true)
  | 54 => ("TableCatalogModel", "old", "[I", true)
  | 55 => ("TableCatalogModel", "young", "[I", true)
  | 56 => ("TableCatalogModel", "mark", "[Z", true)
  | 57 => ("TableCatalogModel", "founds", "I", false)
  | 58 => ("TableCatalogModel", "foundOnes", "[I", true)
  | 59 => ("TableCatalogModel", "asks", "I", false)
  | 60 => ("TableCatalogModel", "askUser", "[I", true)
  | 61 => ("TableCatalogModel", "askTable", "[I", true)
  | 62 => ("TableCatalogModel", "askBits", "[I", true)
  | 63 => ("TableCatalogModel", "askDay", "[I", true)
  | 64 => ("TableCatalogModel", "today", "I", false)
  | 65 => ("TableCatalogModel", "wrongs", "I", false)
  | _ => ("TableCatalogModel", "wrongOnes", "[I", true)
def tyX3 : Nat → FieldType := fun k => match k with
  | 0 => .int
  | 1 => .array .boolean
  | 2 => .array .long
  | 3 => .array .int
  | 4 => .array .int
  | 5 => .array .long
  | 6 => .array .int
  | 7 => .array .int
  | 8 => .array .int
  | 9 => .array .int
  | 10 => .array .int
  | 11 => .array .int
  | 12 => .array .int
  | 13 => .array .int
  | 14 => .array .int
  | 15 => .array .int
  | 16 => .array .int
  | 17 => .array .int
  | 18 => .array .int
  | 19 => .array .int
  | 20 => .array .int
  | 21 => .array .int
  | 22 => .int
  | 23 => .int
  | 24 => .int
  | 25 => .int
  | 26 => .int
  | 27 => .int
  | 28 => .int
  | 29 => .int
  | 30 => .int
  | 31 => .int
  | 32 => .long
  | 33 => .long
  | 34 => .long
  | 35 => .long
  | 36 => .long
  | 37 => .long
  | 38 => .long
  | 39 => .long
  | 40 => .array .int
  | 41 => .int
  | 42 => .int
  | 43 => .array .long
  | 44 => .array .int
  | 45 => .array .int
  | 46 => .array .int
  | 47 => .array .int
  | 48 => .array .int
  | 49 => .array .int
  | 50 => .int
  | 51 => .int
  | 52 => .boolean
  | 53 => .array .int
  | 54 => .array .int
  | 55 => .array .int
  | 56 => .array .boolean
  | 57 => .int
  | 58 => .array .int
  | 59 => .int
  | 60 => .array .int
  | 61 => .array .int
  | 62 => .array .int
  | 63 => .array .int
  | 64 => .int
  | 65 => .int
  | _ => .array .int
abbrev wsX30 : List Cond := u_ws RX3 TX3 67
set_option maxRecDepth 100000 in
theorem nmX3 : ∀ a, a < 67 → ∀ b, b < 67 → a ≠ b → (TX3 a).2.1 ≠ (TX3 b).2.1 := by decide +kernel
set_option maxRecDepth 100000 in
theorem tyX3_ok : ∀ k, k < 67 → parseFieldDescriptor (TX3 k).2.2.1 = some (tyX3 k) := by decide +kernel
abbrev cX3_init : ByteArray := prog_14_method_1_code
def yX3_init : MethodName := ⟨RX3, "<init>", "()V"⟩
def dkwX3_init_19 : List UInt8 := [17, 0, 136, 188, 10, 181, 0, 156, 177]
abbrev dktX3_init_19 : List UInt8 := dkwX3_init_19 ++ []
def dkwX3_init_18 : List UInt8 := [16, 40, 188, 10, 181, 0, 147, 42, 16, 40, 188, 10, 181, 0, 150, 42, 16, 40, 188, 10, 181, 0, 153, 42]
abbrev dktX3_init_18 : List UInt8 := dkwX3_init_18 ++ dktX3_init_19
def dkwX3_init_17 : List UInt8 := [188, 4, 181, 0, 138, 42, 17, 0, 140, 188, 10, 181, 0, 141, 42, 16, 40, 188, 10, 181, 0, 144, 42]
abbrev dktX3_init_17 : List UInt8 := dkwX3_init_17 ++ dktX3_init_18
def dkwX3_init_16 : List UInt8 := [181, 0, 129, 42, 16, 17, 188, 10, 181, 0, 132, 42, 16, 17, 188, 10, 181, 0, 135, 42, 17, 0, 136]
abbrev dktX3_init_16 : List UInt8 := dkwX3_init_16 ++ dktX3_init_17
def dkwX3_init_15 : List UInt8 := [181, 0, 120, 42, 7, 188, 10, 181, 0, 123, 42, 7, 188, 10, 181, 0, 126, 42, 17, 0, 136, 188, 10]
abbrev dktX3_init_15 : List UInt8 := dkwX3_init_15 ++ dktX3_init_16
def dkwX3_init_14 : List UInt8 := [188, 10, 181, 0, 111, 42, 7, 188, 10, 181, 0, 114, 42, 7, 188, 10, 181, 0, 117, 42, 7, 188, 10]
abbrev dktX3_init_14 : List UInt8 := dkwX3_init_14 ++ dktX3_init_15
def dkwX3_init_13 : List UInt8 := [16, 32, 184, 0, 79, 181, 0, 102, 42, 7, 188, 10, 181, 0, 105, 42, 6, 188, 11, 181, 0, 108, 42, 6]
abbrev dktX3_init_13 : List UInt8 := dkwX3_init_13 ++ dktX3_init_14
def dkwX3_init_12 : List UInt8 := [16, 101, 16, 110, 16, 32, 16, 32, 184, 0, 79, 181, 0, 99, 42, 16, 115, 16, 116, 16, 114, 16, 32]
abbrev dktX3_init_12 : List UInt8 := dkwX3_init_12 ++ dktX3_init_13
def dkwX3_init_11 : List UInt8 := [181, 0, 93, 42, 16, 119, 16, 104, 16, 101, 16, 114, 16, 101, 184, 0, 79, 181, 0, 96, 42, 16, 108]
abbrev dktX3_init_11 : List UInt8 := dkwX3_init_11 ++ dktX3_init_12
def dkwX3_init_10 : List UInt8 := [16, 101, 184, 0, 79, 181, 0, 90, 42, 16, 102, 16, 114, 16, 111, 16, 109, 16, 32, 184, 0, 79]
abbrev dktX3_init_10 : List UInt8 := dkwX3_init_10 ++ dktX3_init_11
def dkwX3_init_9 : List UInt8 := [16, 111, 16, 112, 16, 121, 16, 32, 184, 0, 79, 181, 0, 87, 42, 16, 116, 16, 97, 16, 98, 16, 108]
abbrev dktX3_init_9 : List UInt8 := dkwX3_init_9 ++ dktX3_init_10
def dkwX3_init_8 : List UInt8 := [181, 0, 75, 42, 16, 118, 16, 105, 16, 101, 16, 119, 16, 32, 184, 0, 79, 181, 0, 83, 42, 16, 99]
abbrev dktX3_init_8 : List UInt8 := dkwX3_init_8 ++ dktX3_init_9
def dkwX3_init_7 : List UInt8 := [181, 0, 66, 42, 16, 17, 188, 10, 181, 0, 69, 42, 17, 1, 144, 188, 10, 181, 0, 72, 42, 2]
abbrev dktX3_init_7 : List UInt8 := dkwX3_init_7 ++ dktX3_init_8
def dkwX3_init_6 : List UInt8 := [17, 26, 144, 188, 10, 181, 0, 60, 42, 17, 0, 136, 188, 10, 181, 0, 63, 42, 17, 0, 136, 188, 10]
abbrev dktX3_init_6 : List UInt8 := dkwX3_init_6 ++ dktX3_init_7
def dkwX3_init_5 : List UInt8 := [181, 0, 51, 42, 17, 26, 144, 188, 10, 181, 0, 54, 42, 17, 26, 144, 188, 10, 181, 0, 57, 42]
abbrev dktX3_init_5 : List UInt8 := dkwX3_init_5 ++ dktX3_init_6
def dkwX3_init_4 : List UInt8 := [42, 16, 17, 188, 10, 181, 0, 45, 42, 16, 17, 188, 10, 181, 0, 48, 42, 17, 26, 144, 188, 10]
abbrev dktX3_init_4 : List UInt8 := dkwX3_init_4 ++ dktX3_init_5
def dkwX3_init_3 : List UInt8 := [42, 16, 17, 188, 10, 181, 0, 36, 42, 16, 17, 188, 10, 181, 0, 39, 42, 16, 17, 188, 10, 181, 0, 42]
abbrev dktX3_init_3 : List UInt8 := dkwX3_init_3 ++ dktX3_init_4
def dkwX3_init_2 : List UInt8 := [17, 0, 136, 188, 10, 181, 0, 27, 42, 16, 17, 188, 10, 181, 0, 30, 42, 16, 51, 188, 10, 181, 0, 33]
abbrev dktX3_init_2 : List UInt8 := dkwX3_init_2 ++ dktX3_init_3
def dkwX3_init_1 : List UInt8 := [188, 10, 181, 0, 17, 42, 16, 17, 188, 10, 181, 0, 21, 42, 17, 0, 136, 188, 11, 181, 0, 24, 42]
abbrev dktX3_init_1 : List UInt8 := dkwX3_init_1 ++ dktX3_init_2
def dkwX3_init_0 : List UInt8 := [42, 183, 0, 1, 42, 16, 17, 188, 4, 181, 0, 7, 42, 16, 17, 188, 11, 181, 0, 13, 42, 16, 17]
abbrev dktX3_init_0 : List UInt8 := dkwX3_init_0 ++ dktX3_init_1
theorem dksX3_init_0 : cX3_init.data.toList.drop 0 = dktX3_init_0 := by decide +kernel
theorem dksX3_init_1 : cX3_init.data.toList.drop 23 = dktX3_init_1 := dk_seg dksX3_init_0 23 rfl rfl
theorem dksX3_init_2 : cX3_init.data.toList.drop 46 = dktX3_init_2 := dk_seg dksX3_init_1 23 rfl rfl
theorem dksX3_init_3 : cX3_init.data.toList.drop 70 = dktX3_init_3 := dk_seg dksX3_init_2 24 rfl rfl
theorem dksX3_init_4 : cX3_init.data.toList.drop 94 = dktX3_init_4 := dk_seg dksX3_init_3 24 rfl rfl
theorem dksX3_init_5 : cX3_init.data.toList.drop 116 = dktX3_init_5 := dk_seg dksX3_init_4 22 rfl rfl
theorem dksX3_init_6 : cX3_init.data.toList.drop 138 = dktX3_init_6 := dk_seg dksX3_init_5 22 rfl rfl
theorem dksX3_init_7 : cX3_init.data.toList.drop 161 = dktX3_init_7 := dk_seg dksX3_init_6 23 rfl rfl
theorem dksX3_init_8 : cX3_init.data.toList.drop 183 = dktX3_init_8 := dk_seg dksX3_init_7 22 rfl rfl
theorem dksX3_init_9 : cX3_init.data.toList.drop 206 = dktX3_init_9 := dk_seg dksX3_init_8 23 rfl rfl
theorem dksX3_init_10 : cX3_init.data.toList.drop 229 = dktX3_init_10 := dk_seg dksX3_init_9 23 rfl rfl
theorem dksX3_init_11 : cX3_init.data.toList.drop 251 = dktX3_init_11 := dk_seg dksX3_init_10 22 rfl rfl
theorem dksX3_init_12 : cX3_init.data.toList.drop 274 = dktX3_init_12 := dk_seg dksX3_init_11 23 rfl rfl
theorem dksX3_init_13 : cX3_init.data.toList.drop 297 = dktX3_init_13 := dk_seg dksX3_init_12 23 rfl rfl
theorem dksX3_init_14 : cX3_init.data.toList.drop 321 = dktX3_init_14 := dk_seg dksX3_init_13 24 rfl rfl
theorem dksX3_init_15 : cX3_init.data.toList.drop 344 = dktX3_init_15 := dk_seg dksX3_init_14 23 rfl rfl
theorem dksX3_init_16 : cX3_init.data.toList.drop 367 = dktX3_init_16 := dk_seg dksX3_init_15 23 rfl rfl
theorem dksX3_init_17 : cX3_init.data.toList.drop 390 = dktX3_init_17 := dk_seg dksX3_init_16 23 rfl rfl
theorem dksX3_init_18 : cX3_init.data.toList.drop 413 = dktX3_init_18 := dk_seg dksX3_init_17 23 rfl rfl
theorem dksX3_init_19 : cX3_init.data.toList.drop 437 = dktX3_init_19 := dk_seg dksX3_init_18 24 rfl rfl
theorem dX3_init_0 : decode cX3_init 0 = .ok (.aload_n 0, 1) := dk_42 (dk_at dksX3_init_0 0 rfl rfl)
theorem dX3_init_1 : decode cX3_init 1 = .ok (.invokespecial 1, 3) := dk_183 0 1 (dk_at dksX3_init_0 1 rfl rfl)
theorem dX3_init_4 : decode cX3_init 4 = .ok (.aload_n 0, 1) := dk_42 (dk_at dksX3_init_0 4 rfl rfl)
theorem dX3_init_5 : decode cX3_init 5 = .ok (.bipush 17, 2) := dk_16 17 (dk_at dksX3_init_0 5 rfl rfl)
theorem dX3_init_7 : decode cX3_init 7 = .ok (.newarray .boolean, 2) := dk_188_4 (dk_at dksX3_init_0 7 rfl rfl)
theorem dX3_init_9 : decode cX3_init 9 = .ok (.putfield 7, 3) := dk_181 0 7 (dk_at dksX3_init_0 9 rfl rfl)
theorem dX3_init_12 : decode cX3_init 12 = .ok (.aload_n 0, 1) := dk_42 (dk_at dksX3_init_0 12 rfl rfl)
theorem dX3_init_13 : decode cX3_init 13 = .ok (.bipush 17, 2) := dk_16 17 (dk_at dksX3_init_0 13 rfl rfl)
theorem dX3_init_15 : decode cX3_init 15 = .ok (.newarray .long, 2) := dk_188_11 (dk_at dksX3_init_0 15 rfl rfl)
theorem dX3_init_17 : decode cX3_init 17 = .ok (.putfield 13, 3) := dk_181 0 13 (dk_at dksX3_init_0 17 rfl rfl)
theorem dX3_init_20 : decode cX3_init 20 = .ok (.aload_n 0, 1) := dk_42 (dk_at dksX3_init_0 20 rfl rfl)
theorem dX3_init_21 : decode cX3_init 21 = .ok (.bipush 17, 2) := dk_16 17 (dk_at dksX3_init_0 21 rfl rfl)
theorem dX3_init_23 : decode cX3_init 23 = .ok (.newarray .int, 2) := dk_188_10 (dk_at dksX3_init_1 0 rfl rfl)
theorem dX3_init_25 : decode cX3_init 25 = .ok (.putfield 17, 3) := dk_181 0 17 (dk_at dksX3_init_1 2 rfl rfl)
theorem dX3_init_28 : decode cX3_init 28 = .ok (.aload_n 0, 1) := dk_42 (dk_at dksX3_init_1 5 rfl rfl)
theorem dX3_init_29 : decode cX3_init 29 = .ok (.bipush 17, 2) := dk_16 17 (dk_at dksX3_init_1 6 rfl rfl)
theorem dX3_init_31 : decode cX3_init 31 = .ok (.newarray .int, 2) := dk_188_10 (dk_at dksX3_init_1 8 rfl rfl)
theorem dX3_init_33 : decode cX3_init 33 = .ok (.putfield 21, 3) := dk_181 0 21 (dk_at dksX3_init_1 10 rfl rfl)
theorem dX3_init_36 : decode cX3_init 36 = .ok (.aload_n 0, 1) := dk_42 (dk_at dksX3_init_1 13 rfl rfl)
theorem dX3_init_37 : decode cX3_init 37 = .ok (.sipush 136, 3) := dk_17 0 136 (dk_at dksX3_init_1 14 rfl rfl)
theorem dX3_init_40 : decode cX3_init 40 = .ok (.newarray .long, 2) := dk_188_11 (dk_at dksX3_init_1 17 rfl rfl)
theorem dX3_init_42 : decode cX3_init 42 = .ok (.putfield 24, 3) := dk_181 0 24 (dk_at dksX3_init_1 19 rfl rfl)
theorem dX3_init_45 : decode cX3_init 45 = .ok (.aload_n 0, 1) := dk_42 (dk_at dksX3_init_1 22 rfl rfl)
theorem dX3_init_46 : decode cX3_init 46 = .ok (.sipush 136, 3) := dk_17 0 136 (dk_at dksX3_init_2 0 rfl rfl)
theorem dX3_init_49 : decode cX3_init 49 = .ok (.newarray .int, 2) := dk_188_10 (dk_at dksX3_init_2 3 rfl rfl)
theorem dX3_init_51 : decode cX3_init 51 = .ok (.putfield 27, 3) := dk_181 0 27 (dk_at dksX3_init_2 5 rfl rfl)
theorem dX3_init_54 : decode cX3_init 54 = .ok (.aload_n 0, 1) := dk_42 (dk_at dksX3_init_2 8 rfl rfl)
theorem dX3_init_55 : decode cX3_init 55 = .ok (.bipush 17, 2) := dk_16 17 (dk_at dksX3_init_2 9 rfl rfl)
theorem dX3_init_57 : decode cX3_init 57 = .ok (.newarray .int, 2) := dk_188_10 (dk_at dksX3_init_2 11 rfl rfl)
theorem dX3_init_59 : decode cX3_init 59 = .ok (.putfield 30, 3) := dk_181 0 30 (dk_at dksX3_init_2 13 rfl rfl)
theorem dX3_init_62 : decode cX3_init 62 = .ok (.aload_n 0, 1) := dk_42 (dk_at dksX3_init_2 16 rfl rfl)
theorem dX3_init_63 : decode cX3_init 63 = .ok (.bipush 51, 2) := dk_16 51 (dk_at dksX3_init_2 17 rfl rfl)
theorem dX3_init_65 : decode cX3_init 65 = .ok (.newarray .int, 2) := dk_188_10 (dk_at dksX3_init_2 19 rfl rfl)
theorem dX3_init_67 : decode cX3_init 67 = .ok (.putfield 33, 3) := dk_181 0 33 (dk_at dksX3_init_2 21 rfl rfl)
theorem dX3_init_70 : decode cX3_init 70 = .ok (.aload_n 0, 1) := dk_42 (dk_at dksX3_init_3 0 rfl rfl)
theorem dX3_init_71 : decode cX3_init 71 = .ok (.bipush 17, 2) := dk_16 17 (dk_at dksX3_init_3 1 rfl rfl)
theorem dX3_init_73 : decode cX3_init 73 = .ok (.newarray .int, 2) := dk_188_10 (dk_at dksX3_init_3 3 rfl rfl)
theorem dX3_init_75 : decode cX3_init 75 = .ok (.putfield 36, 3) := dk_181 0 36 (dk_at dksX3_init_3 5 rfl rfl)
theorem dX3_init_78 : decode cX3_init 78 = .ok (.aload_n 0, 1) := dk_42 (dk_at dksX3_init_3 8 rfl rfl)
theorem dX3_init_79 : decode cX3_init 79 = .ok (.bipush 17, 2) := dk_16 17 (dk_at dksX3_init_3 9 rfl rfl)
theorem dX3_init_81 : decode cX3_init 81 = .ok (.newarray .int, 2) := dk_188_10 (dk_at dksX3_init_3 11 rfl rfl)
theorem dX3_init_83 : decode cX3_init 83 = .ok (.putfield 39, 3) := dk_181 0 39 (dk_at dksX3_init_3 13 rfl rfl)
theorem dX3_init_86 : decode cX3_init 86 = .ok (.aload_n 0, 1) := dk_42 (dk_at dksX3_init_3 16 rfl rfl)
theorem dX3_init_87 : decode cX3_init 87 = .ok (.bipush 17, 2) := dk_16 17 (dk_at dksX3_init_3 17 rfl rfl)
theorem dX3_init_89 : decode cX3_init 89 = .ok (.newarray .int, 2) := dk_188_10 (dk_at dksX3_init_3 19 rfl rfl)
theorem dX3_init_91 : decode cX3_init 91 = .ok (.putfield 42, 3) := dk_181 0 42 (dk_at dksX3_init_3 21 rfl rfl)
theorem dX3_init_94 : decode cX3_init 94 = .ok (.aload_n 0, 1) := dk_42 (dk_at dksX3_init_4 0 rfl rfl)
theorem dX3_init_95 : decode cX3_init 95 = .ok (.bipush 17, 2) := dk_16 17 (dk_at dksX3_init_4 1 rfl rfl)
theorem dX3_init_97 : decode cX3_init 97 = .ok (.newarray .int, 2) := dk_188_10 (dk_at dksX3_init_4 3 rfl rfl)
theorem dX3_init_99 : decode cX3_init 99 = .ok (.putfield 45, 3) := dk_181 0 45 (dk_at dksX3_init_4 5 rfl rfl)
theorem dX3_init_102 : decode cX3_init 102 = .ok (.aload_n 0, 1) := dk_42 (dk_at dksX3_init_4 8 rfl rfl)
theorem dX3_init_103 : decode cX3_init 103 = .ok (.bipush 17, 2) := dk_16 17 (dk_at dksX3_init_4 9 rfl rfl)
theorem dX3_init_105 : decode cX3_init 105 = .ok (.newarray .int, 2) := dk_188_10 (dk_at dksX3_init_4 11 rfl rfl)
theorem dX3_init_107 : decode cX3_init 107 = .ok (.putfield 48, 3) := dk_181 0 48 (dk_at dksX3_init_4 13 rfl rfl)
theorem dX3_init_110 : decode cX3_init 110 = .ok (.aload_n 0, 1) := dk_42 (dk_at dksX3_init_4 16 rfl rfl)
theorem dX3_init_111 : decode cX3_init 111 = .ok (.sipush 6800, 3) := dk_17 26 144 (dk_at dksX3_init_4 17 rfl rfl)
theorem dX3_init_114 : decode cX3_init 114 = .ok (.newarray .int, 2) := dk_188_10 (dk_at dksX3_init_4 20 rfl rfl)
theorem dX3_init_116 : decode cX3_init 116 = .ok (.putfield 51, 3) := dk_181 0 51 (dk_at dksX3_init_5 0 rfl rfl)
theorem dX3_init_119 : decode cX3_init 119 = .ok (.aload_n 0, 1) := dk_42 (dk_at dksX3_init_5 3 rfl rfl)
theorem dX3_init_120 : decode cX3_init 120 = .ok (.sipush 6800, 3) := dk_17 26 144 (dk_at dksX3_init_5 4 rfl rfl)
theorem dX3_init_123 : decode cX3_init 123 = .ok (.newarray .int, 2) := dk_188_10 (dk_at dksX3_init_5 7 rfl rfl)
theorem dX3_init_125 : decode cX3_init 125 = .ok (.putfield 54, 3) := dk_181 0 54 (dk_at dksX3_init_5 9 rfl rfl)
theorem dX3_init_128 : decode cX3_init 128 = .ok (.aload_n 0, 1) := dk_42 (dk_at dksX3_init_5 12 rfl rfl)
theorem dX3_init_129 : decode cX3_init 129 = .ok (.sipush 6800, 3) := dk_17 26 144 (dk_at dksX3_init_5 13 rfl rfl)
theorem dX3_init_132 : decode cX3_init 132 = .ok (.newarray .int, 2) := dk_188_10 (dk_at dksX3_init_5 16 rfl rfl)
theorem dX3_init_134 : decode cX3_init 134 = .ok (.putfield 57, 3) := dk_181 0 57 (dk_at dksX3_init_5 18 rfl rfl)
theorem dX3_init_137 : decode cX3_init 137 = .ok (.aload_n 0, 1) := dk_42 (dk_at dksX3_init_5 21 rfl rfl)
theorem dX3_init_138 : decode cX3_init 138 = .ok (.sipush 6800, 3) := dk_17 26 144 (dk_at dksX3_init_6 0 rfl rfl)
theorem dX3_init_141 : decode cX3_init 141 = .ok (.newarray .int, 2) := dk_188_10 (dk_at dksX3_init_6 3 rfl rfl)
theorem dX3_init_143 : decode cX3_init 143 = .ok (.putfield 60, 3) := dk_181 0 60 (dk_at dksX3_init_6 5 rfl rfl)
theorem dX3_init_146 : decode cX3_init 146 = .ok (.aload_n 0, 1) := dk_42 (dk_at dksX3_init_6 8 rfl rfl)
theorem dX3_init_147 : decode cX3_init 147 = .ok (.sipush 136, 3) := dk_17 0 136 (dk_at dksX3_init_6 9 rfl rfl)
theorem dX3_init_150 : decode cX3_init 150 = .ok (.newarray .int, 2) := dk_188_10 (dk_at dksX3_init_6 12 rfl rfl)
theorem dX3_init_152 : decode cX3_init 152 = .ok (.putfield 63, 3) := dk_181 0 63 (dk_at dksX3_init_6 14 rfl rfl)
theorem dX3_init_155 : decode cX3_init 155 = .ok (.aload_n 0, 1) := dk_42 (dk_at dksX3_init_6 17 rfl rfl)
theorem dX3_init_156 : decode cX3_init 156 = .ok (.sipush 136, 3) := dk_17 0 136 (dk_at dksX3_init_6 18 rfl rfl)
theorem dX3_init_159 : decode cX3_init 159 = .ok (.newarray .int, 2) := dk_188_10 (dk_at dksX3_init_6 21 rfl rfl)
theorem dX3_init_161 : decode cX3_init 161 = .ok (.putfield 66, 3) := dk_181 0 66 (dk_at dksX3_init_7 0 rfl rfl)
theorem dX3_init_164 : decode cX3_init 164 = .ok (.aload_n 0, 1) := dk_42 (dk_at dksX3_init_7 3 rfl rfl)
theorem dX3_init_165 : decode cX3_init 165 = .ok (.bipush 17, 2) := dk_16 17 (dk_at dksX3_init_7 4 rfl rfl)
theorem dX3_init_167 : decode cX3_init 167 = .ok (.newarray .int, 2) := dk_188_10 (dk_at dksX3_init_7 6 rfl rfl)
theorem dX3_init_169 : decode cX3_init 169 = .ok (.putfield 69, 3) := dk_181 0 69 (dk_at dksX3_init_7 8 rfl rfl)
theorem dX3_init_172 : decode cX3_init 172 = .ok (.aload_n 0, 1) := dk_42 (dk_at dksX3_init_7 11 rfl rfl)
theorem dX3_init_173 : decode cX3_init 173 = .ok (.sipush 400, 3) := dk_17 1 144 (dk_at dksX3_init_7 12 rfl rfl)
theorem dX3_init_176 : decode cX3_init 176 = .ok (.newarray .int, 2) := dk_188_10 (dk_at dksX3_init_7 15 rfl rfl)
theorem dX3_init_178 : decode cX3_init 178 = .ok (.putfield 72, 3) := dk_181 0 72 (dk_at dksX3_init_7 17 rfl rfl)
theorem dX3_init_181 : decode cX3_init 181 = .ok (.aload_n 0, 1) := dk_42 (dk_at dksX3_init_7 20 rfl rfl)
theorem dX3_init_182 : decode cX3_init 182 = .ok (.iconst (-1), 1) := dk_2 (dk_at dksX3_init_7 21 rfl rfl)
theorem dX3_init_183 : decode cX3_init 183 = .ok (.putfield 75, 3) := dk_181 0 75 (dk_at dksX3_init_8 0 rfl rfl)
theorem dX3_init_186 : decode cX3_init 186 = .ok (.aload_n 0, 1) := dk_42 (dk_at dksX3_init_8 3 rfl rfl)
theorem dX3_init_187 : decode cX3_init 187 = .ok (.bipush 118, 2) := dk_16 118 (dk_at dksX3_init_8 4 rfl rfl)
theorem dX3_init_189 : decode cX3_init 189 = .ok (.bipush 105, 2) := dk_16 105 (dk_at dksX3_init_8 6 rfl rfl)
theorem dX3_init_191 : decode cX3_init 191 = .ok (.bipush 101, 2) := dk_16 101 (dk_at dksX3_init_8 8 rfl rfl)
theorem dX3_init_193 : decode cX3_init 193 = .ok (.bipush 119, 2) := dk_16 119 (dk_at dksX3_init_8 10 rfl rfl)
theorem dX3_init_195 : decode cX3_init 195 = .ok (.bipush 32, 2) := dk_16 32 (dk_at dksX3_init_8 12 rfl rfl)
theorem dX3_init_197 : decode cX3_init 197 = .ok (.invokestatic 79, 3) := dk_184 0 79 (dk_at dksX3_init_8 14 rfl rfl)
theorem dX3_init_200 : decode cX3_init 200 = .ok (.putfield 83, 3) := dk_181 0 83 (dk_at dksX3_init_8 17 rfl rfl)
theorem dX3_init_203 : decode cX3_init 203 = .ok (.aload_n 0, 1) := dk_42 (dk_at dksX3_init_8 20 rfl rfl)
theorem dX3_init_204 : decode cX3_init 204 = .ok (.bipush 99, 2) := dk_16 99 (dk_at dksX3_init_8 21 rfl rfl)
theorem dX3_init_206 : decode cX3_init 206 = .ok (.bipush 111, 2) := dk_16 111 (dk_at dksX3_init_9 0 rfl rfl)
theorem dX3_init_208 : decode cX3_init 208 = .ok (.bipush 112, 2) := dk_16 112 (dk_at dksX3_init_9 2 rfl rfl)
theorem dX3_init_210 : decode cX3_init 210 = .ok (.bipush 121, 2) := dk_16 121 (dk_at dksX3_init_9 4 rfl rfl)
theorem dX3_init_212 : decode cX3_init 212 = .ok (.bipush 32, 2) := dk_16 32 (dk_at dksX3_init_9 6 rfl rfl)
theorem dX3_init_214 : decode cX3_init 214 = .ok (.invokestatic 79, 3) := dk_184 0 79 (dk_at dksX3_init_9 8 rfl rfl)
theorem dX3_init_217 : decode cX3_init 217 = .ok (.putfield 87, 3) := dk_181 0 87 (dk_at dksX3_init_9 11 rfl rfl)
theorem dX3_init_220 : decode cX3_init 220 = .ok (.aload_n 0, 1) := dk_42 (dk_at dksX3_init_9 14 rfl rfl)
theorem dX3_init_221 : decode cX3_init 221 = .ok (.bipush 116, 2) := dk_16 116 (dk_at dksX3_init_9 15 rfl rfl)
theorem dX3_init_223 : decode cX3_init 223 = .ok (.bipush 97, 2) := dk_16 97 (dk_at dksX3_init_9 17 rfl rfl)
theorem dX3_init_225 : decode cX3_init 225 = .ok (.bipush 98, 2) := dk_16 98 (dk_at dksX3_init_9 19 rfl rfl)
theorem dX3_init_227 : decode cX3_init 227 = .ok (.bipush 108, 2) := dk_16 108 (dk_at dksX3_init_9 21 rfl rfl)
theorem dX3_init_229 : decode cX3_init 229 = .ok (.bipush 101, 2) := dk_16 101 (dk_at dksX3_init_10 0 rfl rfl)
theorem dX3_init_231 : decode cX3_init 231 = .ok (.invokestatic 79, 3) := dk_184 0 79 (dk_at dksX3_init_10 2 rfl rfl)
theorem dX3_init_234 : decode cX3_init 234 = .ok (.putfield 90, 3) := dk_181 0 90 (dk_at dksX3_init_10 5 rfl rfl)
theorem dX3_init_237 : decode cX3_init 237 = .ok (.aload_n 0, 1) := dk_42 (dk_at dksX3_init_10 8 rfl rfl)
theorem dX3_init_238 : decode cX3_init 238 = .ok (.bipush 102, 2) := dk_16 102 (dk_at dksX3_init_10 9 rfl rfl)
theorem dX3_init_240 : decode cX3_init 240 = .ok (.bipush 114, 2) := dk_16 114 (dk_at dksX3_init_10 11 rfl rfl)
theorem dX3_init_242 : decode cX3_init 242 = .ok (.bipush 111, 2) := dk_16 111 (dk_at dksX3_init_10 13 rfl rfl)
theorem dX3_init_244 : decode cX3_init 244 = .ok (.bipush 109, 2) := dk_16 109 (dk_at dksX3_init_10 15 rfl rfl)
theorem dX3_init_246 : decode cX3_init 246 = .ok (.bipush 32, 2) := dk_16 32 (dk_at dksX3_init_10 17 rfl rfl)
theorem dX3_init_248 : decode cX3_init 248 = .ok (.invokestatic 79, 3) := dk_184 0 79 (dk_at dksX3_init_10 19 rfl rfl)
theorem dX3_init_251 : decode cX3_init 251 = .ok (.putfield 93, 3) := dk_181 0 93 (dk_at dksX3_init_11 0 rfl rfl)
theorem dX3_init_254 : decode cX3_init 254 = .ok (.aload_n 0, 1) := dk_42 (dk_at dksX3_init_11 3 rfl rfl)
theorem dX3_init_255 : decode cX3_init 255 = .ok (.bipush 119, 2) := dk_16 119 (dk_at dksX3_init_11 4 rfl rfl)
theorem dX3_init_257 : decode cX3_init 257 = .ok (.bipush 104, 2) := dk_16 104 (dk_at dksX3_init_11 6 rfl rfl)
theorem dX3_init_259 : decode cX3_init 259 = .ok (.bipush 101, 2) := dk_16 101 (dk_at dksX3_init_11 8 rfl rfl)
theorem dX3_init_261 : decode cX3_init 261 = .ok (.bipush 114, 2) := dk_16 114 (dk_at dksX3_init_11 10 rfl rfl)
theorem dX3_init_263 : decode cX3_init 263 = .ok (.bipush 101, 2) := dk_16 101 (dk_at dksX3_init_11 12 rfl rfl)
theorem dX3_init_265 : decode cX3_init 265 = .ok (.invokestatic 79, 3) := dk_184 0 79 (dk_at dksX3_init_11 14 rfl rfl)
theorem dX3_init_268 : decode cX3_init 268 = .ok (.putfield 96, 3) := dk_181 0 96 (dk_at dksX3_init_11 17 rfl rfl)
theorem dX3_init_271 : decode cX3_init 271 = .ok (.aload_n 0, 1) := dk_42 (dk_at dksX3_init_11 20 rfl rfl)
theorem dX3_init_272 : decode cX3_init 272 = .ok (.bipush 108, 2) := dk_16 108 (dk_at dksX3_init_11 21 rfl rfl)
theorem dX3_init_274 : decode cX3_init 274 = .ok (.bipush 101, 2) := dk_16 101 (dk_at dksX3_init_12 0 rfl rfl)
theorem dX3_init_276 : decode cX3_init 276 = .ok (.bipush 110, 2) := dk_16 110 (dk_at dksX3_init_12 2 rfl rfl)
theorem dX3_init_278 : decode cX3_init 278 = .ok (.bipush 32, 2) := dk_16 32 (dk_at dksX3_init_12 4 rfl rfl)
theorem dX3_init_280 : decode cX3_init 280 = .ok (.bipush 32, 2) := dk_16 32 (dk_at dksX3_init_12 6 rfl rfl)
theorem dX3_init_282 : decode cX3_init 282 = .ok (.invokestatic 79, 3) := dk_184 0 79 (dk_at dksX3_init_12 8 rfl rfl)
theorem dX3_init_285 : decode cX3_init 285 = .ok (.putfield 99, 3) := dk_181 0 99 (dk_at dksX3_init_12 11 rfl rfl)
theorem dX3_init_288 : decode cX3_init 288 = .ok (.aload_n 0, 1) := dk_42 (dk_at dksX3_init_12 14 rfl rfl)
theorem dX3_init_289 : decode cX3_init 289 = .ok (.bipush 115, 2) := dk_16 115 (dk_at dksX3_init_12 15 rfl rfl)
theorem dX3_init_291 : decode cX3_init 291 = .ok (.bipush 116, 2) := dk_16 116 (dk_at dksX3_init_12 17 rfl rfl)
theorem dX3_init_293 : decode cX3_init 293 = .ok (.bipush 114, 2) := dk_16 114 (dk_at dksX3_init_12 19 rfl rfl)
theorem dX3_init_295 : decode cX3_init 295 = .ok (.bipush 32, 2) := dk_16 32 (dk_at dksX3_init_12 21 rfl rfl)
theorem dX3_init_297 : decode cX3_init 297 = .ok (.bipush 32, 2) := dk_16 32 (dk_at dksX3_init_13 0 rfl rfl)
theorem dX3_init_299 : decode cX3_init 299 = .ok (.invokestatic 79, 3) := dk_184 0 79 (dk_at dksX3_init_13 2 rfl rfl)
theorem dX3_init_302 : decode cX3_init 302 = .ok (.putfield 102, 3) := dk_181 0 102 (dk_at dksX3_init_13 5 rfl rfl)
theorem dX3_init_305 : decode cX3_init 305 = .ok (.aload_n 0, 1) := dk_42 (dk_at dksX3_init_13 8 rfl rfl)
theorem dX3_init_306 : decode cX3_init 306 = .ok (.iconst 4, 1) := dk_7 (dk_at dksX3_init_13 9 rfl rfl)
theorem dX3_init_307 : decode cX3_init 307 = .ok (.newarray .int, 2) := dk_188_10 (dk_at dksX3_init_13 10 rfl rfl)
theorem dX3_init_309 : decode cX3_init 309 = .ok (.putfield 105, 3) := dk_181 0 105 (dk_at dksX3_init_13 12 rfl rfl)
theorem dX3_init_312 : decode cX3_init 312 = .ok (.aload_n 0, 1) := dk_42 (dk_at dksX3_init_13 15 rfl rfl)
theorem dX3_init_313 : decode cX3_init 313 = .ok (.iconst 3, 1) := dk_6 (dk_at dksX3_init_13 16 rfl rfl)
theorem dX3_init_314 : decode cX3_init 314 = .ok (.newarray .long, 2) := dk_188_11 (dk_at dksX3_init_13 17 rfl rfl)
theorem dX3_init_316 : decode cX3_init 316 = .ok (.putfield 108, 3) := dk_181 0 108 (dk_at dksX3_init_13 19 rfl rfl)
theorem dX3_init_319 : decode cX3_init 319 = .ok (.aload_n 0, 1) := dk_42 (dk_at dksX3_init_13 22 rfl rfl)
theorem dX3_init_320 : decode cX3_init 320 = .ok (.iconst 3, 1) := dk_6 (dk_at dksX3_init_13 23 rfl rfl)
theorem dX3_init_321 : decode cX3_init 321 = .ok (.newarray .int, 2) := dk_188_10 (dk_at dksX3_init_14 0 rfl rfl)
theorem dX3_init_323 : decode cX3_init 323 = .ok (.putfield 111, 3) := dk_181 0 111 (dk_at dksX3_init_14 2 rfl rfl)
theorem dX3_init_326 : decode cX3_init 326 = .ok (.aload_n 0, 1) := dk_42 (dk_at dksX3_init_14 5 rfl rfl)
theorem dX3_init_327 : decode cX3_init 327 = .ok (.iconst 4, 1) := dk_7 (dk_at dksX3_init_14 6 rfl rfl)
theorem dX3_init_328 : decode cX3_init 328 = .ok (.newarray .int, 2) := dk_188_10 (dk_at dksX3_init_14 7 rfl rfl)
theorem dX3_init_330 : decode cX3_init 330 = .ok (.putfield 114, 3) := dk_181 0 114 (dk_at dksX3_init_14 9 rfl rfl)
theorem dX3_init_333 : decode cX3_init 333 = .ok (.aload_n 0, 1) := dk_42 (dk_at dksX3_init_14 12 rfl rfl)
theorem dX3_init_334 : decode cX3_init 334 = .ok (.iconst 4, 1) := dk_7 (dk_at dksX3_init_14 13 rfl rfl)
theorem dX3_init_335 : decode cX3_init 335 = .ok (.newarray .int, 2) := dk_188_10 (dk_at dksX3_init_14 14 rfl rfl)
theorem dX3_init_337 : decode cX3_init 337 = .ok (.putfield 117, 3) := dk_181 0 117 (dk_at dksX3_init_14 16 rfl rfl)
theorem dX3_init_340 : decode cX3_init 340 = .ok (.aload_n 0, 1) := dk_42 (dk_at dksX3_init_14 19 rfl rfl)
theorem dX3_init_341 : decode cX3_init 341 = .ok (.iconst 4, 1) := dk_7 (dk_at dksX3_init_14 20 rfl rfl)
theorem dX3_init_342 : decode cX3_init 342 = .ok (.newarray .int, 2) := dk_188_10 (dk_at dksX3_init_14 21 rfl rfl)
theorem dX3_init_344 : decode cX3_init 344 = .ok (.putfield 120, 3) := dk_181 0 120 (dk_at dksX3_init_15 0 rfl rfl)
theorem dX3_init_347 : decode cX3_init 347 = .ok (.aload_n 0, 1) := dk_42 (dk_at dksX3_init_15 3 rfl rfl)
theorem dX3_init_348 : decode cX3_init 348 = .ok (.iconst 4, 1) := dk_7 (dk_at dksX3_init_15 4 rfl rfl)
theorem dX3_init_349 : decode cX3_init 349 = .ok (.newarray .int, 2) := dk_188_10 (dk_at dksX3_init_15 5 rfl rfl)
theorem dX3_init_351 : decode cX3_init 351 = .ok (.putfield 123, 3) := dk_181 0 123 (dk_at dksX3_init_15 7 rfl rfl)
theorem dX3_init_354 : decode cX3_init 354 = .ok (.aload_n 0, 1) := dk_42 (dk_at dksX3_init_15 10 rfl rfl)
theorem dX3_init_355 : decode cX3_init 355 = .ok (.iconst 4, 1) := dk_7 (dk_at dksX3_init_15 11 rfl rfl)
theorem dX3_init_356 : decode cX3_init 356 = .ok (.newarray .int, 2) := dk_188_10 (dk_at dksX3_init_15 12 rfl rfl)
theorem dX3_init_358 : decode cX3_init 358 = .ok (.putfield 126, 3) := dk_181 0 126 (dk_at dksX3_init_15 14 rfl rfl)
theorem dX3_init_361 : decode cX3_init 361 = .ok (.aload_n 0, 1) := dk_42 (dk_at dksX3_init_15 17 rfl rfl)
theorem dX3_init_362 : decode cX3_init 362 = .ok (.sipush 136, 3) := dk_17 0 136 (dk_at dksX3_init_15 18 rfl rfl)
theorem dX3_init_365 : decode cX3_init 365 = .ok (.newarray .int, 2) := dk_188_10 (dk_at dksX3_init_15 21 rfl rfl)
theorem dX3_init_367 : decode cX3_init 367 = .ok (.putfield 129, 3) := dk_181 0 129 (dk_at dksX3_init_16 0 rfl rfl)
theorem dX3_init_370 : decode cX3_init 370 = .ok (.aload_n 0, 1) := dk_42 (dk_at dksX3_init_16 3 rfl rfl)
theorem dX3_init_371 : decode cX3_init 371 = .ok (.bipush 17, 2) := dk_16 17 (dk_at dksX3_init_16 4 rfl rfl)
theorem dX3_init_373 : decode cX3_init 373 = .ok (.newarray .int, 2) := dk_188_10 (dk_at dksX3_init_16 6 rfl rfl)
theorem dX3_init_375 : decode cX3_init 375 = .ok (.putfield 132, 3) := dk_181 0 132 (dk_at dksX3_init_16 8 rfl rfl)
theorem dX3_init_378 : decode cX3_init 378 = .ok (.aload_n 0, 1) := dk_42 (dk_at dksX3_init_16 11 rfl rfl)
theorem dX3_init_379 : decode cX3_init 379 = .ok (.bipush 17, 2) := dk_16 17 (dk_at dksX3_init_16 12 rfl rfl)
theorem dX3_init_381 : decode cX3_init 381 = .ok (.newarray .int, 2) := dk_188_10 (dk_at dksX3_init_16 14 rfl rfl)
theorem dX3_init_383 : decode cX3_init 383 = .ok (.putfield 135, 3) := dk_181 0 135 (dk_at dksX3_init_16 16 rfl rfl)
theorem dX3_init_386 : decode cX3_init 386 = .ok (.aload_n 0, 1) := dk_42 (dk_at dksX3_init_16 19 rfl rfl)
theorem dX3_init_387 : decode cX3_init 387 = .ok (.sipush 136, 3) := dk_17 0 136 (dk_at dksX3_init_16 20 rfl rfl)
theorem dX3_init_390 : decode cX3_init 390 = .ok (.newarray .boolean, 2) := dk_188_4 (dk_at dksX3_init_17 0 rfl rfl)
theorem dX3_init_392 : decode cX3_init 392 = .ok (.putfield 138, 3) := dk_181 0 138 (dk_at dksX3_init_17 2 rfl rfl)
theorem dX3_init_395 : decode cX3_init 395 = .ok (.aload_n 0, 1) := dk_42 (dk_at dksX3_init_17 5 rfl rfl)
theorem dX3_init_396 : decode cX3_init 396 = .ok (.sipush 140, 3) := dk_17 0 140 (dk_at dksX3_init_17 6 rfl rfl)
theorem dX3_init_399 : decode cX3_init 399 = .ok (.newarray .int, 2) := dk_188_10 (dk_at dksX3_init_17 9 rfl rfl)
theorem dX3_init_401 : decode cX3_init 401 = .ok (.putfield 141, 3) := dk_181 0 141 (dk_at dksX3_init_17 11 rfl rfl)
theorem dX3_init_404 : decode cX3_init 404 = .ok (.aload_n 0, 1) := dk_42 (dk_at dksX3_init_17 14 rfl rfl)
theorem dX3_init_405 : decode cX3_init 405 = .ok (.bipush 40, 2) := dk_16 40 (dk_at dksX3_init_17 15 rfl rfl)
theorem dX3_init_407 : decode cX3_init 407 = .ok (.newarray .int, 2) := dk_188_10 (dk_at dksX3_init_17 17 rfl rfl)
theorem dX3_init_409 : decode cX3_init 409 = .ok (.putfield 144, 3) := dk_181 0 144 (dk_at dksX3_init_17 19 rfl rfl)
theorem dX3_init_412 : decode cX3_init 412 = .ok (.aload_n 0, 1) := dk_42 (dk_at dksX3_init_17 22 rfl rfl)
theorem dX3_init_413 : decode cX3_init 413 = .ok (.bipush 40, 2) := dk_16 40 (dk_at dksX3_init_18 0 rfl rfl)
theorem dX3_init_415 : decode cX3_init 415 = .ok (.newarray .int, 2) := dk_188_10 (dk_at dksX3_init_18 2 rfl rfl)
theorem dX3_init_417 : decode cX3_init 417 = .ok (.putfield 147, 3) := dk_181 0 147 (dk_at dksX3_init_18 4 rfl rfl)
theorem dX3_init_420 : decode cX3_init 420 = .ok (.aload_n 0, 1) := dk_42 (dk_at dksX3_init_18 7 rfl rfl)
theorem dX3_init_421 : decode cX3_init 421 = .ok (.bipush 40, 2) := dk_16 40 (dk_at dksX3_init_18 8 rfl rfl)
theorem dX3_init_423 : decode cX3_init 423 = .ok (.newarray .int, 2) := dk_188_10 (dk_at dksX3_init_18 10 rfl rfl)
theorem dX3_init_425 : decode cX3_init 425 = .ok (.putfield 150, 3) := dk_181 0 150 (dk_at dksX3_init_18 12 rfl rfl)
theorem dX3_init_428 : decode cX3_init 428 = .ok (.aload_n 0, 1) := dk_42 (dk_at dksX3_init_18 15 rfl rfl)
theorem dX3_init_429 : decode cX3_init 429 = .ok (.bipush 40, 2) := dk_16 40 (dk_at dksX3_init_18 16 rfl rfl)
theorem dX3_init_431 : decode cX3_init 431 = .ok (.newarray .int, 2) := dk_188_10 (dk_at dksX3_init_18 18 rfl rfl)
theorem dX3_init_433 : decode cX3_init 433 = .ok (.putfield 153, 3) := dk_181 0 153 (dk_at dksX3_init_18 20 rfl rfl)
theorem dX3_init_436 : decode cX3_init 436 = .ok (.aload_n 0, 1) := dk_42 (dk_at dksX3_init_18 23 rfl rfl)
theorem dX3_init_437 : decode cX3_init 437 = .ok (.sipush 136, 3) := dk_17 0 136 (dk_at dksX3_init_19 0 rfl rfl)
theorem dX3_init_440 : decode cX3_init 440 = .ok (.newarray .int, 2) := dk_188_10 (dk_at dksX3_init_19 3 rfl rfl)
theorem dX3_init_442 : decode cX3_init 442 = .ok (.putfield 156, 3) := dk_181 0 156 (dk_at dksX3_init_19 5 rfl rfl)
theorem dX3_init_445 : decode cX3_init 445 = .ok (.return_, 1) := dk_177 (dk_at dksX3_init_19 8 rfl rfl)
abbrev cX3_named : ByteArray := prog_14_method_13_code
def yX3_named : MethodName := ⟨RX3, "named", "(CCCCC)J"⟩
def dkwX3_named_3 : List UInt8 := [20, 0, 177, 101, 10, 97, 55, 5, 132, 7, 1, 167, 255, 179, 22, 5, 173]
abbrev dktX3_named_3 : List UInt8 := dkwX3_named_3 ++ []
def dkwX3_named_2 : List UInt8 := [167, 0, 5, 21, 4, 54, 8, 21, 8, 16, 32, 159, 0, 21, 20, 0, 175, 22, 5, 105, 21, 8, 133, 97]
abbrev dktX3_named_2 : List UInt8 := dkwX3_named_2 ++ dktX3_named_3
def dkwX3_named_1 : List UInt8 := [160, 0, 7, 27, 167, 0, 25, 21, 7, 5, 160, 0, 7, 28, 167, 0, 15, 21, 7, 6, 160, 0, 7, 29]
abbrev dktX3_named_1 : List UInt8 := dkwX3_named_1 ++ dktX3_named_2
def dkwX3_named_0 : List UInt8 := [9, 55, 5, 3, 54, 7, 21, 7, 8, 162, 0, 77, 21, 7, 154, 0, 7, 26, 167, 0, 35, 21, 7, 4]
abbrev dktX3_named_0 : List UInt8 := dkwX3_named_0 ++ dktX3_named_1
theorem dksX3_named_0 : cX3_named.data.toList.drop 0 = dktX3_named_0 := by decide +kernel
theorem dksX3_named_1 : cX3_named.data.toList.drop 24 = dktX3_named_1 := dk_seg dksX3_named_0 24 rfl rfl
theorem dksX3_named_2 : cX3_named.data.toList.drop 48 = dktX3_named_2 := dk_seg dksX3_named_1 24 rfl rfl
theorem dksX3_named_3 : cX3_named.data.toList.drop 72 = dktX3_named_3 := dk_seg dksX3_named_2 24 rfl rfl
theorem dX3_named_0 : decode cX3_named 0 = .ok (.lconst 0, 1) := dk_9 (dk_at dksX3_named_0 0 rfl rfl)
theorem dX3_named_1 : decode cX3_named 1 = .ok (.lstore 5, 2) := dk_55 5 (dk_at dksX3_named_0 1 rfl rfl)
theorem dX3_named_3 : decode cX3_named 3 = .ok (.iconst 0, 1) := dk_3 (dk_at dksX3_named_0 3 rfl rfl)
theorem dX3_named_4 : decode cX3_named 4 = .ok (.istore 7, 2) := dk_54 7 (dk_at dksX3_named_0 4 rfl rfl)
theorem dX3_named_6 : decode cX3_named 6 = .ok (.iload 7, 2) := dk_21 7 (dk_at dksX3_named_0 6 rfl rfl)
theorem dX3_named_8 : decode cX3_named 8 = .ok (.iconst 5, 1) := dk_8 (dk_at dksX3_named_0 8 rfl rfl)
theorem dX3_named_9 : decode cX3_named 9 = .ok (.if_icmp .ge 77, 3) := dk_162 0 77 (dk_at dksX3_named_0 9 rfl rfl)
theorem dX3_named_12 : decode cX3_named 12 = .ok (.iload 7, 2) := dk_21 7 (dk_at dksX3_named_0 12 rfl rfl)
theorem dX3_named_14 : decode cX3_named 14 = .ok (.ifCond .ne 7, 3) := dk_154 0 7 (dk_at dksX3_named_0 14 rfl rfl)
theorem dX3_named_17 : decode cX3_named 17 = .ok (.iload_n 0, 1) := dk_26 (dk_at dksX3_named_0 17 rfl rfl)
theorem dX3_named_18 : decode cX3_named 18 = .ok (.goto 35, 3) := dk_167 0 35 (dk_at dksX3_named_0 18 rfl rfl)
theorem dX3_named_21 : decode cX3_named 21 = .ok (.iload 7, 2) := dk_21 7 (dk_at dksX3_named_0 21 rfl rfl)
theorem dX3_named_23 : decode cX3_named 23 = .ok (.iconst 1, 1) := dk_4 (dk_at dksX3_named_0 23 rfl rfl)
theorem dX3_named_24 : decode cX3_named 24 = .ok (.if_icmp .ne 7, 3) := dk_160 0 7 (dk_at dksX3_named_1 0 rfl rfl)
theorem dX3_named_27 : decode cX3_named 27 = .ok (.iload_n 1, 1) := dk_27 (dk_at dksX3_named_1 3 rfl rfl)
theorem dX3_named_28 : decode cX3_named 28 = .ok (.goto 25, 3) := dk_167 0 25 (dk_at dksX3_named_1 4 rfl rfl)
theorem dX3_named_31 : decode cX3_named 31 = .ok (.iload 7, 2) := dk_21 7 (dk_at dksX3_named_1 7 rfl rfl)
theorem dX3_named_33 : decode cX3_named 33 = .ok (.iconst 2, 1) := dk_5 (dk_at dksX3_named_1 9 rfl rfl)
theorem dX3_named_34 : decode cX3_named 34 = .ok (.if_icmp .ne 7, 3) := dk_160 0 7 (dk_at dksX3_named_1 10 rfl rfl)
theorem dX3_named_37 : decode cX3_named 37 = .ok (.iload_n 2, 1) := dk_28 (dk_at dksX3_named_1 13 rfl rfl)
theorem dX3_named_38 : decode cX3_named 38 = .ok (.goto 15, 3) := dk_167 0 15 (dk_at dksX3_named_1 14 rfl rfl)
theorem dX3_named_41 : decode cX3_named 41 = .ok (.iload 7, 2) := dk_21 7 (dk_at dksX3_named_1 17 rfl rfl)
theorem dX3_named_43 : decode cX3_named 43 = .ok (.iconst 3, 1) := dk_6 (dk_at dksX3_named_1 19 rfl rfl)
theorem dX3_named_44 : decode cX3_named 44 = .ok (.if_icmp .ne 7, 3) := dk_160 0 7 (dk_at dksX3_named_1 20 rfl rfl)
theorem dX3_named_47 : decode cX3_named 47 = .ok (.iload_n 3, 1) := dk_29 (dk_at dksX3_named_1 23 rfl rfl)
theorem dX3_named_48 : decode cX3_named 48 = .ok (.goto 5, 3) := dk_167 0 5 (dk_at dksX3_named_2 0 rfl rfl)
theorem dX3_named_51 : decode cX3_named 51 = .ok (.iload 4, 2) := dk_21 4 (dk_at dksX3_named_2 3 rfl rfl)
theorem dX3_named_53 : decode cX3_named 53 = .ok (.istore 8, 2) := dk_54 8 (dk_at dksX3_named_2 5 rfl rfl)
theorem dX3_named_55 : decode cX3_named 55 = .ok (.iload 8, 2) := dk_21 8 (dk_at dksX3_named_2 7 rfl rfl)
theorem dX3_named_57 : decode cX3_named 57 = .ok (.bipush 32, 2) := dk_16 32 (dk_at dksX3_named_2 9 rfl rfl)
theorem dX3_named_59 : decode cX3_named 59 = .ok (.if_icmp .eq 21, 3) := dk_159 0 21 (dk_at dksX3_named_2 11 rfl rfl)
theorem dX3_named_62 : decode cX3_named 62 = .ok (.ldc2_w 175, 3) := dk_20 0 175 (dk_at dksX3_named_2 14 rfl rfl)
theorem dX3_named_65 : decode cX3_named 65 = .ok (.lload 5, 2) := dk_22 5 (dk_at dksX3_named_2 17 rfl rfl)
theorem dX3_named_67 : decode cX3_named 67 = .ok (.lmul, 1) := dk_105 (dk_at dksX3_named_2 19 rfl rfl)
theorem dX3_named_68 : decode cX3_named 68 = .ok (.iload 8, 2) := dk_21 8 (dk_at dksX3_named_2 20 rfl rfl)
theorem dX3_named_70 : decode cX3_named 70 = .ok (.i2l, 1) := dk_133 (dk_at dksX3_named_2 22 rfl rfl)
theorem dX3_named_71 : decode cX3_named 71 = .ok (.ladd, 1) := dk_97 (dk_at dksX3_named_2 23 rfl rfl)
theorem dX3_named_72 : decode cX3_named 72 = .ok (.ldc2_w 177, 3) := dk_20 0 177 (dk_at dksX3_named_3 0 rfl rfl)
theorem dX3_named_75 : decode cX3_named 75 = .ok (.lsub, 1) := dk_101 (dk_at dksX3_named_3 3 rfl rfl)
theorem dX3_named_76 : decode cX3_named 76 = .ok (.lconst 1, 1) := dk_10 (dk_at dksX3_named_3 4 rfl rfl)
theorem dX3_named_77 : decode cX3_named 77 = .ok (.ladd, 1) := dk_97 (dk_at dksX3_named_3 5 rfl rfl)
theorem dX3_named_78 : decode cX3_named 78 = .ok (.lstore 5, 2) := dk_55 5 (dk_at dksX3_named_3 6 rfl rfl)
theorem dX3_named_80 : decode cX3_named 80 = .ok (.iinc 7 1, 3) := dk_132 7 1 (dk_at dksX3_named_3 8 rfl rfl)
theorem dX3_named_83 : decode cX3_named 83 = .ok (.goto (-77), 3) := dk_167 255 179 (dk_at dksX3_named_3 11 rfl rfl)
theorem dX3_named_86 : decode cX3_named 86 = .ok (.lload 5, 2) := dk_22 5 (dk_at dksX3_named_3 14 rfl rfl)
theorem dX3_named_88 : decode cX3_named 88 = .ok (.lreturn, 1) := dk_173 (dk_at dksX3_named_3 16 rfl rfl)
abbrev cX3_feed : ByteArray := prog_14_method_4_code
def yX3_feed : MethodName := ⟨RX3, "feed", "(IIIII)I"⟩
def dkwX3_feed_5 : List UInt8 := [180, 0, 166, 172]
abbrev dktX3_feed_5 : List UInt8 := dkwX3_feed_5 ++ []
def dkwX3_feed_4 : List UInt8 := [17, 0, 255, 126, 79, 42, 89, 180, 0, 166, 4, 96, 181, 0, 166, 132, 6, 1, 167, 255, 163, 42]
abbrev dktX3_feed_4 : List UInt8 := dkwX3_feed_4 ++ dktX3_feed_5
def dkwX3_feed_3 : List UInt8 := [21, 5, 54, 7, 42, 180, 0, 72, 42, 180, 0, 166, 21, 7, 16, 8, 6, 21, 6, 7, 112, 100, 104, 122]
abbrev dktX3_feed_3 : List UInt8 := dkwX3_feed_3 ++ dktX3_feed_4
def dkwX3_feed_2 : List UInt8 := [21, 6, 16, 12, 162, 0, 7, 29, 167, 0, 17, 21, 6, 16, 16, 162, 0, 8, 21, 4, 167, 0, 5]
abbrev dktX3_feed_2 : List UInt8 := dkwX3_feed_2 ++ dktX3_feed_3
def dkwX3_feed_1 : List UInt8 := [162, 0, 92, 21, 6, 7, 162, 0, 7, 27, 167, 0, 39, 21, 6, 16, 8, 162, 0, 7, 28, 167, 0, 28]
abbrev dktX3_feed_1 : List UInt8 := dkwX3_feed_1 ++ dktX3_feed_2
def dkwX3_feed_0 : List UInt8 := [42, 180, 0, 166, 16, 20, 96, 17, 1, 144, 164, 0, 5, 2, 172, 3, 54, 6, 21, 6, 16, 20]
abbrev dktX3_feed_0 : List UInt8 := dkwX3_feed_0 ++ dktX3_feed_1
theorem dksX3_feed_0 : cX3_feed.data.toList.drop 0 = dktX3_feed_0 := by decide +kernel
theorem dksX3_feed_1 : cX3_feed.data.toList.drop 22 = dktX3_feed_1 := dk_seg dksX3_feed_0 22 rfl rfl
theorem dksX3_feed_2 : cX3_feed.data.toList.drop 46 = dktX3_feed_2 := dk_seg dksX3_feed_1 24 rfl rfl
theorem dksX3_feed_3 : cX3_feed.data.toList.drop 69 = dktX3_feed_3 := dk_seg dksX3_feed_2 23 rfl rfl
theorem dksX3_feed_4 : cX3_feed.data.toList.drop 93 = dktX3_feed_4 := dk_seg dksX3_feed_3 24 rfl rfl
theorem dksX3_feed_5 : cX3_feed.data.toList.drop 115 = dktX3_feed_5 := dk_seg dksX3_feed_4 22 rfl rfl
theorem dX3_feed_0 : decode cX3_feed 0 = .ok (.aload_n 0, 1) := dk_42 (dk_at dksX3_feed_0 0 rfl rfl)
theorem dX3_feed_1 : decode cX3_feed 1 = .ok (.getfield 166, 3) := dk_180 0 166 (dk_at dksX3_feed_0 1 rfl rfl)
theorem dX3_feed_4 : decode cX3_feed 4 = .ok (.bipush 20, 2) := dk_16 20 (dk_at dksX3_feed_0 4 rfl rfl)
theorem dX3_feed_6 : decode cX3_feed 6 = .ok (.iadd, 1) := dk_96 (dk_at dksX3_feed_0 6 rfl rfl)
theorem dX3_feed_7 : decode cX3_feed 7 = .ok (.sipush 400, 3) := dk_17 1 144 (dk_at dksX3_feed_0 7 rfl rfl)
theorem dX3_feed_10 : decode cX3_feed 10 = .ok (.if_icmp .le 5, 3) := dk_164 0 5 (dk_at dksX3_feed_0 10 rfl rfl)
theorem dX3_feed_13 : decode cX3_feed 13 = .ok (.iconst (-1), 1) := dk_2 (dk_at dksX3_feed_0 13 rfl rfl)
theorem dX3_feed_14 : decode cX3_feed 14 = .ok (.ireturn, 1) := dk_172 (dk_at dksX3_feed_0 14 rfl rfl)
theorem dX3_feed_15 : decode cX3_feed 15 = .ok (.iconst 0, 1) := dk_3 (dk_at dksX3_feed_0 15 rfl rfl)
theorem dX3_feed_16 : decode cX3_feed 16 = .ok (.istore 6, 2) := dk_54 6 (dk_at dksX3_feed_0 16 rfl rfl)
theorem dX3_feed_18 : decode cX3_feed 18 = .ok (.iload 6, 2) := dk_21 6 (dk_at dksX3_feed_0 18 rfl rfl)
theorem dX3_feed_20 : decode cX3_feed 20 = .ok (.bipush 20, 2) := dk_16 20 (dk_at dksX3_feed_0 20 rfl rfl)
theorem dX3_feed_22 : decode cX3_feed 22 = .ok (.if_icmp .ge 92, 3) := dk_162 0 92 (dk_at dksX3_feed_1 0 rfl rfl)
theorem dX3_feed_25 : decode cX3_feed 25 = .ok (.iload 6, 2) := dk_21 6 (dk_at dksX3_feed_1 3 rfl rfl)
theorem dX3_feed_27 : decode cX3_feed 27 = .ok (.iconst 4, 1) := dk_7 (dk_at dksX3_feed_1 5 rfl rfl)
theorem dX3_feed_28 : decode cX3_feed 28 = .ok (.if_icmp .ge 7, 3) := dk_162 0 7 (dk_at dksX3_feed_1 6 rfl rfl)
theorem dX3_feed_31 : decode cX3_feed 31 = .ok (.iload_n 1, 1) := dk_27 (dk_at dksX3_feed_1 9 rfl rfl)
theorem dX3_feed_32 : decode cX3_feed 32 = .ok (.goto 39, 3) := dk_167 0 39 (dk_at dksX3_feed_1 10 rfl rfl)
theorem dX3_feed_35 : decode cX3_feed 35 = .ok (.iload 6, 2) := dk_21 6 (dk_at dksX3_feed_1 13 rfl rfl)
theorem dX3_feed_37 : decode cX3_feed 37 = .ok (.bipush 8, 2) := dk_16 8 (dk_at dksX3_feed_1 15 rfl rfl)
theorem dX3_feed_39 : decode cX3_feed 39 = .ok (.if_icmp .ge 7, 3) := dk_162 0 7 (dk_at dksX3_feed_1 17 rfl rfl)
theorem dX3_feed_42 : decode cX3_feed 42 = .ok (.iload_n 2, 1) := dk_28 (dk_at dksX3_feed_1 20 rfl rfl)
theorem dX3_feed_43 : decode cX3_feed 43 = .ok (.goto 28, 3) := dk_167 0 28 (dk_at dksX3_feed_1 21 rfl rfl)
theorem dX3_feed_46 : decode cX3_feed 46 = .ok (.iload 6, 2) := dk_21 6 (dk_at dksX3_feed_2 0 rfl rfl)
theorem dX3_feed_48 : decode cX3_feed 48 = .ok (.bipush 12, 2) := dk_16 12 (dk_at dksX3_feed_2 2 rfl rfl)
theorem dX3_feed_50 : decode cX3_feed 50 = .ok (.if_icmp .ge 7, 3) := dk_162 0 7 (dk_at dksX3_feed_2 4 rfl rfl)
theorem dX3_feed_53 : decode cX3_feed 53 = .ok (.iload_n 3, 1) := dk_29 (dk_at dksX3_feed_2 7 rfl rfl)
theorem dX3_feed_54 : decode cX3_feed 54 = .ok (.goto 17, 3) := dk_167 0 17 (dk_at dksX3_feed_2 8 rfl rfl)
theorem dX3_feed_57 : decode cX3_feed 57 = .ok (.iload 6, 2) := dk_21 6 (dk_at dksX3_feed_2 11 rfl rfl)
theorem dX3_feed_59 : decode cX3_feed 59 = .ok (.bipush 16, 2) := dk_16 16 (dk_at dksX3_feed_2 13 rfl rfl)
theorem dX3_feed_61 : decode cX3_feed 61 = .ok (.if_icmp .ge 8, 3) := dk_162 0 8 (dk_at dksX3_feed_2 15 rfl rfl)
theorem dX3_feed_64 : decode cX3_feed 64 = .ok (.iload 4, 2) := dk_21 4 (dk_at dksX3_feed_2 18 rfl rfl)
theorem dX3_feed_66 : decode cX3_feed 66 = .ok (.goto 5, 3) := dk_167 0 5 (dk_at dksX3_feed_2 20 rfl rfl)
theorem dX3_feed_69 : decode cX3_feed 69 = .ok (.iload 5, 2) := dk_21 5 (dk_at dksX3_feed_3 0 rfl rfl)
theorem dX3_feed_71 : decode cX3_feed 71 = .ok (.istore 7, 2) := dk_54 7 (dk_at dksX3_feed_3 2 rfl rfl)
theorem dX3_feed_73 : decode cX3_feed 73 = .ok (.aload_n 0, 1) := dk_42 (dk_at dksX3_feed_3 4 rfl rfl)
theorem dX3_feed_74 : decode cX3_feed 74 = .ok (.getfield 72, 3) := dk_180 0 72 (dk_at dksX3_feed_3 5 rfl rfl)
theorem dX3_feed_77 : decode cX3_feed 77 = .ok (.aload_n 0, 1) := dk_42 (dk_at dksX3_feed_3 8 rfl rfl)
theorem dX3_feed_78 : decode cX3_feed 78 = .ok (.getfield 166, 3) := dk_180 0 166 (dk_at dksX3_feed_3 9 rfl rfl)
theorem dX3_feed_81 : decode cX3_feed 81 = .ok (.iload 7, 2) := dk_21 7 (dk_at dksX3_feed_3 12 rfl rfl)
theorem dX3_feed_83 : decode cX3_feed 83 = .ok (.bipush 8, 2) := dk_16 8 (dk_at dksX3_feed_3 14 rfl rfl)
theorem dX3_feed_85 : decode cX3_feed 85 = .ok (.iconst 3, 1) := dk_6 (dk_at dksX3_feed_3 16 rfl rfl)
theorem dX3_feed_86 : decode cX3_feed 86 = .ok (.iload 6, 2) := dk_21 6 (dk_at dksX3_feed_3 17 rfl rfl)
theorem dX3_feed_88 : decode cX3_feed 88 = .ok (.iconst 4, 1) := dk_7 (dk_at dksX3_feed_3 19 rfl rfl)
theorem dX3_feed_89 : decode cX3_feed 89 = .ok (.irem, 1) := dk_112 (dk_at dksX3_feed_3 20 rfl rfl)
theorem dX3_feed_90 : decode cX3_feed 90 = .ok (.isub, 1) := dk_100 (dk_at dksX3_feed_3 21 rfl rfl)
theorem dX3_feed_91 : decode cX3_feed 91 = .ok (.imul, 1) := dk_104 (dk_at dksX3_feed_3 22 rfl rfl)
theorem dX3_feed_92 : decode cX3_feed 92 = .ok (.ishr, 1) := dk_122 (dk_at dksX3_feed_3 23 rfl rfl)
theorem dX3_feed_93 : decode cX3_feed 93 = .ok (.sipush 255, 3) := dk_17 0 255 (dk_at dksX3_feed_4 0 rfl rfl)
theorem dX3_feed_96 : decode cX3_feed 96 = .ok (.iand, 1) := dk_126 (dk_at dksX3_feed_4 3 rfl rfl)
theorem dX3_feed_97 : decode cX3_feed 97 = .ok (.iastore, 1) := dk_79 (dk_at dksX3_feed_4 4 rfl rfl)
theorem dX3_feed_98 : decode cX3_feed 98 = .ok (.aload_n 0, 1) := dk_42 (dk_at dksX3_feed_4 5 rfl rfl)
theorem dX3_feed_99 : decode cX3_feed 99 = .ok (.dup, 1) := dk_89 (dk_at dksX3_feed_4 6 rfl rfl)
theorem dX3_feed_100 : decode cX3_feed 100 = .ok (.getfield 166, 3) := dk_180 0 166 (dk_at dksX3_feed_4 7 rfl rfl)
theorem dX3_feed_103 : decode cX3_feed 103 = .ok (.iconst 1, 1) := dk_4 (dk_at dksX3_feed_4 10 rfl rfl)
theorem dX3_feed_104 : decode cX3_feed 104 = .ok (.iadd, 1) := dk_96 (dk_at dksX3_feed_4 11 rfl rfl)
theorem dX3_feed_105 : decode cX3_feed 105 = .ok (.putfield 166, 3) := dk_181 0 166 (dk_at dksX3_feed_4 12 rfl rfl)
theorem dX3_feed_108 : decode cX3_feed 108 = .ok (.iinc 6 1, 3) := dk_132 6 1 (dk_at dksX3_feed_4 15 rfl rfl)
theorem dX3_feed_111 : decode cX3_feed 111 = .ok (.goto (-93), 3) := dk_167 255 163 (dk_at dksX3_feed_4 18 rfl rfl)
theorem dX3_feed_114 : decode cX3_feed 114 = .ok (.aload_n 0, 1) := dk_42 (dk_at dksX3_feed_4 21 rfl rfl)
theorem dX3_feed_115 : decode cX3_feed 115 = .ok (.getfield 166, 3) := dk_180 0 166 (dk_at dksX3_feed_5 0 rfl rfl)
theorem dX3_feed_118 : decode cX3_feed 118 = .ok (.ireturn, 1) := dk_172 (dk_at dksX3_feed_5 3 rfl rfl)
abbrev cX3_end : ByteArray := prog_14_method_5_code
def yX3_end : MethodName := ⟨RX3, "end", "(I)Z"⟩
def dkwX3_end_0 : List UInt8 := [27, 155, 0, 11, 27, 42, 180, 0, 166, 164, 0, 5, 3, 172, 42, 27, 181, 0, 166, 4, 172]
abbrev dktX3_end_0 : List UInt8 := dkwX3_end_0 ++ []
theorem dksX3_end_0 : cX3_end.data.toList.drop 0 = dktX3_end_0 := by decide +kernel
theorem dX3_end_0 : decode cX3_end 0 = .ok (.iload_n 1, 1) := dk_27 (dk_at dksX3_end_0 0 rfl rfl)
theorem dX3_end_1 : decode cX3_end 1 = .ok (.ifCond .lt 11, 3) := dk_155 0 11 (dk_at dksX3_end_0 1 rfl rfl)
theorem dX3_end_4 : decode cX3_end 4 = .ok (.iload_n 1, 1) := dk_27 (dk_at dksX3_end_0 4 rfl rfl)
theorem dX3_end_5 : decode cX3_end 5 = .ok (.aload_n 0, 1) := dk_42 (dk_at dksX3_end_0 5 rfl rfl)
theorem dX3_end_6 : decode cX3_end 6 = .ok (.getfield 166, 3) := dk_180 0 166 (dk_at dksX3_end_0 6 rfl rfl)
theorem dX3_end_9 : decode cX3_end 9 = .ok (.if_icmp .le 5, 3) := dk_164 0 5 (dk_at dksX3_end_0 9 rfl rfl)
theorem dX3_end_12 : decode cX3_end 12 = .ok (.iconst 0, 1) := dk_3 (dk_at dksX3_end_0 12 rfl rfl)
theorem dX3_end_13 : decode cX3_end 13 = .ok (.ireturn, 1) := dk_172 (dk_at dksX3_end_0 13 rfl rfl)
theorem dX3_end_14 : decode cX3_end 14 = .ok (.aload_n 0, 1) := dk_42 (dk_at dksX3_end_0 14 rfl rfl)
theorem dX3_end_15 : decode cX3_end 15 = .ok (.iload_n 1, 1) := dk_27 (dk_at dksX3_end_0 15 rfl rfl)
theorem dX3_end_16 : decode cX3_end 16 = .ok (.putfield 166, 3) := dk_181 0 166 (dk_at dksX3_end_0 16 rfl rfl)
theorem dX3_end_19 : decode cX3_end 19 = .ok (.iconst 1, 1) := dk_4 (dk_at dksX3_end_0 19 rfl rfl)
theorem dX3_end_20 : decode cX3_end 20 = .ok (.ireturn, 1) := dk_172 (dk_at dksX3_end_0 20 rfl rfl)
abbrev cX3_act : ByteArray := prog_14_method_34_code
def yX3_act : MethodName := ⟨RX3, "act", "()I"⟩
def dkwX3_act_17 : List UInt8 := [181, 0, 159, 27, 172]
abbrev dktX3_act_17 : List UInt8 := dkwX3_act_17 ++ []
def dkwX3_act_16 : List UInt8 := [2, 79, 42, 180, 0, 42, 27, 2, 79, 42, 180, 0, 45, 27, 2, 79, 42, 89, 180, 0, 159, 4, 96]
abbrev dktX3_act_16 : List UInt8 := dkwX3_act_16 ++ dktX3_act_17
def dkwX3_act_15 : List UInt8 := [153, 0, 5, 2, 172, 42, 180, 0, 7, 27, 4, 84, 42, 180, 0, 36, 27, 2, 79, 42, 180, 0, 39, 27]
abbrev dktX3_act_15 : List UInt8 := dkwX3_act_15 ++ dktX3_act_16
def dkwX3_act_14 : List UInt8 := [182, 1, 6, 42, 42, 180, 0, 169, 181, 1, 51, 42, 42, 180, 0, 172, 181, 0, 75, 42, 180, 0, 169]
abbrev dktX3_act_14 : List UInt8 := dkwX3_act_14 ++ dktX3_act_15
def dkwX3_act_13 : List UInt8 := [182, 1, 48, 42, 180, 0, 169, 154, 0, 18, 42, 180, 0, 159, 16, 16, 160, 0, 9, 42, 8, 3]
abbrev dktX3_act_13 : List UInt8 := dkwX3_act_13 ++ dktX3_act_14
def dkwX3_act_12 : List UInt8 := [180, 0, 197, 153, 0, 12, 42, 4, 42, 180, 0, 188, 182, 0, 216, 42, 180, 0, 169, 154, 0, 7, 42]
abbrev dktX3_act_12 : List UInt8 := dkwX3_act_12 ++ dktX3_act_13
def dkwX3_act_11 : List UInt8 := [182, 1, 45, 42, 180, 0, 169, 154, 0, 9, 42, 16, 59, 182, 0, 231, 42, 180, 0, 169, 154, 0, 19, 42]
abbrev dktX3_act_11 : List UInt8 := dkwX3_act_11 ++ dktX3_act_12
def dkwX3_act_10 : List UInt8 := [180, 0, 17, 27, 46, 154, 0, 10, 42, 182, 1, 42, 167, 0, 14, 42, 180, 0, 169, 154, 0, 7, 42]
abbrev dktX3_act_10 : List UInt8 := dkwX3_act_10 ++ dktX3_act_11
def dkwX3_act_9 : List UInt8 := [42, 180, 0, 194, 80, 42, 180, 0, 169, 154, 0, 7, 42, 182, 0, 238, 42, 180, 0, 169, 154, 0, 19, 42]
abbrev dktX3_act_9 : List UInt8 := dkwX3_act_9 ++ dktX3_act_10
def dkwX3_act_8 : List UInt8 := [160, 0, 15, 42, 4, 42, 180, 0, 188, 182, 0, 216, 167, 0, 7, 42, 182, 0, 213, 42, 180, 0, 13, 27]
abbrev dktX3_act_8 : List UInt8 := dkwX3_act_8 ++ dktX3_act_9
def dkwX3_act_7 : List UInt8 := [180, 0, 87, 182, 0, 227, 153, 0, 7, 5, 167, 0, 4, 2, 79, 42, 180, 0, 17, 27, 46, 2]
abbrev dktX3_act_7 : List UInt8 := dkwX3_act_7 ++ dktX3_act_8
def dkwX3_act_6 : List UInt8 := [153, 0, 7, 3, 167, 0, 34, 42, 42, 180, 0, 83, 182, 0, 227, 153, 0, 7, 4, 167, 0, 19, 42, 42]
abbrev dktX3_act_6 : List UInt8 := dkwX3_act_6 ++ dktX3_act_7
def dkwX3_act_5 : List UInt8 := [132, 2, 1, 167, 255, 227, 42, 182, 0, 210, 42, 180, 0, 17, 27, 42, 42, 180, 0, 90, 182, 0, 227]
abbrev dktX3_act_5 : List UInt8 := dkwX3_act_5 ++ dktX3_act_6
def dkwX3_act_4 : List UInt8 := [180, 0, 182, 162, 0, 27, 42, 180, 0, 60, 17, 1, 144, 27, 104, 28, 96, 42, 180, 0, 72, 28, 46, 79]
abbrev dktX3_act_4 : List UInt8 := dkwX3_act_4 ++ dktX3_act_5
def dkwX3_act_3 : List UInt8 := [3, 79, 42, 180, 0, 66, 16, 8, 27, 104, 28, 96, 3, 79, 132, 2, 1, 167, 255, 223, 3, 61, 28, 42]
abbrev dktX3_act_3 : List UInt8 := dkwX3_act_3 ++ dktX3_act_4
def dkwX3_act_2 : List UInt8 := [180, 0, 30, 27, 3, 79, 3, 61, 28, 16, 8, 162, 0, 33, 42, 180, 0, 63, 16, 8, 27, 104, 28, 96]
abbrev dktX3_act_2 : List UInt8 := dkwX3_act_2 ++ dktX3_act_3
def dkwX3_act_1 : List UInt8 := [3, 181, 0, 169, 42, 2, 181, 0, 172, 42, 180, 0, 48, 27, 3, 79, 42, 180, 0, 21, 27, 3, 79, 42]
abbrev dktX3_act_1 : List UInt8 := dkwX3_act_1 ++ dktX3_act_2
def dkwX3_act_0 : List UInt8 := [42, 180, 0, 159, 60, 42, 42, 180, 0, 166, 181, 0, 182, 42, 3, 181, 0, 166, 42, 3, 181, 0, 179, 42]
abbrev dktX3_act_0 : List UInt8 := dkwX3_act_0 ++ dktX3_act_1
theorem dksX3_act_0 : cX3_act.data.toList.drop 0 = dktX3_act_0 := by decide +kernel
theorem dksX3_act_1 : cX3_act.data.toList.drop 24 = dktX3_act_1 := dk_seg dksX3_act_0 24 rfl rfl
theorem dksX3_act_2 : cX3_act.data.toList.drop 48 = dktX3_act_2 := dk_seg dksX3_act_1 24 rfl rfl
theorem dksX3_act_3 : cX3_act.data.toList.drop 72 = dktX3_act_3 := dk_seg dksX3_act_2 24 rfl rfl
theorem dksX3_act_4 : cX3_act.data.toList.drop 96 = dktX3_act_4 := dk_seg dksX3_act_3 24 rfl rfl
theorem dksX3_act_5 : cX3_act.data.toList.drop 120 = dktX3_act_5 := dk_seg dksX3_act_4 24 rfl rfl
theorem dksX3_act_6 : cX3_act.data.toList.drop 143 = dktX3_act_6 := dk_seg dksX3_act_5 23 rfl rfl
theorem dksX3_act_7 : cX3_act.data.toList.drop 167 = dktX3_act_7 := dk_seg dksX3_act_6 24 rfl rfl
theorem dksX3_act_8 : cX3_act.data.toList.drop 189 = dktX3_act_8 := dk_seg dksX3_act_7 22 rfl rfl
theorem dksX3_act_9 : cX3_act.data.toList.drop 213 = dktX3_act_9 := dk_seg dksX3_act_8 24 rfl rfl
theorem dksX3_act_10 : cX3_act.data.toList.drop 237 = dktX3_act_10 := dk_seg dksX3_act_9 24 rfl rfl
theorem dksX3_act_11 : cX3_act.data.toList.drop 260 = dktX3_act_11 := dk_seg dksX3_act_10 23 rfl rfl
theorem dksX3_act_12 : cX3_act.data.toList.drop 284 = dktX3_act_12 := dk_seg dksX3_act_11 24 rfl rfl
theorem dksX3_act_13 : cX3_act.data.toList.drop 307 = dktX3_act_13 := dk_seg dksX3_act_12 23 rfl rfl
theorem dksX3_act_14 : cX3_act.data.toList.drop 329 = dktX3_act_14 := dk_seg dksX3_act_13 22 rfl rfl
theorem dksX3_act_15 : cX3_act.data.toList.drop 352 = dktX3_act_15 := dk_seg dksX3_act_14 23 rfl rfl
theorem dksX3_act_16 : cX3_act.data.toList.drop 376 = dktX3_act_16 := dk_seg dksX3_act_15 24 rfl rfl
theorem dksX3_act_17 : cX3_act.data.toList.drop 399 = dktX3_act_17 := dk_seg dksX3_act_16 23 rfl rfl
theorem dX3_act_0 : decode cX3_act 0 = .ok (.aload_n 0, 1) := dk_42 (dk_at dksX3_act_0 0 rfl rfl)
theorem dX3_act_1 : decode cX3_act 1 = .ok (.getfield 159, 3) := dk_180 0 159 (dk_at dksX3_act_0 1 rfl rfl)
theorem dX3_act_4 : decode cX3_act 4 = .ok (.istore_n 1, 1) := dk_60 (dk_at dksX3_act_0 4 rfl rfl)
theorem dX3_act_5 : decode cX3_act 5 = .ok (.aload_n 0, 1) := dk_42 (dk_at dksX3_act_0 5 rfl rfl)
theorem dX3_act_6 : decode cX3_act 6 = .ok (.aload_n 0, 1) := dk_42 (dk_at dksX3_act_0 6 rfl rfl)
theorem dX3_act_7 : decode cX3_act 7 = .ok (.getfield 166, 3) := dk_180 0 166 (dk_at dksX3_act_0 7 rfl rfl)
theorem dX3_act_10 : decode cX3_act 10 = .ok (.putfield 182, 3) := dk_181 0 182 (dk_at dksX3_act_0 10 rfl rfl)
theorem dX3_act_13 : decode cX3_act 13 = .ok (.aload_n 0, 1) := dk_42 (dk_at dksX3_act_0 13 rfl rfl)
theorem dX3_act_14 : decode cX3_act 14 = .ok (.iconst 0, 1) := dk_3 (dk_at dksX3_act_0 14 rfl rfl)
theorem dX3_act_15 : decode cX3_act 15 = .ok (.putfield 166, 3) := dk_181 0 166 (dk_at dksX3_act_0 15 rfl rfl)
theorem dX3_act_18 : decode cX3_act 18 = .ok (.aload_n 0, 1) := dk_42 (dk_at dksX3_act_0 18 rfl rfl)
theorem dX3_act_19 : decode cX3_act 19 = .ok (.iconst 0, 1) := dk_3 (dk_at dksX3_act_0 19 rfl rfl)
theorem dX3_act_20 : decode cX3_act 20 = .ok (.putfield 179, 3) := dk_181 0 179 (dk_at dksX3_act_0 20 rfl rfl)
theorem dX3_act_23 : decode cX3_act 23 = .ok (.aload_n 0, 1) := dk_42 (dk_at dksX3_act_0 23 rfl rfl)
theorem dX3_act_24 : decode cX3_act 24 = .ok (.iconst 0, 1) := dk_3 (dk_at dksX3_act_1 0 rfl rfl)
theorem dX3_act_25 : decode cX3_act 25 = .ok (.putfield 169, 3) := dk_181 0 169 (dk_at dksX3_act_1 1 rfl rfl)
theorem dX3_act_28 : decode cX3_act 28 = .ok (.aload_n 0, 1) := dk_42 (dk_at dksX3_act_1 4 rfl rfl)
theorem dX3_act_29 : decode cX3_act 29 = .ok (.iconst (-1), 1) := dk_2 (dk_at dksX3_act_1 5 rfl rfl)
theorem dX3_act_30 : decode cX3_act 30 = .ok (.putfield 172, 3) := dk_181 0 172 (dk_at dksX3_act_1 6 rfl rfl)
theorem dX3_act_33 : decode cX3_act 33 = .ok (.aload_n 0, 1) := dk_42 (dk_at dksX3_act_1 9 rfl rfl)
theorem dX3_act_34 : decode cX3_act 34 = .ok (.getfield 48, 3) := dk_180 0 48 (dk_at dksX3_act_1 10 rfl rfl)
theorem dX3_act_37 : decode cX3_act 37 = .ok (.iload_n 1, 1) := dk_27 (dk_at dksX3_act_1 13 rfl rfl)
theorem dX3_act_38 : decode cX3_act 38 = .ok (.iconst 0, 1) := dk_3 (dk_at dksX3_act_1 14 rfl rfl)
theorem dX3_act_39 : decode cX3_act 39 = .ok (.iastore, 1) := dk_79 (dk_at dksX3_act_1 15 rfl rfl)
theorem dX3_act_40 : decode cX3_act 40 = .ok (.aload_n 0, 1) := dk_42 (dk_at dksX3_act_1 16 rfl rfl)
theorem dX3_act_41 : decode cX3_act 41 = .ok (.getfield 21, 3) := dk_180 0 21 (dk_at dksX3_act_1 17 rfl rfl)
theorem dX3_act_44 : decode cX3_act 44 = .ok (.iload_n 1, 1) := dk_27 (dk_at dksX3_act_1 20 rfl rfl)
theorem dX3_act_45 : decode cX3_act 45 = .ok (.iconst 0, 1) := dk_3 (dk_at dksX3_act_1 21 rfl rfl)
theorem dX3_act_46 : decode cX3_act 46 = .ok (.iastore, 1) := dk_79 (dk_at dksX3_act_1 22 rfl rfl)
theorem dX3_act_47 : decode cX3_act 47 = .ok (.aload_n 0, 1) := dk_42 (dk_at dksX3_act_1 23 rfl rfl)
theorem dX3_act_48 : decode cX3_act 48 = .ok (.getfield 30, 3) := dk_180 0 30 (dk_at dksX3_act_2 0 rfl rfl)
theorem dX3_act_51 : decode cX3_act 51 = .ok (.iload_n 1, 1) := dk_27 (dk_at dksX3_act_2 3 rfl rfl)
theorem dX3_act_52 : decode cX3_act 52 = .ok (.iconst 0, 1) := dk_3 (dk_at dksX3_act_2 4 rfl rfl)
theorem dX3_act_53 : decode cX3_act 53 = .ok (.iastore, 1) := dk_79 (dk_at dksX3_act_2 5 rfl rfl)
theorem dX3_act_54 : decode cX3_act 54 = .ok (.iconst 0, 1) := dk_3 (dk_at dksX3_act_2 6 rfl rfl)
theorem dX3_act_55 : decode cX3_act 55 = .ok (.istore_n 2, 1) := dk_61 (dk_at dksX3_act_2 7 rfl rfl)
theorem dX3_act_56 : decode cX3_act 56 = .ok (.iload_n 2, 1) := dk_28 (dk_at dksX3_act_2 8 rfl rfl)
theorem dX3_act_57 : decode cX3_act 57 = .ok (.bipush 8, 2) := dk_16 8 (dk_at dksX3_act_2 9 rfl rfl)
theorem dX3_act_59 : decode cX3_act 59 = .ok (.if_icmp .ge 33, 3) := dk_162 0 33 (dk_at dksX3_act_2 11 rfl rfl)
theorem dX3_act_62 : decode cX3_act 62 = .ok (.aload_n 0, 1) := dk_42 (dk_at dksX3_act_2 14 rfl rfl)
theorem dX3_act_63 : decode cX3_act 63 = .ok (.getfield 63, 3) := dk_180 0 63 (dk_at dksX3_act_2 15 rfl rfl)
theorem dX3_act_66 : decode cX3_act 66 = .ok (.bipush 8, 2) := dk_16 8 (dk_at dksX3_act_2 18 rfl rfl)
theorem dX3_act_68 : decode cX3_act 68 = .ok (.iload_n 1, 1) := dk_27 (dk_at dksX3_act_2 20 rfl rfl)
theorem dX3_act_69 : decode cX3_act 69 = .ok (.imul, 1) := dk_104 (dk_at dksX3_act_2 21 rfl rfl)
theorem dX3_act_70 : decode cX3_act 70 = .ok (.iload_n 2, 1) := dk_28 (dk_at dksX3_act_2 22 rfl rfl)
theorem dX3_act_71 : decode cX3_act 71 = .ok (.iadd, 1) := dk_96 (dk_at dksX3_act_2 23 rfl rfl)
theorem dX3_act_72 : decode cX3_act 72 = .ok (.iconst 0, 1) := dk_3 (dk_at dksX3_act_3 0 rfl rfl)
theorem dX3_act_73 : decode cX3_act 73 = .ok (.iastore, 1) := dk_79 (dk_at dksX3_act_3 1 rfl rfl)
theorem dX3_act_74 : decode cX3_act 74 = .ok (.aload_n 0, 1) := dk_42 (dk_at dksX3_act_3 2 rfl rfl)
theorem dX3_act_75 : decode cX3_act 75 = .ok (.getfield 66, 3) := dk_180 0 66 (dk_at dksX3_act_3 3 rfl rfl)
theorem dX3_act_78 : decode cX3_act 78 = .ok (.bipush 8, 2) := dk_16 8 (dk_at dksX3_act_3 6 rfl rfl)
theorem dX3_act_80 : decode cX3_act 80 = .ok (.iload_n 1, 1) := dk_27 (dk_at dksX3_act_3 8 rfl rfl)
theorem dX3_act_81 : decode cX3_act 81 = .ok (.imul, 1) := dk_104 (dk_at dksX3_act_3 9 rfl rfl)
theorem dX3_act_82 : decode cX3_act 82 = .ok (.iload_n 2, 1) := dk_28 (dk_at dksX3_act_3 10 rfl rfl)
theorem dX3_act_83 : decode cX3_act 83 = .ok (.iadd, 1) := dk_96 (dk_at dksX3_act_3 11 rfl rfl)
theorem dX3_act_84 : decode cX3_act 84 = .ok (.iconst 0, 1) := dk_3 (dk_at dksX3_act_3 12 rfl rfl)
theorem dX3_act_85 : decode cX3_act 85 = .ok (.iastore, 1) := dk_79 (dk_at dksX3_act_3 13 rfl rfl)
theorem dX3_act_86 : decode cX3_act 86 = .ok (.iinc 2 1, 3) := dk_132 2 1 (dk_at dksX3_act_3 14 rfl rfl)
theorem dX3_act_89 : decode cX3_act 89 = .ok (.goto (-33), 3) := dk_167 255 223 (dk_at dksX3_act_3 17 rfl rfl)
theorem dX3_act_92 : decode cX3_act 92 = .ok (.iconst 0, 1) := dk_3 (dk_at dksX3_act_3 20 rfl rfl)
theorem dX3_act_93 : decode cX3_act 93 = .ok (.istore_n 2, 1) := dk_61 (dk_at dksX3_act_3 21 rfl rfl)
theorem dX3_act_94 : decode cX3_act 94 = .ok (.iload_n 2, 1) := dk_28 (dk_at dksX3_act_3 22 rfl rfl)
theorem dX3_act_95 : decode cX3_act 95 = .ok (.aload_n 0, 1) := dk_42 (dk_at dksX3_act_3 23 rfl rfl)
theorem dX3_act_96 : decode cX3_act 96 = .ok (.getfield 182, 3) := dk_180 0 182 (dk_at dksX3_act_4 0 rfl rfl)
theorem dX3_act_99 : decode cX3_act 99 = .ok (.if_icmp .ge 27, 3) := dk_162 0 27 (dk_at dksX3_act_4 3 rfl rfl)
theorem dX3_act_102 : decode cX3_act 102 = .ok (.aload_n 0, 1) := dk_42 (dk_at dksX3_act_4 6 rfl rfl)
theorem dX3_act_103 : decode cX3_act 103 = .ok (.getfield 60, 3) := dk_180 0 60 (dk_at dksX3_act_4 7 rfl rfl)
theorem dX3_act_106 : decode cX3_act 106 = .ok (.sipush 400, 3) := dk_17 1 144 (dk_at dksX3_act_4 10 rfl rfl)
theorem dX3_act_109 : decode cX3_act 109 = .ok (.iload_n 1, 1) := dk_27 (dk_at dksX3_act_4 13 rfl rfl)
theorem dX3_act_110 : decode cX3_act 110 = .ok (.imul, 1) := dk_104 (dk_at dksX3_act_4 14 rfl rfl)
theorem dX3_act_111 : decode cX3_act 111 = .ok (.iload_n 2, 1) := dk_28 (dk_at dksX3_act_4 15 rfl rfl)
theorem dX3_act_112 : decode cX3_act 112 = .ok (.iadd, 1) := dk_96 (dk_at dksX3_act_4 16 rfl rfl)
theorem dX3_act_113 : decode cX3_act 113 = .ok (.aload_n 0, 1) := dk_42 (dk_at dksX3_act_4 17 rfl rfl)
theorem dX3_act_114 : decode cX3_act 114 = .ok (.getfield 72, 3) := dk_180 0 72 (dk_at dksX3_act_4 18 rfl rfl)
theorem dX3_act_117 : decode cX3_act 117 = .ok (.iload_n 2, 1) := dk_28 (dk_at dksX3_act_4 21 rfl rfl)
theorem dX3_act_118 : decode cX3_act 118 = .ok (.iaload, 1) := dk_46 (dk_at dksX3_act_4 22 rfl rfl)
theorem dX3_act_119 : decode cX3_act 119 = .ok (.iastore, 1) := dk_79 (dk_at dksX3_act_4 23 rfl rfl)
theorem dX3_act_120 : decode cX3_act 120 = .ok (.iinc 2 1, 3) := dk_132 2 1 (dk_at dksX3_act_5 0 rfl rfl)
theorem dX3_act_123 : decode cX3_act 123 = .ok (.goto (-29), 3) := dk_167 255 227 (dk_at dksX3_act_5 3 rfl rfl)
theorem dX3_act_126 : decode cX3_act 126 = .ok (.aload_n 0, 1) := dk_42 (dk_at dksX3_act_5 6 rfl rfl)
theorem dX3_act_127 : decode cX3_act 127 = .ok (.invokevirtual 210, 3) := dk_182 0 210 (dk_at dksX3_act_5 7 rfl rfl)
theorem dX3_act_130 : decode cX3_act 130 = .ok (.aload_n 0, 1) := dk_42 (dk_at dksX3_act_5 10 rfl rfl)
theorem dX3_act_131 : decode cX3_act 131 = .ok (.getfield 17, 3) := dk_180 0 17 (dk_at dksX3_act_5 11 rfl rfl)
theorem dX3_act_134 : decode cX3_act 134 = .ok (.iload_n 1, 1) := dk_27 (dk_at dksX3_act_5 14 rfl rfl)
theorem dX3_act_135 : decode cX3_act 135 = .ok (.aload_n 0, 1) := dk_42 (dk_at dksX3_act_5 15 rfl rfl)
theorem dX3_act_136 : decode cX3_act 136 = .ok (.aload_n 0, 1) := dk_42 (dk_at dksX3_act_5 16 rfl rfl)
theorem dX3_act_137 : decode cX3_act 137 = .ok (.getfield 90, 3) := dk_180 0 90 (dk_at dksX3_act_5 17 rfl rfl)
theorem dX3_act_140 : decode cX3_act 140 = .ok (.invokevirtual 227, 3) := dk_182 0 227 (dk_at dksX3_act_5 20 rfl rfl)
theorem dX3_act_143 : decode cX3_act 143 = .ok (.ifCond .eq 7, 3) := dk_153 0 7 (dk_at dksX3_act_6 0 rfl rfl)
theorem dX3_act_146 : decode cX3_act 146 = .ok (.iconst 0, 1) := dk_3 (dk_at dksX3_act_6 3 rfl rfl)
theorem dX3_act_147 : decode cX3_act 147 = .ok (.goto 34, 3) := dk_167 0 34 (dk_at dksX3_act_6 4 rfl rfl)
theorem dX3_act_150 : decode cX3_act 150 = .ok (.aload_n 0, 1) := dk_42 (dk_at dksX3_act_6 7 rfl rfl)
theorem dX3_act_151 : decode cX3_act 151 = .ok (.aload_n 0, 1) := dk_42 (dk_at dksX3_act_6 8 rfl rfl)
theorem dX3_act_152 : decode cX3_act 152 = .ok (.getfield 83, 3) := dk_180 0 83 (dk_at dksX3_act_6 9 rfl rfl)
theorem dX3_act_155 : decode cX3_act 155 = .ok (.invokevirtual 227, 3) := dk_182 0 227 (dk_at dksX3_act_6 12 rfl rfl)
theorem dX3_act_158 : decode cX3_act 158 = .ok (.ifCond .eq 7, 3) := dk_153 0 7 (dk_at dksX3_act_6 15 rfl rfl)
theorem dX3_act_161 : decode cX3_act 161 = .ok (.iconst 1, 1) := dk_4 (dk_at dksX3_act_6 18 rfl rfl)
theorem dX3_act_162 : decode cX3_act 162 = .ok (.goto 19, 3) := dk_167 0 19 (dk_at dksX3_act_6 19 rfl rfl)
theorem dX3_act_165 : decode cX3_act 165 = .ok (.aload_n 0, 1) := dk_42 (dk_at dksX3_act_6 22 rfl rfl)
theorem dX3_act_166 : decode cX3_act 166 = .ok (.aload_n 0, 1) := dk_42 (dk_at dksX3_act_6 23 rfl rfl)
theorem dX3_act_167 : decode cX3_act 167 = .ok (.getfield 87, 3) := dk_180 0 87 (dk_at dksX3_act_7 0 rfl rfl)
theorem dX3_act_170 : decode cX3_act 170 = .ok (.invokevirtual 227, 3) := dk_182 0 227 (dk_at dksX3_act_7 3 rfl rfl)
theorem dX3_act_173 : decode cX3_act 173 = .ok (.ifCond .eq 7, 3) := dk_153 0 7 (dk_at dksX3_act_7 6 rfl rfl)
theorem dX3_act_176 : decode cX3_act 176 = .ok (.iconst 2, 1) := dk_5 (dk_at dksX3_act_7 9 rfl rfl)
theorem dX3_act_177 : decode cX3_act 177 = .ok (.goto 4, 3) := dk_167 0 4 (dk_at dksX3_act_7 10 rfl rfl)
theorem dX3_act_180 : decode cX3_act 180 = .ok (.iconst (-1), 1) := dk_2 (dk_at dksX3_act_7 13 rfl rfl)
theorem dX3_act_181 : decode cX3_act 181 = .ok (.iastore, 1) := dk_79 (dk_at dksX3_act_7 14 rfl rfl)
theorem dX3_act_182 : decode cX3_act 182 = .ok (.aload_n 0, 1) := dk_42 (dk_at dksX3_act_7 15 rfl rfl)
theorem dX3_act_183 : decode cX3_act 183 = .ok (.getfield 17, 3) := dk_180 0 17 (dk_at dksX3_act_7 16 rfl rfl)
theorem dX3_act_186 : decode cX3_act 186 = .ok (.iload_n 1, 1) := dk_27 (dk_at dksX3_act_7 19 rfl rfl)
theorem dX3_act_187 : decode cX3_act 187 = .ok (.iaload, 1) := dk_46 (dk_at dksX3_act_7 20 rfl rfl)
theorem dX3_act_188 : decode cX3_act 188 = .ok (.iconst (-1), 1) := dk_2 (dk_at dksX3_act_7 21 rfl rfl)
theorem dX3_act_189 : decode cX3_act 189 = .ok (.if_icmp .ne 15, 3) := dk_160 0 15 (dk_at dksX3_act_8 0 rfl rfl)
theorem dX3_act_192 : decode cX3_act 192 = .ok (.aload_n 0, 1) := dk_42 (dk_at dksX3_act_8 3 rfl rfl)
theorem dX3_act_193 : decode cX3_act 193 = .ok (.iconst 1, 1) := dk_4 (dk_at dksX3_act_8 4 rfl rfl)
theorem dX3_act_194 : decode cX3_act 194 = .ok (.aload_n 0, 1) := dk_42 (dk_at dksX3_act_8 5 rfl rfl)
theorem dX3_act_195 : decode cX3_act 195 = .ok (.getfield 188, 3) := dk_180 0 188 (dk_at dksX3_act_8 6 rfl rfl)
theorem dX3_act_198 : decode cX3_act 198 = .ok (.invokevirtual 216, 3) := dk_182 0 216 (dk_at dksX3_act_8 9 rfl rfl)
theorem dX3_act_201 : decode cX3_act 201 = .ok (.goto 7, 3) := dk_167 0 7 (dk_at dksX3_act_8 12 rfl rfl)
theorem dX3_act_204 : decode cX3_act 204 = .ok (.aload_n 0, 1) := dk_42 (dk_at dksX3_act_8 15 rfl rfl)
theorem dX3_act_205 : decode cX3_act 205 = .ok (.invokevirtual 213, 3) := dk_182 0 213 (dk_at dksX3_act_8 16 rfl rfl)
theorem dX3_act_208 : decode cX3_act 208 = .ok (.aload_n 0, 1) := dk_42 (dk_at dksX3_act_8 19 rfl rfl)
theorem dX3_act_209 : decode cX3_act 209 = .ok (.getfield 13, 3) := dk_180 0 13 (dk_at dksX3_act_8 20 rfl rfl)
theorem dX3_act_212 : decode cX3_act 212 = .ok (.iload_n 1, 1) := dk_27 (dk_at dksX3_act_8 23 rfl rfl)
theorem dX3_act_213 : decode cX3_act 213 = .ok (.aload_n 0, 1) := dk_42 (dk_at dksX3_act_9 0 rfl rfl)
theorem dX3_act_214 : decode cX3_act 214 = .ok (.getfield 194, 3) := dk_180 0 194 (dk_at dksX3_act_9 1 rfl rfl)
theorem dX3_act_217 : decode cX3_act 217 = .ok (.lastore, 1) := dk_80 (dk_at dksX3_act_9 4 rfl rfl)
theorem dX3_act_218 : decode cX3_act 218 = .ok (.aload_n 0, 1) := dk_42 (dk_at dksX3_act_9 5 rfl rfl)
theorem dX3_act_219 : decode cX3_act 219 = .ok (.getfield 169, 3) := dk_180 0 169 (dk_at dksX3_act_9 6 rfl rfl)
theorem dX3_act_222 : decode cX3_act 222 = .ok (.ifCond .ne 7, 3) := dk_154 0 7 (dk_at dksX3_act_9 9 rfl rfl)
theorem dX3_act_225 : decode cX3_act 225 = .ok (.aload_n 0, 1) := dk_42 (dk_at dksX3_act_9 12 rfl rfl)
theorem dX3_act_226 : decode cX3_act 226 = .ok (.invokevirtual 238, 3) := dk_182 0 238 (dk_at dksX3_act_9 13 rfl rfl)
theorem dX3_act_229 : decode cX3_act 229 = .ok (.aload_n 0, 1) := dk_42 (dk_at dksX3_act_9 16 rfl rfl)
theorem dX3_act_230 : decode cX3_act 230 = .ok (.getfield 169, 3) := dk_180 0 169 (dk_at dksX3_act_9 17 rfl rfl)
theorem dX3_act_233 : decode cX3_act 233 = .ok (.ifCond .ne 19, 3) := dk_154 0 19 (dk_at dksX3_act_9 20 rfl rfl)
theorem dX3_act_236 : decode cX3_act 236 = .ok (.aload_n 0, 1) := dk_42 (dk_at dksX3_act_9 23 rfl rfl)
theorem dX3_act_237 : decode cX3_act 237 = .ok (.getfield 17, 3) := dk_180 0 17 (dk_at dksX3_act_10 0 rfl rfl)
theorem dX3_act_240 : decode cX3_act 240 = .ok (.iload_n 1, 1) := dk_27 (dk_at dksX3_act_10 3 rfl rfl)
theorem dX3_act_241 : decode cX3_act 241 = .ok (.iaload, 1) := dk_46 (dk_at dksX3_act_10 4 rfl rfl)
theorem dX3_act_242 : decode cX3_act 242 = .ok (.ifCond .ne 10, 3) := dk_154 0 10 (dk_at dksX3_act_10 5 rfl rfl)
theorem dX3_act_245 : decode cX3_act 245 = .ok (.aload_n 0, 1) := dk_42 (dk_at dksX3_act_10 8 rfl rfl)
theorem dX3_act_246 : decode cX3_act 246 = .ok (.invokevirtual 298, 3) := dk_182 1 42 (dk_at dksX3_act_10 9 rfl rfl)
theorem dX3_act_249 : decode cX3_act 249 = .ok (.goto 14, 3) := dk_167 0 14 (dk_at dksX3_act_10 12 rfl rfl)
theorem dX3_act_252 : decode cX3_act 252 = .ok (.aload_n 0, 1) := dk_42 (dk_at dksX3_act_10 15 rfl rfl)
theorem dX3_act_253 : decode cX3_act 253 = .ok (.getfield 169, 3) := dk_180 0 169 (dk_at dksX3_act_10 16 rfl rfl)
theorem dX3_act_256 : decode cX3_act 256 = .ok (.ifCond .ne 7, 3) := dk_154 0 7 (dk_at dksX3_act_10 19 rfl rfl)
theorem dX3_act_259 : decode cX3_act 259 = .ok (.aload_n 0, 1) := dk_42 (dk_at dksX3_act_10 22 rfl rfl)
theorem dX3_act_260 : decode cX3_act 260 = .ok (.invokevirtual 301, 3) := dk_182 1 45 (dk_at dksX3_act_11 0 rfl rfl)
theorem dX3_act_263 : decode cX3_act 263 = .ok (.aload_n 0, 1) := dk_42 (dk_at dksX3_act_11 3 rfl rfl)
theorem dX3_act_264 : decode cX3_act 264 = .ok (.getfield 169, 3) := dk_180 0 169 (dk_at dksX3_act_11 4 rfl rfl)
theorem dX3_act_267 : decode cX3_act 267 = .ok (.ifCond .ne 9, 3) := dk_154 0 9 (dk_at dksX3_act_11 7 rfl rfl)
theorem dX3_act_270 : decode cX3_act 270 = .ok (.aload_n 0, 1) := dk_42 (dk_at dksX3_act_11 10 rfl rfl)
theorem dX3_act_271 : decode cX3_act 271 = .ok (.bipush 59, 2) := dk_16 59 (dk_at dksX3_act_11 11 rfl rfl)
theorem dX3_act_273 : decode cX3_act 273 = .ok (.invokevirtual 231, 3) := dk_182 0 231 (dk_at dksX3_act_11 13 rfl rfl)
theorem dX3_act_276 : decode cX3_act 276 = .ok (.aload_n 0, 1) := dk_42 (dk_at dksX3_act_11 16 rfl rfl)
theorem dX3_act_277 : decode cX3_act 277 = .ok (.getfield 169, 3) := dk_180 0 169 (dk_at dksX3_act_11 17 rfl rfl)
theorem dX3_act_280 : decode cX3_act 280 = .ok (.ifCond .ne 19, 3) := dk_154 0 19 (dk_at dksX3_act_11 20 rfl rfl)
theorem dX3_act_283 : decode cX3_act 283 = .ok (.aload_n 0, 1) := dk_42 (dk_at dksX3_act_11 23 rfl rfl)
theorem dX3_act_284 : decode cX3_act 284 = .ok (.getfield 197, 3) := dk_180 0 197 (dk_at dksX3_act_12 0 rfl rfl)
theorem dX3_act_287 : decode cX3_act 287 = .ok (.ifCond .eq 12, 3) := dk_153 0 12 (dk_at dksX3_act_12 3 rfl rfl)
theorem dX3_act_290 : decode cX3_act 290 = .ok (.aload_n 0, 1) := dk_42 (dk_at dksX3_act_12 6 rfl rfl)
theorem dX3_act_291 : decode cX3_act 291 = .ok (.iconst 1, 1) := dk_4 (dk_at dksX3_act_12 7 rfl rfl)
theorem dX3_act_292 : decode cX3_act 292 = .ok (.aload_n 0, 1) := dk_42 (dk_at dksX3_act_12 8 rfl rfl)
theorem dX3_act_293 : decode cX3_act 293 = .ok (.getfield 188, 3) := dk_180 0 188 (dk_at dksX3_act_12 9 rfl rfl)
theorem dX3_act_296 : decode cX3_act 296 = .ok (.invokevirtual 216, 3) := dk_182 0 216 (dk_at dksX3_act_12 12 rfl rfl)
theorem dX3_act_299 : decode cX3_act 299 = .ok (.aload_n 0, 1) := dk_42 (dk_at dksX3_act_12 15 rfl rfl)
theorem dX3_act_300 : decode cX3_act 300 = .ok (.getfield 169, 3) := dk_180 0 169 (dk_at dksX3_act_12 16 rfl rfl)
theorem dX3_act_303 : decode cX3_act 303 = .ok (.ifCond .ne 7, 3) := dk_154 0 7 (dk_at dksX3_act_12 19 rfl rfl)
theorem dX3_act_306 : decode cX3_act 306 = .ok (.aload_n 0, 1) := dk_42 (dk_at dksX3_act_12 22 rfl rfl)
theorem dX3_act_307 : decode cX3_act 307 = .ok (.invokevirtual 304, 3) := dk_182 1 48 (dk_at dksX3_act_13 0 rfl rfl)
theorem dX3_act_310 : decode cX3_act 310 = .ok (.aload_n 0, 1) := dk_42 (dk_at dksX3_act_13 3 rfl rfl)
theorem dX3_act_311 : decode cX3_act 311 = .ok (.getfield 169, 3) := dk_180 0 169 (dk_at dksX3_act_13 4 rfl rfl)
theorem dX3_act_314 : decode cX3_act 314 = .ok (.ifCond .ne 18, 3) := dk_154 0 18 (dk_at dksX3_act_13 7 rfl rfl)
theorem dX3_act_317 : decode cX3_act 317 = .ok (.aload_n 0, 1) := dk_42 (dk_at dksX3_act_13 10 rfl rfl)
theorem dX3_act_318 : decode cX3_act 318 = .ok (.getfield 159, 3) := dk_180 0 159 (dk_at dksX3_act_13 11 rfl rfl)
theorem dX3_act_321 : decode cX3_act 321 = .ok (.bipush 16, 2) := dk_16 16 (dk_at dksX3_act_13 14 rfl rfl)
theorem dX3_act_323 : decode cX3_act 323 = .ok (.if_icmp .ne 9, 3) := dk_160 0 9 (dk_at dksX3_act_13 16 rfl rfl)
theorem dX3_act_326 : decode cX3_act 326 = .ok (.aload_n 0, 1) := dk_42 (dk_at dksX3_act_13 19 rfl rfl)
theorem dX3_act_327 : decode cX3_act 327 = .ok (.iconst 5, 1) := dk_8 (dk_at dksX3_act_13 20 rfl rfl)
theorem dX3_act_328 : decode cX3_act 328 = .ok (.iconst 0, 1) := dk_3 (dk_at dksX3_act_13 21 rfl rfl)
theorem dX3_act_329 : decode cX3_act 329 = .ok (.invokevirtual 262, 3) := dk_182 1 6 (dk_at dksX3_act_14 0 rfl rfl)
theorem dX3_act_332 : decode cX3_act 332 = .ok (.aload_n 0, 1) := dk_42 (dk_at dksX3_act_14 3 rfl rfl)
theorem dX3_act_333 : decode cX3_act 333 = .ok (.aload_n 0, 1) := dk_42 (dk_at dksX3_act_14 4 rfl rfl)
theorem dX3_act_334 : decode cX3_act 334 = .ok (.getfield 169, 3) := dk_180 0 169 (dk_at dksX3_act_14 5 rfl rfl)
theorem dX3_act_337 : decode cX3_act 337 = .ok (.putfield 307, 3) := dk_181 1 51 (dk_at dksX3_act_14 8 rfl rfl)
theorem dX3_act_340 : decode cX3_act 340 = .ok (.aload_n 0, 1) := dk_42 (dk_at dksX3_act_14 11 rfl rfl)
theorem dX3_act_341 : decode cX3_act 341 = .ok (.aload_n 0, 1) := dk_42 (dk_at dksX3_act_14 12 rfl rfl)
theorem dX3_act_342 : decode cX3_act 342 = .ok (.getfield 172, 3) := dk_180 0 172 (dk_at dksX3_act_14 13 rfl rfl)
theorem dX3_act_345 : decode cX3_act 345 = .ok (.putfield 75, 3) := dk_181 0 75 (dk_at dksX3_act_14 16 rfl rfl)
theorem dX3_act_348 : decode cX3_act 348 = .ok (.aload_n 0, 1) := dk_42 (dk_at dksX3_act_14 19 rfl rfl)
theorem dX3_act_349 : decode cX3_act 349 = .ok (.getfield 169, 3) := dk_180 0 169 (dk_at dksX3_act_14 20 rfl rfl)
theorem dX3_act_352 : decode cX3_act 352 = .ok (.ifCond .eq 5, 3) := dk_153 0 5 (dk_at dksX3_act_15 0 rfl rfl)
theorem dX3_act_355 : decode cX3_act 355 = .ok (.iconst (-1), 1) := dk_2 (dk_at dksX3_act_15 3 rfl rfl)
theorem dX3_act_356 : decode cX3_act 356 = .ok (.ireturn, 1) := dk_172 (dk_at dksX3_act_15 4 rfl rfl)
theorem dX3_act_357 : decode cX3_act 357 = .ok (.aload_n 0, 1) := dk_42 (dk_at dksX3_act_15 5 rfl rfl)
theorem dX3_act_358 : decode cX3_act 358 = .ok (.getfield 7, 3) := dk_180 0 7 (dk_at dksX3_act_15 6 rfl rfl)
theorem dX3_act_361 : decode cX3_act 361 = .ok (.iload_n 1, 1) := dk_27 (dk_at dksX3_act_15 9 rfl rfl)
theorem dX3_act_362 : decode cX3_act 362 = .ok (.iconst 1, 1) := dk_4 (dk_at dksX3_act_15 10 rfl rfl)
theorem dX3_act_363 : decode cX3_act 363 = .ok (.bastore, 1) := dk_84 (dk_at dksX3_act_15 11 rfl rfl)
theorem dX3_act_364 : decode cX3_act 364 = .ok (.aload_n 0, 1) := dk_42 (dk_at dksX3_act_15 12 rfl rfl)
theorem dX3_act_365 : decode cX3_act 365 = .ok (.getfield 36, 3) := dk_180 0 36 (dk_at dksX3_act_15 13 rfl rfl)
theorem dX3_act_368 : decode cX3_act 368 = .ok (.iload_n 1, 1) := dk_27 (dk_at dksX3_act_15 16 rfl rfl)
theorem dX3_act_369 : decode cX3_act 369 = .ok (.iconst (-1), 1) := dk_2 (dk_at dksX3_act_15 17 rfl rfl)
theorem dX3_act_370 : decode cX3_act 370 = .ok (.iastore, 1) := dk_79 (dk_at dksX3_act_15 18 rfl rfl)
theorem dX3_act_371 : decode cX3_act 371 = .ok (.aload_n 0, 1) := dk_42 (dk_at dksX3_act_15 19 rfl rfl)
theorem dX3_act_372 : decode cX3_act 372 = .ok (.getfield 39, 3) := dk_180 0 39 (dk_at dksX3_act_15 20 rfl rfl)
theorem dX3_act_375 : decode cX3_act 375 = .ok (.iload_n 1, 1) := dk_27 (dk_at dksX3_act_15 23 rfl rfl)
theorem dX3_act_376 : decode cX3_act 376 = .ok (.iconst (-1), 1) := dk_2 (dk_at dksX3_act_16 0 rfl rfl)
theorem dX3_act_377 : decode cX3_act 377 = .ok (.iastore, 1) := dk_79 (dk_at dksX3_act_16 1 rfl rfl)
theorem dX3_act_378 : decode cX3_act 378 = .ok (.aload_n 0, 1) := dk_42 (dk_at dksX3_act_16 2 rfl rfl)
theorem dX3_act_379 : decode cX3_act 379 = .ok (.getfield 42, 3) := dk_180 0 42 (dk_at dksX3_act_16 3 rfl rfl)
theorem dX3_act_382 : decode cX3_act 382 = .ok (.iload_n 1, 1) := dk_27 (dk_at dksX3_act_16 6 rfl rfl)
theorem dX3_act_383 : decode cX3_act 383 = .ok (.iconst (-1), 1) := dk_2 (dk_at dksX3_act_16 7 rfl rfl)
theorem dX3_act_384 : decode cX3_act 384 = .ok (.iastore, 1) := dk_79 (dk_at dksX3_act_16 8 rfl rfl)
theorem dX3_act_385 : decode cX3_act 385 = .ok (.aload_n 0, 1) := dk_42 (dk_at dksX3_act_16 9 rfl rfl)
theorem dX3_act_386 : decode cX3_act 386 = .ok (.getfield 45, 3) := dk_180 0 45 (dk_at dksX3_act_16 10 rfl rfl)
theorem dX3_act_389 : decode cX3_act 389 = .ok (.iload_n 1, 1) := dk_27 (dk_at dksX3_act_16 13 rfl rfl)
theorem dX3_act_390 : decode cX3_act 390 = .ok (.iconst (-1), 1) := dk_2 (dk_at dksX3_act_16 14 rfl rfl)
theorem dX3_act_391 : decode cX3_act 391 = .ok (.iastore, 1) := dk_79 (dk_at dksX3_act_16 15 rfl rfl)
theorem dX3_act_392 : decode cX3_act 392 = .ok (.aload_n 0, 1) := dk_42 (dk_at dksX3_act_16 16 rfl rfl)
theorem dX3_act_393 : decode cX3_act 393 = .ok (.dup, 1) := dk_89 (dk_at dksX3_act_16 17 rfl rfl)
theorem dX3_act_394 : decode cX3_act 394 = .ok (.getfield 159, 3) := dk_180 0 159 (dk_at dksX3_act_16 18 rfl rfl)
theorem dX3_act_397 : decode cX3_act 397 = .ok (.iconst 1, 1) := dk_4 (dk_at dksX3_act_16 21 rfl rfl)
theorem dX3_act_398 : decode cX3_act 398 = .ok (.iadd, 1) := dk_96 (dk_at dksX3_act_16 22 rfl rfl)
theorem dX3_act_399 : decode cX3_act 399 = .ok (.putfield 159, 3) := dk_181 0 159 (dk_at dksX3_act_17 0 rfl rfl)
theorem dX3_act_402 : decode cX3_act 402 = .ok (.iload_n 1, 1) := dk_27 (dk_at dksX3_act_17 3 rfl rfl)
theorem dX3_act_403 : decode cX3_act 403 = .ok (.ireturn, 1) := dk_172 (dk_at dksX3_act_17 4 rfl rfl)
abbrev cX3_next : ByteArray := prog_14_method_11_code
def yX3_next : MethodName := ⟨RX3, "next", "()V"⟩
def dkwX3_next_14 : List UInt8 := [181, 0, 179, 177]
abbrev dktX3_next_14 : List UInt8 := dkwX3_next_14 ++ []
def dkwX3_next_13 : List UInt8 := [167, 0, 12, 42, 180, 0, 72, 42, 180, 0, 179, 46, 181, 0, 197, 42, 89, 180, 0, 179, 4, 96]
abbrev dktX3_next_13 : List UInt8 := dkwX3_next_13 ++ dktX3_next_14
def dkwX3_next_12 : List UInt8 := [160, 0, 7, 6, 167, 0, 30, 42, 180, 0, 72, 42, 180, 0, 179, 46, 16, 32, 162, 0, 7, 2]
abbrev dktX3_next_12 : List UInt8 := dkwX3_next_12 ++ dktX3_next_13
def dkwX3_next_11 : List UInt8 := [180, 0, 188, 7, 96, 181, 0, 191, 167, 0, 62, 42, 42, 180, 0, 72, 42, 180, 0, 179, 46, 16, 39]
abbrev dktX3_next_11 : List UInt8 := dkwX3_next_11 ++ dktX3_next_12
def dkwX3_next_10 : List UInt8 := [96, 181, 0, 179, 167, 255, 220, 42, 180, 0, 179, 42, 180, 0, 188, 100, 7, 164, 0, 75, 42, 42]
abbrev dktX3_next_10 : List UInt8 := dkwX3_next_10 ++ dktX3_next_11
def dkwX3_next_9 : List UInt8 := [162, 0, 31, 42, 180, 0, 72, 42, 180, 0, 179, 46, 184, 0, 207, 153, 0, 16, 42, 89, 180, 0, 179, 4]
abbrev dktX3_next_9 : List UInt8 := dkwX3_next_9 ++ dktX3_next_10
def dkwX3_next_8 : List UInt8 := [180, 0, 179, 46, 184, 0, 207, 153, 0, 73, 42, 5, 181, 0, 197, 42, 180, 0, 179, 42, 180, 0, 182]
abbrev dktX3_next_8 : List UInt8 := dkwX3_next_8 ++ dktX3_next_9
def dkwX3_next_7 : List UInt8 := [42, 42, 180, 0, 188, 42, 180, 0, 179, 182, 0, 203, 181, 0, 194, 167, 0, 147, 42, 180, 0, 72, 42]
abbrev dktX3_next_7 : List UInt8 := dkwX3_next_7 ++ dktX3_next_8
def dkwX3_next_6 : List UInt8 := [180, 0, 188, 100, 16, 8, 164, 0, 17, 42, 42, 180, 0, 188, 16, 8, 96, 181, 0, 191, 167, 0, 166, 42]
abbrev dktX3_next_6 : List UInt8 := dkwX3_next_6 ++ dktX3_next_7
def dkwX3_next_5 : List UInt8 := [184, 0, 200, 153, 0, 16, 42, 89, 180, 0, 179, 4, 96, 181, 0, 179, 167, 255, 220, 42, 180, 0, 179, 42]
abbrev dktX3_next_5 : List UInt8 := dkwX3_next_5 ++ dktX3_next_6
def dkwX3_next_4 : List UInt8 := [181, 0, 197, 42, 180, 0, 179, 42, 180, 0, 182, 162, 0, 31, 42, 180, 0, 72, 42, 180, 0, 179, 46]
abbrev dktX3_next_4 : List UInt8 := dkwX3_next_4 ++ dktX3_next_5
def dkwX3_next_3 : List UInt8 := [181, 0, 197, 167, 0, 253, 42, 180, 0, 72, 42, 180, 0, 179, 46, 184, 0, 200, 153, 0, 94, 42, 4]
abbrev dktX3_next_3 : List UInt8 := dkwX3_next_3 ++ dktX3_next_4
def dkwX3_next_2 : List UInt8 := [42, 2, 181, 0, 191, 42, 9, 181, 0, 194, 42, 180, 0, 179, 42, 180, 0, 182, 160, 0, 11, 42, 3]
abbrev dktX3_next_2 : List UInt8 := dkwX3_next_2 ++ dktX3_next_3
def dkwX3_next_1 : List UInt8 := [153, 0, 16, 42, 89, 180, 0, 179, 4, 96, 181, 0, 179, 167, 255, 220, 42, 42, 180, 0, 179, 181, 0, 188]
abbrev dktX3_next_1 : List UInt8 := dkwX3_next_1 ++ dktX3_next_2
def dkwX3_next_0 : List UInt8 := [42, 180, 0, 179, 42, 180, 0, 182, 162, 0, 31, 42, 180, 0, 72, 42, 180, 0, 179, 46, 184, 0, 185]
abbrev dktX3_next_0 : List UInt8 := dkwX3_next_0 ++ dktX3_next_1
theorem dksX3_next_0 : cX3_next.data.toList.drop 0 = dktX3_next_0 := by decide +kernel
theorem dksX3_next_1 : cX3_next.data.toList.drop 23 = dktX3_next_1 := dk_seg dksX3_next_0 23 rfl rfl
theorem dksX3_next_2 : cX3_next.data.toList.drop 47 = dktX3_next_2 := dk_seg dksX3_next_1 24 rfl rfl
theorem dksX3_next_3 : cX3_next.data.toList.drop 70 = dktX3_next_3 := dk_seg dksX3_next_2 23 rfl rfl
theorem dksX3_next_4 : cX3_next.data.toList.drop 93 = dktX3_next_4 := dk_seg dksX3_next_3 23 rfl rfl
theorem dksX3_next_5 : cX3_next.data.toList.drop 116 = dktX3_next_5 := dk_seg dksX3_next_4 23 rfl rfl
theorem dksX3_next_6 : cX3_next.data.toList.drop 140 = dktX3_next_6 := dk_seg dksX3_next_5 24 rfl rfl
theorem dksX3_next_7 : cX3_next.data.toList.drop 164 = dktX3_next_7 := dk_seg dksX3_next_6 24 rfl rfl
theorem dksX3_next_8 : cX3_next.data.toList.drop 187 = dktX3_next_8 := dk_seg dksX3_next_7 23 rfl rfl
theorem dksX3_next_9 : cX3_next.data.toList.drop 210 = dktX3_next_9 := dk_seg dksX3_next_8 23 rfl rfl
theorem dksX3_next_10 : cX3_next.data.toList.drop 234 = dktX3_next_10 := dk_seg dksX3_next_9 24 rfl rfl
theorem dksX3_next_11 : cX3_next.data.toList.drop 256 = dktX3_next_11 := dk_seg dksX3_next_10 22 rfl rfl
theorem dksX3_next_12 : cX3_next.data.toList.drop 279 = dktX3_next_12 := dk_seg dksX3_next_11 23 rfl rfl
theorem dksX3_next_13 : cX3_next.data.toList.drop 301 = dktX3_next_13 := dk_seg dksX3_next_12 22 rfl rfl
theorem dksX3_next_14 : cX3_next.data.toList.drop 323 = dktX3_next_14 := dk_seg dksX3_next_13 22 rfl rfl
theorem dX3_next_0 : decode cX3_next 0 = .ok (.aload_n 0, 1) := dk_42 (dk_at dksX3_next_0 0 rfl rfl)
theorem dX3_next_1 : decode cX3_next 1 = .ok (.getfield 179, 3) := dk_180 0 179 (dk_at dksX3_next_0 1 rfl rfl)
theorem dX3_next_4 : decode cX3_next 4 = .ok (.aload_n 0, 1) := dk_42 (dk_at dksX3_next_0 4 rfl rfl)
theorem dX3_next_5 : decode cX3_next 5 = .ok (.getfield 182, 3) := dk_180 0 182 (dk_at dksX3_next_0 5 rfl rfl)
theorem dX3_next_8 : decode cX3_next 8 = .ok (.if_icmp .ge 31, 3) := dk_162 0 31 (dk_at dksX3_next_0 8 rfl rfl)
theorem dX3_next_11 : decode cX3_next 11 = .ok (.aload_n 0, 1) := dk_42 (dk_at dksX3_next_0 11 rfl rfl)
theorem dX3_next_12 : decode cX3_next 12 = .ok (.getfield 72, 3) := dk_180 0 72 (dk_at dksX3_next_0 12 rfl rfl)
theorem dX3_next_15 : decode cX3_next 15 = .ok (.aload_n 0, 1) := dk_42 (dk_at dksX3_next_0 15 rfl rfl)
theorem dX3_next_16 : decode cX3_next 16 = .ok (.getfield 179, 3) := dk_180 0 179 (dk_at dksX3_next_0 16 rfl rfl)
theorem dX3_next_19 : decode cX3_next 19 = .ok (.iaload, 1) := dk_46 (dk_at dksX3_next_0 19 rfl rfl)
theorem dX3_next_20 : decode cX3_next 20 = .ok (.invokestatic 185, 3) := dk_184 0 185 (dk_at dksX3_next_0 20 rfl rfl)
theorem dX3_next_23 : decode cX3_next 23 = .ok (.ifCond .eq 16, 3) := dk_153 0 16 (dk_at dksX3_next_1 0 rfl rfl)
theorem dX3_next_26 : decode cX3_next 26 = .ok (.aload_n 0, 1) := dk_42 (dk_at dksX3_next_1 3 rfl rfl)
theorem dX3_next_27 : decode cX3_next 27 = .ok (.dup, 1) := dk_89 (dk_at dksX3_next_1 4 rfl rfl)
theorem dX3_next_28 : decode cX3_next 28 = .ok (.getfield 179, 3) := dk_180 0 179 (dk_at dksX3_next_1 5 rfl rfl)
theorem dX3_next_31 : decode cX3_next 31 = .ok (.iconst 1, 1) := dk_4 (dk_at dksX3_next_1 8 rfl rfl)
theorem dX3_next_32 : decode cX3_next 32 = .ok (.iadd, 1) := dk_96 (dk_at dksX3_next_1 9 rfl rfl)
theorem dX3_next_33 : decode cX3_next 33 = .ok (.putfield 179, 3) := dk_181 0 179 (dk_at dksX3_next_1 10 rfl rfl)
theorem dX3_next_36 : decode cX3_next 36 = .ok (.goto (-36), 3) := dk_167 255 220 (dk_at dksX3_next_1 13 rfl rfl)
theorem dX3_next_39 : decode cX3_next 39 = .ok (.aload_n 0, 1) := dk_42 (dk_at dksX3_next_1 16 rfl rfl)
theorem dX3_next_40 : decode cX3_next 40 = .ok (.aload_n 0, 1) := dk_42 (dk_at dksX3_next_1 17 rfl rfl)
theorem dX3_next_41 : decode cX3_next 41 = .ok (.getfield 179, 3) := dk_180 0 179 (dk_at dksX3_next_1 18 rfl rfl)
theorem dX3_next_44 : decode cX3_next 44 = .ok (.putfield 188, 3) := dk_181 0 188 (dk_at dksX3_next_1 21 rfl rfl)
theorem dX3_next_47 : decode cX3_next 47 = .ok (.aload_n 0, 1) := dk_42 (dk_at dksX3_next_2 0 rfl rfl)
theorem dX3_next_48 : decode cX3_next 48 = .ok (.iconst (-1), 1) := dk_2 (dk_at dksX3_next_2 1 rfl rfl)
theorem dX3_next_49 : decode cX3_next 49 = .ok (.putfield 191, 3) := dk_181 0 191 (dk_at dksX3_next_2 2 rfl rfl)
theorem dX3_next_52 : decode cX3_next 52 = .ok (.aload_n 0, 1) := dk_42 (dk_at dksX3_next_2 5 rfl rfl)
theorem dX3_next_53 : decode cX3_next 53 = .ok (.lconst 0, 1) := dk_9 (dk_at dksX3_next_2 6 rfl rfl)
theorem dX3_next_54 : decode cX3_next 54 = .ok (.putfield 194, 3) := dk_181 0 194 (dk_at dksX3_next_2 7 rfl rfl)
theorem dX3_next_57 : decode cX3_next 57 = .ok (.aload_n 0, 1) := dk_42 (dk_at dksX3_next_2 10 rfl rfl)
theorem dX3_next_58 : decode cX3_next 58 = .ok (.getfield 179, 3) := dk_180 0 179 (dk_at dksX3_next_2 11 rfl rfl)
theorem dX3_next_61 : decode cX3_next 61 = .ok (.aload_n 0, 1) := dk_42 (dk_at dksX3_next_2 14 rfl rfl)
theorem dX3_next_62 : decode cX3_next 62 = .ok (.getfield 182, 3) := dk_180 0 182 (dk_at dksX3_next_2 15 rfl rfl)
theorem dX3_next_65 : decode cX3_next 65 = .ok (.if_icmp .ne 11, 3) := dk_160 0 11 (dk_at dksX3_next_2 18 rfl rfl)
theorem dX3_next_68 : decode cX3_next 68 = .ok (.aload_n 0, 1) := dk_42 (dk_at dksX3_next_2 21 rfl rfl)
theorem dX3_next_69 : decode cX3_next 69 = .ok (.iconst 0, 1) := dk_3 (dk_at dksX3_next_2 22 rfl rfl)
theorem dX3_next_70 : decode cX3_next 70 = .ok (.putfield 197, 3) := dk_181 0 197 (dk_at dksX3_next_3 0 rfl rfl)
theorem dX3_next_73 : decode cX3_next 73 = .ok (.goto 253, 3) := dk_167 0 253 (dk_at dksX3_next_3 3 rfl rfl)
theorem dX3_next_76 : decode cX3_next 76 = .ok (.aload_n 0, 1) := dk_42 (dk_at dksX3_next_3 6 rfl rfl)
theorem dX3_next_77 : decode cX3_next 77 = .ok (.getfield 72, 3) := dk_180 0 72 (dk_at dksX3_next_3 7 rfl rfl)
theorem dX3_next_80 : decode cX3_next 80 = .ok (.aload_n 0, 1) := dk_42 (dk_at dksX3_next_3 10 rfl rfl)
theorem dX3_next_81 : decode cX3_next 81 = .ok (.getfield 179, 3) := dk_180 0 179 (dk_at dksX3_next_3 11 rfl rfl)
theorem dX3_next_84 : decode cX3_next 84 = .ok (.iaload, 1) := dk_46 (dk_at dksX3_next_3 14 rfl rfl)
theorem dX3_next_85 : decode cX3_next 85 = .ok (.invokestatic 200, 3) := dk_184 0 200 (dk_at dksX3_next_3 15 rfl rfl)
theorem dX3_next_88 : decode cX3_next 88 = .ok (.ifCond .eq 94, 3) := dk_153 0 94 (dk_at dksX3_next_3 18 rfl rfl)
theorem dX3_next_91 : decode cX3_next 91 = .ok (.aload_n 0, 1) := dk_42 (dk_at dksX3_next_3 21 rfl rfl)
theorem dX3_next_92 : decode cX3_next 92 = .ok (.iconst 1, 1) := dk_4 (dk_at dksX3_next_3 22 rfl rfl)
theorem dX3_next_93 : decode cX3_next 93 = .ok (.putfield 197, 3) := dk_181 0 197 (dk_at dksX3_next_4 0 rfl rfl)
theorem dX3_next_96 : decode cX3_next 96 = .ok (.aload_n 0, 1) := dk_42 (dk_at dksX3_next_4 3 rfl rfl)
theorem dX3_next_97 : decode cX3_next 97 = .ok (.getfield 179, 3) := dk_180 0 179 (dk_at dksX3_next_4 4 rfl rfl)
theorem dX3_next_100 : decode cX3_next 100 = .ok (.aload_n 0, 1) := dk_42 (dk_at dksX3_next_4 7 rfl rfl)
theorem dX3_next_101 : decode cX3_next 101 = .ok (.getfield 182, 3) := dk_180 0 182 (dk_at dksX3_next_4 8 rfl rfl)
theorem dX3_next_104 : decode cX3_next 104 = .ok (.if_icmp .ge 31, 3) := dk_162 0 31 (dk_at dksX3_next_4 11 rfl rfl)
theorem dX3_next_107 : decode cX3_next 107 = .ok (.aload_n 0, 1) := dk_42 (dk_at dksX3_next_4 14 rfl rfl)
theorem dX3_next_108 : decode cX3_next 108 = .ok (.getfield 72, 3) := dk_180 0 72 (dk_at dksX3_next_4 15 rfl rfl)
theorem dX3_next_111 : decode cX3_next 111 = .ok (.aload_n 0, 1) := dk_42 (dk_at dksX3_next_4 18 rfl rfl)
theorem dX3_next_112 : decode cX3_next 112 = .ok (.getfield 179, 3) := dk_180 0 179 (dk_at dksX3_next_4 19 rfl rfl)
theorem dX3_next_115 : decode cX3_next 115 = .ok (.iaload, 1) := dk_46 (dk_at dksX3_next_4 22 rfl rfl)
theorem dX3_next_116 : decode cX3_next 116 = .ok (.invokestatic 200, 3) := dk_184 0 200 (dk_at dksX3_next_5 0 rfl rfl)
theorem dX3_next_119 : decode cX3_next 119 = .ok (.ifCond .eq 16, 3) := dk_153 0 16 (dk_at dksX3_next_5 3 rfl rfl)
theorem dX3_next_122 : decode cX3_next 122 = .ok (.aload_n 0, 1) := dk_42 (dk_at dksX3_next_5 6 rfl rfl)
theorem dX3_next_123 : decode cX3_next 123 = .ok (.dup, 1) := dk_89 (dk_at dksX3_next_5 7 rfl rfl)
theorem dX3_next_124 : decode cX3_next 124 = .ok (.getfield 179, 3) := dk_180 0 179 (dk_at dksX3_next_5 8 rfl rfl)
theorem dX3_next_127 : decode cX3_next 127 = .ok (.iconst 1, 1) := dk_4 (dk_at dksX3_next_5 11 rfl rfl)
theorem dX3_next_128 : decode cX3_next 128 = .ok (.iadd, 1) := dk_96 (dk_at dksX3_next_5 12 rfl rfl)
theorem dX3_next_129 : decode cX3_next 129 = .ok (.putfield 179, 3) := dk_181 0 179 (dk_at dksX3_next_5 13 rfl rfl)
theorem dX3_next_132 : decode cX3_next 132 = .ok (.goto (-36), 3) := dk_167 255 220 (dk_at dksX3_next_5 16 rfl rfl)
theorem dX3_next_135 : decode cX3_next 135 = .ok (.aload_n 0, 1) := dk_42 (dk_at dksX3_next_5 19 rfl rfl)
theorem dX3_next_136 : decode cX3_next 136 = .ok (.getfield 179, 3) := dk_180 0 179 (dk_at dksX3_next_5 20 rfl rfl)
theorem dX3_next_139 : decode cX3_next 139 = .ok (.aload_n 0, 1) := dk_42 (dk_at dksX3_next_5 23 rfl rfl)
theorem dX3_next_140 : decode cX3_next 140 = .ok (.getfield 188, 3) := dk_180 0 188 (dk_at dksX3_next_6 0 rfl rfl)
theorem dX3_next_143 : decode cX3_next 143 = .ok (.isub, 1) := dk_100 (dk_at dksX3_next_6 3 rfl rfl)
theorem dX3_next_144 : decode cX3_next 144 = .ok (.bipush 8, 2) := dk_16 8 (dk_at dksX3_next_6 4 rfl rfl)
theorem dX3_next_146 : decode cX3_next 146 = .ok (.if_icmp .le 17, 3) := dk_164 0 17 (dk_at dksX3_next_6 6 rfl rfl)
theorem dX3_next_149 : decode cX3_next 149 = .ok (.aload_n 0, 1) := dk_42 (dk_at dksX3_next_6 9 rfl rfl)
theorem dX3_next_150 : decode cX3_next 150 = .ok (.aload_n 0, 1) := dk_42 (dk_at dksX3_next_6 10 rfl rfl)
theorem dX3_next_151 : decode cX3_next 151 = .ok (.getfield 188, 3) := dk_180 0 188 (dk_at dksX3_next_6 11 rfl rfl)
theorem dX3_next_154 : decode cX3_next 154 = .ok (.bipush 8, 2) := dk_16 8 (dk_at dksX3_next_6 14 rfl rfl)
theorem dX3_next_156 : decode cX3_next 156 = .ok (.iadd, 1) := dk_96 (dk_at dksX3_next_6 16 rfl rfl)
theorem dX3_next_157 : decode cX3_next 157 = .ok (.putfield 191, 3) := dk_181 0 191 (dk_at dksX3_next_6 17 rfl rfl)
theorem dX3_next_160 : decode cX3_next 160 = .ok (.goto 166, 3) := dk_167 0 166 (dk_at dksX3_next_6 20 rfl rfl)
theorem dX3_next_163 : decode cX3_next 163 = .ok (.aload_n 0, 1) := dk_42 (dk_at dksX3_next_6 23 rfl rfl)
theorem dX3_next_164 : decode cX3_next 164 = .ok (.aload_n 0, 1) := dk_42 (dk_at dksX3_next_7 0 rfl rfl)
theorem dX3_next_165 : decode cX3_next 165 = .ok (.aload_n 0, 1) := dk_42 (dk_at dksX3_next_7 1 rfl rfl)
theorem dX3_next_166 : decode cX3_next 166 = .ok (.getfield 188, 3) := dk_180 0 188 (dk_at dksX3_next_7 2 rfl rfl)
theorem dX3_next_169 : decode cX3_next 169 = .ok (.aload_n 0, 1) := dk_42 (dk_at dksX3_next_7 5 rfl rfl)
theorem dX3_next_170 : decode cX3_next 170 = .ok (.getfield 179, 3) := dk_180 0 179 (dk_at dksX3_next_7 6 rfl rfl)
theorem dX3_next_173 : decode cX3_next 173 = .ok (.invokevirtual 203, 3) := dk_182 0 203 (dk_at dksX3_next_7 9 rfl rfl)
theorem dX3_next_176 : decode cX3_next 176 = .ok (.putfield 194, 3) := dk_181 0 194 (dk_at dksX3_next_7 12 rfl rfl)
theorem dX3_next_179 : decode cX3_next 179 = .ok (.goto 147, 3) := dk_167 0 147 (dk_at dksX3_next_7 15 rfl rfl)
theorem dX3_next_182 : decode cX3_next 182 = .ok (.aload_n 0, 1) := dk_42 (dk_at dksX3_next_7 18 rfl rfl)
theorem dX3_next_183 : decode cX3_next 183 = .ok (.getfield 72, 3) := dk_180 0 72 (dk_at dksX3_next_7 19 rfl rfl)
theorem dX3_next_186 : decode cX3_next 186 = .ok (.aload_n 0, 1) := dk_42 (dk_at dksX3_next_7 22 rfl rfl)
theorem dX3_next_187 : decode cX3_next 187 = .ok (.getfield 179, 3) := dk_180 0 179 (dk_at dksX3_next_8 0 rfl rfl)
theorem dX3_next_190 : decode cX3_next 190 = .ok (.iaload, 1) := dk_46 (dk_at dksX3_next_8 3 rfl rfl)
theorem dX3_next_191 : decode cX3_next 191 = .ok (.invokestatic 207, 3) := dk_184 0 207 (dk_at dksX3_next_8 4 rfl rfl)
theorem dX3_next_194 : decode cX3_next 194 = .ok (.ifCond .eq 73, 3) := dk_153 0 73 (dk_at dksX3_next_8 7 rfl rfl)
theorem dX3_next_197 : decode cX3_next 197 = .ok (.aload_n 0, 1) := dk_42 (dk_at dksX3_next_8 10 rfl rfl)
theorem dX3_next_198 : decode cX3_next 198 = .ok (.iconst 2, 1) := dk_5 (dk_at dksX3_next_8 11 rfl rfl)
theorem dX3_next_199 : decode cX3_next 199 = .ok (.putfield 197, 3) := dk_181 0 197 (dk_at dksX3_next_8 12 rfl rfl)
theorem dX3_next_202 : decode cX3_next 202 = .ok (.aload_n 0, 1) := dk_42 (dk_at dksX3_next_8 15 rfl rfl)
theorem dX3_next_203 : decode cX3_next 203 = .ok (.getfield 179, 3) := dk_180 0 179 (dk_at dksX3_next_8 16 rfl rfl)
theorem dX3_next_206 : decode cX3_next 206 = .ok (.aload_n 0, 1) := dk_42 (dk_at dksX3_next_8 19 rfl rfl)
theorem dX3_next_207 : decode cX3_next 207 = .ok (.getfield 182, 3) := dk_180 0 182 (dk_at dksX3_next_8 20 rfl rfl)
theorem dX3_next_210 : decode cX3_next 210 = .ok (.if_icmp .ge 31, 3) := dk_162 0 31 (dk_at dksX3_next_9 0 rfl rfl)
theorem dX3_next_213 : decode cX3_next 213 = .ok (.aload_n 0, 1) := dk_42 (dk_at dksX3_next_9 3 rfl rfl)
theorem dX3_next_214 : decode cX3_next 214 = .ok (.getfield 72, 3) := dk_180 0 72 (dk_at dksX3_next_9 4 rfl rfl)
theorem dX3_next_217 : decode cX3_next 217 = .ok (.aload_n 0, 1) := dk_42 (dk_at dksX3_next_9 7 rfl rfl)
theorem dX3_next_218 : decode cX3_next 218 = .ok (.getfield 179, 3) := dk_180 0 179 (dk_at dksX3_next_9 8 rfl rfl)
theorem dX3_next_221 : decode cX3_next 221 = .ok (.iaload, 1) := dk_46 (dk_at dksX3_next_9 11 rfl rfl)
theorem dX3_next_222 : decode cX3_next 222 = .ok (.invokestatic 207, 3) := dk_184 0 207 (dk_at dksX3_next_9 12 rfl rfl)
theorem dX3_next_225 : decode cX3_next 225 = .ok (.ifCond .eq 16, 3) := dk_153 0 16 (dk_at dksX3_next_9 15 rfl rfl)
theorem dX3_next_228 : decode cX3_next 228 = .ok (.aload_n 0, 1) := dk_42 (dk_at dksX3_next_9 18 rfl rfl)
theorem dX3_next_229 : decode cX3_next 229 = .ok (.dup, 1) := dk_89 (dk_at dksX3_next_9 19 rfl rfl)
theorem dX3_next_230 : decode cX3_next 230 = .ok (.getfield 179, 3) := dk_180 0 179 (dk_at dksX3_next_9 20 rfl rfl)
theorem dX3_next_233 : decode cX3_next 233 = .ok (.iconst 1, 1) := dk_4 (dk_at dksX3_next_9 23 rfl rfl)
theorem dX3_next_234 : decode cX3_next 234 = .ok (.iadd, 1) := dk_96 (dk_at dksX3_next_10 0 rfl rfl)
theorem dX3_next_235 : decode cX3_next 235 = .ok (.putfield 179, 3) := dk_181 0 179 (dk_at dksX3_next_10 1 rfl rfl)
theorem dX3_next_238 : decode cX3_next 238 = .ok (.goto (-36), 3) := dk_167 255 220 (dk_at dksX3_next_10 4 rfl rfl)
theorem dX3_next_241 : decode cX3_next 241 = .ok (.aload_n 0, 1) := dk_42 (dk_at dksX3_next_10 7 rfl rfl)
theorem dX3_next_242 : decode cX3_next 242 = .ok (.getfield 179, 3) := dk_180 0 179 (dk_at dksX3_next_10 8 rfl rfl)
theorem dX3_next_245 : decode cX3_next 245 = .ok (.aload_n 0, 1) := dk_42 (dk_at dksX3_next_10 11 rfl rfl)
theorem dX3_next_246 : decode cX3_next 246 = .ok (.getfield 188, 3) := dk_180 0 188 (dk_at dksX3_next_10 12 rfl rfl)
theorem dX3_next_249 : decode cX3_next 249 = .ok (.isub, 1) := dk_100 (dk_at dksX3_next_10 15 rfl rfl)
theorem dX3_next_250 : decode cX3_next 250 = .ok (.iconst 4, 1) := dk_7 (dk_at dksX3_next_10 16 rfl rfl)
theorem dX3_next_251 : decode cX3_next 251 = .ok (.if_icmp .le 75, 3) := dk_164 0 75 (dk_at dksX3_next_10 17 rfl rfl)
theorem dX3_next_254 : decode cX3_next 254 = .ok (.aload_n 0, 1) := dk_42 (dk_at dksX3_next_10 20 rfl rfl)
theorem dX3_next_255 : decode cX3_next 255 = .ok (.aload_n 0, 1) := dk_42 (dk_at dksX3_next_10 21 rfl rfl)
theorem dX3_next_256 : decode cX3_next 256 = .ok (.getfield 188, 3) := dk_180 0 188 (dk_at dksX3_next_11 0 rfl rfl)
theorem dX3_next_259 : decode cX3_next 259 = .ok (.iconst 4, 1) := dk_7 (dk_at dksX3_next_11 3 rfl rfl)
theorem dX3_next_260 : decode cX3_next 260 = .ok (.iadd, 1) := dk_96 (dk_at dksX3_next_11 4 rfl rfl)
theorem dX3_next_261 : decode cX3_next 261 = .ok (.putfield 191, 3) := dk_181 0 191 (dk_at dksX3_next_11 5 rfl rfl)
theorem dX3_next_264 : decode cX3_next 264 = .ok (.goto 62, 3) := dk_167 0 62 (dk_at dksX3_next_11 8 rfl rfl)
theorem dX3_next_267 : decode cX3_next 267 = .ok (.aload_n 0, 1) := dk_42 (dk_at dksX3_next_11 11 rfl rfl)
theorem dX3_next_268 : decode cX3_next 268 = .ok (.aload_n 0, 1) := dk_42 (dk_at dksX3_next_11 12 rfl rfl)
theorem dX3_next_269 : decode cX3_next 269 = .ok (.getfield 72, 3) := dk_180 0 72 (dk_at dksX3_next_11 13 rfl rfl)
theorem dX3_next_272 : decode cX3_next 272 = .ok (.aload_n 0, 1) := dk_42 (dk_at dksX3_next_11 16 rfl rfl)
theorem dX3_next_273 : decode cX3_next 273 = .ok (.getfield 179, 3) := dk_180 0 179 (dk_at dksX3_next_11 17 rfl rfl)
theorem dX3_next_276 : decode cX3_next 276 = .ok (.iaload, 1) := dk_46 (dk_at dksX3_next_11 20 rfl rfl)
theorem dX3_next_277 : decode cX3_next 277 = .ok (.bipush 39, 2) := dk_16 39 (dk_at dksX3_next_11 21 rfl rfl)
theorem dX3_next_279 : decode cX3_next 279 = .ok (.if_icmp .ne 7, 3) := dk_160 0 7 (dk_at dksX3_next_12 0 rfl rfl)
theorem dX3_next_282 : decode cX3_next 282 = .ok (.iconst 3, 1) := dk_6 (dk_at dksX3_next_12 3 rfl rfl)
theorem dX3_next_283 : decode cX3_next 283 = .ok (.goto 30, 3) := dk_167 0 30 (dk_at dksX3_next_12 4 rfl rfl)
theorem dX3_next_286 : decode cX3_next 286 = .ok (.aload_n 0, 1) := dk_42 (dk_at dksX3_next_12 7 rfl rfl)
theorem dX3_next_287 : decode cX3_next 287 = .ok (.getfield 72, 3) := dk_180 0 72 (dk_at dksX3_next_12 8 rfl rfl)
theorem dX3_next_290 : decode cX3_next 290 = .ok (.aload_n 0, 1) := dk_42 (dk_at dksX3_next_12 11 rfl rfl)
theorem dX3_next_291 : decode cX3_next 291 = .ok (.getfield 179, 3) := dk_180 0 179 (dk_at dksX3_next_12 12 rfl rfl)
theorem dX3_next_294 : decode cX3_next 294 = .ok (.iaload, 1) := dk_46 (dk_at dksX3_next_12 15 rfl rfl)
theorem dX3_next_295 : decode cX3_next 295 = .ok (.bipush 32, 2) := dk_16 32 (dk_at dksX3_next_12 16 rfl rfl)
theorem dX3_next_297 : decode cX3_next 297 = .ok (.if_icmp .ge 7, 3) := dk_162 0 7 (dk_at dksX3_next_12 18 rfl rfl)
theorem dX3_next_300 : decode cX3_next 300 = .ok (.iconst (-1), 1) := dk_2 (dk_at dksX3_next_12 21 rfl rfl)
theorem dX3_next_301 : decode cX3_next 301 = .ok (.goto 12, 3) := dk_167 0 12 (dk_at dksX3_next_13 0 rfl rfl)
theorem dX3_next_304 : decode cX3_next 304 = .ok (.aload_n 0, 1) := dk_42 (dk_at dksX3_next_13 3 rfl rfl)
theorem dX3_next_305 : decode cX3_next 305 = .ok (.getfield 72, 3) := dk_180 0 72 (dk_at dksX3_next_13 4 rfl rfl)
theorem dX3_next_308 : decode cX3_next 308 = .ok (.aload_n 0, 1) := dk_42 (dk_at dksX3_next_13 7 rfl rfl)
theorem dX3_next_309 : decode cX3_next 309 = .ok (.getfield 179, 3) := dk_180 0 179 (dk_at dksX3_next_13 8 rfl rfl)
theorem dX3_next_312 : decode cX3_next 312 = .ok (.iaload, 1) := dk_46 (dk_at dksX3_next_13 11 rfl rfl)
theorem dX3_next_313 : decode cX3_next 313 = .ok (.putfield 197, 3) := dk_181 0 197 (dk_at dksX3_next_13 12 rfl rfl)
theorem dX3_next_316 : decode cX3_next 316 = .ok (.aload_n 0, 1) := dk_42 (dk_at dksX3_next_13 15 rfl rfl)
theorem dX3_next_317 : decode cX3_next 317 = .ok (.dup, 1) := dk_89 (dk_at dksX3_next_13 16 rfl rfl)
theorem dX3_next_318 : decode cX3_next 318 = .ok (.getfield 179, 3) := dk_180 0 179 (dk_at dksX3_next_13 17 rfl rfl)
theorem dX3_next_321 : decode cX3_next 321 = .ok (.iconst 1, 1) := dk_4 (dk_at dksX3_next_13 20 rfl rfl)
theorem dX3_next_322 : decode cX3_next 322 = .ok (.iadd, 1) := dk_96 (dk_at dksX3_next_13 21 rfl rfl)
theorem dX3_next_323 : decode cX3_next 323 = .ok (.putfield 179, 3) := dk_181 0 179 (dk_at dksX3_next_14 0 rfl rfl)
theorem dX3_next_326 : decode cX3_next 326 = .ok (.return_, 1) := dk_177 (dk_at dksX3_next_14 3 rfl rfl)
abbrev cX3_isBlank : ByteArray := prog_14_method_8_code
def yX3_isBlank : MethodName := ⟨RX3, "isBlank", "(I)Z"⟩
def dkwX3_isBlank_0 : List UInt8 := [26, 16, 10, 159, 0, 9, 26, 16, 32, 160, 0, 7, 4, 167, 0, 4, 3, 172]
abbrev dktX3_isBlank_0 : List UInt8 := dkwX3_isBlank_0 ++ []
theorem dksX3_isBlank_0 : cX3_isBlank.data.toList.drop 0 = dktX3_isBlank_0 := by decide +kernel
theorem dX3_isBlank_0 : decode cX3_isBlank 0 = .ok (.iload_n 0, 1) := dk_26 (dk_at dksX3_isBlank_0 0 rfl rfl)
theorem dX3_isBlank_1 : decode cX3_isBlank 1 = .ok (.bipush 10, 2) := dk_16 10 (dk_at dksX3_isBlank_0 1 rfl rfl)
theorem dX3_isBlank_3 : decode cX3_isBlank 3 = .ok (.if_icmp .eq 9, 3) := dk_159 0 9 (dk_at dksX3_isBlank_0 3 rfl rfl)
theorem dX3_isBlank_6 : decode cX3_isBlank 6 = .ok (.iload_n 0, 1) := dk_26 (dk_at dksX3_isBlank_0 6 rfl rfl)
theorem dX3_isBlank_7 : decode cX3_isBlank 7 = .ok (.bipush 32, 2) := dk_16 32 (dk_at dksX3_isBlank_0 7 rfl rfl)
theorem dX3_isBlank_9 : decode cX3_isBlank 9 = .ok (.if_icmp .ne 7, 3) := dk_160 0 7 (dk_at dksX3_isBlank_0 9 rfl rfl)
theorem dX3_isBlank_12 : decode cX3_isBlank 12 = .ok (.iconst 1, 1) := dk_4 (dk_at dksX3_isBlank_0 12 rfl rfl)
theorem dX3_isBlank_13 : decode cX3_isBlank 13 = .ok (.goto 4, 3) := dk_167 0 4 (dk_at dksX3_isBlank_0 13 rfl rfl)
theorem dX3_isBlank_16 : decode cX3_isBlank 16 = .ok (.iconst 0, 1) := dk_3 (dk_at dksX3_isBlank_0 16 rfl rfl)
theorem dX3_isBlank_17 : decode cX3_isBlank 17 = .ok (.ireturn, 1) := dk_172 (dk_at dksX3_isBlank_0 17 rfl rfl)
abbrev cX3_isLetter : ByteArray := prog_14_method_6_code
def yX3_isLetter : MethodName := ⟨RX3, "isLetter", "(I)Z"⟩
def dkwX3_isLetter_0 : List UInt8 := [26, 16, 97, 161, 0, 13, 26, 16, 122, 163, 0, 7, 4, 167, 0, 4, 3, 172]
abbrev dktX3_isLetter_0 : List UInt8 := dkwX3_isLetter_0 ++ []
theorem dksX3_isLetter_0 : cX3_isLetter.data.toList.drop 0 = dktX3_isLetter_0 := by decide +kernel
theorem dX3_isLetter_0 : decode cX3_isLetter 0 = .ok (.iload_n 0, 1) := dk_26 (dk_at dksX3_isLetter_0 0 rfl rfl)
theorem dX3_isLetter_1 : decode cX3_isLetter 1 = .ok (.bipush 97, 2) := dk_16 97 (dk_at dksX3_isLetter_0 1 rfl rfl)
theorem dX3_isLetter_3 : decode cX3_isLetter 3 = .ok (.if_icmp .lt 13, 3) := dk_161 0 13 (dk_at dksX3_isLetter_0 3 rfl rfl)
theorem dX3_isLetter_6 : decode cX3_isLetter 6 = .ok (.iload_n 0, 1) := dk_26 (dk_at dksX3_isLetter_0 6 rfl rfl)
theorem dX3_isLetter_7 : decode cX3_isLetter 7 = .ok (.bipush 122, 2) := dk_16 122 (dk_at dksX3_isLetter_0 7 rfl rfl)
theorem dX3_isLetter_9 : decode cX3_isLetter 9 = .ok (.if_icmp .gt 7, 3) := dk_163 0 7 (dk_at dksX3_isLetter_0 9 rfl rfl)
theorem dX3_isLetter_12 : decode cX3_isLetter 12 = .ok (.iconst 1, 1) := dk_4 (dk_at dksX3_isLetter_0 12 rfl rfl)
theorem dX3_isLetter_13 : decode cX3_isLetter 13 = .ok (.goto 4, 3) := dk_167 0 4 (dk_at dksX3_isLetter_0 13 rfl rfl)
theorem dX3_isLetter_16 : decode cX3_isLetter 16 = .ok (.iconst 0, 1) := dk_3 (dk_at dksX3_isLetter_0 16 rfl rfl)
theorem dX3_isLetter_17 : decode cX3_isLetter 17 = .ok (.ireturn, 1) := dk_172 (dk_at dksX3_isLetter_0 17 rfl rfl)
abbrev cX3_wordFrom : ByteArray := prog_14_method_10_code
def yX3_wordFrom : MethodName := ⟨RX3, "wordFrom", "(II)J"⟩
def dkwX3_wordFrom_2 : List UInt8 := [173]
abbrev dktX3_wordFrom_2 : List UInt8 := dkwX3_wordFrom_2 ++ []
def dkwX3_wordFrom_1 : List UInt8 := [105, 42, 180, 0, 72, 21, 5, 46, 133, 97, 20, 0, 177, 101, 10, 97, 66, 132, 5, 1, 167, 255, 217, 33]
abbrev dktX3_wordFrom_1 : List UInt8 := dkwX3_wordFrom_1 ++ dktX3_wordFrom_2
def dkwX3_wordFrom_0 : List UInt8 := [9, 66, 27, 54, 5, 21, 5, 28, 162, 0, 39, 21, 5, 27, 16, 8, 96, 162, 0, 30, 20, 0, 175, 33]
abbrev dktX3_wordFrom_0 : List UInt8 := dkwX3_wordFrom_0 ++ dktX3_wordFrom_1
theorem dksX3_wordFrom_0 : cX3_wordFrom.data.toList.drop 0 = dktX3_wordFrom_0 := by decide +kernel
theorem dksX3_wordFrom_1 : cX3_wordFrom.data.toList.drop 24 = dktX3_wordFrom_1 := dk_seg dksX3_wordFrom_0 24 rfl rfl
theorem dksX3_wordFrom_2 : cX3_wordFrom.data.toList.drop 48 = dktX3_wordFrom_2 := dk_seg dksX3_wordFrom_1 24 rfl rfl
theorem dX3_wordFrom_0 : decode cX3_wordFrom 0 = .ok (.lconst 0, 1) := dk_9 (dk_at dksX3_wordFrom_0 0 rfl rfl)
theorem dX3_wordFrom_1 : decode cX3_wordFrom 1 = .ok (.lstore_n 3, 1) := dk_66 (dk_at dksX3_wordFrom_0 1 rfl rfl)
theorem dX3_wordFrom_2 : decode cX3_wordFrom 2 = .ok (.iload_n 1, 1) := dk_27 (dk_at dksX3_wordFrom_0 2 rfl rfl)
theorem dX3_wordFrom_3 : decode cX3_wordFrom 3 = .ok (.istore 5, 2) := dk_54 5 (dk_at dksX3_wordFrom_0 3 rfl rfl)
theorem dX3_wordFrom_5 : decode cX3_wordFrom 5 = .ok (.iload 5, 2) := dk_21 5 (dk_at dksX3_wordFrom_0 5 rfl rfl)
theorem dX3_wordFrom_7 : decode cX3_wordFrom 7 = .ok (.iload_n 2, 1) := dk_28 (dk_at dksX3_wordFrom_0 7 rfl rfl)
theorem dX3_wordFrom_8 : decode cX3_wordFrom 8 = .ok (.if_icmp .ge 39, 3) := dk_162 0 39 (dk_at dksX3_wordFrom_0 8 rfl rfl)
theorem dX3_wordFrom_11 : decode cX3_wordFrom 11 = .ok (.iload 5, 2) := dk_21 5 (dk_at dksX3_wordFrom_0 11 rfl rfl)
theorem dX3_wordFrom_13 : decode cX3_wordFrom 13 = .ok (.iload_n 1, 1) := dk_27 (dk_at dksX3_wordFrom_0 13 rfl rfl)
theorem dX3_wordFrom_14 : decode cX3_wordFrom 14 = .ok (.bipush 8, 2) := dk_16 8 (dk_at dksX3_wordFrom_0 14 rfl rfl)
theorem dX3_wordFrom_16 : decode cX3_wordFrom 16 = .ok (.iadd, 1) := dk_96 (dk_at dksX3_wordFrom_0 16 rfl rfl)
theorem dX3_wordFrom_17 : decode cX3_wordFrom 17 = .ok (.if_icmp .ge 30, 3) := dk_162 0 30 (dk_at dksX3_wordFrom_0 17 rfl rfl)
theorem dX3_wordFrom_20 : decode cX3_wordFrom 20 = .ok (.ldc2_w 175, 3) := dk_20 0 175 (dk_at dksX3_wordFrom_0 20 rfl rfl)
theorem dX3_wordFrom_23 : decode cX3_wordFrom 23 = .ok (.lload_n 3, 1) := dk_33 (dk_at dksX3_wordFrom_0 23 rfl rfl)
theorem dX3_wordFrom_24 : decode cX3_wordFrom 24 = .ok (.lmul, 1) := dk_105 (dk_at dksX3_wordFrom_1 0 rfl rfl)
theorem dX3_wordFrom_25 : decode cX3_wordFrom 25 = .ok (.aload_n 0, 1) := dk_42 (dk_at dksX3_wordFrom_1 1 rfl rfl)
theorem dX3_wordFrom_26 : decode cX3_wordFrom 26 = .ok (.getfield 72, 3) := dk_180 0 72 (dk_at dksX3_wordFrom_1 2 rfl rfl)
theorem dX3_wordFrom_29 : decode cX3_wordFrom 29 = .ok (.iload 5, 2) := dk_21 5 (dk_at dksX3_wordFrom_1 5 rfl rfl)
theorem dX3_wordFrom_31 : decode cX3_wordFrom 31 = .ok (.iaload, 1) := dk_46 (dk_at dksX3_wordFrom_1 7 rfl rfl)
theorem dX3_wordFrom_32 : decode cX3_wordFrom 32 = .ok (.i2l, 1) := dk_133 (dk_at dksX3_wordFrom_1 8 rfl rfl)
theorem dX3_wordFrom_33 : decode cX3_wordFrom 33 = .ok (.ladd, 1) := dk_97 (dk_at dksX3_wordFrom_1 9 rfl rfl)
theorem dX3_wordFrom_34 : decode cX3_wordFrom 34 = .ok (.ldc2_w 177, 3) := dk_20 0 177 (dk_at dksX3_wordFrom_1 10 rfl rfl)
theorem dX3_wordFrom_37 : decode cX3_wordFrom 37 = .ok (.lsub, 1) := dk_101 (dk_at dksX3_wordFrom_1 13 rfl rfl)
theorem dX3_wordFrom_38 : decode cX3_wordFrom 38 = .ok (.lconst 1, 1) := dk_10 (dk_at dksX3_wordFrom_1 14 rfl rfl)
theorem dX3_wordFrom_39 : decode cX3_wordFrom 39 = .ok (.ladd, 1) := dk_97 (dk_at dksX3_wordFrom_1 15 rfl rfl)
theorem dX3_wordFrom_40 : decode cX3_wordFrom 40 = .ok (.lstore_n 3, 1) := dk_66 (dk_at dksX3_wordFrom_1 16 rfl rfl)
theorem dX3_wordFrom_41 : decode cX3_wordFrom 41 = .ok (.iinc 5 1, 3) := dk_132 5 1 (dk_at dksX3_wordFrom_1 17 rfl rfl)
theorem dX3_wordFrom_44 : decode cX3_wordFrom 44 = .ok (.goto (-39), 3) := dk_167 255 217 (dk_at dksX3_wordFrom_1 20 rfl rfl)
theorem dX3_wordFrom_47 : decode cX3_wordFrom 47 = .ok (.lload_n 3, 1) := dk_33 (dk_at dksX3_wordFrom_1 23 rfl rfl)
theorem dX3_wordFrom_48 : decode cX3_wordFrom 48 = .ok (.lreturn, 1) := dk_173 (dk_at dksX3_wordFrom_2 0 rfl rfl)
abbrev cX3_isDigit : ByteArray := prog_14_method_7_code
def yX3_isDigit : MethodName := ⟨RX3, "isDigit", "(I)Z"⟩
def dkwX3_isDigit_0 : List UInt8 := [26, 16, 48, 161, 0, 13, 26, 16, 57, 163, 0, 7, 4, 167, 0, 4, 3, 172]
abbrev dktX3_isDigit_0 : List UInt8 := dkwX3_isDigit_0 ++ []
theorem dksX3_isDigit_0 : cX3_isDigit.data.toList.drop 0 = dktX3_isDigit_0 := by decide +kernel
theorem dX3_isDigit_0 : decode cX3_isDigit 0 = .ok (.iload_n 0, 1) := dk_26 (dk_at dksX3_isDigit_0 0 rfl rfl)
theorem dX3_isDigit_1 : decode cX3_isDigit 1 = .ok (.bipush 48, 2) := dk_16 48 (dk_at dksX3_isDigit_0 1 rfl rfl)
theorem dX3_isDigit_3 : decode cX3_isDigit 3 = .ok (.if_icmp .lt 13, 3) := dk_161 0 13 (dk_at dksX3_isDigit_0 3 rfl rfl)
theorem dX3_isDigit_6 : decode cX3_isDigit 6 = .ok (.iload_n 0, 1) := dk_26 (dk_at dksX3_isDigit_0 6 rfl rfl)
theorem dX3_isDigit_7 : decode cX3_isDigit 7 = .ok (.bipush 57, 2) := dk_16 57 (dk_at dksX3_isDigit_0 7 rfl rfl)
theorem dX3_isDigit_9 : decode cX3_isDigit 9 = .ok (.if_icmp .gt 7, 3) := dk_163 0 7 (dk_at dksX3_isDigit_0 9 rfl rfl)
theorem dX3_isDigit_12 : decode cX3_isDigit 12 = .ok (.iconst 1, 1) := dk_4 (dk_at dksX3_isDigit_0 12 rfl rfl)
theorem dX3_isDigit_13 : decode cX3_isDigit 13 = .ok (.goto 4, 3) := dk_167 0 4 (dk_at dksX3_isDigit_0 13 rfl rfl)
theorem dX3_isDigit_16 : decode cX3_isDigit 16 = .ok (.iconst 0, 1) := dk_3 (dk_at dksX3_isDigit_0 16 rfl rfl)
theorem dX3_isDigit_17 : decode cX3_isDigit 17 = .ok (.ireturn, 1) := dk_172 (dk_at dksX3_isDigit_0 17 rfl rfl)
abbrev cX3_isWord : ByteArray := prog_14_method_14_code
def yX3_isWord : MethodName := ⟨RX3, "isWord", "(J)Z"⟩
def dkwX3_isWord_0 : List UInt8 := [42, 180, 0, 197, 4, 160, 0, 16, 42, 180, 0, 194, 31, 148, 154, 0, 7, 4, 167, 0, 4, 3, 172]
abbrev dktX3_isWord_0 : List UInt8 := dkwX3_isWord_0 ++ []
theorem dksX3_isWord_0 : cX3_isWord.data.toList.drop 0 = dktX3_isWord_0 := by decide +kernel
theorem dX3_isWord_0 : decode cX3_isWord 0 = .ok (.aload_n 0, 1) := dk_42 (dk_at dksX3_isWord_0 0 rfl rfl)
theorem dX3_isWord_1 : decode cX3_isWord 1 = .ok (.getfield 197, 3) := dk_180 0 197 (dk_at dksX3_isWord_0 1 rfl rfl)
theorem dX3_isWord_4 : decode cX3_isWord 4 = .ok (.iconst 1, 1) := dk_4 (dk_at dksX3_isWord_0 4 rfl rfl)
theorem dX3_isWord_5 : decode cX3_isWord 5 = .ok (.if_icmp .ne 16, 3) := dk_160 0 16 (dk_at dksX3_isWord_0 5 rfl rfl)
theorem dX3_isWord_8 : decode cX3_isWord 8 = .ok (.aload_n 0, 1) := dk_42 (dk_at dksX3_isWord_0 8 rfl rfl)
theorem dX3_isWord_9 : decode cX3_isWord 9 = .ok (.getfield 194, 3) := dk_180 0 194 (dk_at dksX3_isWord_0 9 rfl rfl)
theorem dX3_isWord_12 : decode cX3_isWord 12 = .ok (.lload_n 1, 1) := dk_31 (dk_at dksX3_isWord_0 12 rfl rfl)
theorem dX3_isWord_13 : decode cX3_isWord 13 = .ok (.lcmp, 1) := dk_148 (dk_at dksX3_isWord_0 13 rfl rfl)
theorem dX3_isWord_14 : decode cX3_isWord 14 = .ok (.ifCond .ne 7, 3) := dk_154 0 7 (dk_at dksX3_isWord_0 14 rfl rfl)
theorem dX3_isWord_17 : decode cX3_isWord 17 = .ok (.iconst 1, 1) := dk_4 (dk_at dksX3_isWord_0 17 rfl rfl)
theorem dX3_isWord_18 : decode cX3_isWord 18 = .ok (.goto 4, 3) := dk_167 0 4 (dk_at dksX3_isWord_0 18 rfl rfl)
theorem dX3_isWord_21 : decode cX3_isWord 21 = .ok (.iconst 0, 1) := dk_3 (dk_at dksX3_isWord_0 21 rfl rfl)
theorem dX3_isWord_22 : decode cX3_isWord 22 = .ok (.ireturn, 1) := dk_172 (dk_at dksX3_isWord_0 22 rfl rfl)
abbrev cX3_fail : ByteArray := prog_14_method_9_code
def yX3_fail : MethodName := ⟨RX3, "fail", "(II)V"⟩
def dkwX3_fail_0 : List UInt8 := [42, 180, 0, 169, 153, 0, 4, 177, 42, 27, 181, 0, 169, 42, 28, 181, 0, 172, 177]
abbrev dktX3_fail_0 : List UInt8 := dkwX3_fail_0 ++ []
theorem dksX3_fail_0 : cX3_fail.data.toList.drop 0 = dktX3_fail_0 := by decide +kernel
theorem dX3_fail_0 : decode cX3_fail 0 = .ok (.aload_n 0, 1) := dk_42 (dk_at dksX3_fail_0 0 rfl rfl)
theorem dX3_fail_1 : decode cX3_fail 1 = .ok (.getfield 169, 3) := dk_180 0 169 (dk_at dksX3_fail_0 1 rfl rfl)
theorem dX3_fail_4 : decode cX3_fail 4 = .ok (.ifCond .eq 4, 3) := dk_153 0 4 (dk_at dksX3_fail_0 4 rfl rfl)
theorem dX3_fail_7 : decode cX3_fail 7 = .ok (.return_, 1) := dk_177 (dk_at dksX3_fail_0 7 rfl rfl)
theorem dX3_fail_8 : decode cX3_fail 8 = .ok (.aload_n 0, 1) := dk_42 (dk_at dksX3_fail_0 8 rfl rfl)
theorem dX3_fail_9 : decode cX3_fail 9 = .ok (.iload_n 1, 1) := dk_27 (dk_at dksX3_fail_0 9 rfl rfl)
theorem dX3_fail_10 : decode cX3_fail 10 = .ok (.putfield 169, 3) := dk_181 0 169 (dk_at dksX3_fail_0 10 rfl rfl)
theorem dX3_fail_13 : decode cX3_fail 13 = .ok (.aload_n 0, 1) := dk_42 (dk_at dksX3_fail_0 13 rfl rfl)
theorem dX3_fail_14 : decode cX3_fail 14 = .ok (.iload_n 2, 1) := dk_28 (dk_at dksX3_fail_0 14 rfl rfl)
theorem dX3_fail_15 : decode cX3_fail 15 = .ok (.putfield 172, 3) := dk_181 0 172 (dk_at dksX3_fail_0 15 rfl rfl)
theorem dX3_fail_18 : decode cX3_fail 18 = .ok (.return_, 1) := dk_177 (dk_at dksX3_fail_0 18 rfl rfl)
abbrev cX3_keeps : ByteArray := prog_14_method_12_code
def yX3_keeps : MethodName := ⟨RX3, "keeps", "()V"⟩
def dkwX3_keeps_2 : List UInt8 := [42, 180, 0, 188, 100, 79, 42, 180, 0, 48, 42, 180, 0, 159, 92, 46, 4, 96, 79, 42, 182, 0, 210, 177]
abbrev dktX3_keeps_2 : List UInt8 := dkwX3_keeps_2 ++ []
def dkwX3_keeps_1 : List UInt8 := [42, 180, 0, 197, 79, 42, 180, 0, 54, 27, 42, 180, 0, 188, 79, 42, 180, 0, 57, 27, 42, 180, 0, 179]
abbrev dktX3_keeps_1 : List UInt8 := dkwX3_keeps_1 ++ dktX3_keeps_2
def dkwX3_keeps_0 : List UInt8 := [17, 1, 144, 42, 180, 0, 159, 104, 42, 180, 0, 48, 42, 180, 0, 159, 46, 96, 60, 42, 180, 0, 51, 27]
abbrev dktX3_keeps_0 : List UInt8 := dkwX3_keeps_0 ++ dktX3_keeps_1
theorem dksX3_keeps_0 : cX3_keeps.data.toList.drop 0 = dktX3_keeps_0 := by decide +kernel
theorem dksX3_keeps_1 : cX3_keeps.data.toList.drop 24 = dktX3_keeps_1 := dk_seg dksX3_keeps_0 24 rfl rfl
theorem dksX3_keeps_2 : cX3_keeps.data.toList.drop 48 = dktX3_keeps_2 := dk_seg dksX3_keeps_1 24 rfl rfl
theorem dX3_keeps_0 : decode cX3_keeps 0 = .ok (.sipush 400, 3) := dk_17 1 144 (dk_at dksX3_keeps_0 0 rfl rfl)
theorem dX3_keeps_3 : decode cX3_keeps 3 = .ok (.aload_n 0, 1) := dk_42 (dk_at dksX3_keeps_0 3 rfl rfl)
theorem dX3_keeps_4 : decode cX3_keeps 4 = .ok (.getfield 159, 3) := dk_180 0 159 (dk_at dksX3_keeps_0 4 rfl rfl)
theorem dX3_keeps_7 : decode cX3_keeps 7 = .ok (.imul, 1) := dk_104 (dk_at dksX3_keeps_0 7 rfl rfl)
theorem dX3_keeps_8 : decode cX3_keeps 8 = .ok (.aload_n 0, 1) := dk_42 (dk_at dksX3_keeps_0 8 rfl rfl)
theorem dX3_keeps_9 : decode cX3_keeps 9 = .ok (.getfield 48, 3) := dk_180 0 48 (dk_at dksX3_keeps_0 9 rfl rfl)
theorem dX3_keeps_12 : decode cX3_keeps 12 = .ok (.aload_n 0, 1) := dk_42 (dk_at dksX3_keeps_0 12 rfl rfl)
theorem dX3_keeps_13 : decode cX3_keeps 13 = .ok (.getfield 159, 3) := dk_180 0 159 (dk_at dksX3_keeps_0 13 rfl rfl)
theorem dX3_keeps_16 : decode cX3_keeps 16 = .ok (.iaload, 1) := dk_46 (dk_at dksX3_keeps_0 16 rfl rfl)
theorem dX3_keeps_17 : decode cX3_keeps 17 = .ok (.iadd, 1) := dk_96 (dk_at dksX3_keeps_0 17 rfl rfl)
theorem dX3_keeps_18 : decode cX3_keeps 18 = .ok (.istore_n 1, 1) := dk_60 (dk_at dksX3_keeps_0 18 rfl rfl)
theorem dX3_keeps_19 : decode cX3_keeps 19 = .ok (.aload_n 0, 1) := dk_42 (dk_at dksX3_keeps_0 19 rfl rfl)
theorem dX3_keeps_20 : decode cX3_keeps 20 = .ok (.getfield 51, 3) := dk_180 0 51 (dk_at dksX3_keeps_0 20 rfl rfl)
theorem dX3_keeps_23 : decode cX3_keeps 23 = .ok (.iload_n 1, 1) := dk_27 (dk_at dksX3_keeps_0 23 rfl rfl)
theorem dX3_keeps_24 : decode cX3_keeps 24 = .ok (.aload_n 0, 1) := dk_42 (dk_at dksX3_keeps_1 0 rfl rfl)
theorem dX3_keeps_25 : decode cX3_keeps 25 = .ok (.getfield 197, 3) := dk_180 0 197 (dk_at dksX3_keeps_1 1 rfl rfl)
theorem dX3_keeps_28 : decode cX3_keeps 28 = .ok (.iastore, 1) := dk_79 (dk_at dksX3_keeps_1 4 rfl rfl)
theorem dX3_keeps_29 : decode cX3_keeps 29 = .ok (.aload_n 0, 1) := dk_42 (dk_at dksX3_keeps_1 5 rfl rfl)
theorem dX3_keeps_30 : decode cX3_keeps 30 = .ok (.getfield 54, 3) := dk_180 0 54 (dk_at dksX3_keeps_1 6 rfl rfl)
theorem dX3_keeps_33 : decode cX3_keeps 33 = .ok (.iload_n 1, 1) := dk_27 (dk_at dksX3_keeps_1 9 rfl rfl)
theorem dX3_keeps_34 : decode cX3_keeps 34 = .ok (.aload_n 0, 1) := dk_42 (dk_at dksX3_keeps_1 10 rfl rfl)
theorem dX3_keeps_35 : decode cX3_keeps 35 = .ok (.getfield 188, 3) := dk_180 0 188 (dk_at dksX3_keeps_1 11 rfl rfl)
theorem dX3_keeps_38 : decode cX3_keeps 38 = .ok (.iastore, 1) := dk_79 (dk_at dksX3_keeps_1 14 rfl rfl)
theorem dX3_keeps_39 : decode cX3_keeps 39 = .ok (.aload_n 0, 1) := dk_42 (dk_at dksX3_keeps_1 15 rfl rfl)
theorem dX3_keeps_40 : decode cX3_keeps 40 = .ok (.getfield 57, 3) := dk_180 0 57 (dk_at dksX3_keeps_1 16 rfl rfl)
theorem dX3_keeps_43 : decode cX3_keeps 43 = .ok (.iload_n 1, 1) := dk_27 (dk_at dksX3_keeps_1 19 rfl rfl)
theorem dX3_keeps_44 : decode cX3_keeps 44 = .ok (.aload_n 0, 1) := dk_42 (dk_at dksX3_keeps_1 20 rfl rfl)
theorem dX3_keeps_45 : decode cX3_keeps 45 = .ok (.getfield 179, 3) := dk_180 0 179 (dk_at dksX3_keeps_1 21 rfl rfl)
theorem dX3_keeps_48 : decode cX3_keeps 48 = .ok (.aload_n 0, 1) := dk_42 (dk_at dksX3_keeps_2 0 rfl rfl)
theorem dX3_keeps_49 : decode cX3_keeps 49 = .ok (.getfield 188, 3) := dk_180 0 188 (dk_at dksX3_keeps_2 1 rfl rfl)
theorem dX3_keeps_52 : decode cX3_keeps 52 = .ok (.isub, 1) := dk_100 (dk_at dksX3_keeps_2 4 rfl rfl)
theorem dX3_keeps_53 : decode cX3_keeps 53 = .ok (.iastore, 1) := dk_79 (dk_at dksX3_keeps_2 5 rfl rfl)
theorem dX3_keeps_54 : decode cX3_keeps 54 = .ok (.aload_n 0, 1) := dk_42 (dk_at dksX3_keeps_2 6 rfl rfl)
theorem dX3_keeps_55 : decode cX3_keeps 55 = .ok (.getfield 48, 3) := dk_180 0 48 (dk_at dksX3_keeps_2 7 rfl rfl)
theorem dX3_keeps_58 : decode cX3_keeps 58 = .ok (.aload_n 0, 1) := dk_42 (dk_at dksX3_keeps_2 10 rfl rfl)
theorem dX3_keeps_59 : decode cX3_keeps 59 = .ok (.getfield 159, 3) := dk_180 0 159 (dk_at dksX3_keeps_2 11 rfl rfl)
theorem dX3_keeps_62 : decode cX3_keeps 62 = .ok (.dup2, 1) := dk_92 (dk_at dksX3_keeps_2 14 rfl rfl)
theorem dX3_keeps_63 : decode cX3_keeps 63 = .ok (.iaload, 1) := dk_46 (dk_at dksX3_keeps_2 15 rfl rfl)
theorem dX3_keeps_64 : decode cX3_keeps 64 = .ok (.iconst 1, 1) := dk_4 (dk_at dksX3_keeps_2 16 rfl rfl)
theorem dX3_keeps_65 : decode cX3_keeps 65 = .ok (.iadd, 1) := dk_96 (dk_at dksX3_keeps_2 17 rfl rfl)
theorem dX3_keeps_66 : decode cX3_keeps 66 = .ok (.iastore, 1) := dk_79 (dk_at dksX3_keeps_2 18 rfl rfl)
theorem dX3_keeps_67 : decode cX3_keeps 67 = .ok (.aload_n 0, 1) := dk_42 (dk_at dksX3_keeps_2 19 rfl rfl)
theorem dX3_keeps_68 : decode cX3_keeps 68 = .ok (.invokevirtual 210, 3) := dk_182 0 210 (dk_at dksX3_keeps_2 20 rfl rfl)
theorem dX3_keeps_71 : decode cX3_keeps 71 = .ok (.return_, 1) := dk_177 (dk_at dksX3_keeps_2 23 rfl rfl)
abbrev cX3_name : ByteArray := prog_14_method_17_code
def yX3_name : MethodName := ⟨RX3, "name", "()V"⟩
def dkwX3_name_2 : List UInt8 := [167, 0, 7, 42, 182, 0, 213, 177]
abbrev dktX3_name_2 : List UInt8 := dkwX3_name_2 ++ []
def dkwX3_name_1 : List UInt8 := [182, 0, 216, 167, 0, 26, 42, 182, 0, 220, 154, 0, 15, 42, 4, 42, 180, 0, 188, 182, 0, 216]
abbrev dktX3_name_1 : List UInt8 := dkwX3_name_1 ++ dktX3_name_2
def dkwX3_name_0 : List UInt8 := [42, 180, 0, 197, 4, 160, 0, 23, 42, 180, 0, 191, 2, 159, 0, 15, 42, 4, 42, 180, 0, 191]
abbrev dktX3_name_0 : List UInt8 := dkwX3_name_0 ++ dktX3_name_1
theorem dksX3_name_0 : cX3_name.data.toList.drop 0 = dktX3_name_0 := by decide +kernel
theorem dksX3_name_1 : cX3_name.data.toList.drop 22 = dktX3_name_1 := dk_seg dksX3_name_0 22 rfl rfl
theorem dksX3_name_2 : cX3_name.data.toList.drop 44 = dktX3_name_2 := dk_seg dksX3_name_1 22 rfl rfl
theorem dX3_name_0 : decode cX3_name 0 = .ok (.aload_n 0, 1) := dk_42 (dk_at dksX3_name_0 0 rfl rfl)
theorem dX3_name_1 : decode cX3_name 1 = .ok (.getfield 197, 3) := dk_180 0 197 (dk_at dksX3_name_0 1 rfl rfl)
theorem dX3_name_4 : decode cX3_name 4 = .ok (.iconst 1, 1) := dk_4 (dk_at dksX3_name_0 4 rfl rfl)
theorem dX3_name_5 : decode cX3_name 5 = .ok (.if_icmp .ne 23, 3) := dk_160 0 23 (dk_at dksX3_name_0 5 rfl rfl)
theorem dX3_name_8 : decode cX3_name 8 = .ok (.aload_n 0, 1) := dk_42 (dk_at dksX3_name_0 8 rfl rfl)
theorem dX3_name_9 : decode cX3_name 9 = .ok (.getfield 191, 3) := dk_180 0 191 (dk_at dksX3_name_0 9 rfl rfl)
theorem dX3_name_12 : decode cX3_name 12 = .ok (.iconst (-1), 1) := dk_2 (dk_at dksX3_name_0 12 rfl rfl)
theorem dX3_name_13 : decode cX3_name 13 = .ok (.if_icmp .eq 15, 3) := dk_159 0 15 (dk_at dksX3_name_0 13 rfl rfl)
theorem dX3_name_16 : decode cX3_name 16 = .ok (.aload_n 0, 1) := dk_42 (dk_at dksX3_name_0 16 rfl rfl)
theorem dX3_name_17 : decode cX3_name 17 = .ok (.iconst 1, 1) := dk_4 (dk_at dksX3_name_0 17 rfl rfl)
theorem dX3_name_18 : decode cX3_name 18 = .ok (.aload_n 0, 1) := dk_42 (dk_at dksX3_name_0 18 rfl rfl)
theorem dX3_name_19 : decode cX3_name 19 = .ok (.getfield 191, 3) := dk_180 0 191 (dk_at dksX3_name_0 19 rfl rfl)
theorem dX3_name_22 : decode cX3_name 22 = .ok (.invokevirtual 216, 3) := dk_182 0 216 (dk_at dksX3_name_1 0 rfl rfl)
theorem dX3_name_25 : decode cX3_name 25 = .ok (.goto 26, 3) := dk_167 0 26 (dk_at dksX3_name_1 3 rfl rfl)
theorem dX3_name_28 : decode cX3_name 28 = .ok (.aload_n 0, 1) := dk_42 (dk_at dksX3_name_1 6 rfl rfl)
theorem dX3_name_29 : decode cX3_name 29 = .ok (.invokevirtual 220, 3) := dk_182 0 220 (dk_at dksX3_name_1 7 rfl rfl)
theorem dX3_name_32 : decode cX3_name 32 = .ok (.ifCond .ne 15, 3) := dk_154 0 15 (dk_at dksX3_name_1 10 rfl rfl)
theorem dX3_name_35 : decode cX3_name 35 = .ok (.aload_n 0, 1) := dk_42 (dk_at dksX3_name_1 13 rfl rfl)
theorem dX3_name_36 : decode cX3_name 36 = .ok (.iconst 1, 1) := dk_4 (dk_at dksX3_name_1 14 rfl rfl)
theorem dX3_name_37 : decode cX3_name 37 = .ok (.aload_n 0, 1) := dk_42 (dk_at dksX3_name_1 15 rfl rfl)
theorem dX3_name_38 : decode cX3_name 38 = .ok (.getfield 188, 3) := dk_180 0 188 (dk_at dksX3_name_1 16 rfl rfl)
theorem dX3_name_41 : decode cX3_name 41 = .ok (.invokevirtual 216, 3) := dk_182 0 216 (dk_at dksX3_name_1 19 rfl rfl)
theorem dX3_name_44 : decode cX3_name 44 = .ok (.goto 7, 3) := dk_167 0 7 (dk_at dksX3_name_2 0 rfl rfl)
theorem dX3_name_47 : decode cX3_name 47 = .ok (.aload_n 0, 1) := dk_42 (dk_at dksX3_name_2 3 rfl rfl)
theorem dX3_name_48 : decode cX3_name 48 = .ok (.invokevirtual 213, 3) := dk_182 0 213 (dk_at dksX3_name_2 4 rfl rfl)
theorem dX3_name_51 : decode cX3_name 51 = .ok (.return_, 1) := dk_177 (dk_at dksX3_name_2 7 rfl rfl)
abbrev cX3_isName : ByteArray := prog_14_method_15_code
def yX3_isName : MethodName := ⟨RX3, "isName", "()Z"⟩
def dkwX3_isName_4 : List UInt8 := [148, 153, 0, 7, 4, 167, 0, 4, 3, 172]
abbrev dktX3_isName_4 : List UInt8 := dkwX3_isName_4 ++ []
def dkwX3_isName_3 : List UInt8 := [148, 153, 0, 31, 42, 180, 0, 194, 42, 180, 0, 99, 148, 153, 0, 19, 42, 180, 0, 194, 42, 180, 0, 102]
abbrev dktX3_isName_3 : List UInt8 := dkwX3_isName_3 ++ dktX3_isName_4
def dkwX3_isName_2 : List UInt8 := [148, 153, 0, 55, 42, 180, 0, 194, 42, 180, 0, 93, 148, 153, 0, 43, 42, 180, 0, 194, 42, 180, 0, 96]
abbrev dktX3_isName_2 : List UInt8 := dkwX3_isName_2 ++ dktX3_isName_3
def dkwX3_isName_1 : List UInt8 := [148, 153, 0, 79, 42, 180, 0, 194, 42, 180, 0, 87, 148, 153, 0, 67, 42, 180, 0, 194, 42, 180, 0, 90]
abbrev dktX3_isName_1 : List UInt8 := dkwX3_isName_1 ++ dktX3_isName_2
def dkwX3_isName_0 : List UInt8 := [42, 180, 0, 197, 4, 160, 0, 99, 42, 180, 0, 191, 2, 160, 0, 91, 42, 180, 0, 194, 42, 180, 0, 83]
abbrev dktX3_isName_0 : List UInt8 := dkwX3_isName_0 ++ dktX3_isName_1
theorem dksX3_isName_0 : cX3_isName.data.toList.drop 0 = dktX3_isName_0 := by decide +kernel
theorem dksX3_isName_1 : cX3_isName.data.toList.drop 24 = dktX3_isName_1 := dk_seg dksX3_isName_0 24 rfl rfl
theorem dksX3_isName_2 : cX3_isName.data.toList.drop 48 = dktX3_isName_2 := dk_seg dksX3_isName_1 24 rfl rfl
theorem dksX3_isName_3 : cX3_isName.data.toList.drop 72 = dktX3_isName_3 := dk_seg dksX3_isName_2 24 rfl rfl
theorem dksX3_isName_4 : cX3_isName.data.toList.drop 96 = dktX3_isName_4 := dk_seg dksX3_isName_3 24 rfl rfl
theorem dX3_isName_0 : decode cX3_isName 0 = .ok (.aload_n 0, 1) := dk_42 (dk_at dksX3_isName_0 0 rfl rfl)
theorem dX3_isName_1 : decode cX3_isName 1 = .ok (.getfield 197, 3) := dk_180 0 197 (dk_at dksX3_isName_0 1 rfl rfl)
theorem dX3_isName_4 : decode cX3_isName 4 = .ok (.iconst 1, 1) := dk_4 (dk_at dksX3_isName_0 4 rfl rfl)
theorem dX3_isName_5 : decode cX3_isName 5 = .ok (.if_icmp .ne 99, 3) := dk_160 0 99 (dk_at dksX3_isName_0 5 rfl rfl)
theorem dX3_isName_8 : decode cX3_isName 8 = .ok (.aload_n 0, 1) := dk_42 (dk_at dksX3_isName_0 8 rfl rfl)
theorem dX3_isName_9 : decode cX3_isName 9 = .ok (.getfield 191, 3) := dk_180 0 191 (dk_at dksX3_isName_0 9 rfl rfl)
theorem dX3_isName_12 : decode cX3_isName 12 = .ok (.iconst (-1), 1) := dk_2 (dk_at dksX3_isName_0 12 rfl rfl)
theorem dX3_isName_13 : decode cX3_isName 13 = .ok (.if_icmp .ne 91, 3) := dk_160 0 91 (dk_at dksX3_isName_0 13 rfl rfl)
theorem dX3_isName_16 : decode cX3_isName 16 = .ok (.aload_n 0, 1) := dk_42 (dk_at dksX3_isName_0 16 rfl rfl)
theorem dX3_isName_17 : decode cX3_isName 17 = .ok (.getfield 194, 3) := dk_180 0 194 (dk_at dksX3_isName_0 17 rfl rfl)
theorem dX3_isName_20 : decode cX3_isName 20 = .ok (.aload_n 0, 1) := dk_42 (dk_at dksX3_isName_0 20 rfl rfl)
theorem dX3_isName_21 : decode cX3_isName 21 = .ok (.getfield 83, 3) := dk_180 0 83 (dk_at dksX3_isName_0 21 rfl rfl)
theorem dX3_isName_24 : decode cX3_isName 24 = .ok (.lcmp, 1) := dk_148 (dk_at dksX3_isName_1 0 rfl rfl)
theorem dX3_isName_25 : decode cX3_isName 25 = .ok (.ifCond .eq 79, 3) := dk_153 0 79 (dk_at dksX3_isName_1 1 rfl rfl)
theorem dX3_isName_28 : decode cX3_isName 28 = .ok (.aload_n 0, 1) := dk_42 (dk_at dksX3_isName_1 4 rfl rfl)
theorem dX3_isName_29 : decode cX3_isName 29 = .ok (.getfield 194, 3) := dk_180 0 194 (dk_at dksX3_isName_1 5 rfl rfl)
theorem dX3_isName_32 : decode cX3_isName 32 = .ok (.aload_n 0, 1) := dk_42 (dk_at dksX3_isName_1 8 rfl rfl)
theorem dX3_isName_33 : decode cX3_isName 33 = .ok (.getfield 87, 3) := dk_180 0 87 (dk_at dksX3_isName_1 9 rfl rfl)
theorem dX3_isName_36 : decode cX3_isName 36 = .ok (.lcmp, 1) := dk_148 (dk_at dksX3_isName_1 12 rfl rfl)
theorem dX3_isName_37 : decode cX3_isName 37 = .ok (.ifCond .eq 67, 3) := dk_153 0 67 (dk_at dksX3_isName_1 13 rfl rfl)
theorem dX3_isName_40 : decode cX3_isName 40 = .ok (.aload_n 0, 1) := dk_42 (dk_at dksX3_isName_1 16 rfl rfl)
theorem dX3_isName_41 : decode cX3_isName 41 = .ok (.getfield 194, 3) := dk_180 0 194 (dk_at dksX3_isName_1 17 rfl rfl)
theorem dX3_isName_44 : decode cX3_isName 44 = .ok (.aload_n 0, 1) := dk_42 (dk_at dksX3_isName_1 20 rfl rfl)
theorem dX3_isName_45 : decode cX3_isName 45 = .ok (.getfield 90, 3) := dk_180 0 90 (dk_at dksX3_isName_1 21 rfl rfl)
theorem dX3_isName_48 : decode cX3_isName 48 = .ok (.lcmp, 1) := dk_148 (dk_at dksX3_isName_2 0 rfl rfl)
theorem dX3_isName_49 : decode cX3_isName 49 = .ok (.ifCond .eq 55, 3) := dk_153 0 55 (dk_at dksX3_isName_2 1 rfl rfl)
theorem dX3_isName_52 : decode cX3_isName 52 = .ok (.aload_n 0, 1) := dk_42 (dk_at dksX3_isName_2 4 rfl rfl)
theorem dX3_isName_53 : decode cX3_isName 53 = .ok (.getfield 194, 3) := dk_180 0 194 (dk_at dksX3_isName_2 5 rfl rfl)
theorem dX3_isName_56 : decode cX3_isName 56 = .ok (.aload_n 0, 1) := dk_42 (dk_at dksX3_isName_2 8 rfl rfl)
theorem dX3_isName_57 : decode cX3_isName 57 = .ok (.getfield 93, 3) := dk_180 0 93 (dk_at dksX3_isName_2 9 rfl rfl)
theorem dX3_isName_60 : decode cX3_isName 60 = .ok (.lcmp, 1) := dk_148 (dk_at dksX3_isName_2 12 rfl rfl)
theorem dX3_isName_61 : decode cX3_isName 61 = .ok (.ifCond .eq 43, 3) := dk_153 0 43 (dk_at dksX3_isName_2 13 rfl rfl)
theorem dX3_isName_64 : decode cX3_isName 64 = .ok (.aload_n 0, 1) := dk_42 (dk_at dksX3_isName_2 16 rfl rfl)
theorem dX3_isName_65 : decode cX3_isName 65 = .ok (.getfield 194, 3) := dk_180 0 194 (dk_at dksX3_isName_2 17 rfl rfl)
theorem dX3_isName_68 : decode cX3_isName 68 = .ok (.aload_n 0, 1) := dk_42 (dk_at dksX3_isName_2 20 rfl rfl)
theorem dX3_isName_69 : decode cX3_isName 69 = .ok (.getfield 96, 3) := dk_180 0 96 (dk_at dksX3_isName_2 21 rfl rfl)
theorem dX3_isName_72 : decode cX3_isName 72 = .ok (.lcmp, 1) := dk_148 (dk_at dksX3_isName_3 0 rfl rfl)
theorem dX3_isName_73 : decode cX3_isName 73 = .ok (.ifCond .eq 31, 3) := dk_153 0 31 (dk_at dksX3_isName_3 1 rfl rfl)
theorem dX3_isName_76 : decode cX3_isName 76 = .ok (.aload_n 0, 1) := dk_42 (dk_at dksX3_isName_3 4 rfl rfl)
theorem dX3_isName_77 : decode cX3_isName 77 = .ok (.getfield 194, 3) := dk_180 0 194 (dk_at dksX3_isName_3 5 rfl rfl)
theorem dX3_isName_80 : decode cX3_isName 80 = .ok (.aload_n 0, 1) := dk_42 (dk_at dksX3_isName_3 8 rfl rfl)
theorem dX3_isName_81 : decode cX3_isName 81 = .ok (.getfield 99, 3) := dk_180 0 99 (dk_at dksX3_isName_3 9 rfl rfl)
theorem dX3_isName_84 : decode cX3_isName 84 = .ok (.lcmp, 1) := dk_148 (dk_at dksX3_isName_3 12 rfl rfl)
theorem dX3_isName_85 : decode cX3_isName 85 = .ok (.ifCond .eq 19, 3) := dk_153 0 19 (dk_at dksX3_isName_3 13 rfl rfl)
theorem dX3_isName_88 : decode cX3_isName 88 = .ok (.aload_n 0, 1) := dk_42 (dk_at dksX3_isName_3 16 rfl rfl)
theorem dX3_isName_89 : decode cX3_isName 89 = .ok (.getfield 194, 3) := dk_180 0 194 (dk_at dksX3_isName_3 17 rfl rfl)
theorem dX3_isName_92 : decode cX3_isName 92 = .ok (.aload_n 0, 1) := dk_42 (dk_at dksX3_isName_3 20 rfl rfl)
theorem dX3_isName_93 : decode cX3_isName 93 = .ok (.getfield 102, 3) := dk_180 0 102 (dk_at dksX3_isName_3 21 rfl rfl)
theorem dX3_isName_96 : decode cX3_isName 96 = .ok (.lcmp, 1) := dk_148 (dk_at dksX3_isName_4 0 rfl rfl)
theorem dX3_isName_97 : decode cX3_isName 97 = .ok (.ifCond .eq 7, 3) := dk_153 0 7 (dk_at dksX3_isName_4 1 rfl rfl)
theorem dX3_isName_100 : decode cX3_isName 100 = .ok (.iconst 1, 1) := dk_4 (dk_at dksX3_isName_4 4 rfl rfl)
theorem dX3_isName_101 : decode cX3_isName 101 = .ok (.goto 4, 3) := dk_167 0 4 (dk_at dksX3_isName_4 5 rfl rfl)
theorem dX3_isName_104 : decode cX3_isName 104 = .ok (.iconst 0, 1) := dk_3 (dk_at dksX3_isName_4 8 rfl rfl)
theorem dX3_isName_105 : decode cX3_isName 105 = .ok (.ireturn, 1) := dk_172 (dk_at dksX3_isName_4 9 rfl rfl)
abbrev cX3_source : ByteArray := prog_14_method_21_code
def yX3_source : MethodName := ⟨RX3, "source", "()V"⟩
def dkwX3_source_11 : List UInt8 := [182, 0, 231, 177]
abbrev dktX3_source_11 : List UInt8 := dkwX3_source_11 ++ []
def dkwX3_source_10 : List UInt8 := [160, 0, 7, 4, 167, 0, 4, 3, 60, 27, 153, 255, 38, 42, 182, 0, 213, 167, 255, 31, 42, 16, 41]
abbrev dktX3_source_10 : List UInt8 := dkwX3_source_10 ++ dktX3_source_11
def dkwX3_source_9 : List UInt8 := [180, 0, 21, 42, 180, 0, 159, 92, 46, 4, 96, 79, 42, 182, 0, 213, 42, 180, 0, 197, 16, 44]
abbrev dktX3_source_9 : List UInt8 := dkwX3_source_9 ++ dktX3_source_10
def dkwX3_source_8 : List UInt8 := [167, 0, 21, 42, 180, 0, 194, 20, 0, 242, 148, 154, 0, 8, 16, 116, 167, 0, 5, 16, 100, 79, 42]
abbrev dktX3_source_8 : List UInt8 := dkwX3_source_8 ++ dktX3_source_9
def dkwX3_source_7 : List UInt8 := [180, 0, 21, 42, 180, 0, 159, 46, 96, 42, 180, 0, 194, 20, 0, 240, 148, 154, 0, 8, 16, 110]
abbrev dktX3_source_7 : List UInt8 := dkwX3_source_7 ++ dktX3_source_8
def dkwX3_source_6 : List UInt8 := [182, 0, 216, 42, 180, 0, 169, 153, 0, 4, 177, 42, 180, 0, 27, 16, 8, 42, 180, 0, 159, 104, 42]
abbrev dktX3_source_6 : List UInt8 := dkwX3_source_6 ++ dktX3_source_7
def dkwX3_source_5 : List UInt8 := [20, 0, 242, 148, 153, 0, 23, 42, 180, 0, 194, 20, 0, 244, 148, 153, 0, 12, 42, 4, 42, 180, 0, 188]
abbrev dktX3_source_5 : List UInt8 := dkwX3_source_5 ++ dktX3_source_6
def dkwX3_source_4 : List UInt8 := [180, 0, 197, 4, 160, 0, 36, 42, 180, 0, 194, 20, 0, 240, 148, 153, 0, 34, 42, 180, 0, 194]
abbrev dktX3_source_4 : List UInt8 := dkwX3_source_4 ++ dktX3_source_5
def dkwX3_source_3 : List UInt8 := [180, 0, 159, 46, 96, 42, 180, 0, 194, 80, 42, 182, 0, 238, 42, 180, 0, 169, 154, 0, 53, 42]
abbrev dktX3_source_3 : List UInt8 := dkwX3_source_3 ++ dktX3_source_4
def dkwX3_source_2 : List UInt8 := [180, 0, 169, 154, 0, 33, 42, 180, 0, 24, 16, 8, 42, 180, 0, 159, 104, 42, 180, 0, 21, 42]
abbrev dktX3_source_2 : List UInt8 := dkwX3_source_2 ++ dktX3_source_3
def dkwX3_source_1 : List UInt8 := [180, 0, 21, 42, 180, 0, 159, 46, 16, 6, 160, 0, 12, 42, 4, 42, 180, 0, 188, 182, 0, 216, 42]
abbrev dktX3_source_1 : List UInt8 := dkwX3_source_1 ++ dktX3_source_2
def dkwX3_source_0 : List UInt8 := [42, 16, 40, 182, 0, 231, 42, 180, 0, 169, 154, 0, 7, 4, 167, 0, 4, 3, 60, 27, 153, 0, 227, 42]
abbrev dktX3_source_0 : List UInt8 := dkwX3_source_0 ++ dktX3_source_1
theorem dksX3_source_0 : cX3_source.data.toList.drop 0 = dktX3_source_0 := by decide +kernel
theorem dksX3_source_1 : cX3_source.data.toList.drop 24 = dktX3_source_1 := dk_seg dksX3_source_0 24 rfl rfl
theorem dksX3_source_2 : cX3_source.data.toList.drop 47 = dktX3_source_2 := dk_seg dksX3_source_1 23 rfl rfl
theorem dksX3_source_3 : cX3_source.data.toList.drop 69 = dktX3_source_3 := dk_seg dksX3_source_2 22 rfl rfl
theorem dksX3_source_4 : cX3_source.data.toList.drop 91 = dktX3_source_4 := dk_seg dksX3_source_3 22 rfl rfl
theorem dksX3_source_5 : cX3_source.data.toList.drop 113 = dktX3_source_5 := dk_seg dksX3_source_4 22 rfl rfl
theorem dksX3_source_6 : cX3_source.data.toList.drop 137 = dktX3_source_6 := dk_seg dksX3_source_5 24 rfl rfl
theorem dksX3_source_7 : cX3_source.data.toList.drop 160 = dktX3_source_7 := dk_seg dksX3_source_6 23 rfl rfl
theorem dksX3_source_8 : cX3_source.data.toList.drop 182 = dktX3_source_8 := dk_seg dksX3_source_7 22 rfl rfl
theorem dksX3_source_9 : cX3_source.data.toList.drop 205 = dktX3_source_9 := dk_seg dksX3_source_8 23 rfl rfl
theorem dksX3_source_10 : cX3_source.data.toList.drop 227 = dktX3_source_10 := dk_seg dksX3_source_9 22 rfl rfl
theorem dksX3_source_11 : cX3_source.data.toList.drop 250 = dktX3_source_11 := dk_seg dksX3_source_10 23 rfl rfl
theorem dX3_source_0 : decode cX3_source 0 = .ok (.aload_n 0, 1) := dk_42 (dk_at dksX3_source_0 0 rfl rfl)
theorem dX3_source_1 : decode cX3_source 1 = .ok (.bipush 40, 2) := dk_16 40 (dk_at dksX3_source_0 1 rfl rfl)
theorem dX3_source_3 : decode cX3_source 3 = .ok (.invokevirtual 231, 3) := dk_182 0 231 (dk_at dksX3_source_0 3 rfl rfl)
theorem dX3_source_6 : decode cX3_source 6 = .ok (.aload_n 0, 1) := dk_42 (dk_at dksX3_source_0 6 rfl rfl)
theorem dX3_source_7 : decode cX3_source 7 = .ok (.getfield 169, 3) := dk_180 0 169 (dk_at dksX3_source_0 7 rfl rfl)
theorem dX3_source_10 : decode cX3_source 10 = .ok (.ifCond .ne 7, 3) := dk_154 0 7 (dk_at dksX3_source_0 10 rfl rfl)
theorem dX3_source_13 : decode cX3_source 13 = .ok (.iconst 1, 1) := dk_4 (dk_at dksX3_source_0 13 rfl rfl)
theorem dX3_source_14 : decode cX3_source 14 = .ok (.goto 4, 3) := dk_167 0 4 (dk_at dksX3_source_0 14 rfl rfl)
theorem dX3_source_17 : decode cX3_source 17 = .ok (.iconst 0, 1) := dk_3 (dk_at dksX3_source_0 17 rfl rfl)
theorem dX3_source_18 : decode cX3_source 18 = .ok (.istore_n 1, 1) := dk_60 (dk_at dksX3_source_0 18 rfl rfl)
theorem dX3_source_19 : decode cX3_source 19 = .ok (.iload_n 1, 1) := dk_27 (dk_at dksX3_source_0 19 rfl rfl)
theorem dX3_source_20 : decode cX3_source 20 = .ok (.ifCond .eq 227, 3) := dk_153 0 227 (dk_at dksX3_source_0 20 rfl rfl)
theorem dX3_source_23 : decode cX3_source 23 = .ok (.aload_n 0, 1) := dk_42 (dk_at dksX3_source_0 23 rfl rfl)
theorem dX3_source_24 : decode cX3_source 24 = .ok (.getfield 21, 3) := dk_180 0 21 (dk_at dksX3_source_1 0 rfl rfl)
theorem dX3_source_27 : decode cX3_source 27 = .ok (.aload_n 0, 1) := dk_42 (dk_at dksX3_source_1 3 rfl rfl)
theorem dX3_source_28 : decode cX3_source 28 = .ok (.getfield 159, 3) := dk_180 0 159 (dk_at dksX3_source_1 4 rfl rfl)
theorem dX3_source_31 : decode cX3_source 31 = .ok (.iaload, 1) := dk_46 (dk_at dksX3_source_1 7 rfl rfl)
theorem dX3_source_32 : decode cX3_source 32 = .ok (.bipush 6, 2) := dk_16 6 (dk_at dksX3_source_1 8 rfl rfl)
theorem dX3_source_34 : decode cX3_source 34 = .ok (.if_icmp .ne 12, 3) := dk_160 0 12 (dk_at dksX3_source_1 10 rfl rfl)
theorem dX3_source_37 : decode cX3_source 37 = .ok (.aload_n 0, 1) := dk_42 (dk_at dksX3_source_1 13 rfl rfl)
theorem dX3_source_38 : decode cX3_source 38 = .ok (.iconst 1, 1) := dk_4 (dk_at dksX3_source_1 14 rfl rfl)
theorem dX3_source_39 : decode cX3_source 39 = .ok (.aload_n 0, 1) := dk_42 (dk_at dksX3_source_1 15 rfl rfl)
theorem dX3_source_40 : decode cX3_source 40 = .ok (.getfield 188, 3) := dk_180 0 188 (dk_at dksX3_source_1 16 rfl rfl)
theorem dX3_source_43 : decode cX3_source 43 = .ok (.invokevirtual 216, 3) := dk_182 0 216 (dk_at dksX3_source_1 19 rfl rfl)
theorem dX3_source_46 : decode cX3_source 46 = .ok (.aload_n 0, 1) := dk_42 (dk_at dksX3_source_1 22 rfl rfl)
theorem dX3_source_47 : decode cX3_source 47 = .ok (.getfield 169, 3) := dk_180 0 169 (dk_at dksX3_source_2 0 rfl rfl)
theorem dX3_source_50 : decode cX3_source 50 = .ok (.ifCond .ne 33, 3) := dk_154 0 33 (dk_at dksX3_source_2 3 rfl rfl)
theorem dX3_source_53 : decode cX3_source 53 = .ok (.aload_n 0, 1) := dk_42 (dk_at dksX3_source_2 6 rfl rfl)
theorem dX3_source_54 : decode cX3_source 54 = .ok (.getfield 24, 3) := dk_180 0 24 (dk_at dksX3_source_2 7 rfl rfl)
theorem dX3_source_57 : decode cX3_source 57 = .ok (.bipush 8, 2) := dk_16 8 (dk_at dksX3_source_2 10 rfl rfl)
theorem dX3_source_59 : decode cX3_source 59 = .ok (.aload_n 0, 1) := dk_42 (dk_at dksX3_source_2 12 rfl rfl)
theorem dX3_source_60 : decode cX3_source 60 = .ok (.getfield 159, 3) := dk_180 0 159 (dk_at dksX3_source_2 13 rfl rfl)
theorem dX3_source_63 : decode cX3_source 63 = .ok (.imul, 1) := dk_104 (dk_at dksX3_source_2 16 rfl rfl)
theorem dX3_source_64 : decode cX3_source 64 = .ok (.aload_n 0, 1) := dk_42 (dk_at dksX3_source_2 17 rfl rfl)
theorem dX3_source_65 : decode cX3_source 65 = .ok (.getfield 21, 3) := dk_180 0 21 (dk_at dksX3_source_2 18 rfl rfl)
theorem dX3_source_68 : decode cX3_source 68 = .ok (.aload_n 0, 1) := dk_42 (dk_at dksX3_source_2 21 rfl rfl)
theorem dX3_source_69 : decode cX3_source 69 = .ok (.getfield 159, 3) := dk_180 0 159 (dk_at dksX3_source_3 0 rfl rfl)
theorem dX3_source_72 : decode cX3_source 72 = .ok (.iaload, 1) := dk_46 (dk_at dksX3_source_3 3 rfl rfl)
theorem dX3_source_73 : decode cX3_source 73 = .ok (.iadd, 1) := dk_96 (dk_at dksX3_source_3 4 rfl rfl)
theorem dX3_source_74 : decode cX3_source 74 = .ok (.aload_n 0, 1) := dk_42 (dk_at dksX3_source_3 5 rfl rfl)
theorem dX3_source_75 : decode cX3_source 75 = .ok (.getfield 194, 3) := dk_180 0 194 (dk_at dksX3_source_3 6 rfl rfl)
theorem dX3_source_78 : decode cX3_source 78 = .ok (.lastore, 1) := dk_80 (dk_at dksX3_source_3 9 rfl rfl)
theorem dX3_source_79 : decode cX3_source 79 = .ok (.aload_n 0, 1) := dk_42 (dk_at dksX3_source_3 10 rfl rfl)
theorem dX3_source_80 : decode cX3_source 80 = .ok (.invokevirtual 238, 3) := dk_182 0 238 (dk_at dksX3_source_3 11 rfl rfl)
theorem dX3_source_83 : decode cX3_source 83 = .ok (.aload_n 0, 1) := dk_42 (dk_at dksX3_source_3 14 rfl rfl)
theorem dX3_source_84 : decode cX3_source 84 = .ok (.getfield 169, 3) := dk_180 0 169 (dk_at dksX3_source_3 15 rfl rfl)
theorem dX3_source_87 : decode cX3_source 87 = .ok (.ifCond .ne 53, 3) := dk_154 0 53 (dk_at dksX3_source_3 18 rfl rfl)
theorem dX3_source_90 : decode cX3_source 90 = .ok (.aload_n 0, 1) := dk_42 (dk_at dksX3_source_3 21 rfl rfl)
theorem dX3_source_91 : decode cX3_source 91 = .ok (.getfield 197, 3) := dk_180 0 197 (dk_at dksX3_source_4 0 rfl rfl)
theorem dX3_source_94 : decode cX3_source 94 = .ok (.iconst 1, 1) := dk_4 (dk_at dksX3_source_4 3 rfl rfl)
theorem dX3_source_95 : decode cX3_source 95 = .ok (.if_icmp .ne 36, 3) := dk_160 0 36 (dk_at dksX3_source_4 4 rfl rfl)
theorem dX3_source_98 : decode cX3_source 98 = .ok (.aload_n 0, 1) := dk_42 (dk_at dksX3_source_4 7 rfl rfl)
theorem dX3_source_99 : decode cX3_source 99 = .ok (.getfield 194, 3) := dk_180 0 194 (dk_at dksX3_source_4 8 rfl rfl)
theorem dX3_source_102 : decode cX3_source 102 = .ok (.ldc2_w 240, 3) := dk_20 0 240 (dk_at dksX3_source_4 11 rfl rfl)
theorem dX3_source_105 : decode cX3_source 105 = .ok (.lcmp, 1) := dk_148 (dk_at dksX3_source_4 14 rfl rfl)
theorem dX3_source_106 : decode cX3_source 106 = .ok (.ifCond .eq 34, 3) := dk_153 0 34 (dk_at dksX3_source_4 15 rfl rfl)
theorem dX3_source_109 : decode cX3_source 109 = .ok (.aload_n 0, 1) := dk_42 (dk_at dksX3_source_4 18 rfl rfl)
theorem dX3_source_110 : decode cX3_source 110 = .ok (.getfield 194, 3) := dk_180 0 194 (dk_at dksX3_source_4 19 rfl rfl)
theorem dX3_source_113 : decode cX3_source 113 = .ok (.ldc2_w 242, 3) := dk_20 0 242 (dk_at dksX3_source_5 0 rfl rfl)
theorem dX3_source_116 : decode cX3_source 116 = .ok (.lcmp, 1) := dk_148 (dk_at dksX3_source_5 3 rfl rfl)
theorem dX3_source_117 : decode cX3_source 117 = .ok (.ifCond .eq 23, 3) := dk_153 0 23 (dk_at dksX3_source_5 4 rfl rfl)
theorem dX3_source_120 : decode cX3_source 120 = .ok (.aload_n 0, 1) := dk_42 (dk_at dksX3_source_5 7 rfl rfl)
theorem dX3_source_121 : decode cX3_source 121 = .ok (.getfield 194, 3) := dk_180 0 194 (dk_at dksX3_source_5 8 rfl rfl)
theorem dX3_source_124 : decode cX3_source 124 = .ok (.ldc2_w 244, 3) := dk_20 0 244 (dk_at dksX3_source_5 11 rfl rfl)
theorem dX3_source_127 : decode cX3_source 127 = .ok (.lcmp, 1) := dk_148 (dk_at dksX3_source_5 14 rfl rfl)
theorem dX3_source_128 : decode cX3_source 128 = .ok (.ifCond .eq 12, 3) := dk_153 0 12 (dk_at dksX3_source_5 15 rfl rfl)
theorem dX3_source_131 : decode cX3_source 131 = .ok (.aload_n 0, 1) := dk_42 (dk_at dksX3_source_5 18 rfl rfl)
theorem dX3_source_132 : decode cX3_source 132 = .ok (.iconst 1, 1) := dk_4 (dk_at dksX3_source_5 19 rfl rfl)
theorem dX3_source_133 : decode cX3_source 133 = .ok (.aload_n 0, 1) := dk_42 (dk_at dksX3_source_5 20 rfl rfl)
theorem dX3_source_134 : decode cX3_source 134 = .ok (.getfield 188, 3) := dk_180 0 188 (dk_at dksX3_source_5 21 rfl rfl)
theorem dX3_source_137 : decode cX3_source 137 = .ok (.invokevirtual 216, 3) := dk_182 0 216 (dk_at dksX3_source_6 0 rfl rfl)
theorem dX3_source_140 : decode cX3_source 140 = .ok (.aload_n 0, 1) := dk_42 (dk_at dksX3_source_6 3 rfl rfl)
theorem dX3_source_141 : decode cX3_source 141 = .ok (.getfield 169, 3) := dk_180 0 169 (dk_at dksX3_source_6 4 rfl rfl)
theorem dX3_source_144 : decode cX3_source 144 = .ok (.ifCond .eq 4, 3) := dk_153 0 4 (dk_at dksX3_source_6 7 rfl rfl)
theorem dX3_source_147 : decode cX3_source 147 = .ok (.return_, 1) := dk_177 (dk_at dksX3_source_6 10 rfl rfl)
theorem dX3_source_148 : decode cX3_source 148 = .ok (.aload_n 0, 1) := dk_42 (dk_at dksX3_source_6 11 rfl rfl)
theorem dX3_source_149 : decode cX3_source 149 = .ok (.getfield 27, 3) := dk_180 0 27 (dk_at dksX3_source_6 12 rfl rfl)
theorem dX3_source_152 : decode cX3_source 152 = .ok (.bipush 8, 2) := dk_16 8 (dk_at dksX3_source_6 15 rfl rfl)
theorem dX3_source_154 : decode cX3_source 154 = .ok (.aload_n 0, 1) := dk_42 (dk_at dksX3_source_6 17 rfl rfl)
theorem dX3_source_155 : decode cX3_source 155 = .ok (.getfield 159, 3) := dk_180 0 159 (dk_at dksX3_source_6 18 rfl rfl)
theorem dX3_source_158 : decode cX3_source 158 = .ok (.imul, 1) := dk_104 (dk_at dksX3_source_6 21 rfl rfl)
theorem dX3_source_159 : decode cX3_source 159 = .ok (.aload_n 0, 1) := dk_42 (dk_at dksX3_source_6 22 rfl rfl)
theorem dX3_source_160 : decode cX3_source 160 = .ok (.getfield 21, 3) := dk_180 0 21 (dk_at dksX3_source_7 0 rfl rfl)
theorem dX3_source_163 : decode cX3_source 163 = .ok (.aload_n 0, 1) := dk_42 (dk_at dksX3_source_7 3 rfl rfl)
theorem dX3_source_164 : decode cX3_source 164 = .ok (.getfield 159, 3) := dk_180 0 159 (dk_at dksX3_source_7 4 rfl rfl)
theorem dX3_source_167 : decode cX3_source 167 = .ok (.iaload, 1) := dk_46 (dk_at dksX3_source_7 7 rfl rfl)
theorem dX3_source_168 : decode cX3_source 168 = .ok (.iadd, 1) := dk_96 (dk_at dksX3_source_7 8 rfl rfl)
theorem dX3_source_169 : decode cX3_source 169 = .ok (.aload_n 0, 1) := dk_42 (dk_at dksX3_source_7 9 rfl rfl)
theorem dX3_source_170 : decode cX3_source 170 = .ok (.getfield 194, 3) := dk_180 0 194 (dk_at dksX3_source_7 10 rfl rfl)
theorem dX3_source_173 : decode cX3_source 173 = .ok (.ldc2_w 240, 3) := dk_20 0 240 (dk_at dksX3_source_7 13 rfl rfl)
theorem dX3_source_176 : decode cX3_source 176 = .ok (.lcmp, 1) := dk_148 (dk_at dksX3_source_7 16 rfl rfl)
theorem dX3_source_177 : decode cX3_source 177 = .ok (.ifCond .ne 8, 3) := dk_154 0 8 (dk_at dksX3_source_7 17 rfl rfl)
theorem dX3_source_180 : decode cX3_source 180 = .ok (.bipush 110, 2) := dk_16 110 (dk_at dksX3_source_7 20 rfl rfl)
theorem dX3_source_182 : decode cX3_source 182 = .ok (.goto 21, 3) := dk_167 0 21 (dk_at dksX3_source_8 0 rfl rfl)
theorem dX3_source_185 : decode cX3_source 185 = .ok (.aload_n 0, 1) := dk_42 (dk_at dksX3_source_8 3 rfl rfl)
theorem dX3_source_186 : decode cX3_source 186 = .ok (.getfield 194, 3) := dk_180 0 194 (dk_at dksX3_source_8 4 rfl rfl)
theorem dX3_source_189 : decode cX3_source 189 = .ok (.ldc2_w 242, 3) := dk_20 0 242 (dk_at dksX3_source_8 7 rfl rfl)
theorem dX3_source_192 : decode cX3_source 192 = .ok (.lcmp, 1) := dk_148 (dk_at dksX3_source_8 10 rfl rfl)
theorem dX3_source_193 : decode cX3_source 193 = .ok (.ifCond .ne 8, 3) := dk_154 0 8 (dk_at dksX3_source_8 11 rfl rfl)
theorem dX3_source_196 : decode cX3_source 196 = .ok (.bipush 116, 2) := dk_16 116 (dk_at dksX3_source_8 14 rfl rfl)
theorem dX3_source_198 : decode cX3_source 198 = .ok (.goto 5, 3) := dk_167 0 5 (dk_at dksX3_source_8 16 rfl rfl)
theorem dX3_source_201 : decode cX3_source 201 = .ok (.bipush 100, 2) := dk_16 100 (dk_at dksX3_source_8 19 rfl rfl)
theorem dX3_source_203 : decode cX3_source 203 = .ok (.iastore, 1) := dk_79 (dk_at dksX3_source_8 21 rfl rfl)
theorem dX3_source_204 : decode cX3_source 204 = .ok (.aload_n 0, 1) := dk_42 (dk_at dksX3_source_8 22 rfl rfl)
theorem dX3_source_205 : decode cX3_source 205 = .ok (.getfield 21, 3) := dk_180 0 21 (dk_at dksX3_source_9 0 rfl rfl)
theorem dX3_source_208 : decode cX3_source 208 = .ok (.aload_n 0, 1) := dk_42 (dk_at dksX3_source_9 3 rfl rfl)
theorem dX3_source_209 : decode cX3_source 209 = .ok (.getfield 159, 3) := dk_180 0 159 (dk_at dksX3_source_9 4 rfl rfl)
theorem dX3_source_212 : decode cX3_source 212 = .ok (.dup2, 1) := dk_92 (dk_at dksX3_source_9 7 rfl rfl)
theorem dX3_source_213 : decode cX3_source 213 = .ok (.iaload, 1) := dk_46 (dk_at dksX3_source_9 8 rfl rfl)
theorem dX3_source_214 : decode cX3_source 214 = .ok (.iconst 1, 1) := dk_4 (dk_at dksX3_source_9 9 rfl rfl)
theorem dX3_source_215 : decode cX3_source 215 = .ok (.iadd, 1) := dk_96 (dk_at dksX3_source_9 10 rfl rfl)
theorem dX3_source_216 : decode cX3_source 216 = .ok (.iastore, 1) := dk_79 (dk_at dksX3_source_9 11 rfl rfl)
theorem dX3_source_217 : decode cX3_source 217 = .ok (.aload_n 0, 1) := dk_42 (dk_at dksX3_source_9 12 rfl rfl)
theorem dX3_source_218 : decode cX3_source 218 = .ok (.invokevirtual 213, 3) := dk_182 0 213 (dk_at dksX3_source_9 13 rfl rfl)
theorem dX3_source_221 : decode cX3_source 221 = .ok (.aload_n 0, 1) := dk_42 (dk_at dksX3_source_9 16 rfl rfl)
theorem dX3_source_222 : decode cX3_source 222 = .ok (.getfield 197, 3) := dk_180 0 197 (dk_at dksX3_source_9 17 rfl rfl)
theorem dX3_source_225 : decode cX3_source 225 = .ok (.bipush 44, 2) := dk_16 44 (dk_at dksX3_source_9 20 rfl rfl)
theorem dX3_source_227 : decode cX3_source 227 = .ok (.if_icmp .ne 7, 3) := dk_160 0 7 (dk_at dksX3_source_10 0 rfl rfl)
theorem dX3_source_230 : decode cX3_source 230 = .ok (.iconst 1, 1) := dk_4 (dk_at dksX3_source_10 3 rfl rfl)
theorem dX3_source_231 : decode cX3_source 231 = .ok (.goto 4, 3) := dk_167 0 4 (dk_at dksX3_source_10 4 rfl rfl)
theorem dX3_source_234 : decode cX3_source 234 = .ok (.iconst 0, 1) := dk_3 (dk_at dksX3_source_10 7 rfl rfl)
theorem dX3_source_235 : decode cX3_source 235 = .ok (.istore_n 1, 1) := dk_60 (dk_at dksX3_source_10 8 rfl rfl)
theorem dX3_source_236 : decode cX3_source 236 = .ok (.iload_n 1, 1) := dk_27 (dk_at dksX3_source_10 9 rfl rfl)
theorem dX3_source_237 : decode cX3_source 237 = .ok (.ifCond .eq (-218), 3) := dk_153 255 38 (dk_at dksX3_source_10 10 rfl rfl)
theorem dX3_source_240 : decode cX3_source 240 = .ok (.aload_n 0, 1) := dk_42 (dk_at dksX3_source_10 13 rfl rfl)
theorem dX3_source_241 : decode cX3_source 241 = .ok (.invokevirtual 213, 3) := dk_182 0 213 (dk_at dksX3_source_10 14 rfl rfl)
theorem dX3_source_244 : decode cX3_source 244 = .ok (.goto (-225), 3) := dk_167 255 31 (dk_at dksX3_source_10 17 rfl rfl)
theorem dX3_source_247 : decode cX3_source 247 = .ok (.aload_n 0, 1) := dk_42 (dk_at dksX3_source_10 20 rfl rfl)
theorem dX3_source_248 : decode cX3_source 248 = .ok (.bipush 41, 2) := dk_16 41 (dk_at dksX3_source_10 21 rfl rfl)
theorem dX3_source_250 : decode cX3_source 250 = .ok (.invokevirtual 231, 3) := dk_182 0 231 (dk_at dksX3_source_11 0 rfl rfl)
theorem dX3_source_253 : decode cX3_source 253 = .ok (.return_, 1) := dk_177 (dk_at dksX3_source_11 3 rfl rfl)
abbrev cX3_sign : ByteArray := prog_14_method_16_code
def yX3_sign : MethodName := ⟨RX3, "sign", "(I)V"⟩
def dkwX3_sign_1 : List UInt8 := [177]
abbrev dktX3_sign_1 : List UInt8 := dkwX3_sign_1 ++ []
def dkwX3_sign_0 : List UInt8 := [42, 180, 0, 197, 27, 160, 0, 10, 42, 182, 0, 213, 167, 0, 12, 42, 4, 42, 180, 0, 188, 182, 0, 216]
abbrev dktX3_sign_0 : List UInt8 := dkwX3_sign_0 ++ dktX3_sign_1
theorem dksX3_sign_0 : cX3_sign.data.toList.drop 0 = dktX3_sign_0 := by decide +kernel
theorem dksX3_sign_1 : cX3_sign.data.toList.drop 24 = dktX3_sign_1 := dk_seg dksX3_sign_0 24 rfl rfl
theorem dX3_sign_0 : decode cX3_sign 0 = .ok (.aload_n 0, 1) := dk_42 (dk_at dksX3_sign_0 0 rfl rfl)
theorem dX3_sign_1 : decode cX3_sign 1 = .ok (.getfield 197, 3) := dk_180 0 197 (dk_at dksX3_sign_0 1 rfl rfl)
theorem dX3_sign_4 : decode cX3_sign 4 = .ok (.iload_n 1, 1) := dk_27 (dk_at dksX3_sign_0 4 rfl rfl)
theorem dX3_sign_5 : decode cX3_sign 5 = .ok (.if_icmp .ne 10, 3) := dk_160 0 10 (dk_at dksX3_sign_0 5 rfl rfl)
theorem dX3_sign_8 : decode cX3_sign 8 = .ok (.aload_n 0, 1) := dk_42 (dk_at dksX3_sign_0 8 rfl rfl)
theorem dX3_sign_9 : decode cX3_sign 9 = .ok (.invokevirtual 213, 3) := dk_182 0 213 (dk_at dksX3_sign_0 9 rfl rfl)
theorem dX3_sign_12 : decode cX3_sign 12 = .ok (.goto 12, 3) := dk_167 0 12 (dk_at dksX3_sign_0 12 rfl rfl)
theorem dX3_sign_15 : decode cX3_sign 15 = .ok (.aload_n 0, 1) := dk_42 (dk_at dksX3_sign_0 15 rfl rfl)
theorem dX3_sign_16 : decode cX3_sign 16 = .ok (.iconst 1, 1) := dk_4 (dk_at dksX3_sign_0 16 rfl rfl)
theorem dX3_sign_17 : decode cX3_sign 17 = .ok (.aload_n 0, 1) := dk_42 (dk_at dksX3_sign_0 17 rfl rfl)
theorem dX3_sign_18 : decode cX3_sign 18 = .ok (.getfield 188, 3) := dk_180 0 188 (dk_at dksX3_sign_0 18 rfl rfl)
theorem dX3_sign_21 : decode cX3_sign 21 = .ok (.invokevirtual 216, 3) := dk_182 0 216 (dk_at dksX3_sign_0 21 rfl rfl)
theorem dX3_sign_24 : decode cX3_sign 24 = .ok (.return_, 1) := dk_177 (dk_at dksX3_sign_1 0 rfl rfl)
abbrev cX3_select : ByteArray := prog_14_method_22_code
def yX3_select : MethodName := ⟨RX3, "select", "()V"⟩
def dkwX3_select_18 : List UInt8 := [177, 42, 42, 180, 0, 188, 181, 0, 252, 42, 182, 0, 213, 42, 16, 7, 182, 0, 246, 177]
abbrev dktX3_select_18 : List UInt8 := dkwX3_select_18 ++ []
def dkwX3_select_17 : List UInt8 := [180, 0, 197, 16, 61, 159, 0, 12, 42, 4, 42, 180, 0, 188, 182, 0, 216, 42, 180, 0, 169, 153, 0, 4]
abbrev dktX3_select_17 : List UInt8 := dkwX3_select_17 ++ dktX3_select_18
def dkwX3_select_16 : List UInt8 := [16, 6, 182, 0, 246, 42, 180, 0, 169, 154, 0, 30, 42, 180, 0, 197, 16, 60, 159, 0, 21, 42]
abbrev dktX3_select_16 : List UInt8 := dkwX3_select_16 ++ dktX3_select_17
def dkwX3_select_15 : List UInt8 := [42, 182, 0, 213, 167, 255, 139, 42, 42, 180, 0, 96, 182, 0, 227, 154, 0, 4, 177, 42, 182, 0, 213, 42]
abbrev dktX3_select_15 : List UInt8 := dkwX3_select_15 ++ dktX3_select_16
def dkwX3_select_14 : List UInt8 := [92, 46, 4, 96, 79, 42, 180, 0, 197, 16, 44, 160, 0, 7, 4, 167, 0, 4, 3, 60, 27, 153, 255, 146]
abbrev dktX3_select_14 : List UInt8 := dkwX3_select_14 ++ dktX3_select_15
def dkwX3_select_13 : List UInt8 := [180, 0, 188, 79, 42, 182, 0, 238, 42, 180, 0, 169, 153, 0, 4, 177, 42, 180, 0, 30, 42, 180, 0, 159]
abbrev dktX3_select_13 : List UInt8 := dkwX3_select_13 ++ dktX3_select_14
def dkwX3_select_12 : List UInt8 := [180, 0, 159, 46, 42, 180, 0, 194, 80, 42, 180, 0, 111, 42, 180, 0, 30, 42, 180, 0, 159, 46, 42]
abbrev dktX3_select_12 : List UInt8 := dkwX3_select_12 ++ dktX3_select_13
def dkwX3_select_11 : List UInt8 := [180, 0, 188, 182, 0, 216, 42, 180, 0, 169, 154, 0, 43, 42, 180, 0, 108, 42, 180, 0, 30, 42]
abbrev dktX3_select_11 : List UInt8 := dkwX3_select_11 ++ dktX3_select_12
def dkwX3_select_10 : List UInt8 := [4, 60, 27, 153, 0, 119, 42, 180, 0, 30, 42, 180, 0, 159, 46, 6, 160, 0, 12, 42, 4, 42]
abbrev dktX3_select_10 : List UInt8 := dkwX3_select_10 ++ dktX3_select_11
def dkwX3_select_9 : List UInt8 := [180, 0, 169, 153, 0, 4, 177, 42, 182, 0, 213, 42, 42, 180, 0, 48, 42, 180, 0, 159, 46, 181, 0, 249]
abbrev dktX3_select_9 : List UInt8 := dkwX3_select_9 ++ dktX3_select_10
def dkwX3_select_8 : List UInt8 := [154, 0, 23, 42, 42, 180, 0, 93, 182, 0, 227, 154, 0, 12, 42, 4, 42, 180, 0, 188, 182, 0, 216, 42]
abbrev dktX3_select_8 : List UInt8 := dkwX3_select_8 ++ dktX3_select_9
def dkwX3_select_7 : List UInt8 := [160, 0, 7, 4, 167, 0, 4, 3, 60, 27, 153, 255, 122, 42, 182, 0, 213, 167, 255, 115, 42, 180, 0, 169]
abbrev dktX3_select_7 : List UInt8 := dkwX3_select_7 ++ dktX3_select_8
def dkwX3_select_6 : List UInt8 := [153, 0, 4, 177, 42, 180, 0, 21, 42, 180, 0, 159, 92, 46, 4, 96, 79, 42, 180, 0, 197, 16, 44]
abbrev dktX3_select_6 : List UInt8 := dkwX3_select_6 ++ dktX3_select_7
def dkwX3_select_5 : List UInt8 := [180, 0, 169, 154, 0, 16, 42, 42, 180, 0, 21, 42, 180, 0, 159, 46, 182, 0, 246, 42, 180, 0, 169]
abbrev dktX3_select_5 : List UInt8 := dkwX3_select_5 ++ dktX3_select_6
def dkwX3_select_4 : List UInt8 := [42, 180, 0, 194, 80, 42, 182, 0, 238, 42, 180, 0, 169, 154, 0, 9, 42, 16, 58, 182, 0, 231, 42]
abbrev dktX3_select_4 : List UInt8 := dkwX3_select_4 ++ dktX3_select_5
def dkwX3_select_3 : List UInt8 := [154, 0, 33, 42, 180, 0, 24, 16, 8, 42, 180, 0, 159, 104, 42, 180, 0, 21, 42, 180, 0, 159, 46, 96]
abbrev dktX3_select_3 : List UInt8 := dkwX3_select_3 ++ dktX3_select_4
def dkwX3_select_2 : List UInt8 := [180, 0, 159, 46, 16, 6, 160, 0, 12, 42, 4, 42, 180, 0, 188, 182, 0, 216, 42, 180, 0, 169]
abbrev dktX3_select_2 : List UInt8 := dkwX3_select_2 ++ dktX3_select_3
def dkwX3_select_1 : List UInt8 := [42, 180, 0, 169, 154, 0, 7, 4, 167, 0, 4, 3, 60, 27, 153, 0, 143, 42, 180, 0, 21, 42]
abbrev dktX3_select_1 : List UInt8 := dkwX3_select_1 ++ dktX3_select_2
def dkwX3_select_0 : List UInt8 := [42, 180, 0, 69, 42, 180, 0, 159, 42, 180, 0, 48, 42, 180, 0, 159, 46, 79, 42, 16, 61, 182, 0, 231]
abbrev dktX3_select_0 : List UInt8 := dkwX3_select_0 ++ dktX3_select_1
theorem dksX3_select_0 : cX3_select.data.toList.drop 0 = dktX3_select_0 := by decide +kernel
theorem dksX3_select_1 : cX3_select.data.toList.drop 24 = dktX3_select_1 := dk_seg dksX3_select_0 24 rfl rfl
theorem dksX3_select_2 : cX3_select.data.toList.drop 46 = dktX3_select_2 := dk_seg dksX3_select_1 22 rfl rfl
theorem dksX3_select_3 : cX3_select.data.toList.drop 68 = dktX3_select_3 := dk_seg dksX3_select_2 22 rfl rfl
theorem dksX3_select_4 : cX3_select.data.toList.drop 92 = dktX3_select_4 := dk_seg dksX3_select_3 24 rfl rfl
theorem dksX3_select_5 : cX3_select.data.toList.drop 115 = dktX3_select_5 := dk_seg dksX3_select_4 23 rfl rfl
theorem dksX3_select_6 : cX3_select.data.toList.drop 138 = dktX3_select_6 := dk_seg dksX3_select_5 23 rfl rfl
theorem dksX3_select_7 : cX3_select.data.toList.drop 161 = dktX3_select_7 := dk_seg dksX3_select_6 23 rfl rfl
theorem dksX3_select_8 : cX3_select.data.toList.drop 185 = dktX3_select_8 := dk_seg dksX3_select_7 24 rfl rfl
theorem dksX3_select_9 : cX3_select.data.toList.drop 209 = dktX3_select_9 := dk_seg dksX3_select_8 24 rfl rfl
theorem dksX3_select_10 : cX3_select.data.toList.drop 233 = dktX3_select_10 := dk_seg dksX3_select_9 24 rfl rfl
theorem dksX3_select_11 : cX3_select.data.toList.drop 255 = dktX3_select_11 := dk_seg dksX3_select_10 22 rfl rfl
theorem dksX3_select_12 : cX3_select.data.toList.drop 277 = dktX3_select_12 := dk_seg dksX3_select_11 22 rfl rfl
theorem dksX3_select_13 : cX3_select.data.toList.drop 300 = dktX3_select_13 := dk_seg dksX3_select_12 23 rfl rfl
theorem dksX3_select_14 : cX3_select.data.toList.drop 324 = dktX3_select_14 := dk_seg dksX3_select_13 24 rfl rfl
theorem dksX3_select_15 : cX3_select.data.toList.drop 348 = dktX3_select_15 := dk_seg dksX3_select_14 24 rfl rfl
theorem dksX3_select_16 : cX3_select.data.toList.drop 372 = dktX3_select_16 := dk_seg dksX3_select_15 24 rfl rfl
theorem dksX3_select_17 : cX3_select.data.toList.drop 394 = dktX3_select_17 := dk_seg dksX3_select_16 22 rfl rfl
theorem dksX3_select_18 : cX3_select.data.toList.drop 418 = dktX3_select_18 := dk_seg dksX3_select_17 24 rfl rfl
theorem dX3_select_0 : decode cX3_select 0 = .ok (.aload_n 0, 1) := dk_42 (dk_at dksX3_select_0 0 rfl rfl)
theorem dX3_select_1 : decode cX3_select 1 = .ok (.getfield 69, 3) := dk_180 0 69 (dk_at dksX3_select_0 1 rfl rfl)
theorem dX3_select_4 : decode cX3_select 4 = .ok (.aload_n 0, 1) := dk_42 (dk_at dksX3_select_0 4 rfl rfl)
theorem dX3_select_5 : decode cX3_select 5 = .ok (.getfield 159, 3) := dk_180 0 159 (dk_at dksX3_select_0 5 rfl rfl)
theorem dX3_select_8 : decode cX3_select 8 = .ok (.aload_n 0, 1) := dk_42 (dk_at dksX3_select_0 8 rfl rfl)
theorem dX3_select_9 : decode cX3_select 9 = .ok (.getfield 48, 3) := dk_180 0 48 (dk_at dksX3_select_0 9 rfl rfl)
theorem dX3_select_12 : decode cX3_select 12 = .ok (.aload_n 0, 1) := dk_42 (dk_at dksX3_select_0 12 rfl rfl)
theorem dX3_select_13 : decode cX3_select 13 = .ok (.getfield 159, 3) := dk_180 0 159 (dk_at dksX3_select_0 13 rfl rfl)
theorem dX3_select_16 : decode cX3_select 16 = .ok (.iaload, 1) := dk_46 (dk_at dksX3_select_0 16 rfl rfl)
theorem dX3_select_17 : decode cX3_select 17 = .ok (.iastore, 1) := dk_79 (dk_at dksX3_select_0 17 rfl rfl)
theorem dX3_select_18 : decode cX3_select 18 = .ok (.aload_n 0, 1) := dk_42 (dk_at dksX3_select_0 18 rfl rfl)
theorem dX3_select_19 : decode cX3_select 19 = .ok (.bipush 61, 2) := dk_16 61 (dk_at dksX3_select_0 19 rfl rfl)
theorem dX3_select_21 : decode cX3_select 21 = .ok (.invokevirtual 231, 3) := dk_182 0 231 (dk_at dksX3_select_0 21 rfl rfl)
theorem dX3_select_24 : decode cX3_select 24 = .ok (.aload_n 0, 1) := dk_42 (dk_at dksX3_select_1 0 rfl rfl)
theorem dX3_select_25 : decode cX3_select 25 = .ok (.getfield 169, 3) := dk_180 0 169 (dk_at dksX3_select_1 1 rfl rfl)
theorem dX3_select_28 : decode cX3_select 28 = .ok (.ifCond .ne 7, 3) := dk_154 0 7 (dk_at dksX3_select_1 4 rfl rfl)
theorem dX3_select_31 : decode cX3_select 31 = .ok (.iconst 1, 1) := dk_4 (dk_at dksX3_select_1 7 rfl rfl)
theorem dX3_select_32 : decode cX3_select 32 = .ok (.goto 4, 3) := dk_167 0 4 (dk_at dksX3_select_1 8 rfl rfl)
theorem dX3_select_35 : decode cX3_select 35 = .ok (.iconst 0, 1) := dk_3 (dk_at dksX3_select_1 11 rfl rfl)
theorem dX3_select_36 : decode cX3_select 36 = .ok (.istore_n 1, 1) := dk_60 (dk_at dksX3_select_1 12 rfl rfl)
theorem dX3_select_37 : decode cX3_select 37 = .ok (.iload_n 1, 1) := dk_27 (dk_at dksX3_select_1 13 rfl rfl)
theorem dX3_select_38 : decode cX3_select 38 = .ok (.ifCond .eq 143, 3) := dk_153 0 143 (dk_at dksX3_select_1 14 rfl rfl)
theorem dX3_select_41 : decode cX3_select 41 = .ok (.aload_n 0, 1) := dk_42 (dk_at dksX3_select_1 17 rfl rfl)
theorem dX3_select_42 : decode cX3_select 42 = .ok (.getfield 21, 3) := dk_180 0 21 (dk_at dksX3_select_1 18 rfl rfl)
theorem dX3_select_45 : decode cX3_select 45 = .ok (.aload_n 0, 1) := dk_42 (dk_at dksX3_select_1 21 rfl rfl)
theorem dX3_select_46 : decode cX3_select 46 = .ok (.getfield 159, 3) := dk_180 0 159 (dk_at dksX3_select_2 0 rfl rfl)
theorem dX3_select_49 : decode cX3_select 49 = .ok (.iaload, 1) := dk_46 (dk_at dksX3_select_2 3 rfl rfl)
theorem dX3_select_50 : decode cX3_select 50 = .ok (.bipush 6, 2) := dk_16 6 (dk_at dksX3_select_2 4 rfl rfl)
theorem dX3_select_52 : decode cX3_select 52 = .ok (.if_icmp .ne 12, 3) := dk_160 0 12 (dk_at dksX3_select_2 6 rfl rfl)
theorem dX3_select_55 : decode cX3_select 55 = .ok (.aload_n 0, 1) := dk_42 (dk_at dksX3_select_2 9 rfl rfl)
theorem dX3_select_56 : decode cX3_select 56 = .ok (.iconst 1, 1) := dk_4 (dk_at dksX3_select_2 10 rfl rfl)
theorem dX3_select_57 : decode cX3_select 57 = .ok (.aload_n 0, 1) := dk_42 (dk_at dksX3_select_2 11 rfl rfl)
theorem dX3_select_58 : decode cX3_select 58 = .ok (.getfield 188, 3) := dk_180 0 188 (dk_at dksX3_select_2 12 rfl rfl)
theorem dX3_select_61 : decode cX3_select 61 = .ok (.invokevirtual 216, 3) := dk_182 0 216 (dk_at dksX3_select_2 15 rfl rfl)
theorem dX3_select_64 : decode cX3_select 64 = .ok (.aload_n 0, 1) := dk_42 (dk_at dksX3_select_2 18 rfl rfl)
theorem dX3_select_65 : decode cX3_select 65 = .ok (.getfield 169, 3) := dk_180 0 169 (dk_at dksX3_select_2 19 rfl rfl)
theorem dX3_select_68 : decode cX3_select 68 = .ok (.ifCond .ne 33, 3) := dk_154 0 33 (dk_at dksX3_select_3 0 rfl rfl)
theorem dX3_select_71 : decode cX3_select 71 = .ok (.aload_n 0, 1) := dk_42 (dk_at dksX3_select_3 3 rfl rfl)
theorem dX3_select_72 : decode cX3_select 72 = .ok (.getfield 24, 3) := dk_180 0 24 (dk_at dksX3_select_3 4 rfl rfl)
theorem dX3_select_75 : decode cX3_select 75 = .ok (.bipush 8, 2) := dk_16 8 (dk_at dksX3_select_3 7 rfl rfl)
theorem dX3_select_77 : decode cX3_select 77 = .ok (.aload_n 0, 1) := dk_42 (dk_at dksX3_select_3 9 rfl rfl)
theorem dX3_select_78 : decode cX3_select 78 = .ok (.getfield 159, 3) := dk_180 0 159 (dk_at dksX3_select_3 10 rfl rfl)
theorem dX3_select_81 : decode cX3_select 81 = .ok (.imul, 1) := dk_104 (dk_at dksX3_select_3 13 rfl rfl)
theorem dX3_select_82 : decode cX3_select 82 = .ok (.aload_n 0, 1) := dk_42 (dk_at dksX3_select_3 14 rfl rfl)
theorem dX3_select_83 : decode cX3_select 83 = .ok (.getfield 21, 3) := dk_180 0 21 (dk_at dksX3_select_3 15 rfl rfl)
theorem dX3_select_86 : decode cX3_select 86 = .ok (.aload_n 0, 1) := dk_42 (dk_at dksX3_select_3 18 rfl rfl)
theorem dX3_select_87 : decode cX3_select 87 = .ok (.getfield 159, 3) := dk_180 0 159 (dk_at dksX3_select_3 19 rfl rfl)
theorem dX3_select_90 : decode cX3_select 90 = .ok (.iaload, 1) := dk_46 (dk_at dksX3_select_3 22 rfl rfl)
theorem dX3_select_91 : decode cX3_select 91 = .ok (.iadd, 1) := dk_96 (dk_at dksX3_select_3 23 rfl rfl)
theorem dX3_select_92 : decode cX3_select 92 = .ok (.aload_n 0, 1) := dk_42 (dk_at dksX3_select_4 0 rfl rfl)
theorem dX3_select_93 : decode cX3_select 93 = .ok (.getfield 194, 3) := dk_180 0 194 (dk_at dksX3_select_4 1 rfl rfl)
theorem dX3_select_96 : decode cX3_select 96 = .ok (.lastore, 1) := dk_80 (dk_at dksX3_select_4 4 rfl rfl)
theorem dX3_select_97 : decode cX3_select 97 = .ok (.aload_n 0, 1) := dk_42 (dk_at dksX3_select_4 5 rfl rfl)
theorem dX3_select_98 : decode cX3_select 98 = .ok (.invokevirtual 238, 3) := dk_182 0 238 (dk_at dksX3_select_4 6 rfl rfl)
theorem dX3_select_101 : decode cX3_select 101 = .ok (.aload_n 0, 1) := dk_42 (dk_at dksX3_select_4 9 rfl rfl)
theorem dX3_select_102 : decode cX3_select 102 = .ok (.getfield 169, 3) := dk_180 0 169 (dk_at dksX3_select_4 10 rfl rfl)
theorem dX3_select_105 : decode cX3_select 105 = .ok (.ifCond .ne 9, 3) := dk_154 0 9 (dk_at dksX3_select_4 13 rfl rfl)
theorem dX3_select_108 : decode cX3_select 108 = .ok (.aload_n 0, 1) := dk_42 (dk_at dksX3_select_4 16 rfl rfl)
theorem dX3_select_109 : decode cX3_select 109 = .ok (.bipush 58, 2) := dk_16 58 (dk_at dksX3_select_4 17 rfl rfl)
theorem dX3_select_111 : decode cX3_select 111 = .ok (.invokevirtual 231, 3) := dk_182 0 231 (dk_at dksX3_select_4 19 rfl rfl)
theorem dX3_select_114 : decode cX3_select 114 = .ok (.aload_n 0, 1) := dk_42 (dk_at dksX3_select_4 22 rfl rfl)
theorem dX3_select_115 : decode cX3_select 115 = .ok (.getfield 169, 3) := dk_180 0 169 (dk_at dksX3_select_5 0 rfl rfl)
theorem dX3_select_118 : decode cX3_select 118 = .ok (.ifCond .ne 16, 3) := dk_154 0 16 (dk_at dksX3_select_5 3 rfl rfl)
theorem dX3_select_121 : decode cX3_select 121 = .ok (.aload_n 0, 1) := dk_42 (dk_at dksX3_select_5 6 rfl rfl)
theorem dX3_select_122 : decode cX3_select 122 = .ok (.aload_n 0, 1) := dk_42 (dk_at dksX3_select_5 7 rfl rfl)
theorem dX3_select_123 : decode cX3_select 123 = .ok (.getfield 21, 3) := dk_180 0 21 (dk_at dksX3_select_5 8 rfl rfl)
theorem dX3_select_126 : decode cX3_select 126 = .ok (.aload_n 0, 1) := dk_42 (dk_at dksX3_select_5 11 rfl rfl)
theorem dX3_select_127 : decode cX3_select 127 = .ok (.getfield 159, 3) := dk_180 0 159 (dk_at dksX3_select_5 12 rfl rfl)
theorem dX3_select_130 : decode cX3_select 130 = .ok (.iaload, 1) := dk_46 (dk_at dksX3_select_5 15 rfl rfl)
theorem dX3_select_131 : decode cX3_select 131 = .ok (.invokevirtual 246, 3) := dk_182 0 246 (dk_at dksX3_select_5 16 rfl rfl)
theorem dX3_select_134 : decode cX3_select 134 = .ok (.aload_n 0, 1) := dk_42 (dk_at dksX3_select_5 19 rfl rfl)
theorem dX3_select_135 : decode cX3_select 135 = .ok (.getfield 169, 3) := dk_180 0 169 (dk_at dksX3_select_5 20 rfl rfl)
theorem dX3_select_138 : decode cX3_select 138 = .ok (.ifCond .eq 4, 3) := dk_153 0 4 (dk_at dksX3_select_6 0 rfl rfl)
theorem dX3_select_141 : decode cX3_select 141 = .ok (.return_, 1) := dk_177 (dk_at dksX3_select_6 3 rfl rfl)
theorem dX3_select_142 : decode cX3_select 142 = .ok (.aload_n 0, 1) := dk_42 (dk_at dksX3_select_6 4 rfl rfl)
theorem dX3_select_143 : decode cX3_select 143 = .ok (.getfield 21, 3) := dk_180 0 21 (dk_at dksX3_select_6 5 rfl rfl)
theorem dX3_select_146 : decode cX3_select 146 = .ok (.aload_n 0, 1) := dk_42 (dk_at dksX3_select_6 8 rfl rfl)
theorem dX3_select_147 : decode cX3_select 147 = .ok (.getfield 159, 3) := dk_180 0 159 (dk_at dksX3_select_6 9 rfl rfl)
theorem dX3_select_150 : decode cX3_select 150 = .ok (.dup2, 1) := dk_92 (dk_at dksX3_select_6 12 rfl rfl)
theorem dX3_select_151 : decode cX3_select 151 = .ok (.iaload, 1) := dk_46 (dk_at dksX3_select_6 13 rfl rfl)
theorem dX3_select_152 : decode cX3_select 152 = .ok (.iconst 1, 1) := dk_4 (dk_at dksX3_select_6 14 rfl rfl)
theorem dX3_select_153 : decode cX3_select 153 = .ok (.iadd, 1) := dk_96 (dk_at dksX3_select_6 15 rfl rfl)
theorem dX3_select_154 : decode cX3_select 154 = .ok (.iastore, 1) := dk_79 (dk_at dksX3_select_6 16 rfl rfl)
theorem dX3_select_155 : decode cX3_select 155 = .ok (.aload_n 0, 1) := dk_42 (dk_at dksX3_select_6 17 rfl rfl)
theorem dX3_select_156 : decode cX3_select 156 = .ok (.getfield 197, 3) := dk_180 0 197 (dk_at dksX3_select_6 18 rfl rfl)
theorem dX3_select_159 : decode cX3_select 159 = .ok (.bipush 44, 2) := dk_16 44 (dk_at dksX3_select_6 21 rfl rfl)
theorem dX3_select_161 : decode cX3_select 161 = .ok (.if_icmp .ne 7, 3) := dk_160 0 7 (dk_at dksX3_select_7 0 rfl rfl)
theorem dX3_select_164 : decode cX3_select 164 = .ok (.iconst 1, 1) := dk_4 (dk_at dksX3_select_7 3 rfl rfl)
theorem dX3_select_165 : decode cX3_select 165 = .ok (.goto 4, 3) := dk_167 0 4 (dk_at dksX3_select_7 4 rfl rfl)
theorem dX3_select_168 : decode cX3_select 168 = .ok (.iconst 0, 1) := dk_3 (dk_at dksX3_select_7 7 rfl rfl)
theorem dX3_select_169 : decode cX3_select 169 = .ok (.istore_n 1, 1) := dk_60 (dk_at dksX3_select_7 8 rfl rfl)
theorem dX3_select_170 : decode cX3_select 170 = .ok (.iload_n 1, 1) := dk_27 (dk_at dksX3_select_7 9 rfl rfl)
theorem dX3_select_171 : decode cX3_select 171 = .ok (.ifCond .eq (-134), 3) := dk_153 255 122 (dk_at dksX3_select_7 10 rfl rfl)
theorem dX3_select_174 : decode cX3_select 174 = .ok (.aload_n 0, 1) := dk_42 (dk_at dksX3_select_7 13 rfl rfl)
theorem dX3_select_175 : decode cX3_select 175 = .ok (.invokevirtual 213, 3) := dk_182 0 213 (dk_at dksX3_select_7 14 rfl rfl)
theorem dX3_select_178 : decode cX3_select 178 = .ok (.goto (-141), 3) := dk_167 255 115 (dk_at dksX3_select_7 17 rfl rfl)
theorem dX3_select_181 : decode cX3_select 181 = .ok (.aload_n 0, 1) := dk_42 (dk_at dksX3_select_7 20 rfl rfl)
theorem dX3_select_182 : decode cX3_select 182 = .ok (.getfield 169, 3) := dk_180 0 169 (dk_at dksX3_select_7 21 rfl rfl)
theorem dX3_select_185 : decode cX3_select 185 = .ok (.ifCond .ne 23, 3) := dk_154 0 23 (dk_at dksX3_select_8 0 rfl rfl)
theorem dX3_select_188 : decode cX3_select 188 = .ok (.aload_n 0, 1) := dk_42 (dk_at dksX3_select_8 3 rfl rfl)
theorem dX3_select_189 : decode cX3_select 189 = .ok (.aload_n 0, 1) := dk_42 (dk_at dksX3_select_8 4 rfl rfl)
theorem dX3_select_190 : decode cX3_select 190 = .ok (.getfield 93, 3) := dk_180 0 93 (dk_at dksX3_select_8 5 rfl rfl)
theorem dX3_select_193 : decode cX3_select 193 = .ok (.invokevirtual 227, 3) := dk_182 0 227 (dk_at dksX3_select_8 8 rfl rfl)
theorem dX3_select_196 : decode cX3_select 196 = .ok (.ifCond .ne 12, 3) := dk_154 0 12 (dk_at dksX3_select_8 11 rfl rfl)
theorem dX3_select_199 : decode cX3_select 199 = .ok (.aload_n 0, 1) := dk_42 (dk_at dksX3_select_8 14 rfl rfl)
theorem dX3_select_200 : decode cX3_select 200 = .ok (.iconst 1, 1) := dk_4 (dk_at dksX3_select_8 15 rfl rfl)
theorem dX3_select_201 : decode cX3_select 201 = .ok (.aload_n 0, 1) := dk_42 (dk_at dksX3_select_8 16 rfl rfl)
theorem dX3_select_202 : decode cX3_select 202 = .ok (.getfield 188, 3) := dk_180 0 188 (dk_at dksX3_select_8 17 rfl rfl)
theorem dX3_select_205 : decode cX3_select 205 = .ok (.invokevirtual 216, 3) := dk_182 0 216 (dk_at dksX3_select_8 20 rfl rfl)
theorem dX3_select_208 : decode cX3_select 208 = .ok (.aload_n 0, 1) := dk_42 (dk_at dksX3_select_8 23 rfl rfl)
theorem dX3_select_209 : decode cX3_select 209 = .ok (.getfield 169, 3) := dk_180 0 169 (dk_at dksX3_select_9 0 rfl rfl)
theorem dX3_select_212 : decode cX3_select 212 = .ok (.ifCond .eq 4, 3) := dk_153 0 4 (dk_at dksX3_select_9 3 rfl rfl)
theorem dX3_select_215 : decode cX3_select 215 = .ok (.return_, 1) := dk_177 (dk_at dksX3_select_9 6 rfl rfl)
theorem dX3_select_216 : decode cX3_select 216 = .ok (.aload_n 0, 1) := dk_42 (dk_at dksX3_select_9 7 rfl rfl)
theorem dX3_select_217 : decode cX3_select 217 = .ok (.invokevirtual 213, 3) := dk_182 0 213 (dk_at dksX3_select_9 8 rfl rfl)
theorem dX3_select_220 : decode cX3_select 220 = .ok (.aload_n 0, 1) := dk_42 (dk_at dksX3_select_9 11 rfl rfl)
theorem dX3_select_221 : decode cX3_select 221 = .ok (.aload_n 0, 1) := dk_42 (dk_at dksX3_select_9 12 rfl rfl)
theorem dX3_select_222 : decode cX3_select 222 = .ok (.getfield 48, 3) := dk_180 0 48 (dk_at dksX3_select_9 13 rfl rfl)
theorem dX3_select_225 : decode cX3_select 225 = .ok (.aload_n 0, 1) := dk_42 (dk_at dksX3_select_9 16 rfl rfl)
theorem dX3_select_226 : decode cX3_select 226 = .ok (.getfield 159, 3) := dk_180 0 159 (dk_at dksX3_select_9 17 rfl rfl)
theorem dX3_select_229 : decode cX3_select 229 = .ok (.iaload, 1) := dk_46 (dk_at dksX3_select_9 20 rfl rfl)
theorem dX3_select_230 : decode cX3_select 230 = .ok (.putfield 249, 3) := dk_181 0 249 (dk_at dksX3_select_9 21 rfl rfl)
theorem dX3_select_233 : decode cX3_select 233 = .ok (.iconst 1, 1) := dk_4 (dk_at dksX3_select_10 0 rfl rfl)
theorem dX3_select_234 : decode cX3_select 234 = .ok (.istore_n 1, 1) := dk_60 (dk_at dksX3_select_10 1 rfl rfl)
theorem dX3_select_235 : decode cX3_select 235 = .ok (.iload_n 1, 1) := dk_27 (dk_at dksX3_select_10 2 rfl rfl)
theorem dX3_select_236 : decode cX3_select 236 = .ok (.ifCond .eq 119, 3) := dk_153 0 119 (dk_at dksX3_select_10 3 rfl rfl)
theorem dX3_select_239 : decode cX3_select 239 = .ok (.aload_n 0, 1) := dk_42 (dk_at dksX3_select_10 6 rfl rfl)
theorem dX3_select_240 : decode cX3_select 240 = .ok (.getfield 30, 3) := dk_180 0 30 (dk_at dksX3_select_10 7 rfl rfl)
theorem dX3_select_243 : decode cX3_select 243 = .ok (.aload_n 0, 1) := dk_42 (dk_at dksX3_select_10 10 rfl rfl)
theorem dX3_select_244 : decode cX3_select 244 = .ok (.getfield 159, 3) := dk_180 0 159 (dk_at dksX3_select_10 11 rfl rfl)
theorem dX3_select_247 : decode cX3_select 247 = .ok (.iaload, 1) := dk_46 (dk_at dksX3_select_10 14 rfl rfl)
theorem dX3_select_248 : decode cX3_select 248 = .ok (.iconst 3, 1) := dk_6 (dk_at dksX3_select_10 15 rfl rfl)
theorem dX3_select_249 : decode cX3_select 249 = .ok (.if_icmp .ne 12, 3) := dk_160 0 12 (dk_at dksX3_select_10 16 rfl rfl)
theorem dX3_select_252 : decode cX3_select 252 = .ok (.aload_n 0, 1) := dk_42 (dk_at dksX3_select_10 19 rfl rfl)
theorem dX3_select_253 : decode cX3_select 253 = .ok (.iconst 1, 1) := dk_4 (dk_at dksX3_select_10 20 rfl rfl)
theorem dX3_select_254 : decode cX3_select 254 = .ok (.aload_n 0, 1) := dk_42 (dk_at dksX3_select_10 21 rfl rfl)
theorem dX3_select_255 : decode cX3_select 255 = .ok (.getfield 188, 3) := dk_180 0 188 (dk_at dksX3_select_11 0 rfl rfl)
theorem dX3_select_258 : decode cX3_select 258 = .ok (.invokevirtual 216, 3) := dk_182 0 216 (dk_at dksX3_select_11 3 rfl rfl)
theorem dX3_select_261 : decode cX3_select 261 = .ok (.aload_n 0, 1) := dk_42 (dk_at dksX3_select_11 6 rfl rfl)
theorem dX3_select_262 : decode cX3_select 262 = .ok (.getfield 169, 3) := dk_180 0 169 (dk_at dksX3_select_11 7 rfl rfl)
theorem dX3_select_265 : decode cX3_select 265 = .ok (.ifCond .ne 43, 3) := dk_154 0 43 (dk_at dksX3_select_11 10 rfl rfl)
theorem dX3_select_268 : decode cX3_select 268 = .ok (.aload_n 0, 1) := dk_42 (dk_at dksX3_select_11 13 rfl rfl)
theorem dX3_select_269 : decode cX3_select 269 = .ok (.getfield 108, 3) := dk_180 0 108 (dk_at dksX3_select_11 14 rfl rfl)
theorem dX3_select_272 : decode cX3_select 272 = .ok (.aload_n 0, 1) := dk_42 (dk_at dksX3_select_11 17 rfl rfl)
theorem dX3_select_273 : decode cX3_select 273 = .ok (.getfield 30, 3) := dk_180 0 30 (dk_at dksX3_select_11 18 rfl rfl)
theorem dX3_select_276 : decode cX3_select 276 = .ok (.aload_n 0, 1) := dk_42 (dk_at dksX3_select_11 21 rfl rfl)
theorem dX3_select_277 : decode cX3_select 277 = .ok (.getfield 159, 3) := dk_180 0 159 (dk_at dksX3_select_12 0 rfl rfl)
theorem dX3_select_280 : decode cX3_select 280 = .ok (.iaload, 1) := dk_46 (dk_at dksX3_select_12 3 rfl rfl)
theorem dX3_select_281 : decode cX3_select 281 = .ok (.aload_n 0, 1) := dk_42 (dk_at dksX3_select_12 4 rfl rfl)
theorem dX3_select_282 : decode cX3_select 282 = .ok (.getfield 194, 3) := dk_180 0 194 (dk_at dksX3_select_12 5 rfl rfl)
theorem dX3_select_285 : decode cX3_select 285 = .ok (.lastore, 1) := dk_80 (dk_at dksX3_select_12 8 rfl rfl)
theorem dX3_select_286 : decode cX3_select 286 = .ok (.aload_n 0, 1) := dk_42 (dk_at dksX3_select_12 9 rfl rfl)
theorem dX3_select_287 : decode cX3_select 287 = .ok (.getfield 111, 3) := dk_180 0 111 (dk_at dksX3_select_12 10 rfl rfl)
theorem dX3_select_290 : decode cX3_select 290 = .ok (.aload_n 0, 1) := dk_42 (dk_at dksX3_select_12 13 rfl rfl)
theorem dX3_select_291 : decode cX3_select 291 = .ok (.getfield 30, 3) := dk_180 0 30 (dk_at dksX3_select_12 14 rfl rfl)
theorem dX3_select_294 : decode cX3_select 294 = .ok (.aload_n 0, 1) := dk_42 (dk_at dksX3_select_12 17 rfl rfl)
theorem dX3_select_295 : decode cX3_select 295 = .ok (.getfield 159, 3) := dk_180 0 159 (dk_at dksX3_select_12 18 rfl rfl)
theorem dX3_select_298 : decode cX3_select 298 = .ok (.iaload, 1) := dk_46 (dk_at dksX3_select_12 21 rfl rfl)
theorem dX3_select_299 : decode cX3_select 299 = .ok (.aload_n 0, 1) := dk_42 (dk_at dksX3_select_12 22 rfl rfl)
theorem dX3_select_300 : decode cX3_select 300 = .ok (.getfield 188, 3) := dk_180 0 188 (dk_at dksX3_select_13 0 rfl rfl)
theorem dX3_select_303 : decode cX3_select 303 = .ok (.iastore, 1) := dk_79 (dk_at dksX3_select_13 3 rfl rfl)
theorem dX3_select_304 : decode cX3_select 304 = .ok (.aload_n 0, 1) := dk_42 (dk_at dksX3_select_13 4 rfl rfl)
theorem dX3_select_305 : decode cX3_select 305 = .ok (.invokevirtual 238, 3) := dk_182 0 238 (dk_at dksX3_select_13 5 rfl rfl)
theorem dX3_select_308 : decode cX3_select 308 = .ok (.aload_n 0, 1) := dk_42 (dk_at dksX3_select_13 8 rfl rfl)
theorem dX3_select_309 : decode cX3_select 309 = .ok (.getfield 169, 3) := dk_180 0 169 (dk_at dksX3_select_13 9 rfl rfl)
theorem dX3_select_312 : decode cX3_select 312 = .ok (.ifCond .eq 4, 3) := dk_153 0 4 (dk_at dksX3_select_13 12 rfl rfl)
theorem dX3_select_315 : decode cX3_select 315 = .ok (.return_, 1) := dk_177 (dk_at dksX3_select_13 15 rfl rfl)
theorem dX3_select_316 : decode cX3_select 316 = .ok (.aload_n 0, 1) := dk_42 (dk_at dksX3_select_13 16 rfl rfl)
theorem dX3_select_317 : decode cX3_select 317 = .ok (.getfield 30, 3) := dk_180 0 30 (dk_at dksX3_select_13 17 rfl rfl)
theorem dX3_select_320 : decode cX3_select 320 = .ok (.aload_n 0, 1) := dk_42 (dk_at dksX3_select_13 20 rfl rfl)
theorem dX3_select_321 : decode cX3_select 321 = .ok (.getfield 159, 3) := dk_180 0 159 (dk_at dksX3_select_13 21 rfl rfl)
theorem dX3_select_324 : decode cX3_select 324 = .ok (.dup2, 1) := dk_92 (dk_at dksX3_select_14 0 rfl rfl)
theorem dX3_select_325 : decode cX3_select 325 = .ok (.iaload, 1) := dk_46 (dk_at dksX3_select_14 1 rfl rfl)
theorem dX3_select_326 : decode cX3_select 326 = .ok (.iconst 1, 1) := dk_4 (dk_at dksX3_select_14 2 rfl rfl)
theorem dX3_select_327 : decode cX3_select 327 = .ok (.iadd, 1) := dk_96 (dk_at dksX3_select_14 3 rfl rfl)
theorem dX3_select_328 : decode cX3_select 328 = .ok (.iastore, 1) := dk_79 (dk_at dksX3_select_14 4 rfl rfl)
theorem dX3_select_329 : decode cX3_select 329 = .ok (.aload_n 0, 1) := dk_42 (dk_at dksX3_select_14 5 rfl rfl)
theorem dX3_select_330 : decode cX3_select 330 = .ok (.getfield 197, 3) := dk_180 0 197 (dk_at dksX3_select_14 6 rfl rfl)
theorem dX3_select_333 : decode cX3_select 333 = .ok (.bipush 44, 2) := dk_16 44 (dk_at dksX3_select_14 9 rfl rfl)
theorem dX3_select_335 : decode cX3_select 335 = .ok (.if_icmp .ne 7, 3) := dk_160 0 7 (dk_at dksX3_select_14 11 rfl rfl)
theorem dX3_select_338 : decode cX3_select 338 = .ok (.iconst 1, 1) := dk_4 (dk_at dksX3_select_14 14 rfl rfl)
theorem dX3_select_339 : decode cX3_select 339 = .ok (.goto 4, 3) := dk_167 0 4 (dk_at dksX3_select_14 15 rfl rfl)
theorem dX3_select_342 : decode cX3_select 342 = .ok (.iconst 0, 1) := dk_3 (dk_at dksX3_select_14 18 rfl rfl)
theorem dX3_select_343 : decode cX3_select 343 = .ok (.istore_n 1, 1) := dk_60 (dk_at dksX3_select_14 19 rfl rfl)
theorem dX3_select_344 : decode cX3_select 344 = .ok (.iload_n 1, 1) := dk_27 (dk_at dksX3_select_14 20 rfl rfl)
theorem dX3_select_345 : decode cX3_select 345 = .ok (.ifCond .eq (-110), 3) := dk_153 255 146 (dk_at dksX3_select_14 21 rfl rfl)
theorem dX3_select_348 : decode cX3_select 348 = .ok (.aload_n 0, 1) := dk_42 (dk_at dksX3_select_15 0 rfl rfl)
theorem dX3_select_349 : decode cX3_select 349 = .ok (.invokevirtual 213, 3) := dk_182 0 213 (dk_at dksX3_select_15 1 rfl rfl)
theorem dX3_select_352 : decode cX3_select 352 = .ok (.goto (-117), 3) := dk_167 255 139 (dk_at dksX3_select_15 4 rfl rfl)
theorem dX3_select_355 : decode cX3_select 355 = .ok (.aload_n 0, 1) := dk_42 (dk_at dksX3_select_15 7 rfl rfl)
theorem dX3_select_356 : decode cX3_select 356 = .ok (.aload_n 0, 1) := dk_42 (dk_at dksX3_select_15 8 rfl rfl)
theorem dX3_select_357 : decode cX3_select 357 = .ok (.getfield 96, 3) := dk_180 0 96 (dk_at dksX3_select_15 9 rfl rfl)
theorem dX3_select_360 : decode cX3_select 360 = .ok (.invokevirtual 227, 3) := dk_182 0 227 (dk_at dksX3_select_15 12 rfl rfl)
theorem dX3_select_363 : decode cX3_select 363 = .ok (.ifCond .ne 4, 3) := dk_154 0 4 (dk_at dksX3_select_15 15 rfl rfl)
theorem dX3_select_366 : decode cX3_select 366 = .ok (.return_, 1) := dk_177 (dk_at dksX3_select_15 18 rfl rfl)
theorem dX3_select_367 : decode cX3_select 367 = .ok (.aload_n 0, 1) := dk_42 (dk_at dksX3_select_15 19 rfl rfl)
theorem dX3_select_368 : decode cX3_select 368 = .ok (.invokevirtual 213, 3) := dk_182 0 213 (dk_at dksX3_select_15 20 rfl rfl)
theorem dX3_select_371 : decode cX3_select 371 = .ok (.aload_n 0, 1) := dk_42 (dk_at dksX3_select_15 23 rfl rfl)
theorem dX3_select_372 : decode cX3_select 372 = .ok (.bipush 6, 2) := dk_16 6 (dk_at dksX3_select_16 0 rfl rfl)
theorem dX3_select_374 : decode cX3_select 374 = .ok (.invokevirtual 246, 3) := dk_182 0 246 (dk_at dksX3_select_16 2 rfl rfl)
theorem dX3_select_377 : decode cX3_select 377 = .ok (.aload_n 0, 1) := dk_42 (dk_at dksX3_select_16 5 rfl rfl)
theorem dX3_select_378 : decode cX3_select 378 = .ok (.getfield 169, 3) := dk_180 0 169 (dk_at dksX3_select_16 6 rfl rfl)
theorem dX3_select_381 : decode cX3_select 381 = .ok (.ifCond .ne 30, 3) := dk_154 0 30 (dk_at dksX3_select_16 9 rfl rfl)
theorem dX3_select_384 : decode cX3_select 384 = .ok (.aload_n 0, 1) := dk_42 (dk_at dksX3_select_16 12 rfl rfl)
theorem dX3_select_385 : decode cX3_select 385 = .ok (.getfield 197, 3) := dk_180 0 197 (dk_at dksX3_select_16 13 rfl rfl)
theorem dX3_select_388 : decode cX3_select 388 = .ok (.bipush 60, 2) := dk_16 60 (dk_at dksX3_select_16 16 rfl rfl)
theorem dX3_select_390 : decode cX3_select 390 = .ok (.if_icmp .eq 21, 3) := dk_159 0 21 (dk_at dksX3_select_16 18 rfl rfl)
theorem dX3_select_393 : decode cX3_select 393 = .ok (.aload_n 0, 1) := dk_42 (dk_at dksX3_select_16 21 rfl rfl)
theorem dX3_select_394 : decode cX3_select 394 = .ok (.getfield 197, 3) := dk_180 0 197 (dk_at dksX3_select_17 0 rfl rfl)
theorem dX3_select_397 : decode cX3_select 397 = .ok (.bipush 61, 2) := dk_16 61 (dk_at dksX3_select_17 3 rfl rfl)
theorem dX3_select_399 : decode cX3_select 399 = .ok (.if_icmp .eq 12, 3) := dk_159 0 12 (dk_at dksX3_select_17 5 rfl rfl)
theorem dX3_select_402 : decode cX3_select 402 = .ok (.aload_n 0, 1) := dk_42 (dk_at dksX3_select_17 8 rfl rfl)
theorem dX3_select_403 : decode cX3_select 403 = .ok (.iconst 1, 1) := dk_4 (dk_at dksX3_select_17 9 rfl rfl)
theorem dX3_select_404 : decode cX3_select 404 = .ok (.aload_n 0, 1) := dk_42 (dk_at dksX3_select_17 10 rfl rfl)
theorem dX3_select_405 : decode cX3_select 405 = .ok (.getfield 188, 3) := dk_180 0 188 (dk_at dksX3_select_17 11 rfl rfl)
theorem dX3_select_408 : decode cX3_select 408 = .ok (.invokevirtual 216, 3) := dk_182 0 216 (dk_at dksX3_select_17 14 rfl rfl)
theorem dX3_select_411 : decode cX3_select 411 = .ok (.aload_n 0, 1) := dk_42 (dk_at dksX3_select_17 17 rfl rfl)
theorem dX3_select_412 : decode cX3_select 412 = .ok (.getfield 169, 3) := dk_180 0 169 (dk_at dksX3_select_17 18 rfl rfl)
theorem dX3_select_415 : decode cX3_select 415 = .ok (.ifCond .eq 4, 3) := dk_153 0 4 (dk_at dksX3_select_17 21 rfl rfl)
theorem dX3_select_418 : decode cX3_select 418 = .ok (.return_, 1) := dk_177 (dk_at dksX3_select_18 0 rfl rfl)
theorem dX3_select_419 : decode cX3_select 419 = .ok (.aload_n 0, 1) := dk_42 (dk_at dksX3_select_18 1 rfl rfl)
theorem dX3_select_420 : decode cX3_select 420 = .ok (.aload_n 0, 1) := dk_42 (dk_at dksX3_select_18 2 rfl rfl)
theorem dX3_select_421 : decode cX3_select 421 = .ok (.getfield 188, 3) := dk_180 0 188 (dk_at dksX3_select_18 3 rfl rfl)
theorem dX3_select_424 : decode cX3_select 424 = .ok (.putfield 252, 3) := dk_181 0 252 (dk_at dksX3_select_18 6 rfl rfl)
theorem dX3_select_427 : decode cX3_select 427 = .ok (.aload_n 0, 1) := dk_42 (dk_at dksX3_select_18 9 rfl rfl)
theorem dX3_select_428 : decode cX3_select 428 = .ok (.invokevirtual 213, 3) := dk_182 0 213 (dk_at dksX3_select_18 10 rfl rfl)
theorem dX3_select_431 : decode cX3_select 431 = .ok (.aload_n 0, 1) := dk_42 (dk_at dksX3_select_18 13 rfl rfl)
theorem dX3_select_432 : decode cX3_select 432 = .ok (.bipush 7, 2) := dk_16 7 (dk_at dksX3_select_18 14 rfl rfl)
theorem dX3_select_434 : decode cX3_select 434 = .ok (.invokevirtual 246, 3) := dk_182 0 246 (dk_at dksX3_select_18 16 rfl rfl)
theorem dX3_select_437 : decode cX3_select 437 = .ok (.return_, 1) := dk_177 (dk_at dksX3_select_18 19 rfl rfl)
abbrev cX3_formula : ByteArray := prog_14_method_18_code
def yX3_formula : MethodName := ⟨RX3, "formula", "(I)V"⟩
def dkwX3_formula_11 : List UInt8 := [16, 8, 42, 180, 0, 159, 104, 27, 96, 42, 180, 0, 48, 42, 180, 0, 159, 46, 79, 177]
abbrev dktX3_formula_11 : List UInt8 := dkwX3_formula_11 ++ []
def dkwX3_formula_10 : List UInt8 := [182, 0, 216, 42, 180, 0, 169, 154, 0, 7, 42, 182, 0, 213, 132, 2, 255, 167, 255, 41, 42, 180, 0, 66]
abbrev dktX3_formula_10 : List UInt8 := dkwX3_formula_10 ++ dktX3_formula_11
def dkwX3_formula_9 : List UInt8 := [182, 0, 213, 4, 62, 167, 255, 76, 42, 180, 0, 197, 16, 41, 159, 0, 12, 42, 4, 42, 180, 0, 188]
abbrev dktX3_formula_9 : List UInt8 := dkwX3_formula_9 ++ dktX3_formula_10
def dkwX3_formula_8 : List UInt8 := [28, 46, 16, 6, 160, 0, 12, 42, 4, 42, 180, 0, 188, 182, 0, 216, 42, 180, 0, 169, 154, 0, 7, 42]
abbrev dktX3_formula_8 : List UInt8 := dkwX3_formula_8 ++ dktX3_formula_9
def dkwX3_formula_7 : List UInt8 := [167, 255, 129, 42, 182, 0, 224, 153, 0, 49, 42, 180, 0, 105, 28, 92, 46, 4, 96, 79, 42, 180, 0, 105]
abbrev dktX3_formula_7 : List UInt8 := dkwX3_formula_7 ++ dktX3_formula_8
def dkwX3_formula_6 : List UInt8 := [153, 0, 4, 177, 132, 2, 1, 42, 180, 0, 105, 28, 3, 79, 167, 255, 138, 42, 182, 0, 235, 3, 62]
abbrev dktX3_formula_6 : List UInt8 := dkwX3_formula_6 ++ dktX3_formula_7
def dkwX3_formula_5 : List UInt8 := [180, 0, 188, 182, 0, 216, 42, 180, 0, 169, 154, 0, 9, 42, 16, 40, 182, 0, 231, 42, 180, 0, 169]
abbrev dktX3_formula_5 : List UInt8 := dkwX3_formula_5 ++ dktX3_formula_6
def dkwX3_formula_4 : List UInt8 := [153, 0, 64, 42, 182, 0, 213, 42, 180, 0, 197, 16, 40, 160, 0, 17, 28, 6, 160, 0, 12, 42, 4, 42]
abbrev dktX3_formula_4 : List UInt8 := dkwX3_formula_4 ++ dktX3_formula_5
def dkwX3_formula_3 : List UInt8 := [154, 0, 14, 42, 42, 180, 0, 102, 182, 0, 227, 153, 0, 7, 4, 167, 0, 4, 3, 54, 4, 21, 4]
abbrev dktX3_formula_3 : List UInt8 := dkwX3_formula_3 ++ dktX3_formula_4
def dkwX3_formula_2 : List UInt8 := [157, 0, 10, 42, 182, 0, 224, 153, 0, 199, 29, 153, 0, 107, 42, 42, 180, 0, 99, 182, 0, 227]
abbrev dktX3_formula_2 : List UInt8 := dkwX3_formula_2 ++ dktX3_formula_3
def dkwX3_formula_1 : List UInt8 := [61, 42, 180, 0, 105, 3, 3, 79, 4, 62, 42, 180, 0, 169, 154, 0, 214, 29, 154, 0, 14, 28]
abbrev dktX3_formula_1 : List UInt8 := dkwX3_formula_1 ++ dktX3_formula_2
def dkwX3_formula_0 : List UInt8 := [42, 180, 0, 63, 16, 8, 42, 180, 0, 159, 104, 27, 96, 42, 180, 0, 48, 42, 180, 0, 159, 46, 79, 3]
abbrev dktX3_formula_0 : List UInt8 := dkwX3_formula_0 ++ dktX3_formula_1
theorem dksX3_formula_0 : cX3_formula.data.toList.drop 0 = dktX3_formula_0 := by decide +kernel
theorem dksX3_formula_1 : cX3_formula.data.toList.drop 24 = dktX3_formula_1 := dk_seg dksX3_formula_0 24 rfl rfl
theorem dksX3_formula_2 : cX3_formula.data.toList.drop 46 = dktX3_formula_2 := dk_seg dksX3_formula_1 22 rfl rfl
theorem dksX3_formula_3 : cX3_formula.data.toList.drop 68 = dktX3_formula_3 := dk_seg dksX3_formula_2 22 rfl rfl
theorem dksX3_formula_4 : cX3_formula.data.toList.drop 91 = dktX3_formula_4 := dk_seg dksX3_formula_3 23 rfl rfl
theorem dksX3_formula_5 : cX3_formula.data.toList.drop 115 = dktX3_formula_5 := dk_seg dksX3_formula_4 24 rfl rfl
theorem dksX3_formula_6 : cX3_formula.data.toList.drop 138 = dktX3_formula_6 := dk_seg dksX3_formula_5 23 rfl rfl
theorem dksX3_formula_7 : cX3_formula.data.toList.drop 161 = dktX3_formula_7 := dk_seg dksX3_formula_6 23 rfl rfl
theorem dksX3_formula_8 : cX3_formula.data.toList.drop 185 = dktX3_formula_8 := dk_seg dksX3_formula_7 24 rfl rfl
theorem dksX3_formula_9 : cX3_formula.data.toList.drop 209 = dktX3_formula_9 := dk_seg dksX3_formula_8 24 rfl rfl
theorem dksX3_formula_10 : cX3_formula.data.toList.drop 232 = dktX3_formula_10 := dk_seg dksX3_formula_9 23 rfl rfl
theorem dksX3_formula_11 : cX3_formula.data.toList.drop 256 = dktX3_formula_11 := dk_seg dksX3_formula_10 24 rfl rfl
theorem dX3_formula_0 : decode cX3_formula 0 = .ok (.aload_n 0, 1) := dk_42 (dk_at dksX3_formula_0 0 rfl rfl)
theorem dX3_formula_1 : decode cX3_formula 1 = .ok (.getfield 63, 3) := dk_180 0 63 (dk_at dksX3_formula_0 1 rfl rfl)
theorem dX3_formula_4 : decode cX3_formula 4 = .ok (.bipush 8, 2) := dk_16 8 (dk_at dksX3_formula_0 4 rfl rfl)
theorem dX3_formula_6 : decode cX3_formula 6 = .ok (.aload_n 0, 1) := dk_42 (dk_at dksX3_formula_0 6 rfl rfl)
theorem dX3_formula_7 : decode cX3_formula 7 = .ok (.getfield 159, 3) := dk_180 0 159 (dk_at dksX3_formula_0 7 rfl rfl)
theorem dX3_formula_10 : decode cX3_formula 10 = .ok (.imul, 1) := dk_104 (dk_at dksX3_formula_0 10 rfl rfl)
theorem dX3_formula_11 : decode cX3_formula 11 = .ok (.iload_n 1, 1) := dk_27 (dk_at dksX3_formula_0 11 rfl rfl)
theorem dX3_formula_12 : decode cX3_formula 12 = .ok (.iadd, 1) := dk_96 (dk_at dksX3_formula_0 12 rfl rfl)
theorem dX3_formula_13 : decode cX3_formula 13 = .ok (.aload_n 0, 1) := dk_42 (dk_at dksX3_formula_0 13 rfl rfl)
theorem dX3_formula_14 : decode cX3_formula 14 = .ok (.getfield 48, 3) := dk_180 0 48 (dk_at dksX3_formula_0 14 rfl rfl)
theorem dX3_formula_17 : decode cX3_formula 17 = .ok (.aload_n 0, 1) := dk_42 (dk_at dksX3_formula_0 17 rfl rfl)
theorem dX3_formula_18 : decode cX3_formula 18 = .ok (.getfield 159, 3) := dk_180 0 159 (dk_at dksX3_formula_0 18 rfl rfl)
theorem dX3_formula_21 : decode cX3_formula 21 = .ok (.iaload, 1) := dk_46 (dk_at dksX3_formula_0 21 rfl rfl)
theorem dX3_formula_22 : decode cX3_formula 22 = .ok (.iastore, 1) := dk_79 (dk_at dksX3_formula_0 22 rfl rfl)
theorem dX3_formula_23 : decode cX3_formula 23 = .ok (.iconst 0, 1) := dk_3 (dk_at dksX3_formula_0 23 rfl rfl)
theorem dX3_formula_24 : decode cX3_formula 24 = .ok (.istore_n 2, 1) := dk_61 (dk_at dksX3_formula_1 0 rfl rfl)
theorem dX3_formula_25 : decode cX3_formula 25 = .ok (.aload_n 0, 1) := dk_42 (dk_at dksX3_formula_1 1 rfl rfl)
theorem dX3_formula_26 : decode cX3_formula 26 = .ok (.getfield 105, 3) := dk_180 0 105 (dk_at dksX3_formula_1 2 rfl rfl)
theorem dX3_formula_29 : decode cX3_formula 29 = .ok (.iconst 0, 1) := dk_3 (dk_at dksX3_formula_1 5 rfl rfl)
theorem dX3_formula_30 : decode cX3_formula 30 = .ok (.iconst 0, 1) := dk_3 (dk_at dksX3_formula_1 6 rfl rfl)
theorem dX3_formula_31 : decode cX3_formula 31 = .ok (.iastore, 1) := dk_79 (dk_at dksX3_formula_1 7 rfl rfl)
theorem dX3_formula_32 : decode cX3_formula 32 = .ok (.iconst 1, 1) := dk_4 (dk_at dksX3_formula_1 8 rfl rfl)
theorem dX3_formula_33 : decode cX3_formula 33 = .ok (.istore_n 3, 1) := dk_62 (dk_at dksX3_formula_1 9 rfl rfl)
theorem dX3_formula_34 : decode cX3_formula 34 = .ok (.aload_n 0, 1) := dk_42 (dk_at dksX3_formula_1 10 rfl rfl)
theorem dX3_formula_35 : decode cX3_formula 35 = .ok (.getfield 169, 3) := dk_180 0 169 (dk_at dksX3_formula_1 11 rfl rfl)
theorem dX3_formula_38 : decode cX3_formula 38 = .ok (.ifCond .ne 214, 3) := dk_154 0 214 (dk_at dksX3_formula_1 14 rfl rfl)
theorem dX3_formula_41 : decode cX3_formula 41 = .ok (.iload_n 3, 1) := dk_29 (dk_at dksX3_formula_1 17 rfl rfl)
theorem dX3_formula_42 : decode cX3_formula 42 = .ok (.ifCond .ne 14, 3) := dk_154 0 14 (dk_at dksX3_formula_1 18 rfl rfl)
theorem dX3_formula_45 : decode cX3_formula 45 = .ok (.iload_n 2, 1) := dk_28 (dk_at dksX3_formula_1 21 rfl rfl)
theorem dX3_formula_46 : decode cX3_formula 46 = .ok (.ifCond .gt 10, 3) := dk_157 0 10 (dk_at dksX3_formula_2 0 rfl rfl)
theorem dX3_formula_49 : decode cX3_formula 49 = .ok (.aload_n 0, 1) := dk_42 (dk_at dksX3_formula_2 3 rfl rfl)
theorem dX3_formula_50 : decode cX3_formula 50 = .ok (.invokevirtual 224, 3) := dk_182 0 224 (dk_at dksX3_formula_2 4 rfl rfl)
theorem dX3_formula_53 : decode cX3_formula 53 = .ok (.ifCond .eq 199, 3) := dk_153 0 199 (dk_at dksX3_formula_2 7 rfl rfl)
theorem dX3_formula_56 : decode cX3_formula 56 = .ok (.iload_n 3, 1) := dk_29 (dk_at dksX3_formula_2 10 rfl rfl)
theorem dX3_formula_57 : decode cX3_formula 57 = .ok (.ifCond .eq 107, 3) := dk_153 0 107 (dk_at dksX3_formula_2 11 rfl rfl)
theorem dX3_formula_60 : decode cX3_formula 60 = .ok (.aload_n 0, 1) := dk_42 (dk_at dksX3_formula_2 14 rfl rfl)
theorem dX3_formula_61 : decode cX3_formula 61 = .ok (.aload_n 0, 1) := dk_42 (dk_at dksX3_formula_2 15 rfl rfl)
theorem dX3_formula_62 : decode cX3_formula 62 = .ok (.getfield 99, 3) := dk_180 0 99 (dk_at dksX3_formula_2 16 rfl rfl)
theorem dX3_formula_65 : decode cX3_formula 65 = .ok (.invokevirtual 227, 3) := dk_182 0 227 (dk_at dksX3_formula_2 19 rfl rfl)
theorem dX3_formula_68 : decode cX3_formula 68 = .ok (.ifCond .ne 14, 3) := dk_154 0 14 (dk_at dksX3_formula_3 0 rfl rfl)
theorem dX3_formula_71 : decode cX3_formula 71 = .ok (.aload_n 0, 1) := dk_42 (dk_at dksX3_formula_3 3 rfl rfl)
theorem dX3_formula_72 : decode cX3_formula 72 = .ok (.aload_n 0, 1) := dk_42 (dk_at dksX3_formula_3 4 rfl rfl)
theorem dX3_formula_73 : decode cX3_formula 73 = .ok (.getfield 102, 3) := dk_180 0 102 (dk_at dksX3_formula_3 5 rfl rfl)
theorem dX3_formula_76 : decode cX3_formula 76 = .ok (.invokevirtual 227, 3) := dk_182 0 227 (dk_at dksX3_formula_3 8 rfl rfl)
theorem dX3_formula_79 : decode cX3_formula 79 = .ok (.ifCond .eq 7, 3) := dk_153 0 7 (dk_at dksX3_formula_3 11 rfl rfl)
theorem dX3_formula_82 : decode cX3_formula 82 = .ok (.iconst 1, 1) := dk_4 (dk_at dksX3_formula_3 14 rfl rfl)
theorem dX3_formula_83 : decode cX3_formula 83 = .ok (.goto 4, 3) := dk_167 0 4 (dk_at dksX3_formula_3 15 rfl rfl)
theorem dX3_formula_86 : decode cX3_formula 86 = .ok (.iconst 0, 1) := dk_3 (dk_at dksX3_formula_3 18 rfl rfl)
theorem dX3_formula_87 : decode cX3_formula 87 = .ok (.istore 4, 2) := dk_54 4 (dk_at dksX3_formula_3 19 rfl rfl)
theorem dX3_formula_89 : decode cX3_formula 89 = .ok (.iload 4, 2) := dk_21 4 (dk_at dksX3_formula_3 21 rfl rfl)
theorem dX3_formula_91 : decode cX3_formula 91 = .ok (.ifCond .eq 64, 3) := dk_153 0 64 (dk_at dksX3_formula_4 0 rfl rfl)
theorem dX3_formula_94 : decode cX3_formula 94 = .ok (.aload_n 0, 1) := dk_42 (dk_at dksX3_formula_4 3 rfl rfl)
theorem dX3_formula_95 : decode cX3_formula 95 = .ok (.invokevirtual 213, 3) := dk_182 0 213 (dk_at dksX3_formula_4 4 rfl rfl)
theorem dX3_formula_98 : decode cX3_formula 98 = .ok (.aload_n 0, 1) := dk_42 (dk_at dksX3_formula_4 7 rfl rfl)
theorem dX3_formula_99 : decode cX3_formula 99 = .ok (.getfield 197, 3) := dk_180 0 197 (dk_at dksX3_formula_4 8 rfl rfl)
theorem dX3_formula_102 : decode cX3_formula 102 = .ok (.bipush 40, 2) := dk_16 40 (dk_at dksX3_formula_4 11 rfl rfl)
theorem dX3_formula_104 : decode cX3_formula 104 = .ok (.if_icmp .ne 17, 3) := dk_160 0 17 (dk_at dksX3_formula_4 13 rfl rfl)
theorem dX3_formula_107 : decode cX3_formula 107 = .ok (.iload_n 2, 1) := dk_28 (dk_at dksX3_formula_4 16 rfl rfl)
theorem dX3_formula_108 : decode cX3_formula 108 = .ok (.iconst 3, 1) := dk_6 (dk_at dksX3_formula_4 17 rfl rfl)
theorem dX3_formula_109 : decode cX3_formula 109 = .ok (.if_icmp .ne 12, 3) := dk_160 0 12 (dk_at dksX3_formula_4 18 rfl rfl)
theorem dX3_formula_112 : decode cX3_formula 112 = .ok (.aload_n 0, 1) := dk_42 (dk_at dksX3_formula_4 21 rfl rfl)
theorem dX3_formula_113 : decode cX3_formula 113 = .ok (.iconst 1, 1) := dk_4 (dk_at dksX3_formula_4 22 rfl rfl)
theorem dX3_formula_114 : decode cX3_formula 114 = .ok (.aload_n 0, 1) := dk_42 (dk_at dksX3_formula_4 23 rfl rfl)
theorem dX3_formula_115 : decode cX3_formula 115 = .ok (.getfield 188, 3) := dk_180 0 188 (dk_at dksX3_formula_5 0 rfl rfl)
theorem dX3_formula_118 : decode cX3_formula 118 = .ok (.invokevirtual 216, 3) := dk_182 0 216 (dk_at dksX3_formula_5 3 rfl rfl)
theorem dX3_formula_121 : decode cX3_formula 121 = .ok (.aload_n 0, 1) := dk_42 (dk_at dksX3_formula_5 6 rfl rfl)
theorem dX3_formula_122 : decode cX3_formula 122 = .ok (.getfield 169, 3) := dk_180 0 169 (dk_at dksX3_formula_5 7 rfl rfl)
theorem dX3_formula_125 : decode cX3_formula 125 = .ok (.ifCond .ne 9, 3) := dk_154 0 9 (dk_at dksX3_formula_5 10 rfl rfl)
theorem dX3_formula_128 : decode cX3_formula 128 = .ok (.aload_n 0, 1) := dk_42 (dk_at dksX3_formula_5 13 rfl rfl)
theorem dX3_formula_129 : decode cX3_formula 129 = .ok (.bipush 40, 2) := dk_16 40 (dk_at dksX3_formula_5 14 rfl rfl)
theorem dX3_formula_131 : decode cX3_formula 131 = .ok (.invokevirtual 231, 3) := dk_182 0 231 (dk_at dksX3_formula_5 16 rfl rfl)
theorem dX3_formula_134 : decode cX3_formula 134 = .ok (.aload_n 0, 1) := dk_42 (dk_at dksX3_formula_5 19 rfl rfl)
theorem dX3_formula_135 : decode cX3_formula 135 = .ok (.getfield 169, 3) := dk_180 0 169 (dk_at dksX3_formula_5 20 rfl rfl)
theorem dX3_formula_138 : decode cX3_formula 138 = .ok (.ifCond .eq 4, 3) := dk_153 0 4 (dk_at dksX3_formula_6 0 rfl rfl)
theorem dX3_formula_141 : decode cX3_formula 141 = .ok (.return_, 1) := dk_177 (dk_at dksX3_formula_6 3 rfl rfl)
theorem dX3_formula_142 : decode cX3_formula 142 = .ok (.iinc 2 1, 3) := dk_132 2 1 (dk_at dksX3_formula_6 4 rfl rfl)
theorem dX3_formula_145 : decode cX3_formula 145 = .ok (.aload_n 0, 1) := dk_42 (dk_at dksX3_formula_6 7 rfl rfl)
theorem dX3_formula_146 : decode cX3_formula 146 = .ok (.getfield 105, 3) := dk_180 0 105 (dk_at dksX3_formula_6 8 rfl rfl)
theorem dX3_formula_149 : decode cX3_formula 149 = .ok (.iload_n 2, 1) := dk_28 (dk_at dksX3_formula_6 11 rfl rfl)
theorem dX3_formula_150 : decode cX3_formula 150 = .ok (.iconst 0, 1) := dk_3 (dk_at dksX3_formula_6 12 rfl rfl)
theorem dX3_formula_151 : decode cX3_formula 151 = .ok (.iastore, 1) := dk_79 (dk_at dksX3_formula_6 13 rfl rfl)
theorem dX3_formula_152 : decode cX3_formula 152 = .ok (.goto (-118), 3) := dk_167 255 138 (dk_at dksX3_formula_6 14 rfl rfl)
theorem dX3_formula_155 : decode cX3_formula 155 = .ok (.aload_n 0, 1) := dk_42 (dk_at dksX3_formula_6 17 rfl rfl)
theorem dX3_formula_156 : decode cX3_formula 156 = .ok (.invokevirtual 235, 3) := dk_182 0 235 (dk_at dksX3_formula_6 18 rfl rfl)
theorem dX3_formula_159 : decode cX3_formula 159 = .ok (.iconst 0, 1) := dk_3 (dk_at dksX3_formula_6 21 rfl rfl)
theorem dX3_formula_160 : decode cX3_formula 160 = .ok (.istore_n 3, 1) := dk_62 (dk_at dksX3_formula_6 22 rfl rfl)
theorem dX3_formula_161 : decode cX3_formula 161 = .ok (.goto (-127), 3) := dk_167 255 129 (dk_at dksX3_formula_7 0 rfl rfl)
theorem dX3_formula_164 : decode cX3_formula 164 = .ok (.aload_n 0, 1) := dk_42 (dk_at dksX3_formula_7 3 rfl rfl)
theorem dX3_formula_165 : decode cX3_formula 165 = .ok (.invokevirtual 224, 3) := dk_182 0 224 (dk_at dksX3_formula_7 4 rfl rfl)
theorem dX3_formula_168 : decode cX3_formula 168 = .ok (.ifCond .eq 49, 3) := dk_153 0 49 (dk_at dksX3_formula_7 7 rfl rfl)
theorem dX3_formula_171 : decode cX3_formula 171 = .ok (.aload_n 0, 1) := dk_42 (dk_at dksX3_formula_7 10 rfl rfl)
theorem dX3_formula_172 : decode cX3_formula 172 = .ok (.getfield 105, 3) := dk_180 0 105 (dk_at dksX3_formula_7 11 rfl rfl)
theorem dX3_formula_175 : decode cX3_formula 175 = .ok (.iload_n 2, 1) := dk_28 (dk_at dksX3_formula_7 14 rfl rfl)
theorem dX3_formula_176 : decode cX3_formula 176 = .ok (.dup2, 1) := dk_92 (dk_at dksX3_formula_7 15 rfl rfl)
theorem dX3_formula_177 : decode cX3_formula 177 = .ok (.iaload, 1) := dk_46 (dk_at dksX3_formula_7 16 rfl rfl)
theorem dX3_formula_178 : decode cX3_formula 178 = .ok (.iconst 1, 1) := dk_4 (dk_at dksX3_formula_7 17 rfl rfl)
theorem dX3_formula_179 : decode cX3_formula 179 = .ok (.iadd, 1) := dk_96 (dk_at dksX3_formula_7 18 rfl rfl)
theorem dX3_formula_180 : decode cX3_formula 180 = .ok (.iastore, 1) := dk_79 (dk_at dksX3_formula_7 19 rfl rfl)
theorem dX3_formula_181 : decode cX3_formula 181 = .ok (.aload_n 0, 1) := dk_42 (dk_at dksX3_formula_7 20 rfl rfl)
theorem dX3_formula_182 : decode cX3_formula 182 = .ok (.getfield 105, 3) := dk_180 0 105 (dk_at dksX3_formula_7 21 rfl rfl)
theorem dX3_formula_185 : decode cX3_formula 185 = .ok (.iload_n 2, 1) := dk_28 (dk_at dksX3_formula_8 0 rfl rfl)
theorem dX3_formula_186 : decode cX3_formula 186 = .ok (.iaload, 1) := dk_46 (dk_at dksX3_formula_8 1 rfl rfl)
theorem dX3_formula_187 : decode cX3_formula 187 = .ok (.bipush 6, 2) := dk_16 6 (dk_at dksX3_formula_8 2 rfl rfl)
theorem dX3_formula_189 : decode cX3_formula 189 = .ok (.if_icmp .ne 12, 3) := dk_160 0 12 (dk_at dksX3_formula_8 4 rfl rfl)
theorem dX3_formula_192 : decode cX3_formula 192 = .ok (.aload_n 0, 1) := dk_42 (dk_at dksX3_formula_8 7 rfl rfl)
theorem dX3_formula_193 : decode cX3_formula 193 = .ok (.iconst 1, 1) := dk_4 (dk_at dksX3_formula_8 8 rfl rfl)
theorem dX3_formula_194 : decode cX3_formula 194 = .ok (.aload_n 0, 1) := dk_42 (dk_at dksX3_formula_8 9 rfl rfl)
theorem dX3_formula_195 : decode cX3_formula 195 = .ok (.getfield 188, 3) := dk_180 0 188 (dk_at dksX3_formula_8 10 rfl rfl)
theorem dX3_formula_198 : decode cX3_formula 198 = .ok (.invokevirtual 216, 3) := dk_182 0 216 (dk_at dksX3_formula_8 13 rfl rfl)
theorem dX3_formula_201 : decode cX3_formula 201 = .ok (.aload_n 0, 1) := dk_42 (dk_at dksX3_formula_8 16 rfl rfl)
theorem dX3_formula_202 : decode cX3_formula 202 = .ok (.getfield 169, 3) := dk_180 0 169 (dk_at dksX3_formula_8 17 rfl rfl)
theorem dX3_formula_205 : decode cX3_formula 205 = .ok (.ifCond .ne 7, 3) := dk_154 0 7 (dk_at dksX3_formula_8 20 rfl rfl)
theorem dX3_formula_208 : decode cX3_formula 208 = .ok (.aload_n 0, 1) := dk_42 (dk_at dksX3_formula_8 23 rfl rfl)
theorem dX3_formula_209 : decode cX3_formula 209 = .ok (.invokevirtual 213, 3) := dk_182 0 213 (dk_at dksX3_formula_9 0 rfl rfl)
theorem dX3_formula_212 : decode cX3_formula 212 = .ok (.iconst 1, 1) := dk_4 (dk_at dksX3_formula_9 3 rfl rfl)
theorem dX3_formula_213 : decode cX3_formula 213 = .ok (.istore_n 3, 1) := dk_62 (dk_at dksX3_formula_9 4 rfl rfl)
theorem dX3_formula_214 : decode cX3_formula 214 = .ok (.goto (-180), 3) := dk_167 255 76 (dk_at dksX3_formula_9 5 rfl rfl)
theorem dX3_formula_217 : decode cX3_formula 217 = .ok (.aload_n 0, 1) := dk_42 (dk_at dksX3_formula_9 8 rfl rfl)
theorem dX3_formula_218 : decode cX3_formula 218 = .ok (.getfield 197, 3) := dk_180 0 197 (dk_at dksX3_formula_9 9 rfl rfl)
theorem dX3_formula_221 : decode cX3_formula 221 = .ok (.bipush 41, 2) := dk_16 41 (dk_at dksX3_formula_9 12 rfl rfl)
theorem dX3_formula_223 : decode cX3_formula 223 = .ok (.if_icmp .eq 12, 3) := dk_159 0 12 (dk_at dksX3_formula_9 14 rfl rfl)
theorem dX3_formula_226 : decode cX3_formula 226 = .ok (.aload_n 0, 1) := dk_42 (dk_at dksX3_formula_9 17 rfl rfl)
theorem dX3_formula_227 : decode cX3_formula 227 = .ok (.iconst 1, 1) := dk_4 (dk_at dksX3_formula_9 18 rfl rfl)
theorem dX3_formula_228 : decode cX3_formula 228 = .ok (.aload_n 0, 1) := dk_42 (dk_at dksX3_formula_9 19 rfl rfl)
theorem dX3_formula_229 : decode cX3_formula 229 = .ok (.getfield 188, 3) := dk_180 0 188 (dk_at dksX3_formula_9 20 rfl rfl)
theorem dX3_formula_232 : decode cX3_formula 232 = .ok (.invokevirtual 216, 3) := dk_182 0 216 (dk_at dksX3_formula_10 0 rfl rfl)
theorem dX3_formula_235 : decode cX3_formula 235 = .ok (.aload_n 0, 1) := dk_42 (dk_at dksX3_formula_10 3 rfl rfl)
theorem dX3_formula_236 : decode cX3_formula 236 = .ok (.getfield 169, 3) := dk_180 0 169 (dk_at dksX3_formula_10 4 rfl rfl)
theorem dX3_formula_239 : decode cX3_formula 239 = .ok (.ifCond .ne 7, 3) := dk_154 0 7 (dk_at dksX3_formula_10 7 rfl rfl)
theorem dX3_formula_242 : decode cX3_formula 242 = .ok (.aload_n 0, 1) := dk_42 (dk_at dksX3_formula_10 10 rfl rfl)
theorem dX3_formula_243 : decode cX3_formula 243 = .ok (.invokevirtual 213, 3) := dk_182 0 213 (dk_at dksX3_formula_10 11 rfl rfl)
theorem dX3_formula_246 : decode cX3_formula 246 = .ok (.iinc 2 (-1), 3) := dk_132 2 255 (dk_at dksX3_formula_10 14 rfl rfl)
theorem dX3_formula_249 : decode cX3_formula 249 = .ok (.goto (-215), 3) := dk_167 255 41 (dk_at dksX3_formula_10 17 rfl rfl)
theorem dX3_formula_252 : decode cX3_formula 252 = .ok (.aload_n 0, 1) := dk_42 (dk_at dksX3_formula_10 20 rfl rfl)
theorem dX3_formula_253 : decode cX3_formula 253 = .ok (.getfield 66, 3) := dk_180 0 66 (dk_at dksX3_formula_10 21 rfl rfl)
theorem dX3_formula_256 : decode cX3_formula 256 = .ok (.bipush 8, 2) := dk_16 8 (dk_at dksX3_formula_11 0 rfl rfl)
theorem dX3_formula_258 : decode cX3_formula 258 = .ok (.aload_n 0, 1) := dk_42 (dk_at dksX3_formula_11 2 rfl rfl)
theorem dX3_formula_259 : decode cX3_formula 259 = .ok (.getfield 159, 3) := dk_180 0 159 (dk_at dksX3_formula_11 3 rfl rfl)
theorem dX3_formula_262 : decode cX3_formula 262 = .ok (.imul, 1) := dk_104 (dk_at dksX3_formula_11 6 rfl rfl)
theorem dX3_formula_263 : decode cX3_formula 263 = .ok (.iload_n 1, 1) := dk_27 (dk_at dksX3_formula_11 7 rfl rfl)
theorem dX3_formula_264 : decode cX3_formula 264 = .ok (.iadd, 1) := dk_96 (dk_at dksX3_formula_11 8 rfl rfl)
theorem dX3_formula_265 : decode cX3_formula 265 = .ok (.aload_n 0, 1) := dk_42 (dk_at dksX3_formula_11 9 rfl rfl)
theorem dX3_formula_266 : decode cX3_formula 266 = .ok (.getfield 48, 3) := dk_180 0 48 (dk_at dksX3_formula_11 10 rfl rfl)
theorem dX3_formula_269 : decode cX3_formula 269 = .ok (.aload_n 0, 1) := dk_42 (dk_at dksX3_formula_11 13 rfl rfl)
theorem dX3_formula_270 : decode cX3_formula 270 = .ok (.getfield 159, 3) := dk_180 0 159 (dk_at dksX3_formula_11 14 rfl rfl)
theorem dX3_formula_273 : decode cX3_formula 273 = .ok (.iaload, 1) := dk_46 (dk_at dksX3_formula_11 17 rfl rfl)
theorem dX3_formula_274 : decode cX3_formula 274 = .ok (.iastore, 1) := dk_79 (dk_at dksX3_formula_11 18 rfl rfl)
theorem dX3_formula_275 : decode cX3_formula 275 = .ok (.return_, 1) := dk_177 (dk_at dksX3_formula_11 19 rfl rfl)
abbrev cX3_isMore : ByteArray := prog_14_method_19_code
def yX3_isMore : MethodName := ⟨RX3, "isMore", "()Z"⟩
def dkwX3_isMore_1 : List UInt8 := [160, 0, 7, 4, 167, 0, 4, 3, 172]
abbrev dktX3_isMore_1 : List UInt8 := dkwX3_isMore_1 ++ []
def dkwX3_isMore_0 : List UInt8 := [42, 180, 0, 197, 16, 43, 159, 0, 21, 42, 180, 0, 197, 16, 45, 159, 0, 12, 42, 180, 0, 197, 16, 38]
abbrev dktX3_isMore_0 : List UInt8 := dkwX3_isMore_0 ++ dktX3_isMore_1
theorem dksX3_isMore_0 : cX3_isMore.data.toList.drop 0 = dktX3_isMore_0 := by decide +kernel
theorem dksX3_isMore_1 : cX3_isMore.data.toList.drop 24 = dktX3_isMore_1 := dk_seg dksX3_isMore_0 24 rfl rfl
theorem dX3_isMore_0 : decode cX3_isMore 0 = .ok (.aload_n 0, 1) := dk_42 (dk_at dksX3_isMore_0 0 rfl rfl)
theorem dX3_isMore_1 : decode cX3_isMore 1 = .ok (.getfield 197, 3) := dk_180 0 197 (dk_at dksX3_isMore_0 1 rfl rfl)
theorem dX3_isMore_4 : decode cX3_isMore 4 = .ok (.bipush 43, 2) := dk_16 43 (dk_at dksX3_isMore_0 4 rfl rfl)
theorem dX3_isMore_6 : decode cX3_isMore 6 = .ok (.if_icmp .eq 21, 3) := dk_159 0 21 (dk_at dksX3_isMore_0 6 rfl rfl)
theorem dX3_isMore_9 : decode cX3_isMore 9 = .ok (.aload_n 0, 1) := dk_42 (dk_at dksX3_isMore_0 9 rfl rfl)
theorem dX3_isMore_10 : decode cX3_isMore 10 = .ok (.getfield 197, 3) := dk_180 0 197 (dk_at dksX3_isMore_0 10 rfl rfl)
theorem dX3_isMore_13 : decode cX3_isMore 13 = .ok (.bipush 45, 2) := dk_16 45 (dk_at dksX3_isMore_0 13 rfl rfl)
theorem dX3_isMore_15 : decode cX3_isMore 15 = .ok (.if_icmp .eq 12, 3) := dk_159 0 12 (dk_at dksX3_isMore_0 15 rfl rfl)
theorem dX3_isMore_18 : decode cX3_isMore 18 = .ok (.aload_n 0, 1) := dk_42 (dk_at dksX3_isMore_0 18 rfl rfl)
theorem dX3_isMore_19 : decode cX3_isMore 19 = .ok (.getfield 197, 3) := dk_180 0 197 (dk_at dksX3_isMore_0 19 rfl rfl)
theorem dX3_isMore_22 : decode cX3_isMore 22 = .ok (.bipush 38, 2) := dk_16 38 (dk_at dksX3_isMore_0 22 rfl rfl)
theorem dX3_isMore_24 : decode cX3_isMore 24 = .ok (.if_icmp .ne 7, 3) := dk_160 0 7 (dk_at dksX3_isMore_1 0 rfl rfl)
theorem dX3_isMore_27 : decode cX3_isMore 27 = .ok (.iconst 1, 1) := dk_4 (dk_at dksX3_isMore_1 3 rfl rfl)
theorem dX3_isMore_28 : decode cX3_isMore 28 = .ok (.goto 4, 3) := dk_167 0 4 (dk_at dksX3_isMore_1 4 rfl rfl)
theorem dX3_isMore_31 : decode cX3_isMore 31 = .ok (.iconst 0, 1) := dk_3 (dk_at dksX3_isMore_1 7 rfl rfl)
theorem dX3_isMore_32 : decode cX3_isMore 32 = .ok (.ireturn, 1) := dk_172 (dk_at dksX3_isMore_1 8 rfl rfl)
abbrev cX3_term : ByteArray := prog_14_method_20_code
def yX3_term : MethodName := ⟨RX3, "term", "()V"⟩
def dkwX3_term_7 : List UInt8 := [16, 46, 182, 0, 231, 42, 180, 0, 169, 154, 0, 7, 42, 182, 0, 238, 177]
abbrev dktX3_term_7 : List UInt8 := dkwX3_term_7 ++ []
def dkwX3_term_6 : List UInt8 := [4, 96, 181, 0, 179, 42, 182, 0, 213, 167, 0, 31, 42, 182, 0, 238, 42, 180, 0, 169, 154, 0, 9, 42]
abbrev dktX3_term_6 : List UInt8 := dkwX3_term_6 ++ dktX3_term_7
def dkwX3_term_5 : List UInt8 := [180, 0, 179, 46, 16, 39, 159, 0, 13, 42, 4, 42, 180, 0, 179, 182, 0, 216, 177, 42, 89, 180, 0, 179]
abbrev dktX3_term_5 : List UInt8 := dkwX3_term_5 ++ dktX3_term_6
def dkwX3_term_4 : List UInt8 := [181, 0, 179, 167, 255, 206, 42, 180, 0, 179, 42, 180, 0, 182, 159, 0, 17, 42, 180, 0, 72, 42]
abbrev dktX3_term_4 : List UInt8 := dkwX3_term_4 ++ dktX3_term_5
def dkwX3_term_3 : List UInt8 := [154, 0, 17, 42, 180, 0, 72, 42, 180, 0, 179, 46, 16, 32, 160, 0, 16, 42, 89, 180, 0, 179, 4, 96]
abbrev dktX3_term_3 : List UInt8 := dkwX3_term_3 ++ dktX3_term_4
def dkwX3_term_2 : List UInt8 := [180, 0, 179, 42, 180, 0, 182, 162, 0, 45, 42, 180, 0, 72, 42, 180, 0, 179, 46, 184, 0, 200]
abbrev dktX3_term_2 : List UInt8 := dkwX3_term_2 ++ dktX3_term_3
def dkwX3_term_1 : List UInt8 := [182, 0, 216, 167, 0, 151, 42, 182, 0, 213, 167, 0, 144, 42, 180, 0, 197, 6, 160, 0, 108, 42]
abbrev dktX3_term_1 : List UInt8 := dkwX3_term_1 ++ dktX3_term_2
def dkwX3_term_0 : List UInt8 := [42, 180, 0, 197, 5, 160, 0, 30, 42, 180, 0, 191, 2, 159, 0, 15, 42, 4, 42, 180, 0, 191]
abbrev dktX3_term_0 : List UInt8 := dkwX3_term_0 ++ dktX3_term_1
theorem dksX3_term_0 : cX3_term.data.toList.drop 0 = dktX3_term_0 := by decide +kernel
theorem dksX3_term_1 : cX3_term.data.toList.drop 22 = dktX3_term_1 := dk_seg dksX3_term_0 22 rfl rfl
theorem dksX3_term_2 : cX3_term.data.toList.drop 44 = dktX3_term_2 := dk_seg dksX3_term_1 22 rfl rfl
theorem dksX3_term_3 : cX3_term.data.toList.drop 66 = dktX3_term_3 := dk_seg dksX3_term_2 22 rfl rfl
theorem dksX3_term_4 : cX3_term.data.toList.drop 90 = dktX3_term_4 := dk_seg dksX3_term_3 24 rfl rfl
theorem dksX3_term_5 : cX3_term.data.toList.drop 112 = dktX3_term_5 := dk_seg dksX3_term_4 22 rfl rfl
theorem dksX3_term_6 : cX3_term.data.toList.drop 136 = dktX3_term_6 := dk_seg dksX3_term_5 24 rfl rfl
theorem dksX3_term_7 : cX3_term.data.toList.drop 160 = dktX3_term_7 := dk_seg dksX3_term_6 24 rfl rfl
theorem dX3_term_0 : decode cX3_term 0 = .ok (.aload_n 0, 1) := dk_42 (dk_at dksX3_term_0 0 rfl rfl)
theorem dX3_term_1 : decode cX3_term 1 = .ok (.getfield 197, 3) := dk_180 0 197 (dk_at dksX3_term_0 1 rfl rfl)
theorem dX3_term_4 : decode cX3_term 4 = .ok (.iconst 2, 1) := dk_5 (dk_at dksX3_term_0 4 rfl rfl)
theorem dX3_term_5 : decode cX3_term 5 = .ok (.if_icmp .ne 30, 3) := dk_160 0 30 (dk_at dksX3_term_0 5 rfl rfl)
theorem dX3_term_8 : decode cX3_term 8 = .ok (.aload_n 0, 1) := dk_42 (dk_at dksX3_term_0 8 rfl rfl)
theorem dX3_term_9 : decode cX3_term 9 = .ok (.getfield 191, 3) := dk_180 0 191 (dk_at dksX3_term_0 9 rfl rfl)
theorem dX3_term_12 : decode cX3_term 12 = .ok (.iconst (-1), 1) := dk_2 (dk_at dksX3_term_0 12 rfl rfl)
theorem dX3_term_13 : decode cX3_term 13 = .ok (.if_icmp .eq 15, 3) := dk_159 0 15 (dk_at dksX3_term_0 13 rfl rfl)
theorem dX3_term_16 : decode cX3_term 16 = .ok (.aload_n 0, 1) := dk_42 (dk_at dksX3_term_0 16 rfl rfl)
theorem dX3_term_17 : decode cX3_term 17 = .ok (.iconst 1, 1) := dk_4 (dk_at dksX3_term_0 17 rfl rfl)
theorem dX3_term_18 : decode cX3_term 18 = .ok (.aload_n 0, 1) := dk_42 (dk_at dksX3_term_0 18 rfl rfl)
theorem dX3_term_19 : decode cX3_term 19 = .ok (.getfield 191, 3) := dk_180 0 191 (dk_at dksX3_term_0 19 rfl rfl)
theorem dX3_term_22 : decode cX3_term 22 = .ok (.invokevirtual 216, 3) := dk_182 0 216 (dk_at dksX3_term_1 0 rfl rfl)
theorem dX3_term_25 : decode cX3_term 25 = .ok (.goto 151, 3) := dk_167 0 151 (dk_at dksX3_term_1 3 rfl rfl)
theorem dX3_term_28 : decode cX3_term 28 = .ok (.aload_n 0, 1) := dk_42 (dk_at dksX3_term_1 6 rfl rfl)
theorem dX3_term_29 : decode cX3_term 29 = .ok (.invokevirtual 213, 3) := dk_182 0 213 (dk_at dksX3_term_1 7 rfl rfl)
theorem dX3_term_32 : decode cX3_term 32 = .ok (.goto 144, 3) := dk_167 0 144 (dk_at dksX3_term_1 10 rfl rfl)
theorem dX3_term_35 : decode cX3_term 35 = .ok (.aload_n 0, 1) := dk_42 (dk_at dksX3_term_1 13 rfl rfl)
theorem dX3_term_36 : decode cX3_term 36 = .ok (.getfield 197, 3) := dk_180 0 197 (dk_at dksX3_term_1 14 rfl rfl)
theorem dX3_term_39 : decode cX3_term 39 = .ok (.iconst 3, 1) := dk_6 (dk_at dksX3_term_1 17 rfl rfl)
theorem dX3_term_40 : decode cX3_term 40 = .ok (.if_icmp .ne 108, 3) := dk_160 0 108 (dk_at dksX3_term_1 18 rfl rfl)
theorem dX3_term_43 : decode cX3_term 43 = .ok (.aload_n 0, 1) := dk_42 (dk_at dksX3_term_1 21 rfl rfl)
theorem dX3_term_44 : decode cX3_term 44 = .ok (.getfield 179, 3) := dk_180 0 179 (dk_at dksX3_term_2 0 rfl rfl)
theorem dX3_term_47 : decode cX3_term 47 = .ok (.aload_n 0, 1) := dk_42 (dk_at dksX3_term_2 3 rfl rfl)
theorem dX3_term_48 : decode cX3_term 48 = .ok (.getfield 182, 3) := dk_180 0 182 (dk_at dksX3_term_2 4 rfl rfl)
theorem dX3_term_51 : decode cX3_term 51 = .ok (.if_icmp .ge 45, 3) := dk_162 0 45 (dk_at dksX3_term_2 7 rfl rfl)
theorem dX3_term_54 : decode cX3_term 54 = .ok (.aload_n 0, 1) := dk_42 (dk_at dksX3_term_2 10 rfl rfl)
theorem dX3_term_55 : decode cX3_term 55 = .ok (.getfield 72, 3) := dk_180 0 72 (dk_at dksX3_term_2 11 rfl rfl)
theorem dX3_term_58 : decode cX3_term 58 = .ok (.aload_n 0, 1) := dk_42 (dk_at dksX3_term_2 14 rfl rfl)
theorem dX3_term_59 : decode cX3_term 59 = .ok (.getfield 179, 3) := dk_180 0 179 (dk_at dksX3_term_2 15 rfl rfl)
theorem dX3_term_62 : decode cX3_term 62 = .ok (.iaload, 1) := dk_46 (dk_at dksX3_term_2 18 rfl rfl)
theorem dX3_term_63 : decode cX3_term 63 = .ok (.invokestatic 200, 3) := dk_184 0 200 (dk_at dksX3_term_2 19 rfl rfl)
theorem dX3_term_66 : decode cX3_term 66 = .ok (.ifCond .ne 17, 3) := dk_154 0 17 (dk_at dksX3_term_3 0 rfl rfl)
theorem dX3_term_69 : decode cX3_term 69 = .ok (.aload_n 0, 1) := dk_42 (dk_at dksX3_term_3 3 rfl rfl)
theorem dX3_term_70 : decode cX3_term 70 = .ok (.getfield 72, 3) := dk_180 0 72 (dk_at dksX3_term_3 4 rfl rfl)
theorem dX3_term_73 : decode cX3_term 73 = .ok (.aload_n 0, 1) := dk_42 (dk_at dksX3_term_3 7 rfl rfl)
theorem dX3_term_74 : decode cX3_term 74 = .ok (.getfield 179, 3) := dk_180 0 179 (dk_at dksX3_term_3 8 rfl rfl)
theorem dX3_term_77 : decode cX3_term 77 = .ok (.iaload, 1) := dk_46 (dk_at dksX3_term_3 11 rfl rfl)
theorem dX3_term_78 : decode cX3_term 78 = .ok (.bipush 32, 2) := dk_16 32 (dk_at dksX3_term_3 12 rfl rfl)
theorem dX3_term_80 : decode cX3_term 80 = .ok (.if_icmp .ne 16, 3) := dk_160 0 16 (dk_at dksX3_term_3 14 rfl rfl)
theorem dX3_term_83 : decode cX3_term 83 = .ok (.aload_n 0, 1) := dk_42 (dk_at dksX3_term_3 17 rfl rfl)
theorem dX3_term_84 : decode cX3_term 84 = .ok (.dup, 1) := dk_89 (dk_at dksX3_term_3 18 rfl rfl)
theorem dX3_term_85 : decode cX3_term 85 = .ok (.getfield 179, 3) := dk_180 0 179 (dk_at dksX3_term_3 19 rfl rfl)
theorem dX3_term_88 : decode cX3_term 88 = .ok (.iconst 1, 1) := dk_4 (dk_at dksX3_term_3 22 rfl rfl)
theorem dX3_term_89 : decode cX3_term 89 = .ok (.iadd, 1) := dk_96 (dk_at dksX3_term_3 23 rfl rfl)
theorem dX3_term_90 : decode cX3_term 90 = .ok (.putfield 179, 3) := dk_181 0 179 (dk_at dksX3_term_4 0 rfl rfl)
theorem dX3_term_93 : decode cX3_term 93 = .ok (.goto (-50), 3) := dk_167 255 206 (dk_at dksX3_term_4 3 rfl rfl)
theorem dX3_term_96 : decode cX3_term 96 = .ok (.aload_n 0, 1) := dk_42 (dk_at dksX3_term_4 6 rfl rfl)
theorem dX3_term_97 : decode cX3_term 97 = .ok (.getfield 179, 3) := dk_180 0 179 (dk_at dksX3_term_4 7 rfl rfl)
theorem dX3_term_100 : decode cX3_term 100 = .ok (.aload_n 0, 1) := dk_42 (dk_at dksX3_term_4 10 rfl rfl)
theorem dX3_term_101 : decode cX3_term 101 = .ok (.getfield 182, 3) := dk_180 0 182 (dk_at dksX3_term_4 11 rfl rfl)
theorem dX3_term_104 : decode cX3_term 104 = .ok (.if_icmp .eq 17, 3) := dk_159 0 17 (dk_at dksX3_term_4 14 rfl rfl)
theorem dX3_term_107 : decode cX3_term 107 = .ok (.aload_n 0, 1) := dk_42 (dk_at dksX3_term_4 17 rfl rfl)
theorem dX3_term_108 : decode cX3_term 108 = .ok (.getfield 72, 3) := dk_180 0 72 (dk_at dksX3_term_4 18 rfl rfl)
theorem dX3_term_111 : decode cX3_term 111 = .ok (.aload_n 0, 1) := dk_42 (dk_at dksX3_term_4 21 rfl rfl)
theorem dX3_term_112 : decode cX3_term 112 = .ok (.getfield 179, 3) := dk_180 0 179 (dk_at dksX3_term_5 0 rfl rfl)
theorem dX3_term_115 : decode cX3_term 115 = .ok (.iaload, 1) := dk_46 (dk_at dksX3_term_5 3 rfl rfl)
theorem dX3_term_116 : decode cX3_term 116 = .ok (.bipush 39, 2) := dk_16 39 (dk_at dksX3_term_5 4 rfl rfl)
theorem dX3_term_118 : decode cX3_term 118 = .ok (.if_icmp .eq 13, 3) := dk_159 0 13 (dk_at dksX3_term_5 6 rfl rfl)
theorem dX3_term_121 : decode cX3_term 121 = .ok (.aload_n 0, 1) := dk_42 (dk_at dksX3_term_5 9 rfl rfl)
theorem dX3_term_122 : decode cX3_term 122 = .ok (.iconst 1, 1) := dk_4 (dk_at dksX3_term_5 10 rfl rfl)
theorem dX3_term_123 : decode cX3_term 123 = .ok (.aload_n 0, 1) := dk_42 (dk_at dksX3_term_5 11 rfl rfl)
theorem dX3_term_124 : decode cX3_term 124 = .ok (.getfield 179, 3) := dk_180 0 179 (dk_at dksX3_term_5 12 rfl rfl)
theorem dX3_term_127 : decode cX3_term 127 = .ok (.invokevirtual 216, 3) := dk_182 0 216 (dk_at dksX3_term_5 15 rfl rfl)
theorem dX3_term_130 : decode cX3_term 130 = .ok (.return_, 1) := dk_177 (dk_at dksX3_term_5 18 rfl rfl)
theorem dX3_term_131 : decode cX3_term 131 = .ok (.aload_n 0, 1) := dk_42 (dk_at dksX3_term_5 19 rfl rfl)
theorem dX3_term_132 : decode cX3_term 132 = .ok (.dup, 1) := dk_89 (dk_at dksX3_term_5 20 rfl rfl)
theorem dX3_term_133 : decode cX3_term 133 = .ok (.getfield 179, 3) := dk_180 0 179 (dk_at dksX3_term_5 21 rfl rfl)
theorem dX3_term_136 : decode cX3_term 136 = .ok (.iconst 1, 1) := dk_4 (dk_at dksX3_term_6 0 rfl rfl)
theorem dX3_term_137 : decode cX3_term 137 = .ok (.iadd, 1) := dk_96 (dk_at dksX3_term_6 1 rfl rfl)
theorem dX3_term_138 : decode cX3_term 138 = .ok (.putfield 179, 3) := dk_181 0 179 (dk_at dksX3_term_6 2 rfl rfl)
theorem dX3_term_141 : decode cX3_term 141 = .ok (.aload_n 0, 1) := dk_42 (dk_at dksX3_term_6 5 rfl rfl)
theorem dX3_term_142 : decode cX3_term 142 = .ok (.invokevirtual 213, 3) := dk_182 0 213 (dk_at dksX3_term_6 6 rfl rfl)
theorem dX3_term_145 : decode cX3_term 145 = .ok (.goto 31, 3) := dk_167 0 31 (dk_at dksX3_term_6 9 rfl rfl)
theorem dX3_term_148 : decode cX3_term 148 = .ok (.aload_n 0, 1) := dk_42 (dk_at dksX3_term_6 12 rfl rfl)
theorem dX3_term_149 : decode cX3_term 149 = .ok (.invokevirtual 238, 3) := dk_182 0 238 (dk_at dksX3_term_6 13 rfl rfl)
theorem dX3_term_152 : decode cX3_term 152 = .ok (.aload_n 0, 1) := dk_42 (dk_at dksX3_term_6 16 rfl rfl)
theorem dX3_term_153 : decode cX3_term 153 = .ok (.getfield 169, 3) := dk_180 0 169 (dk_at dksX3_term_6 17 rfl rfl)
theorem dX3_term_156 : decode cX3_term 156 = .ok (.ifCond .ne 9, 3) := dk_154 0 9 (dk_at dksX3_term_6 20 rfl rfl)
theorem dX3_term_159 : decode cX3_term 159 = .ok (.aload_n 0, 1) := dk_42 (dk_at dksX3_term_6 23 rfl rfl)
theorem dX3_term_160 : decode cX3_term 160 = .ok (.bipush 46, 2) := dk_16 46 (dk_at dksX3_term_7 0 rfl rfl)
theorem dX3_term_162 : decode cX3_term 162 = .ok (.invokevirtual 231, 3) := dk_182 0 231 (dk_at dksX3_term_7 2 rfl rfl)
theorem dX3_term_165 : decode cX3_term 165 = .ok (.aload_n 0, 1) := dk_42 (dk_at dksX3_term_7 5 rfl rfl)
theorem dX3_term_166 : decode cX3_term 166 = .ok (.getfield 169, 3) := dk_180 0 169 (dk_at dksX3_term_7 6 rfl rfl)
theorem dX3_term_169 : decode cX3_term 169 = .ok (.ifCond .ne 7, 3) := dk_154 0 7 (dk_at dksX3_term_7 9 rfl rfl)
theorem dX3_term_172 : decode cX3_term 172 = .ok (.aload_n 0, 1) := dk_42 (dk_at dksX3_term_7 12 rfl rfl)
theorem dX3_term_173 : decode cX3_term 173 = .ok (.invokevirtual 238, 3) := dk_182 0 238 (dk_at dksX3_term_7 13 rfl rfl)
theorem dX3_term_176 : decode cX3_term 176 = .ok (.return_, 1) := dk_177 (dk_at dksX3_term_7 16 rfl rfl)
abbrev cX3_meant : ByteArray := prog_14_method_33_code
def yX3_meant : MethodName := ⟨RX3, "meant", "()V"⟩
def dkwX3_meant_15 : List UInt8 := [181, 1, 2, 177]
abbrev dktX3_meant_15 : List UInt8 := dkwX3_meant_15 ++ []
def dkwX3_meant_14 : List UInt8 := [21, 4, 153, 0, 18, 29, 21, 4, 159, 0, 12, 42, 6, 42, 180, 0, 252, 182, 1, 6, 42, 3]
abbrev dktX3_meant_14 : List UInt8 := dkwX3_meant_14 ++ dktX3_meant_15
def dkwX3_meant_13 : List UInt8 := [153, 0, 44, 42, 27, 16, 6, 182, 1, 36, 62, 42, 27, 16, 7, 182, 1, 36, 54, 4, 29, 153, 0, 23]
abbrev dktX3_meant_13 : List UInt8 := dkwX3_meant_13 ++ dktX3_meant_14
def dkwX3_meant_12 : List UInt8 := [16, 8, 27, 104, 29, 96, 42, 27, 29, 182, 1, 36, 79, 132, 3, 1, 167, 255, 226, 42, 27, 182, 1, 39]
abbrev dktX3_meant_12 : List UInt8 := dkwX3_meant_12 ++ dktX3_meant_13
def dkwX3_meant_11 : List UInt8 := [180, 0, 17, 27, 46, 158, 0, 38, 3, 62, 29, 42, 180, 0, 21, 27, 46, 162, 0, 26, 42, 180, 0, 27]
abbrev dktX3_meant_11 : List UInt8 := dkwX3_meant_11 ++ dktX3_meant_12
def dkwX3_meant_10 : List UInt8 := [46, 182, 1, 6, 132, 4, 1, 167, 255, 219, 132, 3, 1, 167, 255, 155, 42, 4, 181, 1, 2, 42]
abbrev dktX3_meant_10 : List UInt8 := dkwX3_meant_10 ++ dktX3_meant_11
def dkwX3_meant_9 : List UInt8 := [42, 180, 0, 108, 21, 4, 47, 42, 180, 0, 108, 29, 47, 148, 154, 0, 14, 42, 7, 42, 180, 0, 111, 29]
abbrev dktX3_meant_9 : List UInt8 := dkwX3_meant_9 ++ dktX3_meant_10
def dkwX3_meant_8 : List UInt8 := [2, 160, 0, 14, 42, 5, 42, 180, 0, 111, 29, 46, 182, 1, 6, 3, 54, 4, 21, 4, 29, 162, 0, 37]
abbrev dktX3_meant_8 : List UInt8 := dkwX3_meant_8 ++ dktX3_meant_9
def dkwX3_meant_7 : List UInt8 := [104, 29, 96, 42, 42, 180, 0, 108, 29, 47, 182, 1, 32, 79, 42, 180, 0, 33, 6, 27, 104, 29, 96, 46]
abbrev dktX3_meant_7 : List UInt8 := dkwX3_meant_7 ++ dktX3_meant_8
def dkwX3_meant_6 : List UInt8 := [132, 3, 1, 167, 255, 155, 3, 62, 29, 42, 180, 0, 30, 27, 46, 162, 0, 97, 42, 180, 0, 33, 6, 27]
abbrev dktX3_meant_6 : List UInt8 := dkwX3_meant_6 ++ dktX3_meant_7
def dkwX3_meant_5 : List UInt8 := [154, 0, 9, 28, 6, 96, 167, 0, 16, 42, 180, 0, 66, 16, 8, 27, 104, 29, 96, 46, 4, 96, 61]
abbrev dktX3_meant_5 : List UInt8 := dkwX3_meant_5 ++ dktX3_meant_6
def dkwX3_meant_4 : List UInt8 := [17, 1, 144, 27, 104, 28, 96, 46, 182, 1, 6, 132, 4, 1, 167, 255, 203, 42, 180, 0, 17, 27, 46]
abbrev dktX3_meant_4 : List UInt8 := dkwX3_meant_4 ++ dktX3_meant_5
def dkwX3_meant_3 : List UInt8 := [47, 42, 180, 0, 24, 16, 8, 27, 104, 29, 96, 47, 148, 154, 0, 20, 42, 7, 42, 180, 0, 54]
abbrev dktX3_meant_3 : List UInt8 := dkwX3_meant_3 ++ dktX3_meant_4
def dkwX3_meant_2 : List UInt8 := [46, 162, 0, 97, 3, 54, 4, 21, 4, 29, 162, 0, 53, 42, 180, 0, 24, 16, 8, 27, 104, 21, 4, 96]
abbrev dktX3_meant_2 : List UInt8 := dkwX3_meant_2 ++ dktX3_meant_3
def dkwX3_meant_1 : List UInt8 := [180, 0, 54, 17, 1, 144, 27, 104, 4, 96, 46, 182, 1, 6, 6, 61, 3, 62, 29, 42, 180, 0, 21, 27]
abbrev dktX3_meant_1 : List UInt8 := dkwX3_meant_1 ++ dktX3_meant_2
def dkwX3_meant_0 : List UInt8 := [42, 180, 0, 159, 60, 42, 42, 180, 0, 13, 27, 47, 182, 1, 32, 2, 159, 0, 20, 42, 7, 42]
abbrev dktX3_meant_0 : List UInt8 := dkwX3_meant_0 ++ dktX3_meant_1
theorem dksX3_meant_0 : cX3_meant.data.toList.drop 0 = dktX3_meant_0 := by decide +kernel
theorem dksX3_meant_1 : cX3_meant.data.toList.drop 22 = dktX3_meant_1 := dk_seg dksX3_meant_0 22 rfl rfl
theorem dksX3_meant_2 : cX3_meant.data.toList.drop 46 = dktX3_meant_2 := dk_seg dksX3_meant_1 24 rfl rfl
theorem dksX3_meant_3 : cX3_meant.data.toList.drop 70 = dktX3_meant_3 := dk_seg dksX3_meant_2 24 rfl rfl
theorem dksX3_meant_4 : cX3_meant.data.toList.drop 92 = dktX3_meant_4 := dk_seg dksX3_meant_3 22 rfl rfl
theorem dksX3_meant_5 : cX3_meant.data.toList.drop 115 = dktX3_meant_5 := dk_seg dksX3_meant_4 23 rfl rfl
theorem dksX3_meant_6 : cX3_meant.data.toList.drop 138 = dktX3_meant_6 := dk_seg dksX3_meant_5 23 rfl rfl
theorem dksX3_meant_7 : cX3_meant.data.toList.drop 162 = dktX3_meant_7 := dk_seg dksX3_meant_6 24 rfl rfl
theorem dksX3_meant_8 : cX3_meant.data.toList.drop 186 = dktX3_meant_8 := dk_seg dksX3_meant_7 24 rfl rfl
theorem dksX3_meant_9 : cX3_meant.data.toList.drop 210 = dktX3_meant_9 := dk_seg dksX3_meant_8 24 rfl rfl
theorem dksX3_meant_10 : cX3_meant.data.toList.drop 234 = dktX3_meant_10 := dk_seg dksX3_meant_9 24 rfl rfl
theorem dksX3_meant_11 : cX3_meant.data.toList.drop 256 = dktX3_meant_11 := dk_seg dksX3_meant_10 22 rfl rfl
theorem dksX3_meant_12 : cX3_meant.data.toList.drop 280 = dktX3_meant_12 := dk_seg dksX3_meant_11 24 rfl rfl
theorem dksX3_meant_13 : cX3_meant.data.toList.drop 304 = dktX3_meant_13 := dk_seg dksX3_meant_12 24 rfl rfl
theorem dksX3_meant_14 : cX3_meant.data.toList.drop 328 = dktX3_meant_14 := dk_seg dksX3_meant_13 24 rfl rfl
theorem dksX3_meant_15 : cX3_meant.data.toList.drop 350 = dktX3_meant_15 := dk_seg dksX3_meant_14 22 rfl rfl
theorem dX3_meant_0 : decode cX3_meant 0 = .ok (.aload_n 0, 1) := dk_42 (dk_at dksX3_meant_0 0 rfl rfl)
theorem dX3_meant_1 : decode cX3_meant 1 = .ok (.getfield 159, 3) := dk_180 0 159 (dk_at dksX3_meant_0 1 rfl rfl)
theorem dX3_meant_4 : decode cX3_meant 4 = .ok (.istore_n 1, 1) := dk_60 (dk_at dksX3_meant_0 4 rfl rfl)
theorem dX3_meant_5 : decode cX3_meant 5 = .ok (.aload_n 0, 1) := dk_42 (dk_at dksX3_meant_0 5 rfl rfl)
theorem dX3_meant_6 : decode cX3_meant 6 = .ok (.aload_n 0, 1) := dk_42 (dk_at dksX3_meant_0 6 rfl rfl)
theorem dX3_meant_7 : decode cX3_meant 7 = .ok (.getfield 13, 3) := dk_180 0 13 (dk_at dksX3_meant_0 7 rfl rfl)
theorem dX3_meant_10 : decode cX3_meant 10 = .ok (.iload_n 1, 1) := dk_27 (dk_at dksX3_meant_0 10 rfl rfl)
theorem dX3_meant_11 : decode cX3_meant 11 = .ok (.laload, 1) := dk_47 (dk_at dksX3_meant_0 11 rfl rfl)
theorem dX3_meant_12 : decode cX3_meant 12 = .ok (.invokevirtual 288, 3) := dk_182 1 32 (dk_at dksX3_meant_0 12 rfl rfl)
theorem dX3_meant_15 : decode cX3_meant 15 = .ok (.iconst (-1), 1) := dk_2 (dk_at dksX3_meant_0 15 rfl rfl)
theorem dX3_meant_16 : decode cX3_meant 16 = .ok (.if_icmp .eq 20, 3) := dk_159 0 20 (dk_at dksX3_meant_0 16 rfl rfl)
theorem dX3_meant_19 : decode cX3_meant 19 = .ok (.aload_n 0, 1) := dk_42 (dk_at dksX3_meant_0 19 rfl rfl)
theorem dX3_meant_20 : decode cX3_meant 20 = .ok (.iconst 4, 1) := dk_7 (dk_at dksX3_meant_0 20 rfl rfl)
theorem dX3_meant_21 : decode cX3_meant 21 = .ok (.aload_n 0, 1) := dk_42 (dk_at dksX3_meant_0 21 rfl rfl)
theorem dX3_meant_22 : decode cX3_meant 22 = .ok (.getfield 54, 3) := dk_180 0 54 (dk_at dksX3_meant_1 0 rfl rfl)
theorem dX3_meant_25 : decode cX3_meant 25 = .ok (.sipush 400, 3) := dk_17 1 144 (dk_at dksX3_meant_1 3 rfl rfl)
theorem dX3_meant_28 : decode cX3_meant 28 = .ok (.iload_n 1, 1) := dk_27 (dk_at dksX3_meant_1 6 rfl rfl)
theorem dX3_meant_29 : decode cX3_meant 29 = .ok (.imul, 1) := dk_104 (dk_at dksX3_meant_1 7 rfl rfl)
theorem dX3_meant_30 : decode cX3_meant 30 = .ok (.iconst 1, 1) := dk_4 (dk_at dksX3_meant_1 8 rfl rfl)
theorem dX3_meant_31 : decode cX3_meant 31 = .ok (.iadd, 1) := dk_96 (dk_at dksX3_meant_1 9 rfl rfl)
theorem dX3_meant_32 : decode cX3_meant 32 = .ok (.iaload, 1) := dk_46 (dk_at dksX3_meant_1 10 rfl rfl)
theorem dX3_meant_33 : decode cX3_meant 33 = .ok (.invokevirtual 262, 3) := dk_182 1 6 (dk_at dksX3_meant_1 11 rfl rfl)
theorem dX3_meant_36 : decode cX3_meant 36 = .ok (.iconst 3, 1) := dk_6 (dk_at dksX3_meant_1 14 rfl rfl)
theorem dX3_meant_37 : decode cX3_meant 37 = .ok (.istore_n 2, 1) := dk_61 (dk_at dksX3_meant_1 15 rfl rfl)
theorem dX3_meant_38 : decode cX3_meant 38 = .ok (.iconst 0, 1) := dk_3 (dk_at dksX3_meant_1 16 rfl rfl)
theorem dX3_meant_39 : decode cX3_meant 39 = .ok (.istore_n 3, 1) := dk_62 (dk_at dksX3_meant_1 17 rfl rfl)
theorem dX3_meant_40 : decode cX3_meant 40 = .ok (.iload_n 3, 1) := dk_29 (dk_at dksX3_meant_1 18 rfl rfl)
theorem dX3_meant_41 : decode cX3_meant 41 = .ok (.aload_n 0, 1) := dk_42 (dk_at dksX3_meant_1 19 rfl rfl)
theorem dX3_meant_42 : decode cX3_meant 42 = .ok (.getfield 21, 3) := dk_180 0 21 (dk_at dksX3_meant_1 20 rfl rfl)
theorem dX3_meant_45 : decode cX3_meant 45 = .ok (.iload_n 1, 1) := dk_27 (dk_at dksX3_meant_1 23 rfl rfl)
theorem dX3_meant_46 : decode cX3_meant 46 = .ok (.iaload, 1) := dk_46 (dk_at dksX3_meant_2 0 rfl rfl)
theorem dX3_meant_47 : decode cX3_meant 47 = .ok (.if_icmp .ge 97, 3) := dk_162 0 97 (dk_at dksX3_meant_2 1 rfl rfl)
theorem dX3_meant_50 : decode cX3_meant 50 = .ok (.iconst 0, 1) := dk_3 (dk_at dksX3_meant_2 4 rfl rfl)
theorem dX3_meant_51 : decode cX3_meant 51 = .ok (.istore 4, 2) := dk_54 4 (dk_at dksX3_meant_2 5 rfl rfl)
theorem dX3_meant_53 : decode cX3_meant 53 = .ok (.iload 4, 2) := dk_21 4 (dk_at dksX3_meant_2 7 rfl rfl)
theorem dX3_meant_55 : decode cX3_meant 55 = .ok (.iload_n 3, 1) := dk_29 (dk_at dksX3_meant_2 9 rfl rfl)
theorem dX3_meant_56 : decode cX3_meant 56 = .ok (.if_icmp .ge 53, 3) := dk_162 0 53 (dk_at dksX3_meant_2 10 rfl rfl)
theorem dX3_meant_59 : decode cX3_meant 59 = .ok (.aload_n 0, 1) := dk_42 (dk_at dksX3_meant_2 13 rfl rfl)
theorem dX3_meant_60 : decode cX3_meant 60 = .ok (.getfield 24, 3) := dk_180 0 24 (dk_at dksX3_meant_2 14 rfl rfl)
theorem dX3_meant_63 : decode cX3_meant 63 = .ok (.bipush 8, 2) := dk_16 8 (dk_at dksX3_meant_2 17 rfl rfl)
theorem dX3_meant_65 : decode cX3_meant 65 = .ok (.iload_n 1, 1) := dk_27 (dk_at dksX3_meant_2 19 rfl rfl)
theorem dX3_meant_66 : decode cX3_meant 66 = .ok (.imul, 1) := dk_104 (dk_at dksX3_meant_2 20 rfl rfl)
theorem dX3_meant_67 : decode cX3_meant 67 = .ok (.iload 4, 2) := dk_21 4 (dk_at dksX3_meant_2 21 rfl rfl)
theorem dX3_meant_69 : decode cX3_meant 69 = .ok (.iadd, 1) := dk_96 (dk_at dksX3_meant_2 23 rfl rfl)
theorem dX3_meant_70 : decode cX3_meant 70 = .ok (.laload, 1) := dk_47 (dk_at dksX3_meant_3 0 rfl rfl)
theorem dX3_meant_71 : decode cX3_meant 71 = .ok (.aload_n 0, 1) := dk_42 (dk_at dksX3_meant_3 1 rfl rfl)
theorem dX3_meant_72 : decode cX3_meant 72 = .ok (.getfield 24, 3) := dk_180 0 24 (dk_at dksX3_meant_3 2 rfl rfl)
theorem dX3_meant_75 : decode cX3_meant 75 = .ok (.bipush 8, 2) := dk_16 8 (dk_at dksX3_meant_3 5 rfl rfl)
theorem dX3_meant_77 : decode cX3_meant 77 = .ok (.iload_n 1, 1) := dk_27 (dk_at dksX3_meant_3 7 rfl rfl)
theorem dX3_meant_78 : decode cX3_meant 78 = .ok (.imul, 1) := dk_104 (dk_at dksX3_meant_3 8 rfl rfl)
theorem dX3_meant_79 : decode cX3_meant 79 = .ok (.iload_n 3, 1) := dk_29 (dk_at dksX3_meant_3 9 rfl rfl)
theorem dX3_meant_80 : decode cX3_meant 80 = .ok (.iadd, 1) := dk_96 (dk_at dksX3_meant_3 10 rfl rfl)
theorem dX3_meant_81 : decode cX3_meant 81 = .ok (.laload, 1) := dk_47 (dk_at dksX3_meant_3 11 rfl rfl)
theorem dX3_meant_82 : decode cX3_meant 82 = .ok (.lcmp, 1) := dk_148 (dk_at dksX3_meant_3 12 rfl rfl)
theorem dX3_meant_83 : decode cX3_meant 83 = .ok (.ifCond .ne 20, 3) := dk_154 0 20 (dk_at dksX3_meant_3 13 rfl rfl)
theorem dX3_meant_86 : decode cX3_meant 86 = .ok (.aload_n 0, 1) := dk_42 (dk_at dksX3_meant_3 16 rfl rfl)
theorem dX3_meant_87 : decode cX3_meant 87 = .ok (.iconst 4, 1) := dk_7 (dk_at dksX3_meant_3 17 rfl rfl)
theorem dX3_meant_88 : decode cX3_meant 88 = .ok (.aload_n 0, 1) := dk_42 (dk_at dksX3_meant_3 18 rfl rfl)
theorem dX3_meant_89 : decode cX3_meant 89 = .ok (.getfield 54, 3) := dk_180 0 54 (dk_at dksX3_meant_3 19 rfl rfl)
theorem dX3_meant_92 : decode cX3_meant 92 = .ok (.sipush 400, 3) := dk_17 1 144 (dk_at dksX3_meant_4 0 rfl rfl)
theorem dX3_meant_95 : decode cX3_meant 95 = .ok (.iload_n 1, 1) := dk_27 (dk_at dksX3_meant_4 3 rfl rfl)
theorem dX3_meant_96 : decode cX3_meant 96 = .ok (.imul, 1) := dk_104 (dk_at dksX3_meant_4 4 rfl rfl)
theorem dX3_meant_97 : decode cX3_meant 97 = .ok (.iload_n 2, 1) := dk_28 (dk_at dksX3_meant_4 5 rfl rfl)
theorem dX3_meant_98 : decode cX3_meant 98 = .ok (.iadd, 1) := dk_96 (dk_at dksX3_meant_4 6 rfl rfl)
theorem dX3_meant_99 : decode cX3_meant 99 = .ok (.iaload, 1) := dk_46 (dk_at dksX3_meant_4 7 rfl rfl)
theorem dX3_meant_100 : decode cX3_meant 100 = .ok (.invokevirtual 262, 3) := dk_182 1 6 (dk_at dksX3_meant_4 8 rfl rfl)
theorem dX3_meant_103 : decode cX3_meant 103 = .ok (.iinc 4 1, 3) := dk_132 4 1 (dk_at dksX3_meant_4 11 rfl rfl)
theorem dX3_meant_106 : decode cX3_meant 106 = .ok (.goto (-53), 3) := dk_167 255 203 (dk_at dksX3_meant_4 14 rfl rfl)
theorem dX3_meant_109 : decode cX3_meant 109 = .ok (.aload_n 0, 1) := dk_42 (dk_at dksX3_meant_4 17 rfl rfl)
theorem dX3_meant_110 : decode cX3_meant 110 = .ok (.getfield 17, 3) := dk_180 0 17 (dk_at dksX3_meant_4 18 rfl rfl)
theorem dX3_meant_113 : decode cX3_meant 113 = .ok (.iload_n 1, 1) := dk_27 (dk_at dksX3_meant_4 21 rfl rfl)
theorem dX3_meant_114 : decode cX3_meant 114 = .ok (.iaload, 1) := dk_46 (dk_at dksX3_meant_4 22 rfl rfl)
theorem dX3_meant_115 : decode cX3_meant 115 = .ok (.ifCond .ne 9, 3) := dk_154 0 9 (dk_at dksX3_meant_5 0 rfl rfl)
theorem dX3_meant_118 : decode cX3_meant 118 = .ok (.iload_n 2, 1) := dk_28 (dk_at dksX3_meant_5 3 rfl rfl)
theorem dX3_meant_119 : decode cX3_meant 119 = .ok (.iconst 3, 1) := dk_6 (dk_at dksX3_meant_5 4 rfl rfl)
theorem dX3_meant_120 : decode cX3_meant 120 = .ok (.iadd, 1) := dk_96 (dk_at dksX3_meant_5 5 rfl rfl)
theorem dX3_meant_121 : decode cX3_meant 121 = .ok (.goto 16, 3) := dk_167 0 16 (dk_at dksX3_meant_5 6 rfl rfl)
theorem dX3_meant_124 : decode cX3_meant 124 = .ok (.aload_n 0, 1) := dk_42 (dk_at dksX3_meant_5 9 rfl rfl)
theorem dX3_meant_125 : decode cX3_meant 125 = .ok (.getfield 66, 3) := dk_180 0 66 (dk_at dksX3_meant_5 10 rfl rfl)
theorem dX3_meant_128 : decode cX3_meant 128 = .ok (.bipush 8, 2) := dk_16 8 (dk_at dksX3_meant_5 13 rfl rfl)
theorem dX3_meant_130 : decode cX3_meant 130 = .ok (.iload_n 1, 1) := dk_27 (dk_at dksX3_meant_5 15 rfl rfl)
theorem dX3_meant_131 : decode cX3_meant 131 = .ok (.imul, 1) := dk_104 (dk_at dksX3_meant_5 16 rfl rfl)
theorem dX3_meant_132 : decode cX3_meant 132 = .ok (.iload_n 3, 1) := dk_29 (dk_at dksX3_meant_5 17 rfl rfl)
theorem dX3_meant_133 : decode cX3_meant 133 = .ok (.iadd, 1) := dk_96 (dk_at dksX3_meant_5 18 rfl rfl)
theorem dX3_meant_134 : decode cX3_meant 134 = .ok (.iaload, 1) := dk_46 (dk_at dksX3_meant_5 19 rfl rfl)
theorem dX3_meant_135 : decode cX3_meant 135 = .ok (.iconst 1, 1) := dk_4 (dk_at dksX3_meant_5 20 rfl rfl)
theorem dX3_meant_136 : decode cX3_meant 136 = .ok (.iadd, 1) := dk_96 (dk_at dksX3_meant_5 21 rfl rfl)
theorem dX3_meant_137 : decode cX3_meant 137 = .ok (.istore_n 2, 1) := dk_61 (dk_at dksX3_meant_5 22 rfl rfl)
theorem dX3_meant_138 : decode cX3_meant 138 = .ok (.iinc 3 1, 3) := dk_132 3 1 (dk_at dksX3_meant_6 0 rfl rfl)
theorem dX3_meant_141 : decode cX3_meant 141 = .ok (.goto (-101), 3) := dk_167 255 155 (dk_at dksX3_meant_6 3 rfl rfl)
theorem dX3_meant_144 : decode cX3_meant 144 = .ok (.iconst 0, 1) := dk_3 (dk_at dksX3_meant_6 6 rfl rfl)
theorem dX3_meant_145 : decode cX3_meant 145 = .ok (.istore_n 3, 1) := dk_62 (dk_at dksX3_meant_6 7 rfl rfl)
theorem dX3_meant_146 : decode cX3_meant 146 = .ok (.iload_n 3, 1) := dk_29 (dk_at dksX3_meant_6 8 rfl rfl)
theorem dX3_meant_147 : decode cX3_meant 147 = .ok (.aload_n 0, 1) := dk_42 (dk_at dksX3_meant_6 9 rfl rfl)
theorem dX3_meant_148 : decode cX3_meant 148 = .ok (.getfield 30, 3) := dk_180 0 30 (dk_at dksX3_meant_6 10 rfl rfl)
theorem dX3_meant_151 : decode cX3_meant 151 = .ok (.iload_n 1, 1) := dk_27 (dk_at dksX3_meant_6 13 rfl rfl)
theorem dX3_meant_152 : decode cX3_meant 152 = .ok (.iaload, 1) := dk_46 (dk_at dksX3_meant_6 14 rfl rfl)
theorem dX3_meant_153 : decode cX3_meant 153 = .ok (.if_icmp .ge 97, 3) := dk_162 0 97 (dk_at dksX3_meant_6 15 rfl rfl)
theorem dX3_meant_156 : decode cX3_meant 156 = .ok (.aload_n 0, 1) := dk_42 (dk_at dksX3_meant_6 18 rfl rfl)
theorem dX3_meant_157 : decode cX3_meant 157 = .ok (.getfield 33, 3) := dk_180 0 33 (dk_at dksX3_meant_6 19 rfl rfl)
theorem dX3_meant_160 : decode cX3_meant 160 = .ok (.iconst 3, 1) := dk_6 (dk_at dksX3_meant_6 22 rfl rfl)
theorem dX3_meant_161 : decode cX3_meant 161 = .ok (.iload_n 1, 1) := dk_27 (dk_at dksX3_meant_6 23 rfl rfl)
theorem dX3_meant_162 : decode cX3_meant 162 = .ok (.imul, 1) := dk_104 (dk_at dksX3_meant_7 0 rfl rfl)
theorem dX3_meant_163 : decode cX3_meant 163 = .ok (.iload_n 3, 1) := dk_29 (dk_at dksX3_meant_7 1 rfl rfl)
theorem dX3_meant_164 : decode cX3_meant 164 = .ok (.iadd, 1) := dk_96 (dk_at dksX3_meant_7 2 rfl rfl)
theorem dX3_meant_165 : decode cX3_meant 165 = .ok (.aload_n 0, 1) := dk_42 (dk_at dksX3_meant_7 3 rfl rfl)
theorem dX3_meant_166 : decode cX3_meant 166 = .ok (.aload_n 0, 1) := dk_42 (dk_at dksX3_meant_7 4 rfl rfl)
theorem dX3_meant_167 : decode cX3_meant 167 = .ok (.getfield 108, 3) := dk_180 0 108 (dk_at dksX3_meant_7 5 rfl rfl)
theorem dX3_meant_170 : decode cX3_meant 170 = .ok (.iload_n 3, 1) := dk_29 (dk_at dksX3_meant_7 8 rfl rfl)
theorem dX3_meant_171 : decode cX3_meant 171 = .ok (.laload, 1) := dk_47 (dk_at dksX3_meant_7 9 rfl rfl)
theorem dX3_meant_172 : decode cX3_meant 172 = .ok (.invokevirtual 288, 3) := dk_182 1 32 (dk_at dksX3_meant_7 10 rfl rfl)
theorem dX3_meant_175 : decode cX3_meant 175 = .ok (.iastore, 1) := dk_79 (dk_at dksX3_meant_7 13 rfl rfl)
theorem dX3_meant_176 : decode cX3_meant 176 = .ok (.aload_n 0, 1) := dk_42 (dk_at dksX3_meant_7 14 rfl rfl)
theorem dX3_meant_177 : decode cX3_meant 177 = .ok (.getfield 33, 3) := dk_180 0 33 (dk_at dksX3_meant_7 15 rfl rfl)
theorem dX3_meant_180 : decode cX3_meant 180 = .ok (.iconst 3, 1) := dk_6 (dk_at dksX3_meant_7 18 rfl rfl)
theorem dX3_meant_181 : decode cX3_meant 181 = .ok (.iload_n 1, 1) := dk_27 (dk_at dksX3_meant_7 19 rfl rfl)
theorem dX3_meant_182 : decode cX3_meant 182 = .ok (.imul, 1) := dk_104 (dk_at dksX3_meant_7 20 rfl rfl)
theorem dX3_meant_183 : decode cX3_meant 183 = .ok (.iload_n 3, 1) := dk_29 (dk_at dksX3_meant_7 21 rfl rfl)
theorem dX3_meant_184 : decode cX3_meant 184 = .ok (.iadd, 1) := dk_96 (dk_at dksX3_meant_7 22 rfl rfl)
theorem dX3_meant_185 : decode cX3_meant 185 = .ok (.iaload, 1) := dk_46 (dk_at dksX3_meant_7 23 rfl rfl)
theorem dX3_meant_186 : decode cX3_meant 186 = .ok (.iconst (-1), 1) := dk_2 (dk_at dksX3_meant_8 0 rfl rfl)
theorem dX3_meant_187 : decode cX3_meant 187 = .ok (.if_icmp .ne 14, 3) := dk_160 0 14 (dk_at dksX3_meant_8 1 rfl rfl)
theorem dX3_meant_190 : decode cX3_meant 190 = .ok (.aload_n 0, 1) := dk_42 (dk_at dksX3_meant_8 4 rfl rfl)
theorem dX3_meant_191 : decode cX3_meant 191 = .ok (.iconst 2, 1) := dk_5 (dk_at dksX3_meant_8 5 rfl rfl)
theorem dX3_meant_192 : decode cX3_meant 192 = .ok (.aload_n 0, 1) := dk_42 (dk_at dksX3_meant_8 6 rfl rfl)
theorem dX3_meant_193 : decode cX3_meant 193 = .ok (.getfield 111, 3) := dk_180 0 111 (dk_at dksX3_meant_8 7 rfl rfl)
theorem dX3_meant_196 : decode cX3_meant 196 = .ok (.iload_n 3, 1) := dk_29 (dk_at dksX3_meant_8 10 rfl rfl)
theorem dX3_meant_197 : decode cX3_meant 197 = .ok (.iaload, 1) := dk_46 (dk_at dksX3_meant_8 11 rfl rfl)
theorem dX3_meant_198 : decode cX3_meant 198 = .ok (.invokevirtual 262, 3) := dk_182 1 6 (dk_at dksX3_meant_8 12 rfl rfl)
theorem dX3_meant_201 : decode cX3_meant 201 = .ok (.iconst 0, 1) := dk_3 (dk_at dksX3_meant_8 15 rfl rfl)
theorem dX3_meant_202 : decode cX3_meant 202 = .ok (.istore 4, 2) := dk_54 4 (dk_at dksX3_meant_8 16 rfl rfl)
theorem dX3_meant_204 : decode cX3_meant 204 = .ok (.iload 4, 2) := dk_21 4 (dk_at dksX3_meant_8 18 rfl rfl)
theorem dX3_meant_206 : decode cX3_meant 206 = .ok (.iload_n 3, 1) := dk_29 (dk_at dksX3_meant_8 20 rfl rfl)
theorem dX3_meant_207 : decode cX3_meant 207 = .ok (.if_icmp .ge 37, 3) := dk_162 0 37 (dk_at dksX3_meant_8 21 rfl rfl)
theorem dX3_meant_210 : decode cX3_meant 210 = .ok (.aload_n 0, 1) := dk_42 (dk_at dksX3_meant_9 0 rfl rfl)
theorem dX3_meant_211 : decode cX3_meant 211 = .ok (.getfield 108, 3) := dk_180 0 108 (dk_at dksX3_meant_9 1 rfl rfl)
theorem dX3_meant_214 : decode cX3_meant 214 = .ok (.iload 4, 2) := dk_21 4 (dk_at dksX3_meant_9 4 rfl rfl)
theorem dX3_meant_216 : decode cX3_meant 216 = .ok (.laload, 1) := dk_47 (dk_at dksX3_meant_9 6 rfl rfl)
theorem dX3_meant_217 : decode cX3_meant 217 = .ok (.aload_n 0, 1) := dk_42 (dk_at dksX3_meant_9 7 rfl rfl)
theorem dX3_meant_218 : decode cX3_meant 218 = .ok (.getfield 108, 3) := dk_180 0 108 (dk_at dksX3_meant_9 8 rfl rfl)
theorem dX3_meant_221 : decode cX3_meant 221 = .ok (.iload_n 3, 1) := dk_29 (dk_at dksX3_meant_9 11 rfl rfl)
theorem dX3_meant_222 : decode cX3_meant 222 = .ok (.laload, 1) := dk_47 (dk_at dksX3_meant_9 12 rfl rfl)
theorem dX3_meant_223 : decode cX3_meant 223 = .ok (.lcmp, 1) := dk_148 (dk_at dksX3_meant_9 13 rfl rfl)
theorem dX3_meant_224 : decode cX3_meant 224 = .ok (.ifCond .ne 14, 3) := dk_154 0 14 (dk_at dksX3_meant_9 14 rfl rfl)
theorem dX3_meant_227 : decode cX3_meant 227 = .ok (.aload_n 0, 1) := dk_42 (dk_at dksX3_meant_9 17 rfl rfl)
theorem dX3_meant_228 : decode cX3_meant 228 = .ok (.iconst 4, 1) := dk_7 (dk_at dksX3_meant_9 18 rfl rfl)
theorem dX3_meant_229 : decode cX3_meant 229 = .ok (.aload_n 0, 1) := dk_42 (dk_at dksX3_meant_9 19 rfl rfl)
theorem dX3_meant_230 : decode cX3_meant 230 = .ok (.getfield 111, 3) := dk_180 0 111 (dk_at dksX3_meant_9 20 rfl rfl)
theorem dX3_meant_233 : decode cX3_meant 233 = .ok (.iload_n 3, 1) := dk_29 (dk_at dksX3_meant_9 23 rfl rfl)
theorem dX3_meant_234 : decode cX3_meant 234 = .ok (.iaload, 1) := dk_46 (dk_at dksX3_meant_10 0 rfl rfl)
theorem dX3_meant_235 : decode cX3_meant 235 = .ok (.invokevirtual 262, 3) := dk_182 1 6 (dk_at dksX3_meant_10 1 rfl rfl)
theorem dX3_meant_238 : decode cX3_meant 238 = .ok (.iinc 4 1, 3) := dk_132 4 1 (dk_at dksX3_meant_10 4 rfl rfl)
theorem dX3_meant_241 : decode cX3_meant 241 = .ok (.goto (-37), 3) := dk_167 255 219 (dk_at dksX3_meant_10 7 rfl rfl)
theorem dX3_meant_244 : decode cX3_meant 244 = .ok (.iinc 3 1, 3) := dk_132 3 1 (dk_at dksX3_meant_10 10 rfl rfl)
theorem dX3_meant_247 : decode cX3_meant 247 = .ok (.goto (-101), 3) := dk_167 255 155 (dk_at dksX3_meant_10 13 rfl rfl)
theorem dX3_meant_250 : decode cX3_meant 250 = .ok (.aload_n 0, 1) := dk_42 (dk_at dksX3_meant_10 16 rfl rfl)
theorem dX3_meant_251 : decode cX3_meant 251 = .ok (.iconst 1, 1) := dk_4 (dk_at dksX3_meant_10 17 rfl rfl)
theorem dX3_meant_252 : decode cX3_meant 252 = .ok (.putfield 258, 3) := dk_181 1 2 (dk_at dksX3_meant_10 18 rfl rfl)
theorem dX3_meant_255 : decode cX3_meant 255 = .ok (.aload_n 0, 1) := dk_42 (dk_at dksX3_meant_10 21 rfl rfl)
theorem dX3_meant_256 : decode cX3_meant 256 = .ok (.getfield 17, 3) := dk_180 0 17 (dk_at dksX3_meant_11 0 rfl rfl)
theorem dX3_meant_259 : decode cX3_meant 259 = .ok (.iload_n 1, 1) := dk_27 (dk_at dksX3_meant_11 3 rfl rfl)
theorem dX3_meant_260 : decode cX3_meant 260 = .ok (.iaload, 1) := dk_46 (dk_at dksX3_meant_11 4 rfl rfl)
theorem dX3_meant_261 : decode cX3_meant 261 = .ok (.ifCond .le 38, 3) := dk_158 0 38 (dk_at dksX3_meant_11 5 rfl rfl)
theorem dX3_meant_264 : decode cX3_meant 264 = .ok (.iconst 0, 1) := dk_3 (dk_at dksX3_meant_11 8 rfl rfl)
theorem dX3_meant_265 : decode cX3_meant 265 = .ok (.istore_n 3, 1) := dk_62 (dk_at dksX3_meant_11 9 rfl rfl)
theorem dX3_meant_266 : decode cX3_meant 266 = .ok (.iload_n 3, 1) := dk_29 (dk_at dksX3_meant_11 10 rfl rfl)
theorem dX3_meant_267 : decode cX3_meant 267 = .ok (.aload_n 0, 1) := dk_42 (dk_at dksX3_meant_11 11 rfl rfl)
theorem dX3_meant_268 : decode cX3_meant 268 = .ok (.getfield 21, 3) := dk_180 0 21 (dk_at dksX3_meant_11 12 rfl rfl)
theorem dX3_meant_271 : decode cX3_meant 271 = .ok (.iload_n 1, 1) := dk_27 (dk_at dksX3_meant_11 15 rfl rfl)
theorem dX3_meant_272 : decode cX3_meant 272 = .ok (.iaload, 1) := dk_46 (dk_at dksX3_meant_11 16 rfl rfl)
theorem dX3_meant_273 : decode cX3_meant 273 = .ok (.if_icmp .ge 26, 3) := dk_162 0 26 (dk_at dksX3_meant_11 17 rfl rfl)
theorem dX3_meant_276 : decode cX3_meant 276 = .ok (.aload_n 0, 1) := dk_42 (dk_at dksX3_meant_11 20 rfl rfl)
theorem dX3_meant_277 : decode cX3_meant 277 = .ok (.getfield 27, 3) := dk_180 0 27 (dk_at dksX3_meant_11 21 rfl rfl)
theorem dX3_meant_280 : decode cX3_meant 280 = .ok (.bipush 8, 2) := dk_16 8 (dk_at dksX3_meant_12 0 rfl rfl)
theorem dX3_meant_282 : decode cX3_meant 282 = .ok (.iload_n 1, 1) := dk_27 (dk_at dksX3_meant_12 2 rfl rfl)
theorem dX3_meant_283 : decode cX3_meant 283 = .ok (.imul, 1) := dk_104 (dk_at dksX3_meant_12 3 rfl rfl)
theorem dX3_meant_284 : decode cX3_meant 284 = .ok (.iload_n 3, 1) := dk_29 (dk_at dksX3_meant_12 4 rfl rfl)
theorem dX3_meant_285 : decode cX3_meant 285 = .ok (.iadd, 1) := dk_96 (dk_at dksX3_meant_12 5 rfl rfl)
theorem dX3_meant_286 : decode cX3_meant 286 = .ok (.aload_n 0, 1) := dk_42 (dk_at dksX3_meant_12 6 rfl rfl)
theorem dX3_meant_287 : decode cX3_meant 287 = .ok (.iload_n 1, 1) := dk_27 (dk_at dksX3_meant_12 7 rfl rfl)
theorem dX3_meant_288 : decode cX3_meant 288 = .ok (.iload_n 3, 1) := dk_29 (dk_at dksX3_meant_12 8 rfl rfl)
theorem dX3_meant_289 : decode cX3_meant 289 = .ok (.invokevirtual 292, 3) := dk_182 1 36 (dk_at dksX3_meant_12 9 rfl rfl)
theorem dX3_meant_292 : decode cX3_meant 292 = .ok (.iastore, 1) := dk_79 (dk_at dksX3_meant_12 12 rfl rfl)
theorem dX3_meant_293 : decode cX3_meant 293 = .ok (.iinc 3 1, 3) := dk_132 3 1 (dk_at dksX3_meant_12 13 rfl rfl)
theorem dX3_meant_296 : decode cX3_meant 296 = .ok (.goto (-30), 3) := dk_167 255 226 (dk_at dksX3_meant_12 16 rfl rfl)
theorem dX3_meant_299 : decode cX3_meant 299 = .ok (.aload_n 0, 1) := dk_42 (dk_at dksX3_meant_12 19 rfl rfl)
theorem dX3_meant_300 : decode cX3_meant 300 = .ok (.iload_n 1, 1) := dk_27 (dk_at dksX3_meant_12 20 rfl rfl)
theorem dX3_meant_301 : decode cX3_meant 301 = .ok (.invokevirtual 295, 3) := dk_182 1 39 (dk_at dksX3_meant_12 21 rfl rfl)
theorem dX3_meant_304 : decode cX3_meant 304 = .ok (.ifCond .eq 44, 3) := dk_153 0 44 (dk_at dksX3_meant_13 0 rfl rfl)
theorem dX3_meant_307 : decode cX3_meant 307 = .ok (.aload_n 0, 1) := dk_42 (dk_at dksX3_meant_13 3 rfl rfl)
theorem dX3_meant_308 : decode cX3_meant 308 = .ok (.iload_n 1, 1) := dk_27 (dk_at dksX3_meant_13 4 rfl rfl)
theorem dX3_meant_309 : decode cX3_meant 309 = .ok (.bipush 6, 2) := dk_16 6 (dk_at dksX3_meant_13 5 rfl rfl)
theorem dX3_meant_311 : decode cX3_meant 311 = .ok (.invokevirtual 292, 3) := dk_182 1 36 (dk_at dksX3_meant_13 7 rfl rfl)
theorem dX3_meant_314 : decode cX3_meant 314 = .ok (.istore_n 3, 1) := dk_62 (dk_at dksX3_meant_13 10 rfl rfl)
theorem dX3_meant_315 : decode cX3_meant 315 = .ok (.aload_n 0, 1) := dk_42 (dk_at dksX3_meant_13 11 rfl rfl)
theorem dX3_meant_316 : decode cX3_meant 316 = .ok (.iload_n 1, 1) := dk_27 (dk_at dksX3_meant_13 12 rfl rfl)
theorem dX3_meant_317 : decode cX3_meant 317 = .ok (.bipush 7, 2) := dk_16 7 (dk_at dksX3_meant_13 13 rfl rfl)
theorem dX3_meant_319 : decode cX3_meant 319 = .ok (.invokevirtual 292, 3) := dk_182 1 36 (dk_at dksX3_meant_13 15 rfl rfl)
theorem dX3_meant_322 : decode cX3_meant 322 = .ok (.istore 4, 2) := dk_54 4 (dk_at dksX3_meant_13 18 rfl rfl)
theorem dX3_meant_324 : decode cX3_meant 324 = .ok (.iload_n 3, 1) := dk_29 (dk_at dksX3_meant_13 20 rfl rfl)
theorem dX3_meant_325 : decode cX3_meant 325 = .ok (.ifCond .eq 23, 3) := dk_153 0 23 (dk_at dksX3_meant_13 21 rfl rfl)
theorem dX3_meant_328 : decode cX3_meant 328 = .ok (.iload 4, 2) := dk_21 4 (dk_at dksX3_meant_14 0 rfl rfl)
theorem dX3_meant_330 : decode cX3_meant 330 = .ok (.ifCond .eq 18, 3) := dk_153 0 18 (dk_at dksX3_meant_14 2 rfl rfl)
theorem dX3_meant_333 : decode cX3_meant 333 = .ok (.iload_n 3, 1) := dk_29 (dk_at dksX3_meant_14 5 rfl rfl)
theorem dX3_meant_334 : decode cX3_meant 334 = .ok (.iload 4, 2) := dk_21 4 (dk_at dksX3_meant_14 6 rfl rfl)
theorem dX3_meant_336 : decode cX3_meant 336 = .ok (.if_icmp .eq 12, 3) := dk_159 0 12 (dk_at dksX3_meant_14 8 rfl rfl)
theorem dX3_meant_339 : decode cX3_meant 339 = .ok (.aload_n 0, 1) := dk_42 (dk_at dksX3_meant_14 11 rfl rfl)
theorem dX3_meant_340 : decode cX3_meant 340 = .ok (.iconst 3, 1) := dk_6 (dk_at dksX3_meant_14 12 rfl rfl)
theorem dX3_meant_341 : decode cX3_meant 341 = .ok (.aload_n 0, 1) := dk_42 (dk_at dksX3_meant_14 13 rfl rfl)
theorem dX3_meant_342 : decode cX3_meant 342 = .ok (.getfield 252, 3) := dk_180 0 252 (dk_at dksX3_meant_14 14 rfl rfl)
theorem dX3_meant_345 : decode cX3_meant 345 = .ok (.invokevirtual 262, 3) := dk_182 1 6 (dk_at dksX3_meant_14 17 rfl rfl)
theorem dX3_meant_348 : decode cX3_meant 348 = .ok (.aload_n 0, 1) := dk_42 (dk_at dksX3_meant_14 20 rfl rfl)
theorem dX3_meant_349 : decode cX3_meant 349 = .ok (.iconst 0, 1) := dk_3 (dk_at dksX3_meant_14 21 rfl rfl)
theorem dX3_meant_350 : decode cX3_meant 350 = .ok (.putfield 258, 3) := dk_181 1 2 (dk_at dksX3_meant_15 0 rfl rfl)
theorem dX3_meant_353 : decode cX3_meant 353 = .ok (.return_, 1) := dk_177 (dk_at dksX3_meant_15 3 rfl rfl)
abbrev cX3_tableNamed : ByteArray := prog_14_method_24_code
def yX3_tableNamed : MethodName := ⟨RX3, "tableNamed", "(J)I"⟩
def dkwX3_tableNamed_1 : List UInt8 := [47, 31, 148, 154, 0, 5, 29, 172, 132, 3, 1, 167, 255, 223, 2, 172]
abbrev dktX3_tableNamed_1 : List UInt8 := dkwX3_tableNamed_1 ++ []
def dkwX3_tableNamed_0 : List UInt8 := [3, 62, 29, 42, 180, 0, 159, 162, 0, 31, 42, 180, 0, 7, 29, 51, 153, 0, 16, 42, 180, 0, 13, 29]
abbrev dktX3_tableNamed_0 : List UInt8 := dkwX3_tableNamed_0 ++ dktX3_tableNamed_1
theorem dksX3_tableNamed_0 : cX3_tableNamed.data.toList.drop 0 = dktX3_tableNamed_0 := by decide +kernel
theorem dksX3_tableNamed_1 : cX3_tableNamed.data.toList.drop 24 = dktX3_tableNamed_1 := dk_seg dksX3_tableNamed_0 24 rfl rfl
theorem dX3_tableNamed_0 : decode cX3_tableNamed 0 = .ok (.iconst 0, 1) := dk_3 (dk_at dksX3_tableNamed_0 0 rfl rfl)
theorem dX3_tableNamed_1 : decode cX3_tableNamed 1 = .ok (.istore_n 3, 1) := dk_62 (dk_at dksX3_tableNamed_0 1 rfl rfl)
theorem dX3_tableNamed_2 : decode cX3_tableNamed 2 = .ok (.iload_n 3, 1) := dk_29 (dk_at dksX3_tableNamed_0 2 rfl rfl)
theorem dX3_tableNamed_3 : decode cX3_tableNamed 3 = .ok (.aload_n 0, 1) := dk_42 (dk_at dksX3_tableNamed_0 3 rfl rfl)
theorem dX3_tableNamed_4 : decode cX3_tableNamed 4 = .ok (.getfield 159, 3) := dk_180 0 159 (dk_at dksX3_tableNamed_0 4 rfl rfl)
theorem dX3_tableNamed_7 : decode cX3_tableNamed 7 = .ok (.if_icmp .ge 31, 3) := dk_162 0 31 (dk_at dksX3_tableNamed_0 7 rfl rfl)
theorem dX3_tableNamed_10 : decode cX3_tableNamed 10 = .ok (.aload_n 0, 1) := dk_42 (dk_at dksX3_tableNamed_0 10 rfl rfl)
theorem dX3_tableNamed_11 : decode cX3_tableNamed 11 = .ok (.getfield 7, 3) := dk_180 0 7 (dk_at dksX3_tableNamed_0 11 rfl rfl)
theorem dX3_tableNamed_14 : decode cX3_tableNamed 14 = .ok (.iload_n 3, 1) := dk_29 (dk_at dksX3_tableNamed_0 14 rfl rfl)
theorem dX3_tableNamed_15 : decode cX3_tableNamed 15 = .ok (.baload, 1) := dk_51 (dk_at dksX3_tableNamed_0 15 rfl rfl)
theorem dX3_tableNamed_16 : decode cX3_tableNamed 16 = .ok (.ifCond .eq 16, 3) := dk_153 0 16 (dk_at dksX3_tableNamed_0 16 rfl rfl)
theorem dX3_tableNamed_19 : decode cX3_tableNamed 19 = .ok (.aload_n 0, 1) := dk_42 (dk_at dksX3_tableNamed_0 19 rfl rfl)
theorem dX3_tableNamed_20 : decode cX3_tableNamed 20 = .ok (.getfield 13, 3) := dk_180 0 13 (dk_at dksX3_tableNamed_0 20 rfl rfl)
theorem dX3_tableNamed_23 : decode cX3_tableNamed 23 = .ok (.iload_n 3, 1) := dk_29 (dk_at dksX3_tableNamed_0 23 rfl rfl)
theorem dX3_tableNamed_24 : decode cX3_tableNamed 24 = .ok (.laload, 1) := dk_47 (dk_at dksX3_tableNamed_1 0 rfl rfl)
theorem dX3_tableNamed_25 : decode cX3_tableNamed 25 = .ok (.lload_n 1, 1) := dk_31 (dk_at dksX3_tableNamed_1 1 rfl rfl)
theorem dX3_tableNamed_26 : decode cX3_tableNamed 26 = .ok (.lcmp, 1) := dk_148 (dk_at dksX3_tableNamed_1 2 rfl rfl)
theorem dX3_tableNamed_27 : decode cX3_tableNamed 27 = .ok (.ifCond .ne 5, 3) := dk_154 0 5 (dk_at dksX3_tableNamed_1 3 rfl rfl)
theorem dX3_tableNamed_30 : decode cX3_tableNamed 30 = .ok (.iload_n 3, 1) := dk_29 (dk_at dksX3_tableNamed_1 6 rfl rfl)
theorem dX3_tableNamed_31 : decode cX3_tableNamed 31 = .ok (.ireturn, 1) := dk_172 (dk_at dksX3_tableNamed_1 7 rfl rfl)
theorem dX3_tableNamed_32 : decode cX3_tableNamed 32 = .ok (.iinc 3 1, 3) := dk_132 3 1 (dk_at dksX3_tableNamed_1 8 rfl rfl)
theorem dX3_tableNamed_35 : decode cX3_tableNamed 35 = .ok (.goto (-33), 3) := dk_167 255 223 (dk_at dksX3_tableNamed_1 11 rfl rfl)
theorem dX3_tableNamed_38 : decode cX3_tableNamed 38 = .ok (.iconst (-1), 1) := dk_2 (dk_at dksX3_tableNamed_1 14 rfl rfl)
theorem dX3_tableNamed_39 : decode cX3_tableNamed 39 = .ok (.ireturn, 1) := dk_172 (dk_at dksX3_tableNamed_1 15 rfl rfl)
abbrev cX3_means : ByteArray := prog_14_method_23_code
def yX3_means : MethodName := ⟨RX3, "means", "(II)V"⟩
def dkwX3_means_1 : List UInt8 := [181, 0, 172, 177]
abbrev dktX3_means_1 : List UInt8 := dkwX3_means_1 ++ []
def dkwX3_means_0 : List UInt8 := [42, 180, 0, 169, 153, 0, 12, 42, 180, 0, 172, 28, 163, 0, 4, 177, 42, 27, 181, 0, 169, 42, 28]
abbrev dktX3_means_0 : List UInt8 := dkwX3_means_0 ++ dktX3_means_1
theorem dksX3_means_0 : cX3_means.data.toList.drop 0 = dktX3_means_0 := by decide +kernel
theorem dksX3_means_1 : cX3_means.data.toList.drop 23 = dktX3_means_1 := dk_seg dksX3_means_0 23 rfl rfl
theorem dX3_means_0 : decode cX3_means 0 = .ok (.aload_n 0, 1) := dk_42 (dk_at dksX3_means_0 0 rfl rfl)
theorem dX3_means_1 : decode cX3_means 1 = .ok (.getfield 169, 3) := dk_180 0 169 (dk_at dksX3_means_0 1 rfl rfl)
theorem dX3_means_4 : decode cX3_means 4 = .ok (.ifCond .eq 12, 3) := dk_153 0 12 (dk_at dksX3_means_0 4 rfl rfl)
theorem dX3_means_7 : decode cX3_means 7 = .ok (.aload_n 0, 1) := dk_42 (dk_at dksX3_means_0 7 rfl rfl)
theorem dX3_means_8 : decode cX3_means 8 = .ok (.getfield 172, 3) := dk_180 0 172 (dk_at dksX3_means_0 8 rfl rfl)
theorem dX3_means_11 : decode cX3_means 11 = .ok (.iload_n 2, 1) := dk_28 (dk_at dksX3_means_0 11 rfl rfl)
theorem dX3_means_12 : decode cX3_means 12 = .ok (.if_icmp .gt 4, 3) := dk_163 0 4 (dk_at dksX3_means_0 12 rfl rfl)
theorem dX3_means_15 : decode cX3_means 15 = .ok (.return_, 1) := dk_177 (dk_at dksX3_means_0 15 rfl rfl)
theorem dX3_means_16 : decode cX3_means 16 = .ok (.aload_n 0, 1) := dk_42 (dk_at dksX3_means_0 16 rfl rfl)
theorem dX3_means_17 : decode cX3_means 17 = .ok (.iload_n 1, 1) := dk_27 (dk_at dksX3_means_0 17 rfl rfl)
theorem dX3_means_18 : decode cX3_means 18 = .ok (.putfield 169, 3) := dk_181 0 169 (dk_at dksX3_means_0 18 rfl rfl)
theorem dX3_means_21 : decode cX3_means 21 = .ok (.aload_n 0, 1) := dk_42 (dk_at dksX3_means_0 21 rfl rfl)
theorem dX3_means_22 : decode cX3_means 22 = .ok (.iload_n 2, 1) := dk_28 (dk_at dksX3_means_0 22 rfl rfl)
theorem dX3_means_23 : decode cX3_means 23 = .ok (.putfield 172, 3) := dk_181 0 172 (dk_at dksX3_means_1 0 rfl rfl)
theorem dX3_means_26 : decode cX3_means 26 = .ok (.return_, 1) := dk_177 (dk_at dksX3_means_1 3 rfl rfl)
abbrev cX3_typeOf : ByteArray := prog_14_method_30_code
def yX3_typeOf : MethodName := ⟨RX3, "typeOf", "(II)I"⟩
def dkwX3_typeOf_15 : List UInt8 := [132, 3, 1, 167, 254, 189, 42, 180, 0, 114, 3, 46, 172]
abbrev dktX3_typeOf_15 : List UInt8 := dkwX3_typeOf_15 ++ []
def dkwX3_typeOf_14 : List UInt8 := [42, 180, 0, 51, 21, 4, 46, 79, 42, 180, 0, 120, 42, 180, 1, 9, 42, 180, 0, 54, 21, 4, 46, 79]
abbrev dktX3_typeOf_14 : List UInt8 := dkwX3_typeOf_14 ++ dktX3_typeOf_15
def dkwX3_typeOf_13 : List UInt8 := [160, 0, 8, 16, 110, 167, 0, 5, 16, 116, 182, 1, 15, 167, 0, 35, 42, 180, 0, 117, 42, 180, 1, 9]
abbrev dktX3_typeOf_13 : List UInt8 := dkwX3_typeOf_13 ++ dktX3_typeOf_14
def dkwX3_typeOf_12 : List UInt8 := [180, 1, 9, 46, 182, 1, 12, 42, 89, 180, 1, 9, 4, 100, 181, 1, 9, 42, 21, 6, 16, 116]
abbrev dktX3_typeOf_12 : List UInt8 := dkwX3_typeOf_12 ++ dktX3_typeOf_13
def dkwX3_typeOf_11 : List UInt8 := [180, 1, 9, 46, 54, 6, 21, 5, 153, 0, 23, 21, 5, 21, 6, 159, 0, 16, 42, 42, 180, 0, 126, 42]
abbrev dktX3_typeOf_11 : List UInt8 := dkwX3_typeOf_11 ++ dktX3_typeOf_12
def dkwX3_typeOf_10 : List UInt8 := [21, 4, 46, 16, 41, 160, 0, 81, 42, 180, 0, 114, 42, 180, 1, 9, 46, 54, 5, 42, 180, 0, 123, 42]
abbrev dktX3_typeOf_10 : List UInt8 := dkwX3_typeOf_10 ++ dktX3_typeOf_11
def dkwX3_typeOf_9 : List UInt8 := [4, 160, 0, 19, 42, 42, 27, 29, 182, 1, 21, 182, 1, 15, 132, 3, 2, 167, 0, 125, 42, 180, 0, 51]
abbrev dktX3_typeOf_9 : List UInt8 := dkwX3_typeOf_9 ++ dktX3_typeOf_10
def dkwX3_typeOf_8 : List UInt8 := [180, 1, 9, 42, 180, 0, 54, 21, 4, 46, 79, 132, 3, 1, 167, 0, 152, 42, 180, 0, 51, 21, 4, 46]
abbrev dktX3_typeOf_8 : List UInt8 := dkwX3_typeOf_8 ++ dktX3_typeOf_9
def dkwX3_typeOf_7 : List UInt8 := [182, 1, 18, 42, 180, 0, 99, 148, 154, 0, 8, 16, 116, 167, 0, 5, 16, 110, 79, 42, 180, 0, 126, 42]
abbrev dktX3_typeOf_7 : List UInt8 := dkwX3_typeOf_7 ++ dktX3_typeOf_8
def dkwX3_typeOf_6 : List UInt8 := [79, 42, 180, 0, 117, 42, 180, 1, 9, 3, 79, 42, 180, 0, 123, 42, 180, 1, 9, 42, 27, 29]
abbrev dktX3_typeOf_6 : List UInt8 := dkwX3_typeOf_6 ++ dktX3_typeOf_7
def dkwX3_typeOf_5 : List UInt8 := [16, 40, 160, 0, 85, 42, 89, 180, 1, 9, 4, 96, 181, 1, 9, 42, 180, 0, 114, 42, 180, 1, 9, 3]
abbrev dktX3_typeOf_5 : List UInt8 := dkwX3_typeOf_5 ++ dktX3_typeOf_6
def dkwX3_typeOf_4 : List UInt8 := [167, 1, 3, 42, 180, 0, 51, 21, 4, 46, 4, 160, 0, 99, 42, 180, 0, 51, 21, 4, 4, 96, 46]
abbrev dktX3_typeOf_4 : List UInt8 := dkwX3_typeOf_4 ++ dktX3_typeOf_5
def dkwX3_typeOf_3 : List UInt8 := [182, 1, 15, 167, 1, 23, 42, 180, 0, 51, 21, 4, 46, 6, 160, 0, 12, 42, 16, 116, 182, 1, 15]
abbrev dktX3_typeOf_3 : List UInt8 := dkwX3_typeOf_3 ++ dktX3_typeOf_4
def dkwX3_typeOf_2 : List UInt8 := [17, 1, 144, 27, 104, 29, 96, 54, 4, 42, 180, 0, 51, 21, 4, 46, 5, 160, 0, 12, 42, 16, 110]
abbrev dktX3_typeOf_2 : List UInt8 := dkwX3_typeOf_2 ++ dktX3_typeOf_3
def dkwX3_typeOf_1 : List UInt8 := [16, 8, 27, 104, 28, 96, 46, 62, 29, 42, 180, 0, 66, 16, 8, 27, 104, 28, 96, 46, 162, 1, 58]
abbrev dktX3_typeOf_1 : List UInt8 := dkwX3_typeOf_1 ++ dktX3_typeOf_2
def dkwX3_typeOf_0 : List UInt8 := [42, 3, 181, 1, 9, 42, 180, 0, 114, 3, 3, 79, 42, 180, 0, 117, 3, 3, 79, 42, 180, 0, 63]
abbrev dktX3_typeOf_0 : List UInt8 := dkwX3_typeOf_0 ++ dktX3_typeOf_1
theorem dksX3_typeOf_0 : cX3_typeOf.data.toList.drop 0 = dktX3_typeOf_0 := by decide +kernel
theorem dksX3_typeOf_1 : cX3_typeOf.data.toList.drop 23 = dktX3_typeOf_1 := dk_seg dksX3_typeOf_0 23 rfl rfl
theorem dksX3_typeOf_2 : cX3_typeOf.data.toList.drop 46 = dktX3_typeOf_2 := dk_seg dksX3_typeOf_1 23 rfl rfl
theorem dksX3_typeOf_3 : cX3_typeOf.data.toList.drop 69 = dktX3_typeOf_3 := dk_seg dksX3_typeOf_2 23 rfl rfl
theorem dksX3_typeOf_4 : cX3_typeOf.data.toList.drop 92 = dktX3_typeOf_4 := dk_seg dksX3_typeOf_3 23 rfl rfl
theorem dksX3_typeOf_5 : cX3_typeOf.data.toList.drop 115 = dktX3_typeOf_5 := dk_seg dksX3_typeOf_4 23 rfl rfl
theorem dksX3_typeOf_6 : cX3_typeOf.data.toList.drop 139 = dktX3_typeOf_6 := dk_seg dksX3_typeOf_5 24 rfl rfl
theorem dksX3_typeOf_7 : cX3_typeOf.data.toList.drop 161 = dktX3_typeOf_7 := dk_seg dksX3_typeOf_6 22 rfl rfl
theorem dksX3_typeOf_8 : cX3_typeOf.data.toList.drop 185 = dktX3_typeOf_8 := dk_seg dksX3_typeOf_7 24 rfl rfl
theorem dksX3_typeOf_9 : cX3_typeOf.data.toList.drop 209 = dktX3_typeOf_9 := dk_seg dksX3_typeOf_8 24 rfl rfl
theorem dksX3_typeOf_10 : cX3_typeOf.data.toList.drop 233 = dktX3_typeOf_10 := dk_seg dksX3_typeOf_9 24 rfl rfl
theorem dksX3_typeOf_11 : cX3_typeOf.data.toList.drop 257 = dktX3_typeOf_11 := dk_seg dksX3_typeOf_10 24 rfl rfl
theorem dksX3_typeOf_12 : cX3_typeOf.data.toList.drop 281 = dktX3_typeOf_12 := dk_seg dksX3_typeOf_11 24 rfl rfl
theorem dksX3_typeOf_13 : cX3_typeOf.data.toList.drop 303 = dktX3_typeOf_13 := dk_seg dksX3_typeOf_12 22 rfl rfl
theorem dksX3_typeOf_14 : cX3_typeOf.data.toList.drop 327 = dktX3_typeOf_14 := dk_seg dksX3_typeOf_13 24 rfl rfl
theorem dksX3_typeOf_15 : cX3_typeOf.data.toList.drop 351 = dktX3_typeOf_15 := dk_seg dksX3_typeOf_14 24 rfl rfl
theorem dX3_typeOf_0 : decode cX3_typeOf 0 = .ok (.aload_n 0, 1) := dk_42 (dk_at dksX3_typeOf_0 0 rfl rfl)
theorem dX3_typeOf_1 : decode cX3_typeOf 1 = .ok (.iconst 0, 1) := dk_3 (dk_at dksX3_typeOf_0 1 rfl rfl)
theorem dX3_typeOf_2 : decode cX3_typeOf 2 = .ok (.putfield 265, 3) := dk_181 1 9 (dk_at dksX3_typeOf_0 2 rfl rfl)
theorem dX3_typeOf_5 : decode cX3_typeOf 5 = .ok (.aload_n 0, 1) := dk_42 (dk_at dksX3_typeOf_0 5 rfl rfl)
theorem dX3_typeOf_6 : decode cX3_typeOf 6 = .ok (.getfield 114, 3) := dk_180 0 114 (dk_at dksX3_typeOf_0 6 rfl rfl)
theorem dX3_typeOf_9 : decode cX3_typeOf 9 = .ok (.iconst 0, 1) := dk_3 (dk_at dksX3_typeOf_0 9 rfl rfl)
theorem dX3_typeOf_10 : decode cX3_typeOf 10 = .ok (.iconst 0, 1) := dk_3 (dk_at dksX3_typeOf_0 10 rfl rfl)
theorem dX3_typeOf_11 : decode cX3_typeOf 11 = .ok (.iastore, 1) := dk_79 (dk_at dksX3_typeOf_0 11 rfl rfl)
theorem dX3_typeOf_12 : decode cX3_typeOf 12 = .ok (.aload_n 0, 1) := dk_42 (dk_at dksX3_typeOf_0 12 rfl rfl)
theorem dX3_typeOf_13 : decode cX3_typeOf 13 = .ok (.getfield 117, 3) := dk_180 0 117 (dk_at dksX3_typeOf_0 13 rfl rfl)
theorem dX3_typeOf_16 : decode cX3_typeOf 16 = .ok (.iconst 0, 1) := dk_3 (dk_at dksX3_typeOf_0 16 rfl rfl)
theorem dX3_typeOf_17 : decode cX3_typeOf 17 = .ok (.iconst 0, 1) := dk_3 (dk_at dksX3_typeOf_0 17 rfl rfl)
theorem dX3_typeOf_18 : decode cX3_typeOf 18 = .ok (.iastore, 1) := dk_79 (dk_at dksX3_typeOf_0 18 rfl rfl)
theorem dX3_typeOf_19 : decode cX3_typeOf 19 = .ok (.aload_n 0, 1) := dk_42 (dk_at dksX3_typeOf_0 19 rfl rfl)
theorem dX3_typeOf_20 : decode cX3_typeOf 20 = .ok (.getfield 63, 3) := dk_180 0 63 (dk_at dksX3_typeOf_0 20 rfl rfl)
theorem dX3_typeOf_23 : decode cX3_typeOf 23 = .ok (.bipush 8, 2) := dk_16 8 (dk_at dksX3_typeOf_1 0 rfl rfl)
theorem dX3_typeOf_25 : decode cX3_typeOf 25 = .ok (.iload_n 1, 1) := dk_27 (dk_at dksX3_typeOf_1 2 rfl rfl)
theorem dX3_typeOf_26 : decode cX3_typeOf 26 = .ok (.imul, 1) := dk_104 (dk_at dksX3_typeOf_1 3 rfl rfl)
theorem dX3_typeOf_27 : decode cX3_typeOf 27 = .ok (.iload_n 2, 1) := dk_28 (dk_at dksX3_typeOf_1 4 rfl rfl)
theorem dX3_typeOf_28 : decode cX3_typeOf 28 = .ok (.iadd, 1) := dk_96 (dk_at dksX3_typeOf_1 5 rfl rfl)
theorem dX3_typeOf_29 : decode cX3_typeOf 29 = .ok (.iaload, 1) := dk_46 (dk_at dksX3_typeOf_1 6 rfl rfl)
theorem dX3_typeOf_30 : decode cX3_typeOf 30 = .ok (.istore_n 3, 1) := dk_62 (dk_at dksX3_typeOf_1 7 rfl rfl)
theorem dX3_typeOf_31 : decode cX3_typeOf 31 = .ok (.iload_n 3, 1) := dk_29 (dk_at dksX3_typeOf_1 8 rfl rfl)
theorem dX3_typeOf_32 : decode cX3_typeOf 32 = .ok (.aload_n 0, 1) := dk_42 (dk_at dksX3_typeOf_1 9 rfl rfl)
theorem dX3_typeOf_33 : decode cX3_typeOf 33 = .ok (.getfield 66, 3) := dk_180 0 66 (dk_at dksX3_typeOf_1 10 rfl rfl)
theorem dX3_typeOf_36 : decode cX3_typeOf 36 = .ok (.bipush 8, 2) := dk_16 8 (dk_at dksX3_typeOf_1 13 rfl rfl)
theorem dX3_typeOf_38 : decode cX3_typeOf 38 = .ok (.iload_n 1, 1) := dk_27 (dk_at dksX3_typeOf_1 15 rfl rfl)
theorem dX3_typeOf_39 : decode cX3_typeOf 39 = .ok (.imul, 1) := dk_104 (dk_at dksX3_typeOf_1 16 rfl rfl)
theorem dX3_typeOf_40 : decode cX3_typeOf 40 = .ok (.iload_n 2, 1) := dk_28 (dk_at dksX3_typeOf_1 17 rfl rfl)
theorem dX3_typeOf_41 : decode cX3_typeOf 41 = .ok (.iadd, 1) := dk_96 (dk_at dksX3_typeOf_1 18 rfl rfl)
theorem dX3_typeOf_42 : decode cX3_typeOf 42 = .ok (.iaload, 1) := dk_46 (dk_at dksX3_typeOf_1 19 rfl rfl)
theorem dX3_typeOf_43 : decode cX3_typeOf 43 = .ok (.if_icmp .ge 314, 3) := dk_162 1 58 (dk_at dksX3_typeOf_1 20 rfl rfl)
theorem dX3_typeOf_46 : decode cX3_typeOf 46 = .ok (.sipush 400, 3) := dk_17 1 144 (dk_at dksX3_typeOf_2 0 rfl rfl)
theorem dX3_typeOf_49 : decode cX3_typeOf 49 = .ok (.iload_n 1, 1) := dk_27 (dk_at dksX3_typeOf_2 3 rfl rfl)
theorem dX3_typeOf_50 : decode cX3_typeOf 50 = .ok (.imul, 1) := dk_104 (dk_at dksX3_typeOf_2 4 rfl rfl)
theorem dX3_typeOf_51 : decode cX3_typeOf 51 = .ok (.iload_n 3, 1) := dk_29 (dk_at dksX3_typeOf_2 5 rfl rfl)
theorem dX3_typeOf_52 : decode cX3_typeOf 52 = .ok (.iadd, 1) := dk_96 (dk_at dksX3_typeOf_2 6 rfl rfl)
theorem dX3_typeOf_53 : decode cX3_typeOf 53 = .ok (.istore 4, 2) := dk_54 4 (dk_at dksX3_typeOf_2 7 rfl rfl)
theorem dX3_typeOf_55 : decode cX3_typeOf 55 = .ok (.aload_n 0, 1) := dk_42 (dk_at dksX3_typeOf_2 9 rfl rfl)
theorem dX3_typeOf_56 : decode cX3_typeOf 56 = .ok (.getfield 51, 3) := dk_180 0 51 (dk_at dksX3_typeOf_2 10 rfl rfl)
theorem dX3_typeOf_59 : decode cX3_typeOf 59 = .ok (.iload 4, 2) := dk_21 4 (dk_at dksX3_typeOf_2 13 rfl rfl)
theorem dX3_typeOf_61 : decode cX3_typeOf 61 = .ok (.iaload, 1) := dk_46 (dk_at dksX3_typeOf_2 15 rfl rfl)
theorem dX3_typeOf_62 : decode cX3_typeOf 62 = .ok (.iconst 2, 1) := dk_5 (dk_at dksX3_typeOf_2 16 rfl rfl)
theorem dX3_typeOf_63 : decode cX3_typeOf 63 = .ok (.if_icmp .ne 12, 3) := dk_160 0 12 (dk_at dksX3_typeOf_2 17 rfl rfl)
theorem dX3_typeOf_66 : decode cX3_typeOf 66 = .ok (.aload_n 0, 1) := dk_42 (dk_at dksX3_typeOf_2 20 rfl rfl)
theorem dX3_typeOf_67 : decode cX3_typeOf 67 = .ok (.bipush 110, 2) := dk_16 110 (dk_at dksX3_typeOf_2 21 rfl rfl)
theorem dX3_typeOf_69 : decode cX3_typeOf 69 = .ok (.invokevirtual 271, 3) := dk_182 1 15 (dk_at dksX3_typeOf_3 0 rfl rfl)
theorem dX3_typeOf_72 : decode cX3_typeOf 72 = .ok (.goto 279, 3) := dk_167 1 23 (dk_at dksX3_typeOf_3 3 rfl rfl)
theorem dX3_typeOf_75 : decode cX3_typeOf 75 = .ok (.aload_n 0, 1) := dk_42 (dk_at dksX3_typeOf_3 6 rfl rfl)
theorem dX3_typeOf_76 : decode cX3_typeOf 76 = .ok (.getfield 51, 3) := dk_180 0 51 (dk_at dksX3_typeOf_3 7 rfl rfl)
theorem dX3_typeOf_79 : decode cX3_typeOf 79 = .ok (.iload 4, 2) := dk_21 4 (dk_at dksX3_typeOf_3 10 rfl rfl)
theorem dX3_typeOf_81 : decode cX3_typeOf 81 = .ok (.iaload, 1) := dk_46 (dk_at dksX3_typeOf_3 12 rfl rfl)
theorem dX3_typeOf_82 : decode cX3_typeOf 82 = .ok (.iconst 3, 1) := dk_6 (dk_at dksX3_typeOf_3 13 rfl rfl)
theorem dX3_typeOf_83 : decode cX3_typeOf 83 = .ok (.if_icmp .ne 12, 3) := dk_160 0 12 (dk_at dksX3_typeOf_3 14 rfl rfl)
theorem dX3_typeOf_86 : decode cX3_typeOf 86 = .ok (.aload_n 0, 1) := dk_42 (dk_at dksX3_typeOf_3 17 rfl rfl)
theorem dX3_typeOf_87 : decode cX3_typeOf 87 = .ok (.bipush 116, 2) := dk_16 116 (dk_at dksX3_typeOf_3 18 rfl rfl)
theorem dX3_typeOf_89 : decode cX3_typeOf 89 = .ok (.invokevirtual 271, 3) := dk_182 1 15 (dk_at dksX3_typeOf_3 20 rfl rfl)
theorem dX3_typeOf_92 : decode cX3_typeOf 92 = .ok (.goto 259, 3) := dk_167 1 3 (dk_at dksX3_typeOf_4 0 rfl rfl)
theorem dX3_typeOf_95 : decode cX3_typeOf 95 = .ok (.aload_n 0, 1) := dk_42 (dk_at dksX3_typeOf_4 3 rfl rfl)
theorem dX3_typeOf_96 : decode cX3_typeOf 96 = .ok (.getfield 51, 3) := dk_180 0 51 (dk_at dksX3_typeOf_4 4 rfl rfl)
theorem dX3_typeOf_99 : decode cX3_typeOf 99 = .ok (.iload 4, 2) := dk_21 4 (dk_at dksX3_typeOf_4 7 rfl rfl)
theorem dX3_typeOf_101 : decode cX3_typeOf 101 = .ok (.iaload, 1) := dk_46 (dk_at dksX3_typeOf_4 9 rfl rfl)
theorem dX3_typeOf_102 : decode cX3_typeOf 102 = .ok (.iconst 1, 1) := dk_4 (dk_at dksX3_typeOf_4 10 rfl rfl)
theorem dX3_typeOf_103 : decode cX3_typeOf 103 = .ok (.if_icmp .ne 99, 3) := dk_160 0 99 (dk_at dksX3_typeOf_4 11 rfl rfl)
theorem dX3_typeOf_106 : decode cX3_typeOf 106 = .ok (.aload_n 0, 1) := dk_42 (dk_at dksX3_typeOf_4 14 rfl rfl)
theorem dX3_typeOf_107 : decode cX3_typeOf 107 = .ok (.getfield 51, 3) := dk_180 0 51 (dk_at dksX3_typeOf_4 15 rfl rfl)
theorem dX3_typeOf_110 : decode cX3_typeOf 110 = .ok (.iload 4, 2) := dk_21 4 (dk_at dksX3_typeOf_4 18 rfl rfl)
theorem dX3_typeOf_112 : decode cX3_typeOf 112 = .ok (.iconst 1, 1) := dk_4 (dk_at dksX3_typeOf_4 20 rfl rfl)
theorem dX3_typeOf_113 : decode cX3_typeOf 113 = .ok (.iadd, 1) := dk_96 (dk_at dksX3_typeOf_4 21 rfl rfl)
theorem dX3_typeOf_114 : decode cX3_typeOf 114 = .ok (.iaload, 1) := dk_46 (dk_at dksX3_typeOf_4 22 rfl rfl)
theorem dX3_typeOf_115 : decode cX3_typeOf 115 = .ok (.bipush 40, 2) := dk_16 40 (dk_at dksX3_typeOf_5 0 rfl rfl)
theorem dX3_typeOf_117 : decode cX3_typeOf 117 = .ok (.if_icmp .ne 85, 3) := dk_160 0 85 (dk_at dksX3_typeOf_5 2 rfl rfl)
theorem dX3_typeOf_120 : decode cX3_typeOf 120 = .ok (.aload_n 0, 1) := dk_42 (dk_at dksX3_typeOf_5 5 rfl rfl)
theorem dX3_typeOf_121 : decode cX3_typeOf 121 = .ok (.dup, 1) := dk_89 (dk_at dksX3_typeOf_5 6 rfl rfl)
theorem dX3_typeOf_122 : decode cX3_typeOf 122 = .ok (.getfield 265, 3) := dk_180 1 9 (dk_at dksX3_typeOf_5 7 rfl rfl)
theorem dX3_typeOf_125 : decode cX3_typeOf 125 = .ok (.iconst 1, 1) := dk_4 (dk_at dksX3_typeOf_5 10 rfl rfl)
theorem dX3_typeOf_126 : decode cX3_typeOf 126 = .ok (.iadd, 1) := dk_96 (dk_at dksX3_typeOf_5 11 rfl rfl)
theorem dX3_typeOf_127 : decode cX3_typeOf 127 = .ok (.putfield 265, 3) := dk_181 1 9 (dk_at dksX3_typeOf_5 12 rfl rfl)
theorem dX3_typeOf_130 : decode cX3_typeOf 130 = .ok (.aload_n 0, 1) := dk_42 (dk_at dksX3_typeOf_5 15 rfl rfl)
theorem dX3_typeOf_131 : decode cX3_typeOf 131 = .ok (.getfield 114, 3) := dk_180 0 114 (dk_at dksX3_typeOf_5 16 rfl rfl)
theorem dX3_typeOf_134 : decode cX3_typeOf 134 = .ok (.aload_n 0, 1) := dk_42 (dk_at dksX3_typeOf_5 19 rfl rfl)
theorem dX3_typeOf_135 : decode cX3_typeOf 135 = .ok (.getfield 265, 3) := dk_180 1 9 (dk_at dksX3_typeOf_5 20 rfl rfl)
theorem dX3_typeOf_138 : decode cX3_typeOf 138 = .ok (.iconst 0, 1) := dk_3 (dk_at dksX3_typeOf_5 23 rfl rfl)
theorem dX3_typeOf_139 : decode cX3_typeOf 139 = .ok (.iastore, 1) := dk_79 (dk_at dksX3_typeOf_6 0 rfl rfl)
theorem dX3_typeOf_140 : decode cX3_typeOf 140 = .ok (.aload_n 0, 1) := dk_42 (dk_at dksX3_typeOf_6 1 rfl rfl)
theorem dX3_typeOf_141 : decode cX3_typeOf 141 = .ok (.getfield 117, 3) := dk_180 0 117 (dk_at dksX3_typeOf_6 2 rfl rfl)
theorem dX3_typeOf_144 : decode cX3_typeOf 144 = .ok (.aload_n 0, 1) := dk_42 (dk_at dksX3_typeOf_6 5 rfl rfl)
theorem dX3_typeOf_145 : decode cX3_typeOf 145 = .ok (.getfield 265, 3) := dk_180 1 9 (dk_at dksX3_typeOf_6 6 rfl rfl)
theorem dX3_typeOf_148 : decode cX3_typeOf 148 = .ok (.iconst 0, 1) := dk_3 (dk_at dksX3_typeOf_6 9 rfl rfl)
theorem dX3_typeOf_149 : decode cX3_typeOf 149 = .ok (.iastore, 1) := dk_79 (dk_at dksX3_typeOf_6 10 rfl rfl)
theorem dX3_typeOf_150 : decode cX3_typeOf 150 = .ok (.aload_n 0, 1) := dk_42 (dk_at dksX3_typeOf_6 11 rfl rfl)
theorem dX3_typeOf_151 : decode cX3_typeOf 151 = .ok (.getfield 123, 3) := dk_180 0 123 (dk_at dksX3_typeOf_6 12 rfl rfl)
theorem dX3_typeOf_154 : decode cX3_typeOf 154 = .ok (.aload_n 0, 1) := dk_42 (dk_at dksX3_typeOf_6 15 rfl rfl)
theorem dX3_typeOf_155 : decode cX3_typeOf 155 = .ok (.getfield 265, 3) := dk_180 1 9 (dk_at dksX3_typeOf_6 16 rfl rfl)
theorem dX3_typeOf_158 : decode cX3_typeOf 158 = .ok (.aload_n 0, 1) := dk_42 (dk_at dksX3_typeOf_6 19 rfl rfl)
theorem dX3_typeOf_159 : decode cX3_typeOf 159 = .ok (.iload_n 1, 1) := dk_27 (dk_at dksX3_typeOf_6 20 rfl rfl)
theorem dX3_typeOf_160 : decode cX3_typeOf 160 = .ok (.iload_n 3, 1) := dk_29 (dk_at dksX3_typeOf_6 21 rfl rfl)
theorem dX3_typeOf_161 : decode cX3_typeOf 161 = .ok (.invokevirtual 274, 3) := dk_182 1 18 (dk_at dksX3_typeOf_7 0 rfl rfl)
theorem dX3_typeOf_164 : decode cX3_typeOf 164 = .ok (.aload_n 0, 1) := dk_42 (dk_at dksX3_typeOf_7 3 rfl rfl)
theorem dX3_typeOf_165 : decode cX3_typeOf 165 = .ok (.getfield 99, 3) := dk_180 0 99 (dk_at dksX3_typeOf_7 4 rfl rfl)
theorem dX3_typeOf_168 : decode cX3_typeOf 168 = .ok (.lcmp, 1) := dk_148 (dk_at dksX3_typeOf_7 7 rfl rfl)
theorem dX3_typeOf_169 : decode cX3_typeOf 169 = .ok (.ifCond .ne 8, 3) := dk_154 0 8 (dk_at dksX3_typeOf_7 8 rfl rfl)
theorem dX3_typeOf_172 : decode cX3_typeOf 172 = .ok (.bipush 116, 2) := dk_16 116 (dk_at dksX3_typeOf_7 11 rfl rfl)
theorem dX3_typeOf_174 : decode cX3_typeOf 174 = .ok (.goto 5, 3) := dk_167 0 5 (dk_at dksX3_typeOf_7 13 rfl rfl)
theorem dX3_typeOf_177 : decode cX3_typeOf 177 = .ok (.bipush 110, 2) := dk_16 110 (dk_at dksX3_typeOf_7 16 rfl rfl)
theorem dX3_typeOf_179 : decode cX3_typeOf 179 = .ok (.iastore, 1) := dk_79 (dk_at dksX3_typeOf_7 18 rfl rfl)
theorem dX3_typeOf_180 : decode cX3_typeOf 180 = .ok (.aload_n 0, 1) := dk_42 (dk_at dksX3_typeOf_7 19 rfl rfl)
theorem dX3_typeOf_181 : decode cX3_typeOf 181 = .ok (.getfield 126, 3) := dk_180 0 126 (dk_at dksX3_typeOf_7 20 rfl rfl)
theorem dX3_typeOf_184 : decode cX3_typeOf 184 = .ok (.aload_n 0, 1) := dk_42 (dk_at dksX3_typeOf_7 23 rfl rfl)
theorem dX3_typeOf_185 : decode cX3_typeOf 185 = .ok (.getfield 265, 3) := dk_180 1 9 (dk_at dksX3_typeOf_8 0 rfl rfl)
theorem dX3_typeOf_188 : decode cX3_typeOf 188 = .ok (.aload_n 0, 1) := dk_42 (dk_at dksX3_typeOf_8 3 rfl rfl)
theorem dX3_typeOf_189 : decode cX3_typeOf 189 = .ok (.getfield 54, 3) := dk_180 0 54 (dk_at dksX3_typeOf_8 4 rfl rfl)
theorem dX3_typeOf_192 : decode cX3_typeOf 192 = .ok (.iload 4, 2) := dk_21 4 (dk_at dksX3_typeOf_8 7 rfl rfl)
theorem dX3_typeOf_194 : decode cX3_typeOf 194 = .ok (.iaload, 1) := dk_46 (dk_at dksX3_typeOf_8 9 rfl rfl)
theorem dX3_typeOf_195 : decode cX3_typeOf 195 = .ok (.iastore, 1) := dk_79 (dk_at dksX3_typeOf_8 10 rfl rfl)
theorem dX3_typeOf_196 : decode cX3_typeOf 196 = .ok (.iinc 3 1, 3) := dk_132 3 1 (dk_at dksX3_typeOf_8 11 rfl rfl)
theorem dX3_typeOf_199 : decode cX3_typeOf 199 = .ok (.goto 152, 3) := dk_167 0 152 (dk_at dksX3_typeOf_8 14 rfl rfl)
theorem dX3_typeOf_202 : decode cX3_typeOf 202 = .ok (.aload_n 0, 1) := dk_42 (dk_at dksX3_typeOf_8 17 rfl rfl)
theorem dX3_typeOf_203 : decode cX3_typeOf 203 = .ok (.getfield 51, 3) := dk_180 0 51 (dk_at dksX3_typeOf_8 18 rfl rfl)
theorem dX3_typeOf_206 : decode cX3_typeOf 206 = .ok (.iload 4, 2) := dk_21 4 (dk_at dksX3_typeOf_8 21 rfl rfl)
theorem dX3_typeOf_208 : decode cX3_typeOf 208 = .ok (.iaload, 1) := dk_46 (dk_at dksX3_typeOf_8 23 rfl rfl)
theorem dX3_typeOf_209 : decode cX3_typeOf 209 = .ok (.iconst 1, 1) := dk_4 (dk_at dksX3_typeOf_9 0 rfl rfl)
theorem dX3_typeOf_210 : decode cX3_typeOf 210 = .ok (.if_icmp .ne 19, 3) := dk_160 0 19 (dk_at dksX3_typeOf_9 1 rfl rfl)
theorem dX3_typeOf_213 : decode cX3_typeOf 213 = .ok (.aload_n 0, 1) := dk_42 (dk_at dksX3_typeOf_9 4 rfl rfl)
theorem dX3_typeOf_214 : decode cX3_typeOf 214 = .ok (.aload_n 0, 1) := dk_42 (dk_at dksX3_typeOf_9 5 rfl rfl)
theorem dX3_typeOf_215 : decode cX3_typeOf 215 = .ok (.iload_n 1, 1) := dk_27 (dk_at dksX3_typeOf_9 6 rfl rfl)
theorem dX3_typeOf_216 : decode cX3_typeOf 216 = .ok (.iload_n 3, 1) := dk_29 (dk_at dksX3_typeOf_9 7 rfl rfl)
theorem dX3_typeOf_217 : decode cX3_typeOf 217 = .ok (.invokevirtual 277, 3) := dk_182 1 21 (dk_at dksX3_typeOf_9 8 rfl rfl)
theorem dX3_typeOf_220 : decode cX3_typeOf 220 = .ok (.invokevirtual 271, 3) := dk_182 1 15 (dk_at dksX3_typeOf_9 11 rfl rfl)
theorem dX3_typeOf_223 : decode cX3_typeOf 223 = .ok (.iinc 3 2, 3) := dk_132 3 2 (dk_at dksX3_typeOf_9 14 rfl rfl)
theorem dX3_typeOf_226 : decode cX3_typeOf 226 = .ok (.goto 125, 3) := dk_167 0 125 (dk_at dksX3_typeOf_9 17 rfl rfl)
theorem dX3_typeOf_229 : decode cX3_typeOf 229 = .ok (.aload_n 0, 1) := dk_42 (dk_at dksX3_typeOf_9 20 rfl rfl)
theorem dX3_typeOf_230 : decode cX3_typeOf 230 = .ok (.getfield 51, 3) := dk_180 0 51 (dk_at dksX3_typeOf_9 21 rfl rfl)
theorem dX3_typeOf_233 : decode cX3_typeOf 233 = .ok (.iload 4, 2) := dk_21 4 (dk_at dksX3_typeOf_10 0 rfl rfl)
theorem dX3_typeOf_235 : decode cX3_typeOf 235 = .ok (.iaload, 1) := dk_46 (dk_at dksX3_typeOf_10 2 rfl rfl)
theorem dX3_typeOf_236 : decode cX3_typeOf 236 = .ok (.bipush 41, 2) := dk_16 41 (dk_at dksX3_typeOf_10 3 rfl rfl)
theorem dX3_typeOf_238 : decode cX3_typeOf 238 = .ok (.if_icmp .ne 81, 3) := dk_160 0 81 (dk_at dksX3_typeOf_10 5 rfl rfl)
theorem dX3_typeOf_241 : decode cX3_typeOf 241 = .ok (.aload_n 0, 1) := dk_42 (dk_at dksX3_typeOf_10 8 rfl rfl)
theorem dX3_typeOf_242 : decode cX3_typeOf 242 = .ok (.getfield 114, 3) := dk_180 0 114 (dk_at dksX3_typeOf_10 9 rfl rfl)
theorem dX3_typeOf_245 : decode cX3_typeOf 245 = .ok (.aload_n 0, 1) := dk_42 (dk_at dksX3_typeOf_10 12 rfl rfl)
theorem dX3_typeOf_246 : decode cX3_typeOf 246 = .ok (.getfield 265, 3) := dk_180 1 9 (dk_at dksX3_typeOf_10 13 rfl rfl)
theorem dX3_typeOf_249 : decode cX3_typeOf 249 = .ok (.iaload, 1) := dk_46 (dk_at dksX3_typeOf_10 16 rfl rfl)
theorem dX3_typeOf_250 : decode cX3_typeOf 250 = .ok (.istore 5, 2) := dk_54 5 (dk_at dksX3_typeOf_10 17 rfl rfl)
theorem dX3_typeOf_252 : decode cX3_typeOf 252 = .ok (.aload_n 0, 1) := dk_42 (dk_at dksX3_typeOf_10 19 rfl rfl)
theorem dX3_typeOf_253 : decode cX3_typeOf 253 = .ok (.getfield 123, 3) := dk_180 0 123 (dk_at dksX3_typeOf_10 20 rfl rfl)
theorem dX3_typeOf_256 : decode cX3_typeOf 256 = .ok (.aload_n 0, 1) := dk_42 (dk_at dksX3_typeOf_10 23 rfl rfl)
theorem dX3_typeOf_257 : decode cX3_typeOf 257 = .ok (.getfield 265, 3) := dk_180 1 9 (dk_at dksX3_typeOf_11 0 rfl rfl)
theorem dX3_typeOf_260 : decode cX3_typeOf 260 = .ok (.iaload, 1) := dk_46 (dk_at dksX3_typeOf_11 3 rfl rfl)
theorem dX3_typeOf_261 : decode cX3_typeOf 261 = .ok (.istore 6, 2) := dk_54 6 (dk_at dksX3_typeOf_11 4 rfl rfl)
theorem dX3_typeOf_263 : decode cX3_typeOf 263 = .ok (.iload 5, 2) := dk_21 5 (dk_at dksX3_typeOf_11 6 rfl rfl)
theorem dX3_typeOf_265 : decode cX3_typeOf 265 = .ok (.ifCond .eq 23, 3) := dk_153 0 23 (dk_at dksX3_typeOf_11 8 rfl rfl)
theorem dX3_typeOf_268 : decode cX3_typeOf 268 = .ok (.iload 5, 2) := dk_21 5 (dk_at dksX3_typeOf_11 11 rfl rfl)
theorem dX3_typeOf_270 : decode cX3_typeOf 270 = .ok (.iload 6, 2) := dk_21 6 (dk_at dksX3_typeOf_11 13 rfl rfl)
theorem dX3_typeOf_272 : decode cX3_typeOf 272 = .ok (.if_icmp .eq 16, 3) := dk_159 0 16 (dk_at dksX3_typeOf_11 15 rfl rfl)
theorem dX3_typeOf_275 : decode cX3_typeOf 275 = .ok (.aload_n 0, 1) := dk_42 (dk_at dksX3_typeOf_11 18 rfl rfl)
theorem dX3_typeOf_276 : decode cX3_typeOf 276 = .ok (.aload_n 0, 1) := dk_42 (dk_at dksX3_typeOf_11 19 rfl rfl)
theorem dX3_typeOf_277 : decode cX3_typeOf 277 = .ok (.getfield 126, 3) := dk_180 0 126 (dk_at dksX3_typeOf_11 20 rfl rfl)
theorem dX3_typeOf_280 : decode cX3_typeOf 280 = .ok (.aload_n 0, 1) := dk_42 (dk_at dksX3_typeOf_11 23 rfl rfl)
theorem dX3_typeOf_281 : decode cX3_typeOf 281 = .ok (.getfield 265, 3) := dk_180 1 9 (dk_at dksX3_typeOf_12 0 rfl rfl)
theorem dX3_typeOf_284 : decode cX3_typeOf 284 = .ok (.iaload, 1) := dk_46 (dk_at dksX3_typeOf_12 3 rfl rfl)
theorem dX3_typeOf_285 : decode cX3_typeOf 285 = .ok (.invokevirtual 268, 3) := dk_182 1 12 (dk_at dksX3_typeOf_12 4 rfl rfl)
theorem dX3_typeOf_288 : decode cX3_typeOf 288 = .ok (.aload_n 0, 1) := dk_42 (dk_at dksX3_typeOf_12 7 rfl rfl)
theorem dX3_typeOf_289 : decode cX3_typeOf 289 = .ok (.dup, 1) := dk_89 (dk_at dksX3_typeOf_12 8 rfl rfl)
theorem dX3_typeOf_290 : decode cX3_typeOf 290 = .ok (.getfield 265, 3) := dk_180 1 9 (dk_at dksX3_typeOf_12 9 rfl rfl)
theorem dX3_typeOf_293 : decode cX3_typeOf 293 = .ok (.iconst 1, 1) := dk_4 (dk_at dksX3_typeOf_12 12 rfl rfl)
theorem dX3_typeOf_294 : decode cX3_typeOf 294 = .ok (.isub, 1) := dk_100 (dk_at dksX3_typeOf_12 13 rfl rfl)
theorem dX3_typeOf_295 : decode cX3_typeOf 295 = .ok (.putfield 265, 3) := dk_181 1 9 (dk_at dksX3_typeOf_12 14 rfl rfl)
theorem dX3_typeOf_298 : decode cX3_typeOf 298 = .ok (.aload_n 0, 1) := dk_42 (dk_at dksX3_typeOf_12 17 rfl rfl)
theorem dX3_typeOf_299 : decode cX3_typeOf 299 = .ok (.iload 6, 2) := dk_21 6 (dk_at dksX3_typeOf_12 18 rfl rfl)
theorem dX3_typeOf_301 : decode cX3_typeOf 301 = .ok (.bipush 116, 2) := dk_16 116 (dk_at dksX3_typeOf_12 20 rfl rfl)
theorem dX3_typeOf_303 : decode cX3_typeOf 303 = .ok (.if_icmp .ne 8, 3) := dk_160 0 8 (dk_at dksX3_typeOf_13 0 rfl rfl)
theorem dX3_typeOf_306 : decode cX3_typeOf 306 = .ok (.bipush 110, 2) := dk_16 110 (dk_at dksX3_typeOf_13 3 rfl rfl)
theorem dX3_typeOf_308 : decode cX3_typeOf 308 = .ok (.goto 5, 3) := dk_167 0 5 (dk_at dksX3_typeOf_13 5 rfl rfl)
theorem dX3_typeOf_311 : decode cX3_typeOf 311 = .ok (.bipush 116, 2) := dk_16 116 (dk_at dksX3_typeOf_13 8 rfl rfl)
theorem dX3_typeOf_313 : decode cX3_typeOf 313 = .ok (.invokevirtual 271, 3) := dk_182 1 15 (dk_at dksX3_typeOf_13 10 rfl rfl)
theorem dX3_typeOf_316 : decode cX3_typeOf 316 = .ok (.goto 35, 3) := dk_167 0 35 (dk_at dksX3_typeOf_13 13 rfl rfl)
theorem dX3_typeOf_319 : decode cX3_typeOf 319 = .ok (.aload_n 0, 1) := dk_42 (dk_at dksX3_typeOf_13 16 rfl rfl)
theorem dX3_typeOf_320 : decode cX3_typeOf 320 = .ok (.getfield 117, 3) := dk_180 0 117 (dk_at dksX3_typeOf_13 17 rfl rfl)
theorem dX3_typeOf_323 : decode cX3_typeOf 323 = .ok (.aload_n 0, 1) := dk_42 (dk_at dksX3_typeOf_13 20 rfl rfl)
theorem dX3_typeOf_324 : decode cX3_typeOf 324 = .ok (.getfield 265, 3) := dk_180 1 9 (dk_at dksX3_typeOf_13 21 rfl rfl)
theorem dX3_typeOf_327 : decode cX3_typeOf 327 = .ok (.aload_n 0, 1) := dk_42 (dk_at dksX3_typeOf_14 0 rfl rfl)
theorem dX3_typeOf_328 : decode cX3_typeOf 328 = .ok (.getfield 51, 3) := dk_180 0 51 (dk_at dksX3_typeOf_14 1 rfl rfl)
theorem dX3_typeOf_331 : decode cX3_typeOf 331 = .ok (.iload 4, 2) := dk_21 4 (dk_at dksX3_typeOf_14 4 rfl rfl)
theorem dX3_typeOf_333 : decode cX3_typeOf 333 = .ok (.iaload, 1) := dk_46 (dk_at dksX3_typeOf_14 6 rfl rfl)
theorem dX3_typeOf_334 : decode cX3_typeOf 334 = .ok (.iastore, 1) := dk_79 (dk_at dksX3_typeOf_14 7 rfl rfl)
theorem dX3_typeOf_335 : decode cX3_typeOf 335 = .ok (.aload_n 0, 1) := dk_42 (dk_at dksX3_typeOf_14 8 rfl rfl)
theorem dX3_typeOf_336 : decode cX3_typeOf 336 = .ok (.getfield 120, 3) := dk_180 0 120 (dk_at dksX3_typeOf_14 9 rfl rfl)
theorem dX3_typeOf_339 : decode cX3_typeOf 339 = .ok (.aload_n 0, 1) := dk_42 (dk_at dksX3_typeOf_14 12 rfl rfl)
theorem dX3_typeOf_340 : decode cX3_typeOf 340 = .ok (.getfield 265, 3) := dk_180 1 9 (dk_at dksX3_typeOf_14 13 rfl rfl)
theorem dX3_typeOf_343 : decode cX3_typeOf 343 = .ok (.aload_n 0, 1) := dk_42 (dk_at dksX3_typeOf_14 16 rfl rfl)
theorem dX3_typeOf_344 : decode cX3_typeOf 344 = .ok (.getfield 54, 3) := dk_180 0 54 (dk_at dksX3_typeOf_14 17 rfl rfl)
theorem dX3_typeOf_347 : decode cX3_typeOf 347 = .ok (.iload 4, 2) := dk_21 4 (dk_at dksX3_typeOf_14 20 rfl rfl)
theorem dX3_typeOf_349 : decode cX3_typeOf 349 = .ok (.iaload, 1) := dk_46 (dk_at dksX3_typeOf_14 22 rfl rfl)
theorem dX3_typeOf_350 : decode cX3_typeOf 350 = .ok (.iastore, 1) := dk_79 (dk_at dksX3_typeOf_14 23 rfl rfl)
theorem dX3_typeOf_351 : decode cX3_typeOf 351 = .ok (.iinc 3 1, 3) := dk_132 3 1 (dk_at dksX3_typeOf_15 0 rfl rfl)
theorem dX3_typeOf_354 : decode cX3_typeOf 354 = .ok (.goto (-323), 3) := dk_167 254 189 (dk_at dksX3_typeOf_15 3 rfl rfl)
theorem dX3_typeOf_357 : decode cX3_typeOf 357 = .ok (.aload_n 0, 1) := dk_42 (dk_at dksX3_typeOf_15 6 rfl rfl)
theorem dX3_typeOf_358 : decode cX3_typeOf 358 = .ok (.getfield 114, 3) := dk_180 0 114 (dk_at dksX3_typeOf_15 7 rfl rfl)
theorem dX3_typeOf_361 : decode cX3_typeOf 361 = .ok (.iconst 0, 1) := dk_3 (dk_at dksX3_typeOf_15 10 rfl rfl)
theorem dX3_typeOf_362 : decode cX3_typeOf 362 = .ok (.iaload, 1) := dk_46 (dk_at dksX3_typeOf_15 11 rfl rfl)
theorem dX3_typeOf_363 : decode cX3_typeOf 363 = .ok (.ireturn, 1) := dk_172 (dk_at dksX3_typeOf_15 12 rfl rfl)
abbrev cX3_comes : ByteArray := prog_14_method_29_code
def yX3_comes : MethodName := ⟨RX3, "comes", "(I)V"⟩
def dkwX3_comes_7 : List UInt8 := [182, 1, 12, 42, 180, 0, 114, 42, 180, 1, 9, 21, 5, 79, 177]
abbrev dktX3_comes_7 : List UInt8 := dkwX3_comes_7 ++ []
def dkwX3_comes_6 : List UInt8 := [54, 5, 21, 4, 153, 0, 21, 21, 5, 154, 0, 16, 42, 42, 180, 0, 120, 42, 180, 1, 9, 46]
abbrev dktX3_comes_6 : List UInt8 := dkwX3_comes_6 ++ dktX3_comes_7
def dkwX3_comes_5 : List UInt8 := [167, 0, 25, 29, 16, 45, 160, 0, 19, 28, 16, 100, 160, 0, 13, 27, 16, 100, 160, 0, 7, 16, 110]
abbrev dktX3_comes_5 : List UInt8 := dkwX3_comes_5 ++ dktX3_comes_6
def dkwX3_comes_4 : List UInt8 := [16, 110, 160, 0, 25, 28, 16, 110, 159, 0, 9, 28, 16, 100, 160, 0, 7, 28, 167, 0, 4, 3, 54, 5]
abbrev dktX3_comes_4 : List UInt8 := dkwX3_comes_4 ++ dktX3_comes_5
def dkwX3_comes_3 : List UInt8 := [16, 116, 160, 0, 14, 27, 16, 116, 160, 0, 8, 16, 116, 167, 0, 4, 3, 54, 5, 167, 0, 53, 27]
abbrev dktX3_comes_3 : List UInt8 := dkwX3_comes_3 ++ dktX3_comes_4
def dkwX3_comes_2 : List UInt8 := [153, 0, 11, 27, 153, 0, 7, 4, 167, 0, 4, 3, 54, 4, 3, 54, 5, 29, 16, 38, 160, 0, 26, 28]
abbrev dktX3_comes_2 : List UInt8 := dkwX3_comes_2 ++ dktX3_comes_3
def dkwX3_comes_1 : List UInt8 := [42, 180, 1, 9, 3, 79, 29, 154, 0, 14, 42, 180, 0, 114, 42, 180, 1, 9, 27, 79, 177, 28]
abbrev dktX3_comes_1 : List UInt8 := dkwX3_comes_1 ++ dktX3_comes_2
def dkwX3_comes_0 : List UInt8 := [42, 180, 0, 114, 42, 180, 1, 9, 46, 61, 42, 180, 0, 117, 42, 180, 1, 9, 46, 62, 42, 180, 0, 117]
abbrev dktX3_comes_0 : List UInt8 := dkwX3_comes_0 ++ dktX3_comes_1
theorem dksX3_comes_0 : cX3_comes.data.toList.drop 0 = dktX3_comes_0 := by decide +kernel
theorem dksX3_comes_1 : cX3_comes.data.toList.drop 24 = dktX3_comes_1 := dk_seg dksX3_comes_0 24 rfl rfl
theorem dksX3_comes_2 : cX3_comes.data.toList.drop 46 = dktX3_comes_2 := dk_seg dksX3_comes_1 22 rfl rfl
theorem dksX3_comes_3 : cX3_comes.data.toList.drop 70 = dktX3_comes_3 := dk_seg dksX3_comes_2 24 rfl rfl
theorem dksX3_comes_4 : cX3_comes.data.toList.drop 93 = dktX3_comes_4 := dk_seg dksX3_comes_3 23 rfl rfl
theorem dksX3_comes_5 : cX3_comes.data.toList.drop 117 = dktX3_comes_5 := dk_seg dksX3_comes_4 24 rfl rfl
theorem dksX3_comes_6 : cX3_comes.data.toList.drop 140 = dktX3_comes_6 := dk_seg dksX3_comes_5 23 rfl rfl
theorem dksX3_comes_7 : cX3_comes.data.toList.drop 162 = dktX3_comes_7 := dk_seg dksX3_comes_6 22 rfl rfl
theorem dX3_comes_0 : decode cX3_comes 0 = .ok (.aload_n 0, 1) := dk_42 (dk_at dksX3_comes_0 0 rfl rfl)
theorem dX3_comes_1 : decode cX3_comes 1 = .ok (.getfield 114, 3) := dk_180 0 114 (dk_at dksX3_comes_0 1 rfl rfl)
theorem dX3_comes_4 : decode cX3_comes 4 = .ok (.aload_n 0, 1) := dk_42 (dk_at dksX3_comes_0 4 rfl rfl)
theorem dX3_comes_5 : decode cX3_comes 5 = .ok (.getfield 265, 3) := dk_180 1 9 (dk_at dksX3_comes_0 5 rfl rfl)
theorem dX3_comes_8 : decode cX3_comes 8 = .ok (.iaload, 1) := dk_46 (dk_at dksX3_comes_0 8 rfl rfl)
theorem dX3_comes_9 : decode cX3_comes 9 = .ok (.istore_n 2, 1) := dk_61 (dk_at dksX3_comes_0 9 rfl rfl)
theorem dX3_comes_10 : decode cX3_comes 10 = .ok (.aload_n 0, 1) := dk_42 (dk_at dksX3_comes_0 10 rfl rfl)
theorem dX3_comes_11 : decode cX3_comes 11 = .ok (.getfield 117, 3) := dk_180 0 117 (dk_at dksX3_comes_0 11 rfl rfl)
theorem dX3_comes_14 : decode cX3_comes 14 = .ok (.aload_n 0, 1) := dk_42 (dk_at dksX3_comes_0 14 rfl rfl)
theorem dX3_comes_15 : decode cX3_comes 15 = .ok (.getfield 265, 3) := dk_180 1 9 (dk_at dksX3_comes_0 15 rfl rfl)
theorem dX3_comes_18 : decode cX3_comes 18 = .ok (.iaload, 1) := dk_46 (dk_at dksX3_comes_0 18 rfl rfl)
theorem dX3_comes_19 : decode cX3_comes 19 = .ok (.istore_n 3, 1) := dk_62 (dk_at dksX3_comes_0 19 rfl rfl)
theorem dX3_comes_20 : decode cX3_comes 20 = .ok (.aload_n 0, 1) := dk_42 (dk_at dksX3_comes_0 20 rfl rfl)
theorem dX3_comes_21 : decode cX3_comes 21 = .ok (.getfield 117, 3) := dk_180 0 117 (dk_at dksX3_comes_0 21 rfl rfl)
theorem dX3_comes_24 : decode cX3_comes 24 = .ok (.aload_n 0, 1) := dk_42 (dk_at dksX3_comes_1 0 rfl rfl)
theorem dX3_comes_25 : decode cX3_comes 25 = .ok (.getfield 265, 3) := dk_180 1 9 (dk_at dksX3_comes_1 1 rfl rfl)
theorem dX3_comes_28 : decode cX3_comes 28 = .ok (.iconst 0, 1) := dk_3 (dk_at dksX3_comes_1 4 rfl rfl)
theorem dX3_comes_29 : decode cX3_comes 29 = .ok (.iastore, 1) := dk_79 (dk_at dksX3_comes_1 5 rfl rfl)
theorem dX3_comes_30 : decode cX3_comes 30 = .ok (.iload_n 3, 1) := dk_29 (dk_at dksX3_comes_1 6 rfl rfl)
theorem dX3_comes_31 : decode cX3_comes 31 = .ok (.ifCond .ne 14, 3) := dk_154 0 14 (dk_at dksX3_comes_1 7 rfl rfl)
theorem dX3_comes_34 : decode cX3_comes 34 = .ok (.aload_n 0, 1) := dk_42 (dk_at dksX3_comes_1 10 rfl rfl)
theorem dX3_comes_35 : decode cX3_comes 35 = .ok (.getfield 114, 3) := dk_180 0 114 (dk_at dksX3_comes_1 11 rfl rfl)
theorem dX3_comes_38 : decode cX3_comes 38 = .ok (.aload_n 0, 1) := dk_42 (dk_at dksX3_comes_1 14 rfl rfl)
theorem dX3_comes_39 : decode cX3_comes 39 = .ok (.getfield 265, 3) := dk_180 1 9 (dk_at dksX3_comes_1 15 rfl rfl)
theorem dX3_comes_42 : decode cX3_comes 42 = .ok (.iload_n 1, 1) := dk_27 (dk_at dksX3_comes_1 18 rfl rfl)
theorem dX3_comes_43 : decode cX3_comes 43 = .ok (.iastore, 1) := dk_79 (dk_at dksX3_comes_1 19 rfl rfl)
theorem dX3_comes_44 : decode cX3_comes 44 = .ok (.return_, 1) := dk_177 (dk_at dksX3_comes_1 20 rfl rfl)
theorem dX3_comes_45 : decode cX3_comes 45 = .ok (.iload_n 2, 1) := dk_28 (dk_at dksX3_comes_1 21 rfl rfl)
theorem dX3_comes_46 : decode cX3_comes 46 = .ok (.ifCond .eq 11, 3) := dk_153 0 11 (dk_at dksX3_comes_2 0 rfl rfl)
theorem dX3_comes_49 : decode cX3_comes 49 = .ok (.iload_n 1, 1) := dk_27 (dk_at dksX3_comes_2 3 rfl rfl)
theorem dX3_comes_50 : decode cX3_comes 50 = .ok (.ifCond .eq 7, 3) := dk_153 0 7 (dk_at dksX3_comes_2 4 rfl rfl)
theorem dX3_comes_53 : decode cX3_comes 53 = .ok (.iconst 1, 1) := dk_4 (dk_at dksX3_comes_2 7 rfl rfl)
theorem dX3_comes_54 : decode cX3_comes 54 = .ok (.goto 4, 3) := dk_167 0 4 (dk_at dksX3_comes_2 8 rfl rfl)
theorem dX3_comes_57 : decode cX3_comes 57 = .ok (.iconst 0, 1) := dk_3 (dk_at dksX3_comes_2 11 rfl rfl)
theorem dX3_comes_58 : decode cX3_comes 58 = .ok (.istore 4, 2) := dk_54 4 (dk_at dksX3_comes_2 12 rfl rfl)
theorem dX3_comes_60 : decode cX3_comes 60 = .ok (.iconst 0, 1) := dk_3 (dk_at dksX3_comes_2 14 rfl rfl)
theorem dX3_comes_61 : decode cX3_comes 61 = .ok (.istore 5, 2) := dk_54 5 (dk_at dksX3_comes_2 15 rfl rfl)
theorem dX3_comes_63 : decode cX3_comes 63 = .ok (.iload_n 3, 1) := dk_29 (dk_at dksX3_comes_2 17 rfl rfl)
theorem dX3_comes_64 : decode cX3_comes 64 = .ok (.bipush 38, 2) := dk_16 38 (dk_at dksX3_comes_2 18 rfl rfl)
theorem dX3_comes_66 : decode cX3_comes 66 = .ok (.if_icmp .ne 26, 3) := dk_160 0 26 (dk_at dksX3_comes_2 20 rfl rfl)
theorem dX3_comes_69 : decode cX3_comes 69 = .ok (.iload_n 2, 1) := dk_28 (dk_at dksX3_comes_2 23 rfl rfl)
theorem dX3_comes_70 : decode cX3_comes 70 = .ok (.bipush 116, 2) := dk_16 116 (dk_at dksX3_comes_3 0 rfl rfl)
theorem dX3_comes_72 : decode cX3_comes 72 = .ok (.if_icmp .ne 14, 3) := dk_160 0 14 (dk_at dksX3_comes_3 2 rfl rfl)
theorem dX3_comes_75 : decode cX3_comes 75 = .ok (.iload_n 1, 1) := dk_27 (dk_at dksX3_comes_3 5 rfl rfl)
theorem dX3_comes_76 : decode cX3_comes 76 = .ok (.bipush 116, 2) := dk_16 116 (dk_at dksX3_comes_3 6 rfl rfl)
theorem dX3_comes_78 : decode cX3_comes 78 = .ok (.if_icmp .ne 8, 3) := dk_160 0 8 (dk_at dksX3_comes_3 8 rfl rfl)
theorem dX3_comes_81 : decode cX3_comes 81 = .ok (.bipush 116, 2) := dk_16 116 (dk_at dksX3_comes_3 11 rfl rfl)
theorem dX3_comes_83 : decode cX3_comes 83 = .ok (.goto 4, 3) := dk_167 0 4 (dk_at dksX3_comes_3 13 rfl rfl)
theorem dX3_comes_86 : decode cX3_comes 86 = .ok (.iconst 0, 1) := dk_3 (dk_at dksX3_comes_3 16 rfl rfl)
theorem dX3_comes_87 : decode cX3_comes 87 = .ok (.istore 5, 2) := dk_54 5 (dk_at dksX3_comes_3 17 rfl rfl)
theorem dX3_comes_89 : decode cX3_comes 89 = .ok (.goto 53, 3) := dk_167 0 53 (dk_at dksX3_comes_3 19 rfl rfl)
theorem dX3_comes_92 : decode cX3_comes 92 = .ok (.iload_n 1, 1) := dk_27 (dk_at dksX3_comes_3 22 rfl rfl)
theorem dX3_comes_93 : decode cX3_comes 93 = .ok (.bipush 110, 2) := dk_16 110 (dk_at dksX3_comes_4 0 rfl rfl)
theorem dX3_comes_95 : decode cX3_comes 95 = .ok (.if_icmp .ne 25, 3) := dk_160 0 25 (dk_at dksX3_comes_4 2 rfl rfl)
theorem dX3_comes_98 : decode cX3_comes 98 = .ok (.iload_n 2, 1) := dk_28 (dk_at dksX3_comes_4 5 rfl rfl)
theorem dX3_comes_99 : decode cX3_comes 99 = .ok (.bipush 110, 2) := dk_16 110 (dk_at dksX3_comes_4 6 rfl rfl)
theorem dX3_comes_101 : decode cX3_comes 101 = .ok (.if_icmp .eq 9, 3) := dk_159 0 9 (dk_at dksX3_comes_4 8 rfl rfl)
theorem dX3_comes_104 : decode cX3_comes 104 = .ok (.iload_n 2, 1) := dk_28 (dk_at dksX3_comes_4 11 rfl rfl)
theorem dX3_comes_105 : decode cX3_comes 105 = .ok (.bipush 100, 2) := dk_16 100 (dk_at dksX3_comes_4 12 rfl rfl)
theorem dX3_comes_107 : decode cX3_comes 107 = .ok (.if_icmp .ne 7, 3) := dk_160 0 7 (dk_at dksX3_comes_4 14 rfl rfl)
theorem dX3_comes_110 : decode cX3_comes 110 = .ok (.iload_n 2, 1) := dk_28 (dk_at dksX3_comes_4 17 rfl rfl)
theorem dX3_comes_111 : decode cX3_comes 111 = .ok (.goto 4, 3) := dk_167 0 4 (dk_at dksX3_comes_4 18 rfl rfl)
theorem dX3_comes_114 : decode cX3_comes 114 = .ok (.iconst 0, 1) := dk_3 (dk_at dksX3_comes_4 21 rfl rfl)
theorem dX3_comes_115 : decode cX3_comes 115 = .ok (.istore 5, 2) := dk_54 5 (dk_at dksX3_comes_4 22 rfl rfl)
theorem dX3_comes_117 : decode cX3_comes 117 = .ok (.goto 25, 3) := dk_167 0 25 (dk_at dksX3_comes_5 0 rfl rfl)
theorem dX3_comes_120 : decode cX3_comes 120 = .ok (.iload_n 3, 1) := dk_29 (dk_at dksX3_comes_5 3 rfl rfl)
theorem dX3_comes_121 : decode cX3_comes 121 = .ok (.bipush 45, 2) := dk_16 45 (dk_at dksX3_comes_5 4 rfl rfl)
theorem dX3_comes_123 : decode cX3_comes 123 = .ok (.if_icmp .ne 19, 3) := dk_160 0 19 (dk_at dksX3_comes_5 6 rfl rfl)
theorem dX3_comes_126 : decode cX3_comes 126 = .ok (.iload_n 2, 1) := dk_28 (dk_at dksX3_comes_5 9 rfl rfl)
theorem dX3_comes_127 : decode cX3_comes 127 = .ok (.bipush 100, 2) := dk_16 100 (dk_at dksX3_comes_5 10 rfl rfl)
theorem dX3_comes_129 : decode cX3_comes 129 = .ok (.if_icmp .ne 13, 3) := dk_160 0 13 (dk_at dksX3_comes_5 12 rfl rfl)
theorem dX3_comes_132 : decode cX3_comes 132 = .ok (.iload_n 1, 1) := dk_27 (dk_at dksX3_comes_5 15 rfl rfl)
theorem dX3_comes_133 : decode cX3_comes 133 = .ok (.bipush 100, 2) := dk_16 100 (dk_at dksX3_comes_5 16 rfl rfl)
theorem dX3_comes_135 : decode cX3_comes 135 = .ok (.if_icmp .ne 7, 3) := dk_160 0 7 (dk_at dksX3_comes_5 18 rfl rfl)
theorem dX3_comes_138 : decode cX3_comes 138 = .ok (.bipush 110, 2) := dk_16 110 (dk_at dksX3_comes_5 21 rfl rfl)
theorem dX3_comes_140 : decode cX3_comes 140 = .ok (.istore 5, 2) := dk_54 5 (dk_at dksX3_comes_6 0 rfl rfl)
theorem dX3_comes_142 : decode cX3_comes 142 = .ok (.iload 4, 2) := dk_21 4 (dk_at dksX3_comes_6 2 rfl rfl)
theorem dX3_comes_144 : decode cX3_comes 144 = .ok (.ifCond .eq 21, 3) := dk_153 0 21 (dk_at dksX3_comes_6 4 rfl rfl)
theorem dX3_comes_147 : decode cX3_comes 147 = .ok (.iload 5, 2) := dk_21 5 (dk_at dksX3_comes_6 7 rfl rfl)
theorem dX3_comes_149 : decode cX3_comes 149 = .ok (.ifCond .ne 16, 3) := dk_154 0 16 (dk_at dksX3_comes_6 9 rfl rfl)
theorem dX3_comes_152 : decode cX3_comes 152 = .ok (.aload_n 0, 1) := dk_42 (dk_at dksX3_comes_6 12 rfl rfl)
theorem dX3_comes_153 : decode cX3_comes 153 = .ok (.aload_n 0, 1) := dk_42 (dk_at dksX3_comes_6 13 rfl rfl)
theorem dX3_comes_154 : decode cX3_comes 154 = .ok (.getfield 120, 3) := dk_180 0 120 (dk_at dksX3_comes_6 14 rfl rfl)
theorem dX3_comes_157 : decode cX3_comes 157 = .ok (.aload_n 0, 1) := dk_42 (dk_at dksX3_comes_6 17 rfl rfl)
theorem dX3_comes_158 : decode cX3_comes 158 = .ok (.getfield 265, 3) := dk_180 1 9 (dk_at dksX3_comes_6 18 rfl rfl)
theorem dX3_comes_161 : decode cX3_comes 161 = .ok (.iaload, 1) := dk_46 (dk_at dksX3_comes_6 21 rfl rfl)
theorem dX3_comes_162 : decode cX3_comes 162 = .ok (.invokevirtual 268, 3) := dk_182 1 12 (dk_at dksX3_comes_7 0 rfl rfl)
theorem dX3_comes_165 : decode cX3_comes 165 = .ok (.aload_n 0, 1) := dk_42 (dk_at dksX3_comes_7 3 rfl rfl)
theorem dX3_comes_166 : decode cX3_comes 166 = .ok (.getfield 114, 3) := dk_180 0 114 (dk_at dksX3_comes_7 4 rfl rfl)
theorem dX3_comes_169 : decode cX3_comes 169 = .ok (.aload_n 0, 1) := dk_42 (dk_at dksX3_comes_7 7 rfl rfl)
theorem dX3_comes_170 : decode cX3_comes 170 = .ok (.getfield 265, 3) := dk_180 1 9 (dk_at dksX3_comes_7 8 rfl rfl)
theorem dX3_comes_173 : decode cX3_comes 173 = .ok (.iload 5, 2) := dk_21 5 (dk_at dksX3_comes_7 11 rfl rfl)
theorem dX3_comes_175 : decode cX3_comes 175 = .ok (.iastore, 1) := dk_79 (dk_at dksX3_comes_7 13 rfl rfl)
theorem dX3_comes_176 : decode cX3_comes 176 = .ok (.return_, 1) := dk_177 (dk_at dksX3_comes_7 14 rfl rfl)
abbrev cX3_wrong : ByteArray := prog_14_method_28_code
def yX3_wrong : MethodName := ⟨RX3, "wrong", "(I)V"⟩
def dkwX3_wrong_0 : List UInt8 := [42, 89, 180, 0, 255, 4, 96, 181, 0, 255, 42, 180, 1, 2, 153, 0, 9, 42, 6, 27, 182, 1, 6, 177]
abbrev dktX3_wrong_0 : List UInt8 := dkwX3_wrong_0 ++ []
theorem dksX3_wrong_0 : cX3_wrong.data.toList.drop 0 = dktX3_wrong_0 := by decide +kernel
theorem dX3_wrong_0 : decode cX3_wrong 0 = .ok (.aload_n 0, 1) := dk_42 (dk_at dksX3_wrong_0 0 rfl rfl)
theorem dX3_wrong_1 : decode cX3_wrong 1 = .ok (.dup, 1) := dk_89 (dk_at dksX3_wrong_0 1 rfl rfl)
theorem dX3_wrong_2 : decode cX3_wrong 2 = .ok (.getfield 255, 3) := dk_180 0 255 (dk_at dksX3_wrong_0 2 rfl rfl)
theorem dX3_wrong_5 : decode cX3_wrong 5 = .ok (.iconst 1, 1) := dk_4 (dk_at dksX3_wrong_0 5 rfl rfl)
theorem dX3_wrong_6 : decode cX3_wrong 6 = .ok (.iadd, 1) := dk_96 (dk_at dksX3_wrong_0 6 rfl rfl)
theorem dX3_wrong_7 : decode cX3_wrong 7 = .ok (.putfield 255, 3) := dk_181 0 255 (dk_at dksX3_wrong_0 7 rfl rfl)
theorem dX3_wrong_10 : decode cX3_wrong 10 = .ok (.aload_n 0, 1) := dk_42 (dk_at dksX3_wrong_0 10 rfl rfl)
theorem dX3_wrong_11 : decode cX3_wrong 11 = .ok (.getfield 258, 3) := dk_180 1 2 (dk_at dksX3_wrong_0 11 rfl rfl)
theorem dX3_wrong_14 : decode cX3_wrong 14 = .ok (.ifCond .eq 9, 3) := dk_153 0 9 (dk_at dksX3_wrong_0 14 rfl rfl)
theorem dX3_wrong_17 : decode cX3_wrong 17 = .ok (.aload_n 0, 1) := dk_42 (dk_at dksX3_wrong_0 17 rfl rfl)
theorem dX3_wrong_18 : decode cX3_wrong 18 = .ok (.iconst 3, 1) := dk_6 (dk_at dksX3_wrong_0 18 rfl rfl)
theorem dX3_wrong_19 : decode cX3_wrong 19 = .ok (.iload_n 1, 1) := dk_27 (dk_at dksX3_wrong_0 19 rfl rfl)
theorem dX3_wrong_20 : decode cX3_wrong 20 = .ok (.invokevirtual 262, 3) := dk_182 1 6 (dk_at dksX3_wrong_0 20 rfl rfl)
theorem dX3_wrong_23 : decode cX3_wrong 23 = .ok (.return_, 1) := dk_177 (dk_at dksX3_wrong_0 23 rfl rfl)
abbrev cX3_wordOf : ByteArray := prog_14_method_25_code
def yX3_wordOf : MethodName := ⟨RX3, "wordOf", "(II)J"⟩
def dkwX3_wordOf_2 : List UInt8 := [96, 21, 6, 96, 46, 133, 97, 20, 0, 177, 101, 10, 97, 66, 132, 6, 1, 167, 255, 206, 33, 173]
abbrev dktX3_wordOf_2 : List UInt8 := dkwX3_wordOf_2 ++ []
def dkwX3_wordOf_1 : List UInt8 := [162, 0, 44, 20, 0, 175, 33, 105, 42, 180, 0, 60, 17, 1, 144, 27, 104, 42, 180, 0, 54, 21, 5, 46]
abbrev dktX3_wordOf_1 : List UInt8 := dkwX3_wordOf_1 ++ dktX3_wordOf_2
def dkwX3_wordOf_0 : List UInt8 := [9, 66, 17, 1, 144, 27, 104, 28, 96, 54, 5, 3, 54, 6, 21, 6, 42, 180, 0, 57, 21, 5, 46]
abbrev dktX3_wordOf_0 : List UInt8 := dkwX3_wordOf_0 ++ dktX3_wordOf_1
theorem dksX3_wordOf_0 : cX3_wordOf.data.toList.drop 0 = dktX3_wordOf_0 := by decide +kernel
theorem dksX3_wordOf_1 : cX3_wordOf.data.toList.drop 23 = dktX3_wordOf_1 := dk_seg dksX3_wordOf_0 23 rfl rfl
theorem dksX3_wordOf_2 : cX3_wordOf.data.toList.drop 47 = dktX3_wordOf_2 := dk_seg dksX3_wordOf_1 24 rfl rfl
theorem dX3_wordOf_0 : decode cX3_wordOf 0 = .ok (.lconst 0, 1) := dk_9 (dk_at dksX3_wordOf_0 0 rfl rfl)
theorem dX3_wordOf_1 : decode cX3_wordOf 1 = .ok (.lstore_n 3, 1) := dk_66 (dk_at dksX3_wordOf_0 1 rfl rfl)
theorem dX3_wordOf_2 : decode cX3_wordOf 2 = .ok (.sipush 400, 3) := dk_17 1 144 (dk_at dksX3_wordOf_0 2 rfl rfl)
theorem dX3_wordOf_5 : decode cX3_wordOf 5 = .ok (.iload_n 1, 1) := dk_27 (dk_at dksX3_wordOf_0 5 rfl rfl)
theorem dX3_wordOf_6 : decode cX3_wordOf 6 = .ok (.imul, 1) := dk_104 (dk_at dksX3_wordOf_0 6 rfl rfl)
theorem dX3_wordOf_7 : decode cX3_wordOf 7 = .ok (.iload_n 2, 1) := dk_28 (dk_at dksX3_wordOf_0 7 rfl rfl)
theorem dX3_wordOf_8 : decode cX3_wordOf 8 = .ok (.iadd, 1) := dk_96 (dk_at dksX3_wordOf_0 8 rfl rfl)
theorem dX3_wordOf_9 : decode cX3_wordOf 9 = .ok (.istore 5, 2) := dk_54 5 (dk_at dksX3_wordOf_0 9 rfl rfl)
theorem dX3_wordOf_11 : decode cX3_wordOf 11 = .ok (.iconst 0, 1) := dk_3 (dk_at dksX3_wordOf_0 11 rfl rfl)
theorem dX3_wordOf_12 : decode cX3_wordOf 12 = .ok (.istore 6, 2) := dk_54 6 (dk_at dksX3_wordOf_0 12 rfl rfl)
theorem dX3_wordOf_14 : decode cX3_wordOf 14 = .ok (.iload 6, 2) := dk_21 6 (dk_at dksX3_wordOf_0 14 rfl rfl)
theorem dX3_wordOf_16 : decode cX3_wordOf 16 = .ok (.aload_n 0, 1) := dk_42 (dk_at dksX3_wordOf_0 16 rfl rfl)
theorem dX3_wordOf_17 : decode cX3_wordOf 17 = .ok (.getfield 57, 3) := dk_180 0 57 (dk_at dksX3_wordOf_0 17 rfl rfl)
theorem dX3_wordOf_20 : decode cX3_wordOf 20 = .ok (.iload 5, 2) := dk_21 5 (dk_at dksX3_wordOf_0 20 rfl rfl)
theorem dX3_wordOf_22 : decode cX3_wordOf 22 = .ok (.iaload, 1) := dk_46 (dk_at dksX3_wordOf_0 22 rfl rfl)
theorem dX3_wordOf_23 : decode cX3_wordOf 23 = .ok (.if_icmp .ge 44, 3) := dk_162 0 44 (dk_at dksX3_wordOf_1 0 rfl rfl)
theorem dX3_wordOf_26 : decode cX3_wordOf 26 = .ok (.ldc2_w 175, 3) := dk_20 0 175 (dk_at dksX3_wordOf_1 3 rfl rfl)
theorem dX3_wordOf_29 : decode cX3_wordOf 29 = .ok (.lload_n 3, 1) := dk_33 (dk_at dksX3_wordOf_1 6 rfl rfl)
theorem dX3_wordOf_30 : decode cX3_wordOf 30 = .ok (.lmul, 1) := dk_105 (dk_at dksX3_wordOf_1 7 rfl rfl)
theorem dX3_wordOf_31 : decode cX3_wordOf 31 = .ok (.aload_n 0, 1) := dk_42 (dk_at dksX3_wordOf_1 8 rfl rfl)
theorem dX3_wordOf_32 : decode cX3_wordOf 32 = .ok (.getfield 60, 3) := dk_180 0 60 (dk_at dksX3_wordOf_1 9 rfl rfl)
theorem dX3_wordOf_35 : decode cX3_wordOf 35 = .ok (.sipush 400, 3) := dk_17 1 144 (dk_at dksX3_wordOf_1 12 rfl rfl)
theorem dX3_wordOf_38 : decode cX3_wordOf 38 = .ok (.iload_n 1, 1) := dk_27 (dk_at dksX3_wordOf_1 15 rfl rfl)
theorem dX3_wordOf_39 : decode cX3_wordOf 39 = .ok (.imul, 1) := dk_104 (dk_at dksX3_wordOf_1 16 rfl rfl)
theorem dX3_wordOf_40 : decode cX3_wordOf 40 = .ok (.aload_n 0, 1) := dk_42 (dk_at dksX3_wordOf_1 17 rfl rfl)
theorem dX3_wordOf_41 : decode cX3_wordOf 41 = .ok (.getfield 54, 3) := dk_180 0 54 (dk_at dksX3_wordOf_1 18 rfl rfl)
theorem dX3_wordOf_44 : decode cX3_wordOf 44 = .ok (.iload 5, 2) := dk_21 5 (dk_at dksX3_wordOf_1 21 rfl rfl)
theorem dX3_wordOf_46 : decode cX3_wordOf 46 = .ok (.iaload, 1) := dk_46 (dk_at dksX3_wordOf_1 23 rfl rfl)
theorem dX3_wordOf_47 : decode cX3_wordOf 47 = .ok (.iadd, 1) := dk_96 (dk_at dksX3_wordOf_2 0 rfl rfl)
theorem dX3_wordOf_48 : decode cX3_wordOf 48 = .ok (.iload 6, 2) := dk_21 6 (dk_at dksX3_wordOf_2 1 rfl rfl)
theorem dX3_wordOf_50 : decode cX3_wordOf 50 = .ok (.iadd, 1) := dk_96 (dk_at dksX3_wordOf_2 3 rfl rfl)
theorem dX3_wordOf_51 : decode cX3_wordOf 51 = .ok (.iaload, 1) := dk_46 (dk_at dksX3_wordOf_2 4 rfl rfl)
theorem dX3_wordOf_52 : decode cX3_wordOf 52 = .ok (.i2l, 1) := dk_133 (dk_at dksX3_wordOf_2 5 rfl rfl)
theorem dX3_wordOf_53 : decode cX3_wordOf 53 = .ok (.ladd, 1) := dk_97 (dk_at dksX3_wordOf_2 6 rfl rfl)
theorem dX3_wordOf_54 : decode cX3_wordOf 54 = .ok (.ldc2_w 177, 3) := dk_20 0 177 (dk_at dksX3_wordOf_2 7 rfl rfl)
theorem dX3_wordOf_57 : decode cX3_wordOf 57 = .ok (.lsub, 1) := dk_101 (dk_at dksX3_wordOf_2 10 rfl rfl)
theorem dX3_wordOf_58 : decode cX3_wordOf 58 = .ok (.lconst 1, 1) := dk_10 (dk_at dksX3_wordOf_2 11 rfl rfl)
theorem dX3_wordOf_59 : decode cX3_wordOf 59 = .ok (.ladd, 1) := dk_97 (dk_at dksX3_wordOf_2 12 rfl rfl)
theorem dX3_wordOf_60 : decode cX3_wordOf 60 = .ok (.lstore_n 3, 1) := dk_66 (dk_at dksX3_wordOf_2 13 rfl rfl)
theorem dX3_wordOf_61 : decode cX3_wordOf 61 = .ok (.iinc 6 1, 3) := dk_132 6 1 (dk_at dksX3_wordOf_2 14 rfl rfl)
theorem dX3_wordOf_64 : decode cX3_wordOf 64 = .ok (.goto (-50), 3) := dk_167 255 206 (dk_at dksX3_wordOf_2 17 rfl rfl)
theorem dX3_wordOf_67 : decode cX3_wordOf 67 = .ok (.lload_n 3, 1) := dk_33 (dk_at dksX3_wordOf_2 20 rfl rfl)
theorem dX3_wordOf_68 : decode cX3_wordOf 68 = .ok (.lreturn, 1) := dk_173 (dk_at dksX3_wordOf_2 21 rfl rfl)
abbrev cX3_typeOfName : ByteArray := prog_14_method_31_code
def yX3_typeOfName : MethodName := ⟨RX3, "typeOfName", "(II)I"⟩
def dkwX3_typeOfName_8 : List UInt8 := [96, 46, 172]
abbrev dktX3_typeOfName_8 : List UInt8 := dkwX3_typeOfName_8 ++ []
def dkwX3_typeOfName_7 : List UInt8 := [180, 0, 27, 16, 8, 29, 104, 21, 4, 96, 46, 167, 0, 15, 42, 180, 0, 129, 16, 8, 29, 104, 21, 4]
abbrev dktX3_typeOfName_7 : List UInt8 := dkwX3_typeOfName_7 ++ dktX3_typeOfName_8
def dkwX3_typeOfName_6 : List UInt8 := [17, 1, 144, 27, 104, 28, 96, 5, 96, 46, 182, 1, 6, 3, 172, 42, 180, 1, 2, 153, 0, 18, 42]
abbrev dktX3_typeOfName_6 : List UInt8 := dkwX3_typeOfName_6 ++ dktX3_typeOfName_7
def dkwX3_typeOfName_5 : List UInt8 := [182, 1, 29, 54, 4, 21, 4, 2, 160, 0, 31, 42, 180, 1, 2, 153, 0, 22, 42, 5, 42, 180, 0, 54]
abbrev dktX3_typeOfName_5 : List UInt8 := dkwX3_typeOfName_5 ++ dktX3_typeOfName_6
def dkwX3_typeOfName_4 : List UInt8 := [17, 1, 144, 27, 104, 28, 96, 46, 182, 1, 6, 3, 172, 42, 29, 42, 27, 28, 5, 96, 182, 1, 18]
abbrev dktX3_typeOfName_4 : List UInt8 := dkwX3_typeOfName_4 ++ dktX3_typeOfName_5
def dkwX3_typeOfName_3 : List UInt8 := [132, 5, 1, 167, 255, 206, 42, 180, 1, 2, 153, 0, 25, 21, 4, 154, 0, 20, 42, 5, 42, 180, 0, 54]
abbrev dktX3_typeOfName_3 : List UInt8 := dkwX3_typeOfName_3 ++ dktX3_typeOfName_4
def dkwX3_typeOfName_2 : List UInt8 := [180, 0, 108, 21, 5, 47, 42, 27, 28, 182, 1, 18, 148, 154, 0, 7, 4, 167, 0, 4, 3, 54, 4]
abbrev dktX3_typeOfName_2 : List UInt8 := dkwX3_typeOfName_2 ++ dktX3_typeOfName_3
def dkwX3_typeOfName_1 : List UInt8 := [21, 5, 42, 180, 0, 30, 27, 46, 162, 0, 45, 42, 180, 1, 2, 153, 0, 38, 21, 4, 154, 0, 20, 42]
abbrev dktX3_typeOfName_1 : List UInt8 := dkwX3_typeOfName_1 ++ dktX3_typeOfName_2
def dkwX3_typeOfName_0 : List UInt8 := [42, 27, 42, 27, 28, 182, 1, 18, 182, 1, 25, 62, 29, 2, 160, 0, 93, 3, 54, 4, 3, 54, 5]
abbrev dktX3_typeOfName_0 : List UInt8 := dkwX3_typeOfName_0 ++ dktX3_typeOfName_1
theorem dksX3_typeOfName_0 : cX3_typeOfName.data.toList.drop 0 = dktX3_typeOfName_0 := by decide +kernel
theorem dksX3_typeOfName_1 : cX3_typeOfName.data.toList.drop 23 = dktX3_typeOfName_1 := dk_seg dksX3_typeOfName_0 23 rfl rfl
theorem dksX3_typeOfName_2 : cX3_typeOfName.data.toList.drop 47 = dktX3_typeOfName_2 := dk_seg dksX3_typeOfName_1 24 rfl rfl
theorem dksX3_typeOfName_3 : cX3_typeOfName.data.toList.drop 70 = dktX3_typeOfName_3 := dk_seg dksX3_typeOfName_2 23 rfl rfl
theorem dksX3_typeOfName_4 : cX3_typeOfName.data.toList.drop 94 = dktX3_typeOfName_4 := dk_seg dksX3_typeOfName_3 24 rfl rfl
theorem dksX3_typeOfName_5 : cX3_typeOfName.data.toList.drop 117 = dktX3_typeOfName_5 := dk_seg dksX3_typeOfName_4 23 rfl rfl
theorem dksX3_typeOfName_6 : cX3_typeOfName.data.toList.drop 141 = dktX3_typeOfName_6 := dk_seg dksX3_typeOfName_5 24 rfl rfl
theorem dksX3_typeOfName_7 : cX3_typeOfName.data.toList.drop 164 = dktX3_typeOfName_7 := dk_seg dksX3_typeOfName_6 23 rfl rfl
theorem dksX3_typeOfName_8 : cX3_typeOfName.data.toList.drop 188 = dktX3_typeOfName_8 := dk_seg dksX3_typeOfName_7 24 rfl rfl
theorem dX3_typeOfName_0 : decode cX3_typeOfName 0 = .ok (.aload_n 0, 1) := dk_42 (dk_at dksX3_typeOfName_0 0 rfl rfl)
theorem dX3_typeOfName_1 : decode cX3_typeOfName 1 = .ok (.iload_n 1, 1) := dk_27 (dk_at dksX3_typeOfName_0 1 rfl rfl)
theorem dX3_typeOfName_2 : decode cX3_typeOfName 2 = .ok (.aload_n 0, 1) := dk_42 (dk_at dksX3_typeOfName_0 2 rfl rfl)
theorem dX3_typeOfName_3 : decode cX3_typeOfName 3 = .ok (.iload_n 1, 1) := dk_27 (dk_at dksX3_typeOfName_0 3 rfl rfl)
theorem dX3_typeOfName_4 : decode cX3_typeOfName 4 = .ok (.iload_n 2, 1) := dk_28 (dk_at dksX3_typeOfName_0 4 rfl rfl)
theorem dX3_typeOfName_5 : decode cX3_typeOfName 5 = .ok (.invokevirtual 274, 3) := dk_182 1 18 (dk_at dksX3_typeOfName_0 5 rfl rfl)
theorem dX3_typeOfName_8 : decode cX3_typeOfName 8 = .ok (.invokevirtual 281, 3) := dk_182 1 25 (dk_at dksX3_typeOfName_0 8 rfl rfl)
theorem dX3_typeOfName_11 : decode cX3_typeOfName 11 = .ok (.istore_n 3, 1) := dk_62 (dk_at dksX3_typeOfName_0 11 rfl rfl)
theorem dX3_typeOfName_12 : decode cX3_typeOfName 12 = .ok (.iload_n 3, 1) := dk_29 (dk_at dksX3_typeOfName_0 12 rfl rfl)
theorem dX3_typeOfName_13 : decode cX3_typeOfName 13 = .ok (.iconst (-1), 1) := dk_2 (dk_at dksX3_typeOfName_0 13 rfl rfl)
theorem dX3_typeOfName_14 : decode cX3_typeOfName 14 = .ok (.if_icmp .ne 93, 3) := dk_160 0 93 (dk_at dksX3_typeOfName_0 14 rfl rfl)
theorem dX3_typeOfName_17 : decode cX3_typeOfName 17 = .ok (.iconst 0, 1) := dk_3 (dk_at dksX3_typeOfName_0 17 rfl rfl)
theorem dX3_typeOfName_18 : decode cX3_typeOfName 18 = .ok (.istore 4, 2) := dk_54 4 (dk_at dksX3_typeOfName_0 18 rfl rfl)
theorem dX3_typeOfName_20 : decode cX3_typeOfName 20 = .ok (.iconst 0, 1) := dk_3 (dk_at dksX3_typeOfName_0 20 rfl rfl)
theorem dX3_typeOfName_21 : decode cX3_typeOfName 21 = .ok (.istore 5, 2) := dk_54 5 (dk_at dksX3_typeOfName_0 21 rfl rfl)
theorem dX3_typeOfName_23 : decode cX3_typeOfName 23 = .ok (.iload 5, 2) := dk_21 5 (dk_at dksX3_typeOfName_1 0 rfl rfl)
theorem dX3_typeOfName_25 : decode cX3_typeOfName 25 = .ok (.aload_n 0, 1) := dk_42 (dk_at dksX3_typeOfName_1 2 rfl rfl)
theorem dX3_typeOfName_26 : decode cX3_typeOfName 26 = .ok (.getfield 30, 3) := dk_180 0 30 (dk_at dksX3_typeOfName_1 3 rfl rfl)
theorem dX3_typeOfName_29 : decode cX3_typeOfName 29 = .ok (.iload_n 1, 1) := dk_27 (dk_at dksX3_typeOfName_1 6 rfl rfl)
theorem dX3_typeOfName_30 : decode cX3_typeOfName 30 = .ok (.iaload, 1) := dk_46 (dk_at dksX3_typeOfName_1 7 rfl rfl)
theorem dX3_typeOfName_31 : decode cX3_typeOfName 31 = .ok (.if_icmp .ge 45, 3) := dk_162 0 45 (dk_at dksX3_typeOfName_1 8 rfl rfl)
theorem dX3_typeOfName_34 : decode cX3_typeOfName 34 = .ok (.aload_n 0, 1) := dk_42 (dk_at dksX3_typeOfName_1 11 rfl rfl)
theorem dX3_typeOfName_35 : decode cX3_typeOfName 35 = .ok (.getfield 258, 3) := dk_180 1 2 (dk_at dksX3_typeOfName_1 12 rfl rfl)
theorem dX3_typeOfName_38 : decode cX3_typeOfName 38 = .ok (.ifCond .eq 38, 3) := dk_153 0 38 (dk_at dksX3_typeOfName_1 15 rfl rfl)
theorem dX3_typeOfName_41 : decode cX3_typeOfName 41 = .ok (.iload 4, 2) := dk_21 4 (dk_at dksX3_typeOfName_1 18 rfl rfl)
theorem dX3_typeOfName_43 : decode cX3_typeOfName 43 = .ok (.ifCond .ne 20, 3) := dk_154 0 20 (dk_at dksX3_typeOfName_1 20 rfl rfl)
theorem dX3_typeOfName_46 : decode cX3_typeOfName 46 = .ok (.aload_n 0, 1) := dk_42 (dk_at dksX3_typeOfName_1 23 rfl rfl)
theorem dX3_typeOfName_47 : decode cX3_typeOfName 47 = .ok (.getfield 108, 3) := dk_180 0 108 (dk_at dksX3_typeOfName_2 0 rfl rfl)
theorem dX3_typeOfName_50 : decode cX3_typeOfName 50 = .ok (.iload 5, 2) := dk_21 5 (dk_at dksX3_typeOfName_2 3 rfl rfl)
theorem dX3_typeOfName_52 : decode cX3_typeOfName 52 = .ok (.laload, 1) := dk_47 (dk_at dksX3_typeOfName_2 5 rfl rfl)
theorem dX3_typeOfName_53 : decode cX3_typeOfName 53 = .ok (.aload_n 0, 1) := dk_42 (dk_at dksX3_typeOfName_2 6 rfl rfl)
theorem dX3_typeOfName_54 : decode cX3_typeOfName 54 = .ok (.iload_n 1, 1) := dk_27 (dk_at dksX3_typeOfName_2 7 rfl rfl)
theorem dX3_typeOfName_55 : decode cX3_typeOfName 55 = .ok (.iload_n 2, 1) := dk_28 (dk_at dksX3_typeOfName_2 8 rfl rfl)
theorem dX3_typeOfName_56 : decode cX3_typeOfName 56 = .ok (.invokevirtual 274, 3) := dk_182 1 18 (dk_at dksX3_typeOfName_2 9 rfl rfl)
theorem dX3_typeOfName_59 : decode cX3_typeOfName 59 = .ok (.lcmp, 1) := dk_148 (dk_at dksX3_typeOfName_2 12 rfl rfl)
theorem dX3_typeOfName_60 : decode cX3_typeOfName 60 = .ok (.ifCond .ne 7, 3) := dk_154 0 7 (dk_at dksX3_typeOfName_2 13 rfl rfl)
theorem dX3_typeOfName_63 : decode cX3_typeOfName 63 = .ok (.iconst 1, 1) := dk_4 (dk_at dksX3_typeOfName_2 16 rfl rfl)
theorem dX3_typeOfName_64 : decode cX3_typeOfName 64 = .ok (.goto 4, 3) := dk_167 0 4 (dk_at dksX3_typeOfName_2 17 rfl rfl)
theorem dX3_typeOfName_67 : decode cX3_typeOfName 67 = .ok (.iconst 0, 1) := dk_3 (dk_at dksX3_typeOfName_2 20 rfl rfl)
theorem dX3_typeOfName_68 : decode cX3_typeOfName 68 = .ok (.istore 4, 2) := dk_54 4 (dk_at dksX3_typeOfName_2 21 rfl rfl)
theorem dX3_typeOfName_70 : decode cX3_typeOfName 70 = .ok (.iinc 5 1, 3) := dk_132 5 1 (dk_at dksX3_typeOfName_3 0 rfl rfl)
theorem dX3_typeOfName_73 : decode cX3_typeOfName 73 = .ok (.goto (-50), 3) := dk_167 255 206 (dk_at dksX3_typeOfName_3 3 rfl rfl)
theorem dX3_typeOfName_76 : decode cX3_typeOfName 76 = .ok (.aload_n 0, 1) := dk_42 (dk_at dksX3_typeOfName_3 6 rfl rfl)
theorem dX3_typeOfName_77 : decode cX3_typeOfName 77 = .ok (.getfield 258, 3) := dk_180 1 2 (dk_at dksX3_typeOfName_3 7 rfl rfl)
theorem dX3_typeOfName_80 : decode cX3_typeOfName 80 = .ok (.ifCond .eq 25, 3) := dk_153 0 25 (dk_at dksX3_typeOfName_3 10 rfl rfl)
theorem dX3_typeOfName_83 : decode cX3_typeOfName 83 = .ok (.iload 4, 2) := dk_21 4 (dk_at dksX3_typeOfName_3 13 rfl rfl)
theorem dX3_typeOfName_85 : decode cX3_typeOfName 85 = .ok (.ifCond .ne 20, 3) := dk_154 0 20 (dk_at dksX3_typeOfName_3 15 rfl rfl)
theorem dX3_typeOfName_88 : decode cX3_typeOfName 88 = .ok (.aload_n 0, 1) := dk_42 (dk_at dksX3_typeOfName_3 18 rfl rfl)
theorem dX3_typeOfName_89 : decode cX3_typeOfName 89 = .ok (.iconst 2, 1) := dk_5 (dk_at dksX3_typeOfName_3 19 rfl rfl)
theorem dX3_typeOfName_90 : decode cX3_typeOfName 90 = .ok (.aload_n 0, 1) := dk_42 (dk_at dksX3_typeOfName_3 20 rfl rfl)
theorem dX3_typeOfName_91 : decode cX3_typeOfName 91 = .ok (.getfield 54, 3) := dk_180 0 54 (dk_at dksX3_typeOfName_3 21 rfl rfl)
theorem dX3_typeOfName_94 : decode cX3_typeOfName 94 = .ok (.sipush 400, 3) := dk_17 1 144 (dk_at dksX3_typeOfName_4 0 rfl rfl)
theorem dX3_typeOfName_97 : decode cX3_typeOfName 97 = .ok (.iload_n 1, 1) := dk_27 (dk_at dksX3_typeOfName_4 3 rfl rfl)
theorem dX3_typeOfName_98 : decode cX3_typeOfName 98 = .ok (.imul, 1) := dk_104 (dk_at dksX3_typeOfName_4 4 rfl rfl)
theorem dX3_typeOfName_99 : decode cX3_typeOfName 99 = .ok (.iload_n 2, 1) := dk_28 (dk_at dksX3_typeOfName_4 5 rfl rfl)
theorem dX3_typeOfName_100 : decode cX3_typeOfName 100 = .ok (.iadd, 1) := dk_96 (dk_at dksX3_typeOfName_4 6 rfl rfl)
theorem dX3_typeOfName_101 : decode cX3_typeOfName 101 = .ok (.iaload, 1) := dk_46 (dk_at dksX3_typeOfName_4 7 rfl rfl)
theorem dX3_typeOfName_102 : decode cX3_typeOfName 102 = .ok (.invokevirtual 262, 3) := dk_182 1 6 (dk_at dksX3_typeOfName_4 8 rfl rfl)
theorem dX3_typeOfName_105 : decode cX3_typeOfName 105 = .ok (.iconst 0, 1) := dk_3 (dk_at dksX3_typeOfName_4 11 rfl rfl)
theorem dX3_typeOfName_106 : decode cX3_typeOfName 106 = .ok (.ireturn, 1) := dk_172 (dk_at dksX3_typeOfName_4 12 rfl rfl)
theorem dX3_typeOfName_107 : decode cX3_typeOfName 107 = .ok (.aload_n 0, 1) := dk_42 (dk_at dksX3_typeOfName_4 13 rfl rfl)
theorem dX3_typeOfName_108 : decode cX3_typeOfName 108 = .ok (.iload_n 3, 1) := dk_29 (dk_at dksX3_typeOfName_4 14 rfl rfl)
theorem dX3_typeOfName_109 : decode cX3_typeOfName 109 = .ok (.aload_n 0, 1) := dk_42 (dk_at dksX3_typeOfName_4 15 rfl rfl)
theorem dX3_typeOfName_110 : decode cX3_typeOfName 110 = .ok (.iload_n 1, 1) := dk_27 (dk_at dksX3_typeOfName_4 16 rfl rfl)
theorem dX3_typeOfName_111 : decode cX3_typeOfName 111 = .ok (.iload_n 2, 1) := dk_28 (dk_at dksX3_typeOfName_4 17 rfl rfl)
theorem dX3_typeOfName_112 : decode cX3_typeOfName 112 = .ok (.iconst 2, 1) := dk_5 (dk_at dksX3_typeOfName_4 18 rfl rfl)
theorem dX3_typeOfName_113 : decode cX3_typeOfName 113 = .ok (.iadd, 1) := dk_96 (dk_at dksX3_typeOfName_4 19 rfl rfl)
theorem dX3_typeOfName_114 : decode cX3_typeOfName 114 = .ok (.invokevirtual 274, 3) := dk_182 1 18 (dk_at dksX3_typeOfName_4 20 rfl rfl)
theorem dX3_typeOfName_117 : decode cX3_typeOfName 117 = .ok (.invokevirtual 285, 3) := dk_182 1 29 (dk_at dksX3_typeOfName_5 0 rfl rfl)
theorem dX3_typeOfName_120 : decode cX3_typeOfName 120 = .ok (.istore 4, 2) := dk_54 4 (dk_at dksX3_typeOfName_5 3 rfl rfl)
theorem dX3_typeOfName_122 : decode cX3_typeOfName 122 = .ok (.iload 4, 2) := dk_21 4 (dk_at dksX3_typeOfName_5 5 rfl rfl)
theorem dX3_typeOfName_124 : decode cX3_typeOfName 124 = .ok (.iconst (-1), 1) := dk_2 (dk_at dksX3_typeOfName_5 7 rfl rfl)
theorem dX3_typeOfName_125 : decode cX3_typeOfName 125 = .ok (.if_icmp .ne 31, 3) := dk_160 0 31 (dk_at dksX3_typeOfName_5 8 rfl rfl)
theorem dX3_typeOfName_128 : decode cX3_typeOfName 128 = .ok (.aload_n 0, 1) := dk_42 (dk_at dksX3_typeOfName_5 11 rfl rfl)
theorem dX3_typeOfName_129 : decode cX3_typeOfName 129 = .ok (.getfield 258, 3) := dk_180 1 2 (dk_at dksX3_typeOfName_5 12 rfl rfl)
theorem dX3_typeOfName_132 : decode cX3_typeOfName 132 = .ok (.ifCond .eq 22, 3) := dk_153 0 22 (dk_at dksX3_typeOfName_5 15 rfl rfl)
theorem dX3_typeOfName_135 : decode cX3_typeOfName 135 = .ok (.aload_n 0, 1) := dk_42 (dk_at dksX3_typeOfName_5 18 rfl rfl)
theorem dX3_typeOfName_136 : decode cX3_typeOfName 136 = .ok (.iconst 2, 1) := dk_5 (dk_at dksX3_typeOfName_5 19 rfl rfl)
theorem dX3_typeOfName_137 : decode cX3_typeOfName 137 = .ok (.aload_n 0, 1) := dk_42 (dk_at dksX3_typeOfName_5 20 rfl rfl)
theorem dX3_typeOfName_138 : decode cX3_typeOfName 138 = .ok (.getfield 54, 3) := dk_180 0 54 (dk_at dksX3_typeOfName_5 21 rfl rfl)
theorem dX3_typeOfName_141 : decode cX3_typeOfName 141 = .ok (.sipush 400, 3) := dk_17 1 144 (dk_at dksX3_typeOfName_6 0 rfl rfl)
theorem dX3_typeOfName_144 : decode cX3_typeOfName 144 = .ok (.iload_n 1, 1) := dk_27 (dk_at dksX3_typeOfName_6 3 rfl rfl)
theorem dX3_typeOfName_145 : decode cX3_typeOfName 145 = .ok (.imul, 1) := dk_104 (dk_at dksX3_typeOfName_6 4 rfl rfl)
theorem dX3_typeOfName_146 : decode cX3_typeOfName 146 = .ok (.iload_n 2, 1) := dk_28 (dk_at dksX3_typeOfName_6 5 rfl rfl)
theorem dX3_typeOfName_147 : decode cX3_typeOfName 147 = .ok (.iadd, 1) := dk_96 (dk_at dksX3_typeOfName_6 6 rfl rfl)
theorem dX3_typeOfName_148 : decode cX3_typeOfName 148 = .ok (.iconst 2, 1) := dk_5 (dk_at dksX3_typeOfName_6 7 rfl rfl)
theorem dX3_typeOfName_149 : decode cX3_typeOfName 149 = .ok (.iadd, 1) := dk_96 (dk_at dksX3_typeOfName_6 8 rfl rfl)
theorem dX3_typeOfName_150 : decode cX3_typeOfName 150 = .ok (.iaload, 1) := dk_46 (dk_at dksX3_typeOfName_6 9 rfl rfl)
theorem dX3_typeOfName_151 : decode cX3_typeOfName 151 = .ok (.invokevirtual 262, 3) := dk_182 1 6 (dk_at dksX3_typeOfName_6 10 rfl rfl)
theorem dX3_typeOfName_154 : decode cX3_typeOfName 154 = .ok (.iconst 0, 1) := dk_3 (dk_at dksX3_typeOfName_6 13 rfl rfl)
theorem dX3_typeOfName_155 : decode cX3_typeOfName 155 = .ok (.ireturn, 1) := dk_172 (dk_at dksX3_typeOfName_6 14 rfl rfl)
theorem dX3_typeOfName_156 : decode cX3_typeOfName 156 = .ok (.aload_n 0, 1) := dk_42 (dk_at dksX3_typeOfName_6 15 rfl rfl)
theorem dX3_typeOfName_157 : decode cX3_typeOfName 157 = .ok (.getfield 258, 3) := dk_180 1 2 (dk_at dksX3_typeOfName_6 16 rfl rfl)
theorem dX3_typeOfName_160 : decode cX3_typeOfName 160 = .ok (.ifCond .eq 18, 3) := dk_153 0 18 (dk_at dksX3_typeOfName_6 19 rfl rfl)
theorem dX3_typeOfName_163 : decode cX3_typeOfName 163 = .ok (.aload_n 0, 1) := dk_42 (dk_at dksX3_typeOfName_6 22 rfl rfl)
theorem dX3_typeOfName_164 : decode cX3_typeOfName 164 = .ok (.getfield 27, 3) := dk_180 0 27 (dk_at dksX3_typeOfName_7 0 rfl rfl)
theorem dX3_typeOfName_167 : decode cX3_typeOfName 167 = .ok (.bipush 8, 2) := dk_16 8 (dk_at dksX3_typeOfName_7 3 rfl rfl)
theorem dX3_typeOfName_169 : decode cX3_typeOfName 169 = .ok (.iload_n 3, 1) := dk_29 (dk_at dksX3_typeOfName_7 5 rfl rfl)
theorem dX3_typeOfName_170 : decode cX3_typeOfName 170 = .ok (.imul, 1) := dk_104 (dk_at dksX3_typeOfName_7 6 rfl rfl)
theorem dX3_typeOfName_171 : decode cX3_typeOfName 171 = .ok (.iload 4, 2) := dk_21 4 (dk_at dksX3_typeOfName_7 7 rfl rfl)
theorem dX3_typeOfName_173 : decode cX3_typeOfName 173 = .ok (.iadd, 1) := dk_96 (dk_at dksX3_typeOfName_7 9 rfl rfl)
theorem dX3_typeOfName_174 : decode cX3_typeOfName 174 = .ok (.iaload, 1) := dk_46 (dk_at dksX3_typeOfName_7 10 rfl rfl)
theorem dX3_typeOfName_175 : decode cX3_typeOfName 175 = .ok (.goto 15, 3) := dk_167 0 15 (dk_at dksX3_typeOfName_7 11 rfl rfl)
theorem dX3_typeOfName_178 : decode cX3_typeOfName 178 = .ok (.aload_n 0, 1) := dk_42 (dk_at dksX3_typeOfName_7 14 rfl rfl)
theorem dX3_typeOfName_179 : decode cX3_typeOfName 179 = .ok (.getfield 129, 3) := dk_180 0 129 (dk_at dksX3_typeOfName_7 15 rfl rfl)
theorem dX3_typeOfName_182 : decode cX3_typeOfName 182 = .ok (.bipush 8, 2) := dk_16 8 (dk_at dksX3_typeOfName_7 18 rfl rfl)
theorem dX3_typeOfName_184 : decode cX3_typeOfName 184 = .ok (.iload_n 3, 1) := dk_29 (dk_at dksX3_typeOfName_7 20 rfl rfl)
theorem dX3_typeOfName_185 : decode cX3_typeOfName 185 = .ok (.imul, 1) := dk_104 (dk_at dksX3_typeOfName_7 21 rfl rfl)
theorem dX3_typeOfName_186 : decode cX3_typeOfName 186 = .ok (.iload 4, 2) := dk_21 4 (dk_at dksX3_typeOfName_7 22 rfl rfl)
theorem dX3_typeOfName_188 : decode cX3_typeOfName 188 = .ok (.iadd, 1) := dk_96 (dk_at dksX3_typeOfName_8 0 rfl rfl)
theorem dX3_typeOfName_189 : decode cX3_typeOfName 189 = .ok (.iaload, 1) := dk_46 (dk_at dksX3_typeOfName_8 1 rfl rfl)
theorem dX3_typeOfName_190 : decode cX3_typeOfName 190 = .ok (.ireturn, 1) := dk_172 (dk_at dksX3_typeOfName_8 2 rfl rfl)
abbrev cX3_behindNamed : ByteArray := prog_14_method_26_code
def yX3_behindNamed : MethodName := ⟨RX3, "behindNamed", "(IJ)I"⟩
def dkwX3_behindNamed_2 : List UInt8 := [154, 0, 15, 42, 180, 0, 33, 6, 27, 104, 21, 4, 96, 46, 172, 132, 4, 1, 167, 255, 194, 2, 172]
abbrev dktX3_behindNamed_2 : List UInt8 := dkwX3_behindNamed_2 ++ []
def dkwX3_behindNamed_1 : List UInt8 := [46, 2, 159, 0, 36, 42, 180, 0, 13, 42, 180, 0, 33, 6, 27, 104, 21, 4, 96, 46, 47, 32, 148]
abbrev dktX3_behindNamed_1 : List UInt8 := dkwX3_behindNamed_1 ++ dktX3_behindNamed_2
def dkwX3_behindNamed_0 : List UInt8 := [3, 54, 4, 21, 4, 42, 180, 0, 30, 27, 46, 162, 0, 57, 42, 180, 0, 33, 6, 27, 104, 21, 4, 96]
abbrev dktX3_behindNamed_0 : List UInt8 := dkwX3_behindNamed_0 ++ dktX3_behindNamed_1
theorem dksX3_behindNamed_0 : cX3_behindNamed.data.toList.drop 0 = dktX3_behindNamed_0 := by decide +kernel
theorem dksX3_behindNamed_1 : cX3_behindNamed.data.toList.drop 24 = dktX3_behindNamed_1 := dk_seg dksX3_behindNamed_0 24 rfl rfl
theorem dksX3_behindNamed_2 : cX3_behindNamed.data.toList.drop 47 = dktX3_behindNamed_2 := dk_seg dksX3_behindNamed_1 23 rfl rfl
theorem dX3_behindNamed_0 : decode cX3_behindNamed 0 = .ok (.iconst 0, 1) := dk_3 (dk_at dksX3_behindNamed_0 0 rfl rfl)
theorem dX3_behindNamed_1 : decode cX3_behindNamed 1 = .ok (.istore 4, 2) := dk_54 4 (dk_at dksX3_behindNamed_0 1 rfl rfl)
theorem dX3_behindNamed_3 : decode cX3_behindNamed 3 = .ok (.iload 4, 2) := dk_21 4 (dk_at dksX3_behindNamed_0 3 rfl rfl)
theorem dX3_behindNamed_5 : decode cX3_behindNamed 5 = .ok (.aload_n 0, 1) := dk_42 (dk_at dksX3_behindNamed_0 5 rfl rfl)
theorem dX3_behindNamed_6 : decode cX3_behindNamed 6 = .ok (.getfield 30, 3) := dk_180 0 30 (dk_at dksX3_behindNamed_0 6 rfl rfl)
theorem dX3_behindNamed_9 : decode cX3_behindNamed 9 = .ok (.iload_n 1, 1) := dk_27 (dk_at dksX3_behindNamed_0 9 rfl rfl)
theorem dX3_behindNamed_10 : decode cX3_behindNamed 10 = .ok (.iaload, 1) := dk_46 (dk_at dksX3_behindNamed_0 10 rfl rfl)
theorem dX3_behindNamed_11 : decode cX3_behindNamed 11 = .ok (.if_icmp .ge 57, 3) := dk_162 0 57 (dk_at dksX3_behindNamed_0 11 rfl rfl)
theorem dX3_behindNamed_14 : decode cX3_behindNamed 14 = .ok (.aload_n 0, 1) := dk_42 (dk_at dksX3_behindNamed_0 14 rfl rfl)
theorem dX3_behindNamed_15 : decode cX3_behindNamed 15 = .ok (.getfield 33, 3) := dk_180 0 33 (dk_at dksX3_behindNamed_0 15 rfl rfl)
theorem dX3_behindNamed_18 : decode cX3_behindNamed 18 = .ok (.iconst 3, 1) := dk_6 (dk_at dksX3_behindNamed_0 18 rfl rfl)
theorem dX3_behindNamed_19 : decode cX3_behindNamed 19 = .ok (.iload_n 1, 1) := dk_27 (dk_at dksX3_behindNamed_0 19 rfl rfl)
theorem dX3_behindNamed_20 : decode cX3_behindNamed 20 = .ok (.imul, 1) := dk_104 (dk_at dksX3_behindNamed_0 20 rfl rfl)
theorem dX3_behindNamed_21 : decode cX3_behindNamed 21 = .ok (.iload 4, 2) := dk_21 4 (dk_at dksX3_behindNamed_0 21 rfl rfl)
theorem dX3_behindNamed_23 : decode cX3_behindNamed 23 = .ok (.iadd, 1) := dk_96 (dk_at dksX3_behindNamed_0 23 rfl rfl)
theorem dX3_behindNamed_24 : decode cX3_behindNamed 24 = .ok (.iaload, 1) := dk_46 (dk_at dksX3_behindNamed_1 0 rfl rfl)
theorem dX3_behindNamed_25 : decode cX3_behindNamed 25 = .ok (.iconst (-1), 1) := dk_2 (dk_at dksX3_behindNamed_1 1 rfl rfl)
theorem dX3_behindNamed_26 : decode cX3_behindNamed 26 = .ok (.if_icmp .eq 36, 3) := dk_159 0 36 (dk_at dksX3_behindNamed_1 2 rfl rfl)
theorem dX3_behindNamed_29 : decode cX3_behindNamed 29 = .ok (.aload_n 0, 1) := dk_42 (dk_at dksX3_behindNamed_1 5 rfl rfl)
theorem dX3_behindNamed_30 : decode cX3_behindNamed 30 = .ok (.getfield 13, 3) := dk_180 0 13 (dk_at dksX3_behindNamed_1 6 rfl rfl)
theorem dX3_behindNamed_33 : decode cX3_behindNamed 33 = .ok (.aload_n 0, 1) := dk_42 (dk_at dksX3_behindNamed_1 9 rfl rfl)
theorem dX3_behindNamed_34 : decode cX3_behindNamed 34 = .ok (.getfield 33, 3) := dk_180 0 33 (dk_at dksX3_behindNamed_1 10 rfl rfl)
theorem dX3_behindNamed_37 : decode cX3_behindNamed 37 = .ok (.iconst 3, 1) := dk_6 (dk_at dksX3_behindNamed_1 13 rfl rfl)
theorem dX3_behindNamed_38 : decode cX3_behindNamed 38 = .ok (.iload_n 1, 1) := dk_27 (dk_at dksX3_behindNamed_1 14 rfl rfl)
theorem dX3_behindNamed_39 : decode cX3_behindNamed 39 = .ok (.imul, 1) := dk_104 (dk_at dksX3_behindNamed_1 15 rfl rfl)
theorem dX3_behindNamed_40 : decode cX3_behindNamed 40 = .ok (.iload 4, 2) := dk_21 4 (dk_at dksX3_behindNamed_1 16 rfl rfl)
theorem dX3_behindNamed_42 : decode cX3_behindNamed 42 = .ok (.iadd, 1) := dk_96 (dk_at dksX3_behindNamed_1 18 rfl rfl)
theorem dX3_behindNamed_43 : decode cX3_behindNamed 43 = .ok (.iaload, 1) := dk_46 (dk_at dksX3_behindNamed_1 19 rfl rfl)
theorem dX3_behindNamed_44 : decode cX3_behindNamed 44 = .ok (.laload, 1) := dk_47 (dk_at dksX3_behindNamed_1 20 rfl rfl)
theorem dX3_behindNamed_45 : decode cX3_behindNamed 45 = .ok (.lload_n 2, 1) := dk_32 (dk_at dksX3_behindNamed_1 21 rfl rfl)
theorem dX3_behindNamed_46 : decode cX3_behindNamed 46 = .ok (.lcmp, 1) := dk_148 (dk_at dksX3_behindNamed_1 22 rfl rfl)
theorem dX3_behindNamed_47 : decode cX3_behindNamed 47 = .ok (.ifCond .ne 15, 3) := dk_154 0 15 (dk_at dksX3_behindNamed_2 0 rfl rfl)
theorem dX3_behindNamed_50 : decode cX3_behindNamed 50 = .ok (.aload_n 0, 1) := dk_42 (dk_at dksX3_behindNamed_2 3 rfl rfl)
theorem dX3_behindNamed_51 : decode cX3_behindNamed 51 = .ok (.getfield 33, 3) := dk_180 0 33 (dk_at dksX3_behindNamed_2 4 rfl rfl)
theorem dX3_behindNamed_54 : decode cX3_behindNamed 54 = .ok (.iconst 3, 1) := dk_6 (dk_at dksX3_behindNamed_2 7 rfl rfl)
theorem dX3_behindNamed_55 : decode cX3_behindNamed 55 = .ok (.iload_n 1, 1) := dk_27 (dk_at dksX3_behindNamed_2 8 rfl rfl)
theorem dX3_behindNamed_56 : decode cX3_behindNamed 56 = .ok (.imul, 1) := dk_104 (dk_at dksX3_behindNamed_2 9 rfl rfl)
theorem dX3_behindNamed_57 : decode cX3_behindNamed 57 = .ok (.iload 4, 2) := dk_21 4 (dk_at dksX3_behindNamed_2 10 rfl rfl)
theorem dX3_behindNamed_59 : decode cX3_behindNamed 59 = .ok (.iadd, 1) := dk_96 (dk_at dksX3_behindNamed_2 12 rfl rfl)
theorem dX3_behindNamed_60 : decode cX3_behindNamed 60 = .ok (.iaload, 1) := dk_46 (dk_at dksX3_behindNamed_2 13 rfl rfl)
theorem dX3_behindNamed_61 : decode cX3_behindNamed 61 = .ok (.ireturn, 1) := dk_172 (dk_at dksX3_behindNamed_2 14 rfl rfl)
theorem dX3_behindNamed_62 : decode cX3_behindNamed 62 = .ok (.iinc 4 1, 3) := dk_132 4 1 (dk_at dksX3_behindNamed_2 15 rfl rfl)
theorem dX3_behindNamed_65 : decode cX3_behindNamed 65 = .ok (.goto (-62), 3) := dk_167 255 194 (dk_at dksX3_behindNamed_2 18 rfl rfl)
theorem dX3_behindNamed_68 : decode cX3_behindNamed 68 = .ok (.iconst (-1), 1) := dk_2 (dk_at dksX3_behindNamed_2 21 rfl rfl)
theorem dX3_behindNamed_69 : decode cX3_behindNamed 69 = .ok (.ireturn, 1) := dk_172 (dk_at dksX3_behindNamed_2 22 rfl rfl)
abbrev cX3_columnNamed : ByteArray := prog_14_method_27_code
def yX3_columnNamed : MethodName := ⟨RX3, "columnNamed", "(IJ)I"⟩
def dkwX3_columnNamed_1 : List UInt8 := [96, 47, 32, 148, 154, 0, 6, 21, 4, 172, 132, 4, 1, 167, 255, 222, 2, 172]
abbrev dktX3_columnNamed_1 : List UInt8 := dkwX3_columnNamed_1 ++ []
def dkwX3_columnNamed_0 : List UInt8 := [3, 54, 4, 21, 4, 42, 180, 0, 21, 27, 46, 162, 0, 29, 42, 180, 0, 24, 16, 8, 27, 104, 21, 4]
abbrev dktX3_columnNamed_0 : List UInt8 := dkwX3_columnNamed_0 ++ dktX3_columnNamed_1
theorem dksX3_columnNamed_0 : cX3_columnNamed.data.toList.drop 0 = dktX3_columnNamed_0 := by decide +kernel
theorem dksX3_columnNamed_1 : cX3_columnNamed.data.toList.drop 24 = dktX3_columnNamed_1 := dk_seg dksX3_columnNamed_0 24 rfl rfl
theorem dX3_columnNamed_0 : decode cX3_columnNamed 0 = .ok (.iconst 0, 1) := dk_3 (dk_at dksX3_columnNamed_0 0 rfl rfl)
theorem dX3_columnNamed_1 : decode cX3_columnNamed 1 = .ok (.istore 4, 2) := dk_54 4 (dk_at dksX3_columnNamed_0 1 rfl rfl)
theorem dX3_columnNamed_3 : decode cX3_columnNamed 3 = .ok (.iload 4, 2) := dk_21 4 (dk_at dksX3_columnNamed_0 3 rfl rfl)
theorem dX3_columnNamed_5 : decode cX3_columnNamed 5 = .ok (.aload_n 0, 1) := dk_42 (dk_at dksX3_columnNamed_0 5 rfl rfl)
theorem dX3_columnNamed_6 : decode cX3_columnNamed 6 = .ok (.getfield 21, 3) := dk_180 0 21 (dk_at dksX3_columnNamed_0 6 rfl rfl)
theorem dX3_columnNamed_9 : decode cX3_columnNamed 9 = .ok (.iload_n 1, 1) := dk_27 (dk_at dksX3_columnNamed_0 9 rfl rfl)
theorem dX3_columnNamed_10 : decode cX3_columnNamed 10 = .ok (.iaload, 1) := dk_46 (dk_at dksX3_columnNamed_0 10 rfl rfl)
theorem dX3_columnNamed_11 : decode cX3_columnNamed 11 = .ok (.if_icmp .ge 29, 3) := dk_162 0 29 (dk_at dksX3_columnNamed_0 11 rfl rfl)
theorem dX3_columnNamed_14 : decode cX3_columnNamed 14 = .ok (.aload_n 0, 1) := dk_42 (dk_at dksX3_columnNamed_0 14 rfl rfl)
theorem dX3_columnNamed_15 : decode cX3_columnNamed 15 = .ok (.getfield 24, 3) := dk_180 0 24 (dk_at dksX3_columnNamed_0 15 rfl rfl)
theorem dX3_columnNamed_18 : decode cX3_columnNamed 18 = .ok (.bipush 8, 2) := dk_16 8 (dk_at dksX3_columnNamed_0 18 rfl rfl)
theorem dX3_columnNamed_20 : decode cX3_columnNamed 20 = .ok (.iload_n 1, 1) := dk_27 (dk_at dksX3_columnNamed_0 20 rfl rfl)
theorem dX3_columnNamed_21 : decode cX3_columnNamed 21 = .ok (.imul, 1) := dk_104 (dk_at dksX3_columnNamed_0 21 rfl rfl)
theorem dX3_columnNamed_22 : decode cX3_columnNamed 22 = .ok (.iload 4, 2) := dk_21 4 (dk_at dksX3_columnNamed_0 22 rfl rfl)
theorem dX3_columnNamed_24 : decode cX3_columnNamed 24 = .ok (.iadd, 1) := dk_96 (dk_at dksX3_columnNamed_1 0 rfl rfl)
theorem dX3_columnNamed_25 : decode cX3_columnNamed 25 = .ok (.laload, 1) := dk_47 (dk_at dksX3_columnNamed_1 1 rfl rfl)
theorem dX3_columnNamed_26 : decode cX3_columnNamed 26 = .ok (.lload_n 2, 1) := dk_32 (dk_at dksX3_columnNamed_1 2 rfl rfl)
theorem dX3_columnNamed_27 : decode cX3_columnNamed 27 = .ok (.lcmp, 1) := dk_148 (dk_at dksX3_columnNamed_1 3 rfl rfl)
theorem dX3_columnNamed_28 : decode cX3_columnNamed 28 = .ok (.ifCond .ne 6, 3) := dk_154 0 6 (dk_at dksX3_columnNamed_1 4 rfl rfl)
theorem dX3_columnNamed_31 : decode cX3_columnNamed 31 = .ok (.iload 4, 2) := dk_21 4 (dk_at dksX3_columnNamed_1 7 rfl rfl)
theorem dX3_columnNamed_33 : decode cX3_columnNamed 33 = .ok (.ireturn, 1) := dk_172 (dk_at dksX3_columnNamed_1 9 rfl rfl)
theorem dX3_columnNamed_34 : decode cX3_columnNamed 34 = .ok (.iinc 4 1, 3) := dk_132 4 1 (dk_at dksX3_columnNamed_1 10 rfl rfl)
theorem dX3_columnNamed_37 : decode cX3_columnNamed 37 = .ok (.goto (-34), 3) := dk_167 255 222 (dk_at dksX3_columnNamed_1 13 rfl rfl)
theorem dX3_columnNamed_40 : decode cX3_columnNamed 40 = .ok (.iconst (-1), 1) := dk_2 (dk_at dksX3_columnNamed_1 16 rfl rfl)
theorem dX3_columnNamed_41 : decode cX3_columnNamed 41 = .ok (.ireturn, 1) := dk_172 (dk_at dksX3_columnNamed_1 17 rfl rfl)
abbrev cX3_hasWhere : ByteArray := prog_14_method_32_code
def yX3_hasWhere : MethodName := ⟨RX3, "hasWhere", "(I)Z"⟩
def dkwX3_hasWhere_0 : List UInt8 := [42, 180, 0, 66, 16, 8, 27, 104, 16, 7, 96, 46, 158, 0, 7, 4, 167, 0, 4, 3, 172]
abbrev dktX3_hasWhere_0 : List UInt8 := dkwX3_hasWhere_0 ++ []
theorem dksX3_hasWhere_0 : cX3_hasWhere.data.toList.drop 0 = dktX3_hasWhere_0 := by decide +kernel
theorem dX3_hasWhere_0 : decode cX3_hasWhere 0 = .ok (.aload_n 0, 1) := dk_42 (dk_at dksX3_hasWhere_0 0 rfl rfl)
theorem dX3_hasWhere_1 : decode cX3_hasWhere 1 = .ok (.getfield 66, 3) := dk_180 0 66 (dk_at dksX3_hasWhere_0 1 rfl rfl)
theorem dX3_hasWhere_4 : decode cX3_hasWhere 4 = .ok (.bipush 8, 2) := dk_16 8 (dk_at dksX3_hasWhere_0 4 rfl rfl)
theorem dX3_hasWhere_6 : decode cX3_hasWhere 6 = .ok (.iload_n 1, 1) := dk_27 (dk_at dksX3_hasWhere_0 6 rfl rfl)
theorem dX3_hasWhere_7 : decode cX3_hasWhere 7 = .ok (.imul, 1) := dk_104 (dk_at dksX3_hasWhere_0 7 rfl rfl)
theorem dX3_hasWhere_8 : decode cX3_hasWhere 8 = .ok (.bipush 7, 2) := dk_16 7 (dk_at dksX3_hasWhere_0 8 rfl rfl)
theorem dX3_hasWhere_10 : decode cX3_hasWhere 10 = .ok (.iadd, 1) := dk_96 (dk_at dksX3_hasWhere_0 10 rfl rfl)
theorem dX3_hasWhere_11 : decode cX3_hasWhere 11 = .ok (.iaload, 1) := dk_46 (dk_at dksX3_hasWhere_0 11 rfl rfl)
theorem dX3_hasWhere_12 : decode cX3_hasWhere 12 = .ok (.ifCond .le 7, 3) := dk_158 0 7 (dk_at dksX3_hasWhere_0 12 rfl rfl)
theorem dX3_hasWhere_15 : decode cX3_hasWhere 15 = .ok (.iconst 1, 1) := dk_4 (dk_at dksX3_hasWhere_0 15 rfl rfl)
theorem dX3_hasWhere_16 : decode cX3_hasWhere 16 = .ok (.goto 4, 3) := dk_167 0 4 (dk_at dksX3_hasWhere_0 16 rfl rfl)
theorem dX3_hasWhere_19 : decode cX3_hasWhere 19 = .ok (.iconst 0, 1) := dk_3 (dk_at dksX3_hasWhere_0 19 rfl rfl)
theorem dX3_hasWhere_20 : decode cX3_hasWhere 20 = .ok (.ireturn, 1) := dk_172 (dk_at dksX3_hasWhere_0 20 rfl rfl)
abbrev cX3_fault : ByteArray := prog_14_method_35_code
def yX3_fault : MethodName := ⟨RX3, "fault", "(I)I"⟩
def dkwX3_fault_1 : List UInt8 := [172]
abbrev dktX3_fault_1 : List UInt8 := dkwX3_fault_1 ++ []
def dkwX3_fault_0 : List UInt8 := [27, 154, 0, 10, 42, 180, 1, 51, 167, 0, 16, 27, 4, 160, 0, 10, 42, 180, 0, 75, 167, 0, 4, 2]
abbrev dktX3_fault_0 : List UInt8 := dkwX3_fault_0 ++ dktX3_fault_1
theorem dksX3_fault_0 : cX3_fault.data.toList.drop 0 = dktX3_fault_0 := by decide +kernel
theorem dksX3_fault_1 : cX3_fault.data.toList.drop 24 = dktX3_fault_1 := dk_seg dksX3_fault_0 24 rfl rfl
theorem dX3_fault_0 : decode cX3_fault 0 = .ok (.iload_n 1, 1) := dk_27 (dk_at dksX3_fault_0 0 rfl rfl)
theorem dX3_fault_1 : decode cX3_fault 1 = .ok (.ifCond .ne 10, 3) := dk_154 0 10 (dk_at dksX3_fault_0 1 rfl rfl)
theorem dX3_fault_4 : decode cX3_fault 4 = .ok (.aload_n 0, 1) := dk_42 (dk_at dksX3_fault_0 4 rfl rfl)
theorem dX3_fault_5 : decode cX3_fault 5 = .ok (.getfield 307, 3) := dk_180 1 51 (dk_at dksX3_fault_0 5 rfl rfl)
theorem dX3_fault_8 : decode cX3_fault 8 = .ok (.goto 16, 3) := dk_167 0 16 (dk_at dksX3_fault_0 8 rfl rfl)
theorem dX3_fault_11 : decode cX3_fault 11 = .ok (.iload_n 1, 1) := dk_27 (dk_at dksX3_fault_0 11 rfl rfl)
theorem dX3_fault_12 : decode cX3_fault 12 = .ok (.iconst 1, 1) := dk_4 (dk_at dksX3_fault_0 12 rfl rfl)
theorem dX3_fault_13 : decode cX3_fault 13 = .ok (.if_icmp .ne 10, 3) := dk_160 0 10 (dk_at dksX3_fault_0 13 rfl rfl)
theorem dX3_fault_16 : decode cX3_fault 16 = .ok (.aload_n 0, 1) := dk_42 (dk_at dksX3_fault_0 16 rfl rfl)
theorem dX3_fault_17 : decode cX3_fault 17 = .ok (.getfield 75, 3) := dk_180 0 75 (dk_at dksX3_fault_0 17 rfl rfl)
theorem dX3_fault_20 : decode cX3_fault 20 = .ok (.goto 4, 3) := dk_167 0 4 (dk_at dksX3_fault_0 20 rfl rfl)
theorem dX3_fault_23 : decode cX3_fault 23 = .ok (.iconst (-1), 1) := dk_2 (dk_at dksX3_fault_0 23 rfl rfl)
theorem dX3_fault_24 : decode cX3_fault 24 = .ok (.ireturn, 1) := dk_172 (dk_at dksX3_fault_1 0 rfl rfl)
abbrev cX3_named_2 : ByteArray := prog_14_method_36_code
def yX3_named_2 : MethodName := ⟨RX3, "named", "()I"⟩
def dkwX3_named_2_2 : List UInt8 := [2, 172, 42, 32, 182, 1, 32, 54, 4, 21, 4, 2, 160, 0, 8, 16, 254, 167, 0, 5, 21, 4, 172]
abbrev dktX3_named_2_2 : List UInt8 := dkwX3_named_2_2 ++ []
def dkwX3_named_2_1 : List UInt8 := [182, 0, 220, 60, 42, 180, 0, 194, 65, 42, 182, 0, 210, 27, 153, 0, 10, 42, 180, 0, 197, 153, 0, 5]
abbrev dktX3_named_2_1 : List UInt8 := dkwX3_named_2_1 ++ dktX3_named_2_2
def dkwX3_named_2_0 : List UInt8 := [42, 3, 181, 0, 179, 42, 42, 180, 0, 166, 181, 0, 182, 42, 3, 181, 0, 166, 42, 182, 0, 210, 42]
abbrev dktX3_named_2_0 : List UInt8 := dkwX3_named_2_0 ++ dktX3_named_2_1
theorem dksX3_named_2_0 : cX3_named_2.data.toList.drop 0 = dktX3_named_2_0 := by decide +kernel
theorem dksX3_named_2_1 : cX3_named_2.data.toList.drop 23 = dktX3_named_2_1 := dk_seg dksX3_named_2_0 23 rfl rfl
theorem dksX3_named_2_2 : cX3_named_2.data.toList.drop 47 = dktX3_named_2_2 := dk_seg dksX3_named_2_1 24 rfl rfl
theorem dX3_named_2_0 : decode cX3_named_2 0 = .ok (.aload_n 0, 1) := dk_42 (dk_at dksX3_named_2_0 0 rfl rfl)
theorem dX3_named_2_1 : decode cX3_named_2 1 = .ok (.iconst 0, 1) := dk_3 (dk_at dksX3_named_2_0 1 rfl rfl)
theorem dX3_named_2_2 : decode cX3_named_2 2 = .ok (.putfield 179, 3) := dk_181 0 179 (dk_at dksX3_named_2_0 2 rfl rfl)
theorem dX3_named_2_5 : decode cX3_named_2 5 = .ok (.aload_n 0, 1) := dk_42 (dk_at dksX3_named_2_0 5 rfl rfl)
theorem dX3_named_2_6 : decode cX3_named_2 6 = .ok (.aload_n 0, 1) := dk_42 (dk_at dksX3_named_2_0 6 rfl rfl)
theorem dX3_named_2_7 : decode cX3_named_2 7 = .ok (.getfield 166, 3) := dk_180 0 166 (dk_at dksX3_named_2_0 7 rfl rfl)
theorem dX3_named_2_10 : decode cX3_named_2 10 = .ok (.putfield 182, 3) := dk_181 0 182 (dk_at dksX3_named_2_0 10 rfl rfl)
theorem dX3_named_2_13 : decode cX3_named_2 13 = .ok (.aload_n 0, 1) := dk_42 (dk_at dksX3_named_2_0 13 rfl rfl)
theorem dX3_named_2_14 : decode cX3_named_2 14 = .ok (.iconst 0, 1) := dk_3 (dk_at dksX3_named_2_0 14 rfl rfl)
theorem dX3_named_2_15 : decode cX3_named_2 15 = .ok (.putfield 166, 3) := dk_181 0 166 (dk_at dksX3_named_2_0 15 rfl rfl)
theorem dX3_named_2_18 : decode cX3_named_2 18 = .ok (.aload_n 0, 1) := dk_42 (dk_at dksX3_named_2_0 18 rfl rfl)
theorem dX3_named_2_19 : decode cX3_named_2 19 = .ok (.invokevirtual 210, 3) := dk_182 0 210 (dk_at dksX3_named_2_0 19 rfl rfl)
theorem dX3_named_2_22 : decode cX3_named_2 22 = .ok (.aload_n 0, 1) := dk_42 (dk_at dksX3_named_2_0 22 rfl rfl)
theorem dX3_named_2_23 : decode cX3_named_2 23 = .ok (.invokevirtual 220, 3) := dk_182 0 220 (dk_at dksX3_named_2_1 0 rfl rfl)
theorem dX3_named_2_26 : decode cX3_named_2 26 = .ok (.istore_n 1, 1) := dk_60 (dk_at dksX3_named_2_1 3 rfl rfl)
theorem dX3_named_2_27 : decode cX3_named_2 27 = .ok (.aload_n 0, 1) := dk_42 (dk_at dksX3_named_2_1 4 rfl rfl)
theorem dX3_named_2_28 : decode cX3_named_2 28 = .ok (.getfield 194, 3) := dk_180 0 194 (dk_at dksX3_named_2_1 5 rfl rfl)
theorem dX3_named_2_31 : decode cX3_named_2 31 = .ok (.lstore_n 2, 1) := dk_65 (dk_at dksX3_named_2_1 8 rfl rfl)
theorem dX3_named_2_32 : decode cX3_named_2 32 = .ok (.aload_n 0, 1) := dk_42 (dk_at dksX3_named_2_1 9 rfl rfl)
theorem dX3_named_2_33 : decode cX3_named_2 33 = .ok (.invokevirtual 210, 3) := dk_182 0 210 (dk_at dksX3_named_2_1 10 rfl rfl)
theorem dX3_named_2_36 : decode cX3_named_2 36 = .ok (.iload_n 1, 1) := dk_27 (dk_at dksX3_named_2_1 13 rfl rfl)
theorem dX3_named_2_37 : decode cX3_named_2 37 = .ok (.ifCond .eq 10, 3) := dk_153 0 10 (dk_at dksX3_named_2_1 14 rfl rfl)
theorem dX3_named_2_40 : decode cX3_named_2 40 = .ok (.aload_n 0, 1) := dk_42 (dk_at dksX3_named_2_1 17 rfl rfl)
theorem dX3_named_2_41 : decode cX3_named_2 41 = .ok (.getfield 197, 3) := dk_180 0 197 (dk_at dksX3_named_2_1 18 rfl rfl)
theorem dX3_named_2_44 : decode cX3_named_2 44 = .ok (.ifCond .eq 5, 3) := dk_153 0 5 (dk_at dksX3_named_2_1 21 rfl rfl)
theorem dX3_named_2_47 : decode cX3_named_2 47 = .ok (.iconst (-1), 1) := dk_2 (dk_at dksX3_named_2_2 0 rfl rfl)
theorem dX3_named_2_48 : decode cX3_named_2 48 = .ok (.ireturn, 1) := dk_172 (dk_at dksX3_named_2_2 1 rfl rfl)
theorem dX3_named_2_49 : decode cX3_named_2 49 = .ok (.aload_n 0, 1) := dk_42 (dk_at dksX3_named_2_2 2 rfl rfl)
theorem dX3_named_2_50 : decode cX3_named_2 50 = .ok (.lload_n 2, 1) := dk_32 (dk_at dksX3_named_2_2 3 rfl rfl)
theorem dX3_named_2_51 : decode cX3_named_2 51 = .ok (.invokevirtual 288, 3) := dk_182 1 32 (dk_at dksX3_named_2_2 4 rfl rfl)
theorem dX3_named_2_54 : decode cX3_named_2 54 = .ok (.istore 4, 2) := dk_54 4 (dk_at dksX3_named_2_2 7 rfl rfl)
theorem dX3_named_2_56 : decode cX3_named_2 56 = .ok (.iload 4, 2) := dk_21 4 (dk_at dksX3_named_2_2 9 rfl rfl)
theorem dX3_named_2_58 : decode cX3_named_2 58 = .ok (.iconst (-1), 1) := dk_2 (dk_at dksX3_named_2_2 11 rfl rfl)
theorem dX3_named_2_59 : decode cX3_named_2 59 = .ok (.if_icmp .ne 8, 3) := dk_160 0 8 (dk_at dksX3_named_2_2 12 rfl rfl)
theorem dX3_named_2_62 : decode cX3_named_2 62 = .ok (.bipush (-2), 2) := dk_16 254 (dk_at dksX3_named_2_2 15 rfl rfl)
theorem dX3_named_2_64 : decode cX3_named_2 64 = .ok (.goto 5, 3) := dk_167 0 5 (dk_at dksX3_named_2_2 17 rfl rfl)
theorem dX3_named_2_67 : decode cX3_named_2 67 = .ok (.iload 4, 2) := dk_21 4 (dk_at dksX3_named_2_2 20 rfl rfl)
theorem dX3_named_2_69 : decode cX3_named_2 69 = .ok (.ireturn, 1) := dk_172 (dk_at dksX3_named_2_2 22 rfl rfl)
abbrev cX3_table : ByteArray := prog_14_method_40_code
def yX3_table : MethodName := ⟨RX3, "table", "(II)I"⟩
def dkwX3_table_6 : List UInt8 := [180, 0, 39, 27, 46, 172]
abbrev dktX3_table_6 : List UInt8 := dkwX3_table_6 ++ []
def dkwX3_table_5 : List UInt8 := [2, 172, 42, 180, 0, 132, 27, 46, 172, 42, 180, 0, 135, 27, 46, 172, 42, 27, 182, 1, 60, 172, 42]
abbrev dktX3_table_5 : List UInt8 := dkwX3_table_5 ++ dktX3_table_6
def dkwX3_table_4 : List UInt8 := [42, 180, 0, 30, 27, 46, 162, 0, 18, 42, 180, 0, 33, 6, 27, 104, 28, 96, 6, 100, 46, 167, 0, 4]
abbrev dktX3_table_4 : List UInt8 := dkwX3_table_4 ++ dktX3_table_5
def dkwX3_table_3 : List UInt8 := [42, 180, 0, 17, 27, 46, 172, 42, 180, 0, 21, 27, 46, 172, 42, 180, 0, 30, 27, 46, 172, 28, 6, 100]
abbrev dktX3_table_3 : List UInt8 := dkwX3_table_3 ++ dktX3_table_4
def dkwX3_table_2 : List UInt8 := [170, 0, 0, 0, 0, 0, 121, 0, 0, 0, 0, 0, 0, 0, 8, 0, 0, 0, 51, 0, 0, 0, 58, 0, 0, 0, 65, 0, 0, 0, 72, 0, 0, 0, 72, 0, 0, 0, 72, 0, 0, 0, 101, 0, 0, 0, 108, 0, 0, 0, 115]
abbrev dktX3_table_2 : List UInt8 := dkwX3_table_2 ++ dktX3_table_3
def dkwX3_table_1 : List UInt8 := [28]
abbrev dktX3_table_1 : List UInt8 := dkwX3_table_1 ++ dktX3_table_2
def dkwX3_table_0 : List UInt8 := [42, 27, 182, 0, 162, 153, 0, 13, 28, 155, 0, 9, 28, 16, 9, 164, 0, 5, 2, 172, 42, 182, 1, 57]
abbrev dktX3_table_0 : List UInt8 := dkwX3_table_0 ++ dktX3_table_1
theorem dksX3_table_0 : cX3_table.data.toList.drop 0 = dktX3_table_0 := by decide +kernel
theorem dksX3_table_1 : cX3_table.data.toList.drop 24 = dktX3_table_1 := dk_seg dksX3_table_0 24 rfl rfl
theorem dksX3_table_2 : cX3_table.data.toList.drop 25 = dktX3_table_2 := dk_seg dksX3_table_1 1 rfl rfl
theorem dksX3_table_3 : cX3_table.data.toList.drop 76 = dktX3_table_3 := dk_seg dksX3_table_2 51 rfl rfl
theorem dksX3_table_4 : cX3_table.data.toList.drop 100 = dktX3_table_4 := dk_seg dksX3_table_3 24 rfl rfl
theorem dksX3_table_5 : cX3_table.data.toList.drop 124 = dktX3_table_5 := dk_seg dksX3_table_4 24 rfl rfl
theorem dksX3_table_6 : cX3_table.data.toList.drop 147 = dktX3_table_6 := dk_seg dksX3_table_5 23 rfl rfl
theorem dX3_table_0 : decode cX3_table 0 = .ok (.aload_n 0, 1) := dk_42 (dk_at dksX3_table_0 0 rfl rfl)
theorem dX3_table_1 : decode cX3_table 1 = .ok (.iload_n 1, 1) := dk_27 (dk_at dksX3_table_0 1 rfl rfl)
theorem dX3_table_2 : decode cX3_table 2 = .ok (.invokevirtual 162, 3) := dk_182 0 162 (dk_at dksX3_table_0 2 rfl rfl)
theorem dX3_table_5 : decode cX3_table 5 = .ok (.ifCond .eq 13, 3) := dk_153 0 13 (dk_at dksX3_table_0 5 rfl rfl)
theorem dX3_table_8 : decode cX3_table 8 = .ok (.iload_n 2, 1) := dk_28 (dk_at dksX3_table_0 8 rfl rfl)
theorem dX3_table_9 : decode cX3_table 9 = .ok (.ifCond .lt 9, 3) := dk_155 0 9 (dk_at dksX3_table_0 9 rfl rfl)
theorem dX3_table_12 : decode cX3_table 12 = .ok (.iload_n 2, 1) := dk_28 (dk_at dksX3_table_0 12 rfl rfl)
theorem dX3_table_13 : decode cX3_table 13 = .ok (.bipush 9, 2) := dk_16 9 (dk_at dksX3_table_0 13 rfl rfl)
theorem dX3_table_15 : decode cX3_table 15 = .ok (.if_icmp .le 5, 3) := dk_164 0 5 (dk_at dksX3_table_0 15 rfl rfl)
theorem dX3_table_18 : decode cX3_table 18 = .ok (.iconst (-1), 1) := dk_2 (dk_at dksX3_table_0 18 rfl rfl)
theorem dX3_table_19 : decode cX3_table 19 = .ok (.ireturn, 1) := dk_172 (dk_at dksX3_table_0 19 rfl rfl)
theorem dX3_table_20 : decode cX3_table 20 = .ok (.aload_n 0, 1) := dk_42 (dk_at dksX3_table_0 20 rfl rfl)
theorem dX3_table_21 : decode cX3_table 21 = .ok (.invokevirtual 313, 3) := dk_182 1 57 (dk_at dksX3_table_0 21 rfl rfl)
theorem dX3_table_24 : decode cX3_table 24 = .ok (.iload_n 2, 1) := dk_28 (dk_at dksX3_table_1 0 rfl rfl)
theorem dX3_table_25 : decode cX3_table 25 = .ok (.tableswitch 121 0 8 #[51, 58, 65, 72, 72, 72, 101, 108, 115], 51) := by decide +kernel
theorem dX3_table_76 : decode cX3_table 76 = .ok (.aload_n 0, 1) := dk_42 (dk_at dksX3_table_3 0 rfl rfl)
theorem dX3_table_77 : decode cX3_table 77 = .ok (.getfield 17, 3) := dk_180 0 17 (dk_at dksX3_table_3 1 rfl rfl)
theorem dX3_table_80 : decode cX3_table 80 = .ok (.iload_n 1, 1) := dk_27 (dk_at dksX3_table_3 4 rfl rfl)
theorem dX3_table_81 : decode cX3_table 81 = .ok (.iaload, 1) := dk_46 (dk_at dksX3_table_3 5 rfl rfl)
theorem dX3_table_82 : decode cX3_table 82 = .ok (.ireturn, 1) := dk_172 (dk_at dksX3_table_3 6 rfl rfl)
theorem dX3_table_83 : decode cX3_table 83 = .ok (.aload_n 0, 1) := dk_42 (dk_at dksX3_table_3 7 rfl rfl)
theorem dX3_table_84 : decode cX3_table 84 = .ok (.getfield 21, 3) := dk_180 0 21 (dk_at dksX3_table_3 8 rfl rfl)
theorem dX3_table_87 : decode cX3_table 87 = .ok (.iload_n 1, 1) := dk_27 (dk_at dksX3_table_3 11 rfl rfl)
theorem dX3_table_88 : decode cX3_table 88 = .ok (.iaload, 1) := dk_46 (dk_at dksX3_table_3 12 rfl rfl)
theorem dX3_table_89 : decode cX3_table 89 = .ok (.ireturn, 1) := dk_172 (dk_at dksX3_table_3 13 rfl rfl)
theorem dX3_table_90 : decode cX3_table 90 = .ok (.aload_n 0, 1) := dk_42 (dk_at dksX3_table_3 14 rfl rfl)
theorem dX3_table_91 : decode cX3_table 91 = .ok (.getfield 30, 3) := dk_180 0 30 (dk_at dksX3_table_3 15 rfl rfl)
theorem dX3_table_94 : decode cX3_table 94 = .ok (.iload_n 1, 1) := dk_27 (dk_at dksX3_table_3 18 rfl rfl)
theorem dX3_table_95 : decode cX3_table 95 = .ok (.iaload, 1) := dk_46 (dk_at dksX3_table_3 19 rfl rfl)
theorem dX3_table_96 : decode cX3_table 96 = .ok (.ireturn, 1) := dk_172 (dk_at dksX3_table_3 20 rfl rfl)
theorem dX3_table_97 : decode cX3_table 97 = .ok (.iload_n 2, 1) := dk_28 (dk_at dksX3_table_3 21 rfl rfl)
theorem dX3_table_98 : decode cX3_table 98 = .ok (.iconst 3, 1) := dk_6 (dk_at dksX3_table_3 22 rfl rfl)
theorem dX3_table_99 : decode cX3_table 99 = .ok (.isub, 1) := dk_100 (dk_at dksX3_table_3 23 rfl rfl)
theorem dX3_table_100 : decode cX3_table 100 = .ok (.aload_n 0, 1) := dk_42 (dk_at dksX3_table_4 0 rfl rfl)
theorem dX3_table_101 : decode cX3_table 101 = .ok (.getfield 30, 3) := dk_180 0 30 (dk_at dksX3_table_4 1 rfl rfl)
theorem dX3_table_104 : decode cX3_table 104 = .ok (.iload_n 1, 1) := dk_27 (dk_at dksX3_table_4 4 rfl rfl)
theorem dX3_table_105 : decode cX3_table 105 = .ok (.iaload, 1) := dk_46 (dk_at dksX3_table_4 5 rfl rfl)
theorem dX3_table_106 : decode cX3_table 106 = .ok (.if_icmp .ge 18, 3) := dk_162 0 18 (dk_at dksX3_table_4 6 rfl rfl)
theorem dX3_table_109 : decode cX3_table 109 = .ok (.aload_n 0, 1) := dk_42 (dk_at dksX3_table_4 9 rfl rfl)
theorem dX3_table_110 : decode cX3_table 110 = .ok (.getfield 33, 3) := dk_180 0 33 (dk_at dksX3_table_4 10 rfl rfl)
theorem dX3_table_113 : decode cX3_table 113 = .ok (.iconst 3, 1) := dk_6 (dk_at dksX3_table_4 13 rfl rfl)
theorem dX3_table_114 : decode cX3_table 114 = .ok (.iload_n 1, 1) := dk_27 (dk_at dksX3_table_4 14 rfl rfl)
theorem dX3_table_115 : decode cX3_table 115 = .ok (.imul, 1) := dk_104 (dk_at dksX3_table_4 15 rfl rfl)
theorem dX3_table_116 : decode cX3_table 116 = .ok (.iload_n 2, 1) := dk_28 (dk_at dksX3_table_4 16 rfl rfl)
theorem dX3_table_117 : decode cX3_table 117 = .ok (.iadd, 1) := dk_96 (dk_at dksX3_table_4 17 rfl rfl)
theorem dX3_table_118 : decode cX3_table 118 = .ok (.iconst 3, 1) := dk_6 (dk_at dksX3_table_4 18 rfl rfl)
theorem dX3_table_119 : decode cX3_table 119 = .ok (.isub, 1) := dk_100 (dk_at dksX3_table_4 19 rfl rfl)
theorem dX3_table_120 : decode cX3_table 120 = .ok (.iaload, 1) := dk_46 (dk_at dksX3_table_4 20 rfl rfl)
theorem dX3_table_121 : decode cX3_table 121 = .ok (.goto 4, 3) := dk_167 0 4 (dk_at dksX3_table_4 21 rfl rfl)
theorem dX3_table_124 : decode cX3_table 124 = .ok (.iconst (-1), 1) := dk_2 (dk_at dksX3_table_5 0 rfl rfl)
theorem dX3_table_125 : decode cX3_table 125 = .ok (.ireturn, 1) := dk_172 (dk_at dksX3_table_5 1 rfl rfl)
theorem dX3_table_126 : decode cX3_table 126 = .ok (.aload_n 0, 1) := dk_42 (dk_at dksX3_table_5 2 rfl rfl)
theorem dX3_table_127 : decode cX3_table 127 = .ok (.getfield 132, 3) := dk_180 0 132 (dk_at dksX3_table_5 3 rfl rfl)
theorem dX3_table_130 : decode cX3_table 130 = .ok (.iload_n 1, 1) := dk_27 (dk_at dksX3_table_5 6 rfl rfl)
theorem dX3_table_131 : decode cX3_table 131 = .ok (.iaload, 1) := dk_46 (dk_at dksX3_table_5 7 rfl rfl)
theorem dX3_table_132 : decode cX3_table 132 = .ok (.ireturn, 1) := dk_172 (dk_at dksX3_table_5 8 rfl rfl)
theorem dX3_table_133 : decode cX3_table 133 = .ok (.aload_n 0, 1) := dk_42 (dk_at dksX3_table_5 9 rfl rfl)
theorem dX3_table_134 : decode cX3_table 134 = .ok (.getfield 135, 3) := dk_180 0 135 (dk_at dksX3_table_5 10 rfl rfl)
theorem dX3_table_137 : decode cX3_table 137 = .ok (.iload_n 1, 1) := dk_27 (dk_at dksX3_table_5 13 rfl rfl)
theorem dX3_table_138 : decode cX3_table 138 = .ok (.iaload, 1) := dk_46 (dk_at dksX3_table_5 14 rfl rfl)
theorem dX3_table_139 : decode cX3_table 139 = .ok (.ireturn, 1) := dk_172 (dk_at dksX3_table_5 15 rfl rfl)
theorem dX3_table_140 : decode cX3_table 140 = .ok (.aload_n 0, 1) := dk_42 (dk_at dksX3_table_5 16 rfl rfl)
theorem dX3_table_141 : decode cX3_table 141 = .ok (.iload_n 1, 1) := dk_27 (dk_at dksX3_table_5 17 rfl rfl)
theorem dX3_table_142 : decode cX3_table 142 = .ok (.invokevirtual 316, 3) := dk_182 1 60 (dk_at dksX3_table_5 18 rfl rfl)
theorem dX3_table_145 : decode cX3_table 145 = .ok (.ireturn, 1) := dk_172 (dk_at dksX3_table_5 21 rfl rfl)
theorem dX3_table_146 : decode cX3_table 146 = .ok (.aload_n 0, 1) := dk_42 (dk_at dksX3_table_5 22 rfl rfl)
theorem dX3_table_147 : decode cX3_table 147 = .ok (.getfield 39, 3) := dk_180 0 39 (dk_at dksX3_table_6 0 rfl rfl)
theorem dX3_table_150 : decode cX3_table 150 = .ok (.iload_n 1, 1) := dk_27 (dk_at dksX3_table_6 3 rfl rfl)
theorem dX3_table_151 : decode cX3_table 151 = .ok (.iaload, 1) := dk_46 (dk_at dksX3_table_6 4 rfl rfl)
theorem dX3_table_152 : decode cX3_table 152 = .ok (.ireturn, 1) := dk_172 (dk_at dksX3_table_6 5 rfl rfl)
abbrev cX3_isTable : ByteArray := prog_14_method_2_code
def yX3_isTable : MethodName := ⟨RX3, "isTable", "(I)Z"⟩
def dkwX3_isTable_1 : List UInt8 := [167, 0, 4, 3, 172]
abbrev dktX3_isTable_1 : List UInt8 := dkwX3_isTable_1 ++ []
def dkwX3_isTable_0 : List UInt8 := [27, 155, 0, 24, 27, 42, 180, 0, 159, 162, 0, 16, 42, 180, 0, 7, 27, 51, 153, 0, 7, 4]
abbrev dktX3_isTable_0 : List UInt8 := dkwX3_isTable_0 ++ dktX3_isTable_1
theorem dksX3_isTable_0 : cX3_isTable.data.toList.drop 0 = dktX3_isTable_0 := by decide +kernel
theorem dksX3_isTable_1 : cX3_isTable.data.toList.drop 22 = dktX3_isTable_1 := dk_seg dksX3_isTable_0 22 rfl rfl
theorem dX3_isTable_0 : decode cX3_isTable 0 = .ok (.iload_n 1, 1) := dk_27 (dk_at dksX3_isTable_0 0 rfl rfl)
theorem dX3_isTable_1 : decode cX3_isTable 1 = .ok (.ifCond .lt 24, 3) := dk_155 0 24 (dk_at dksX3_isTable_0 1 rfl rfl)
theorem dX3_isTable_4 : decode cX3_isTable 4 = .ok (.iload_n 1, 1) := dk_27 (dk_at dksX3_isTable_0 4 rfl rfl)
theorem dX3_isTable_5 : decode cX3_isTable 5 = .ok (.aload_n 0, 1) := dk_42 (dk_at dksX3_isTable_0 5 rfl rfl)
theorem dX3_isTable_6 : decode cX3_isTable 6 = .ok (.getfield 159, 3) := dk_180 0 159 (dk_at dksX3_isTable_0 6 rfl rfl)
theorem dX3_isTable_9 : decode cX3_isTable 9 = .ok (.if_icmp .ge 16, 3) := dk_162 0 16 (dk_at dksX3_isTable_0 9 rfl rfl)
theorem dX3_isTable_12 : decode cX3_isTable 12 = .ok (.aload_n 0, 1) := dk_42 (dk_at dksX3_isTable_0 12 rfl rfl)
theorem dX3_isTable_13 : decode cX3_isTable 13 = .ok (.getfield 7, 3) := dk_180 0 7 (dk_at dksX3_isTable_0 13 rfl rfl)
theorem dX3_isTable_16 : decode cX3_isTable 16 = .ok (.iload_n 1, 1) := dk_27 (dk_at dksX3_isTable_0 16 rfl rfl)
theorem dX3_isTable_17 : decode cX3_isTable 17 = .ok (.baload, 1) := dk_51 (dk_at dksX3_isTable_0 17 rfl rfl)
theorem dX3_isTable_18 : decode cX3_isTable 18 = .ok (.ifCond .eq 7, 3) := dk_153 0 7 (dk_at dksX3_isTable_0 18 rfl rfl)
theorem dX3_isTable_21 : decode cX3_isTable 21 = .ok (.iconst 1, 1) := dk_4 (dk_at dksX3_isTable_0 21 rfl rfl)
theorem dX3_isTable_22 : decode cX3_isTable 22 = .ok (.goto 4, 3) := dk_167 0 4 (dk_at dksX3_isTable_1 0 rfl rfl)
theorem dX3_isTable_25 : decode cX3_isTable 25 = .ok (.iconst 0, 1) := dk_3 (dk_at dksX3_isTable_1 3 rfl rfl)
theorem dX3_isTable_26 : decode cX3_isTable 26 = .ok (.ireturn, 1) := dk_172 (dk_at dksX3_isTable_1 4 rfl rfl)
abbrev cX3_ages : ByteArray := prog_14_method_37_code
def yX3_ages : MethodName := ⟨RX3, "ages", "()V"⟩
def dkwX3_ages_2 : List UInt8 := [182, 1, 54, 132, 1, 1, 167, 255, 206, 177]
abbrev dktX3_ages_2 : List UInt8 := dkwX3_ages_2 ++ []
def dkwX3_ages_1 : List UInt8 := [180, 0, 135, 27, 42, 180, 0, 45, 27, 46, 79, 42, 180, 0, 17, 27, 46, 4, 160, 0, 8, 42, 27]
abbrev dktX3_ages_1 : List UInt8 := dkwX3_ages_1 ++ dktX3_ages_2
def dkwX3_ages_0 : List UInt8 := [3, 60, 27, 42, 180, 0, 159, 162, 0, 48, 42, 180, 0, 132, 27, 42, 180, 0, 42, 27, 46, 79, 42]
abbrev dktX3_ages_0 : List UInt8 := dkwX3_ages_0 ++ dktX3_ages_1
theorem dksX3_ages_0 : cX3_ages.data.toList.drop 0 = dktX3_ages_0 := by decide +kernel
theorem dksX3_ages_1 : cX3_ages.data.toList.drop 23 = dktX3_ages_1 := dk_seg dksX3_ages_0 23 rfl rfl
theorem dksX3_ages_2 : cX3_ages.data.toList.drop 46 = dktX3_ages_2 := dk_seg dksX3_ages_1 23 rfl rfl
theorem dX3_ages_0 : decode cX3_ages 0 = .ok (.iconst 0, 1) := dk_3 (dk_at dksX3_ages_0 0 rfl rfl)
theorem dX3_ages_1 : decode cX3_ages 1 = .ok (.istore_n 1, 1) := dk_60 (dk_at dksX3_ages_0 1 rfl rfl)
theorem dX3_ages_2 : decode cX3_ages 2 = .ok (.iload_n 1, 1) := dk_27 (dk_at dksX3_ages_0 2 rfl rfl)
theorem dX3_ages_3 : decode cX3_ages 3 = .ok (.aload_n 0, 1) := dk_42 (dk_at dksX3_ages_0 3 rfl rfl)
theorem dX3_ages_4 : decode cX3_ages 4 = .ok (.getfield 159, 3) := dk_180 0 159 (dk_at dksX3_ages_0 4 rfl rfl)
theorem dX3_ages_7 : decode cX3_ages 7 = .ok (.if_icmp .ge 48, 3) := dk_162 0 48 (dk_at dksX3_ages_0 7 rfl rfl)
theorem dX3_ages_10 : decode cX3_ages 10 = .ok (.aload_n 0, 1) := dk_42 (dk_at dksX3_ages_0 10 rfl rfl)
theorem dX3_ages_11 : decode cX3_ages 11 = .ok (.getfield 132, 3) := dk_180 0 132 (dk_at dksX3_ages_0 11 rfl rfl)
theorem dX3_ages_14 : decode cX3_ages 14 = .ok (.iload_n 1, 1) := dk_27 (dk_at dksX3_ages_0 14 rfl rfl)
theorem dX3_ages_15 : decode cX3_ages 15 = .ok (.aload_n 0, 1) := dk_42 (dk_at dksX3_ages_0 15 rfl rfl)
theorem dX3_ages_16 : decode cX3_ages 16 = .ok (.getfield 42, 3) := dk_180 0 42 (dk_at dksX3_ages_0 16 rfl rfl)
theorem dX3_ages_19 : decode cX3_ages 19 = .ok (.iload_n 1, 1) := dk_27 (dk_at dksX3_ages_0 19 rfl rfl)
theorem dX3_ages_20 : decode cX3_ages 20 = .ok (.iaload, 1) := dk_46 (dk_at dksX3_ages_0 20 rfl rfl)
theorem dX3_ages_21 : decode cX3_ages 21 = .ok (.iastore, 1) := dk_79 (dk_at dksX3_ages_0 21 rfl rfl)
theorem dX3_ages_22 : decode cX3_ages 22 = .ok (.aload_n 0, 1) := dk_42 (dk_at dksX3_ages_0 22 rfl rfl)
theorem dX3_ages_23 : decode cX3_ages 23 = .ok (.getfield 135, 3) := dk_180 0 135 (dk_at dksX3_ages_1 0 rfl rfl)
theorem dX3_ages_26 : decode cX3_ages 26 = .ok (.iload_n 1, 1) := dk_27 (dk_at dksX3_ages_1 3 rfl rfl)
theorem dX3_ages_27 : decode cX3_ages 27 = .ok (.aload_n 0, 1) := dk_42 (dk_at dksX3_ages_1 4 rfl rfl)
theorem dX3_ages_28 : decode cX3_ages 28 = .ok (.getfield 45, 3) := dk_180 0 45 (dk_at dksX3_ages_1 5 rfl rfl)
theorem dX3_ages_31 : decode cX3_ages 31 = .ok (.iload_n 1, 1) := dk_27 (dk_at dksX3_ages_1 8 rfl rfl)
theorem dX3_ages_32 : decode cX3_ages 32 = .ok (.iaload, 1) := dk_46 (dk_at dksX3_ages_1 9 rfl rfl)
theorem dX3_ages_33 : decode cX3_ages 33 = .ok (.iastore, 1) := dk_79 (dk_at dksX3_ages_1 10 rfl rfl)
theorem dX3_ages_34 : decode cX3_ages 34 = .ok (.aload_n 0, 1) := dk_42 (dk_at dksX3_ages_1 11 rfl rfl)
theorem dX3_ages_35 : decode cX3_ages 35 = .ok (.getfield 17, 3) := dk_180 0 17 (dk_at dksX3_ages_1 12 rfl rfl)
theorem dX3_ages_38 : decode cX3_ages 38 = .ok (.iload_n 1, 1) := dk_27 (dk_at dksX3_ages_1 15 rfl rfl)
theorem dX3_ages_39 : decode cX3_ages 39 = .ok (.iaload, 1) := dk_46 (dk_at dksX3_ages_1 16 rfl rfl)
theorem dX3_ages_40 : decode cX3_ages 40 = .ok (.iconst 1, 1) := dk_4 (dk_at dksX3_ages_1 17 rfl rfl)
theorem dX3_ages_41 : decode cX3_ages 41 = .ok (.if_icmp .ne 8, 3) := dk_160 0 8 (dk_at dksX3_ages_1 18 rfl rfl)
theorem dX3_ages_44 : decode cX3_ages 44 = .ok (.aload_n 0, 1) := dk_42 (dk_at dksX3_ages_1 21 rfl rfl)
theorem dX3_ages_45 : decode cX3_ages 45 = .ok (.iload_n 1, 1) := dk_27 (dk_at dksX3_ages_1 22 rfl rfl)
theorem dX3_ages_46 : decode cX3_ages 46 = .ok (.invokevirtual 310, 3) := dk_182 1 54 (dk_at dksX3_ages_2 0 rfl rfl)
theorem dX3_ages_49 : decode cX3_ages 49 = .ok (.iinc 1 1, 3) := dk_132 1 1 (dk_at dksX3_ages_2 3 rfl rfl)
theorem dX3_ages_52 : decode cX3_ages 52 = .ok (.goto (-50), 3) := dk_167 255 206 (dk_at dksX3_ages_2 6 rfl rfl)
theorem dX3_ages_55 : decode cX3_ages 55 = .ok (.return_, 1) := dk_177 (dk_at dksX3_ages_2 9 rfl rfl)
abbrev cX3_agesBehind : ByteArray := prog_14_method_38_code
def yX3_agesBehind : MethodName := ⟨RX3, "agesBehind", "(I)V"⟩
def dkwX3_agesBehind_5 : List UInt8 := [180, 0, 135, 27, 42, 180, 0, 135, 29, 46, 79, 132, 2, 1, 167, 255, 143, 177]
abbrev dktX3_agesBehind_5 : List UInt8 := dkwX3_agesBehind_5 ++ []
def dkwX3_agesBehind_4 : List UInt8 := [180, 0, 132, 29, 46, 79, 42, 180, 0, 135, 29, 46, 42, 180, 0, 135, 27, 46, 164, 0, 15, 42]
abbrev dktX3_agesBehind_4 : List UInt8 := dkwX3_agesBehind_4 ++ dktX3_agesBehind_5
def dkwX3_agesBehind_3 : List UInt8 := [159, 0, 18, 42, 180, 0, 132, 29, 46, 42, 180, 0, 132, 27, 46, 162, 0, 15, 42, 180, 0, 132, 27, 42]
abbrev dktX3_agesBehind_3 : List UInt8 := dkwX3_agesBehind_3 ++ dktX3_agesBehind_4
def dkwX3_agesBehind_2 : List UInt8 := [42, 180, 0, 132, 27, 2, 79, 42, 180, 0, 135, 27, 2, 79, 177, 42, 180, 0, 132, 27, 46, 2]
abbrev dktX3_agesBehind_2 : List UInt8 := dkwX3_agesBehind_2 ++ dktX3_agesBehind_3
def dkwX3_agesBehind_1 : List UInt8 := [162, 0, 109, 42, 180, 0, 33, 6, 27, 104, 28, 96, 46, 62, 42, 180, 0, 135, 29, 46, 2, 160, 0, 18]
abbrev dktX3_agesBehind_1 : List UInt8 := dkwX3_agesBehind_1 ++ dktX3_agesBehind_2
def dkwX3_agesBehind_0 : List UInt8 := [42, 180, 0, 132, 27, 2, 79, 42, 180, 0, 135, 27, 2, 79, 3, 61, 28, 42, 180, 0, 30, 27, 46]
abbrev dktX3_agesBehind_0 : List UInt8 := dkwX3_agesBehind_0 ++ dktX3_agesBehind_1
theorem dksX3_agesBehind_0 : cX3_agesBehind.data.toList.drop 0 = dktX3_agesBehind_0 := by decide +kernel
theorem dksX3_agesBehind_1 : cX3_agesBehind.data.toList.drop 23 = dktX3_agesBehind_1 := dk_seg dksX3_agesBehind_0 23 rfl rfl
theorem dksX3_agesBehind_2 : cX3_agesBehind.data.toList.drop 47 = dktX3_agesBehind_2 := dk_seg dksX3_agesBehind_1 24 rfl rfl
theorem dksX3_agesBehind_3 : cX3_agesBehind.data.toList.drop 69 = dktX3_agesBehind_3 := dk_seg dksX3_agesBehind_2 22 rfl rfl
theorem dksX3_agesBehind_4 : cX3_agesBehind.data.toList.drop 93 = dktX3_agesBehind_4 := dk_seg dksX3_agesBehind_3 24 rfl rfl
theorem dksX3_agesBehind_5 : cX3_agesBehind.data.toList.drop 115 = dktX3_agesBehind_5 := dk_seg dksX3_agesBehind_4 22 rfl rfl
theorem dX3_agesBehind_0 : decode cX3_agesBehind 0 = .ok (.aload_n 0, 1) := dk_42 (dk_at dksX3_agesBehind_0 0 rfl rfl)
theorem dX3_agesBehind_1 : decode cX3_agesBehind 1 = .ok (.getfield 132, 3) := dk_180 0 132 (dk_at dksX3_agesBehind_0 1 rfl rfl)
theorem dX3_agesBehind_4 : decode cX3_agesBehind 4 = .ok (.iload_n 1, 1) := dk_27 (dk_at dksX3_agesBehind_0 4 rfl rfl)
theorem dX3_agesBehind_5 : decode cX3_agesBehind 5 = .ok (.iconst (-1), 1) := dk_2 (dk_at dksX3_agesBehind_0 5 rfl rfl)
theorem dX3_agesBehind_6 : decode cX3_agesBehind 6 = .ok (.iastore, 1) := dk_79 (dk_at dksX3_agesBehind_0 6 rfl rfl)
theorem dX3_agesBehind_7 : decode cX3_agesBehind 7 = .ok (.aload_n 0, 1) := dk_42 (dk_at dksX3_agesBehind_0 7 rfl rfl)
theorem dX3_agesBehind_8 : decode cX3_agesBehind 8 = .ok (.getfield 135, 3) := dk_180 0 135 (dk_at dksX3_agesBehind_0 8 rfl rfl)
theorem dX3_agesBehind_11 : decode cX3_agesBehind 11 = .ok (.iload_n 1, 1) := dk_27 (dk_at dksX3_agesBehind_0 11 rfl rfl)
theorem dX3_agesBehind_12 : decode cX3_agesBehind 12 = .ok (.iconst (-1), 1) := dk_2 (dk_at dksX3_agesBehind_0 12 rfl rfl)
theorem dX3_agesBehind_13 : decode cX3_agesBehind 13 = .ok (.iastore, 1) := dk_79 (dk_at dksX3_agesBehind_0 13 rfl rfl)
theorem dX3_agesBehind_14 : decode cX3_agesBehind 14 = .ok (.iconst 0, 1) := dk_3 (dk_at dksX3_agesBehind_0 14 rfl rfl)
theorem dX3_agesBehind_15 : decode cX3_agesBehind 15 = .ok (.istore_n 2, 1) := dk_61 (dk_at dksX3_agesBehind_0 15 rfl rfl)
theorem dX3_agesBehind_16 : decode cX3_agesBehind 16 = .ok (.iload_n 2, 1) := dk_28 (dk_at dksX3_agesBehind_0 16 rfl rfl)
theorem dX3_agesBehind_17 : decode cX3_agesBehind 17 = .ok (.aload_n 0, 1) := dk_42 (dk_at dksX3_agesBehind_0 17 rfl rfl)
theorem dX3_agesBehind_18 : decode cX3_agesBehind 18 = .ok (.getfield 30, 3) := dk_180 0 30 (dk_at dksX3_agesBehind_0 18 rfl rfl)
theorem dX3_agesBehind_21 : decode cX3_agesBehind 21 = .ok (.iload_n 1, 1) := dk_27 (dk_at dksX3_agesBehind_0 21 rfl rfl)
theorem dX3_agesBehind_22 : decode cX3_agesBehind 22 = .ok (.iaload, 1) := dk_46 (dk_at dksX3_agesBehind_0 22 rfl rfl)
theorem dX3_agesBehind_23 : decode cX3_agesBehind 23 = .ok (.if_icmp .ge 109, 3) := dk_162 0 109 (dk_at dksX3_agesBehind_1 0 rfl rfl)
theorem dX3_agesBehind_26 : decode cX3_agesBehind 26 = .ok (.aload_n 0, 1) := dk_42 (dk_at dksX3_agesBehind_1 3 rfl rfl)
theorem dX3_agesBehind_27 : decode cX3_agesBehind 27 = .ok (.getfield 33, 3) := dk_180 0 33 (dk_at dksX3_agesBehind_1 4 rfl rfl)
theorem dX3_agesBehind_30 : decode cX3_agesBehind 30 = .ok (.iconst 3, 1) := dk_6 (dk_at dksX3_agesBehind_1 7 rfl rfl)
theorem dX3_agesBehind_31 : decode cX3_agesBehind 31 = .ok (.iload_n 1, 1) := dk_27 (dk_at dksX3_agesBehind_1 8 rfl rfl)
theorem dX3_agesBehind_32 : decode cX3_agesBehind 32 = .ok (.imul, 1) := dk_104 (dk_at dksX3_agesBehind_1 9 rfl rfl)
theorem dX3_agesBehind_33 : decode cX3_agesBehind 33 = .ok (.iload_n 2, 1) := dk_28 (dk_at dksX3_agesBehind_1 10 rfl rfl)
theorem dX3_agesBehind_34 : decode cX3_agesBehind 34 = .ok (.iadd, 1) := dk_96 (dk_at dksX3_agesBehind_1 11 rfl rfl)
theorem dX3_agesBehind_35 : decode cX3_agesBehind 35 = .ok (.iaload, 1) := dk_46 (dk_at dksX3_agesBehind_1 12 rfl rfl)
theorem dX3_agesBehind_36 : decode cX3_agesBehind 36 = .ok (.istore_n 3, 1) := dk_62 (dk_at dksX3_agesBehind_1 13 rfl rfl)
theorem dX3_agesBehind_37 : decode cX3_agesBehind 37 = .ok (.aload_n 0, 1) := dk_42 (dk_at dksX3_agesBehind_1 14 rfl rfl)
theorem dX3_agesBehind_38 : decode cX3_agesBehind 38 = .ok (.getfield 135, 3) := dk_180 0 135 (dk_at dksX3_agesBehind_1 15 rfl rfl)
theorem dX3_agesBehind_41 : decode cX3_agesBehind 41 = .ok (.iload_n 3, 1) := dk_29 (dk_at dksX3_agesBehind_1 18 rfl rfl)
theorem dX3_agesBehind_42 : decode cX3_agesBehind 42 = .ok (.iaload, 1) := dk_46 (dk_at dksX3_agesBehind_1 19 rfl rfl)
theorem dX3_agesBehind_43 : decode cX3_agesBehind 43 = .ok (.iconst (-1), 1) := dk_2 (dk_at dksX3_agesBehind_1 20 rfl rfl)
theorem dX3_agesBehind_44 : decode cX3_agesBehind 44 = .ok (.if_icmp .ne 18, 3) := dk_160 0 18 (dk_at dksX3_agesBehind_1 21 rfl rfl)
theorem dX3_agesBehind_47 : decode cX3_agesBehind 47 = .ok (.aload_n 0, 1) := dk_42 (dk_at dksX3_agesBehind_2 0 rfl rfl)
theorem dX3_agesBehind_48 : decode cX3_agesBehind 48 = .ok (.getfield 132, 3) := dk_180 0 132 (dk_at dksX3_agesBehind_2 1 rfl rfl)
theorem dX3_agesBehind_51 : decode cX3_agesBehind 51 = .ok (.iload_n 1, 1) := dk_27 (dk_at dksX3_agesBehind_2 4 rfl rfl)
theorem dX3_agesBehind_52 : decode cX3_agesBehind 52 = .ok (.iconst (-1), 1) := dk_2 (dk_at dksX3_agesBehind_2 5 rfl rfl)
theorem dX3_agesBehind_53 : decode cX3_agesBehind 53 = .ok (.iastore, 1) := dk_79 (dk_at dksX3_agesBehind_2 6 rfl rfl)
theorem dX3_agesBehind_54 : decode cX3_agesBehind 54 = .ok (.aload_n 0, 1) := dk_42 (dk_at dksX3_agesBehind_2 7 rfl rfl)
theorem dX3_agesBehind_55 : decode cX3_agesBehind 55 = .ok (.getfield 135, 3) := dk_180 0 135 (dk_at dksX3_agesBehind_2 8 rfl rfl)
theorem dX3_agesBehind_58 : decode cX3_agesBehind 58 = .ok (.iload_n 1, 1) := dk_27 (dk_at dksX3_agesBehind_2 11 rfl rfl)
theorem dX3_agesBehind_59 : decode cX3_agesBehind 59 = .ok (.iconst (-1), 1) := dk_2 (dk_at dksX3_agesBehind_2 12 rfl rfl)
theorem dX3_agesBehind_60 : decode cX3_agesBehind 60 = .ok (.iastore, 1) := dk_79 (dk_at dksX3_agesBehind_2 13 rfl rfl)
theorem dX3_agesBehind_61 : decode cX3_agesBehind 61 = .ok (.return_, 1) := dk_177 (dk_at dksX3_agesBehind_2 14 rfl rfl)
theorem dX3_agesBehind_62 : decode cX3_agesBehind 62 = .ok (.aload_n 0, 1) := dk_42 (dk_at dksX3_agesBehind_2 15 rfl rfl)
theorem dX3_agesBehind_63 : decode cX3_agesBehind 63 = .ok (.getfield 132, 3) := dk_180 0 132 (dk_at dksX3_agesBehind_2 16 rfl rfl)
theorem dX3_agesBehind_66 : decode cX3_agesBehind 66 = .ok (.iload_n 1, 1) := dk_27 (dk_at dksX3_agesBehind_2 19 rfl rfl)
theorem dX3_agesBehind_67 : decode cX3_agesBehind 67 = .ok (.iaload, 1) := dk_46 (dk_at dksX3_agesBehind_2 20 rfl rfl)
theorem dX3_agesBehind_68 : decode cX3_agesBehind 68 = .ok (.iconst (-1), 1) := dk_2 (dk_at dksX3_agesBehind_2 21 rfl rfl)
theorem dX3_agesBehind_69 : decode cX3_agesBehind 69 = .ok (.if_icmp .eq 18, 3) := dk_159 0 18 (dk_at dksX3_agesBehind_3 0 rfl rfl)
theorem dX3_agesBehind_72 : decode cX3_agesBehind 72 = .ok (.aload_n 0, 1) := dk_42 (dk_at dksX3_agesBehind_3 3 rfl rfl)
theorem dX3_agesBehind_73 : decode cX3_agesBehind 73 = .ok (.getfield 132, 3) := dk_180 0 132 (dk_at dksX3_agesBehind_3 4 rfl rfl)
theorem dX3_agesBehind_76 : decode cX3_agesBehind 76 = .ok (.iload_n 3, 1) := dk_29 (dk_at dksX3_agesBehind_3 7 rfl rfl)
theorem dX3_agesBehind_77 : decode cX3_agesBehind 77 = .ok (.iaload, 1) := dk_46 (dk_at dksX3_agesBehind_3 8 rfl rfl)
theorem dX3_agesBehind_78 : decode cX3_agesBehind 78 = .ok (.aload_n 0, 1) := dk_42 (dk_at dksX3_agesBehind_3 9 rfl rfl)
theorem dX3_agesBehind_79 : decode cX3_agesBehind 79 = .ok (.getfield 132, 3) := dk_180 0 132 (dk_at dksX3_agesBehind_3 10 rfl rfl)
theorem dX3_agesBehind_82 : decode cX3_agesBehind 82 = .ok (.iload_n 1, 1) := dk_27 (dk_at dksX3_agesBehind_3 13 rfl rfl)
theorem dX3_agesBehind_83 : decode cX3_agesBehind 83 = .ok (.iaload, 1) := dk_46 (dk_at dksX3_agesBehind_3 14 rfl rfl)
theorem dX3_agesBehind_84 : decode cX3_agesBehind 84 = .ok (.if_icmp .ge 15, 3) := dk_162 0 15 (dk_at dksX3_agesBehind_3 15 rfl rfl)
theorem dX3_agesBehind_87 : decode cX3_agesBehind 87 = .ok (.aload_n 0, 1) := dk_42 (dk_at dksX3_agesBehind_3 18 rfl rfl)
theorem dX3_agesBehind_88 : decode cX3_agesBehind 88 = .ok (.getfield 132, 3) := dk_180 0 132 (dk_at dksX3_agesBehind_3 19 rfl rfl)
theorem dX3_agesBehind_91 : decode cX3_agesBehind 91 = .ok (.iload_n 1, 1) := dk_27 (dk_at dksX3_agesBehind_3 22 rfl rfl)
theorem dX3_agesBehind_92 : decode cX3_agesBehind 92 = .ok (.aload_n 0, 1) := dk_42 (dk_at dksX3_agesBehind_3 23 rfl rfl)
theorem dX3_agesBehind_93 : decode cX3_agesBehind 93 = .ok (.getfield 132, 3) := dk_180 0 132 (dk_at dksX3_agesBehind_4 0 rfl rfl)
theorem dX3_agesBehind_96 : decode cX3_agesBehind 96 = .ok (.iload_n 3, 1) := dk_29 (dk_at dksX3_agesBehind_4 3 rfl rfl)
theorem dX3_agesBehind_97 : decode cX3_agesBehind 97 = .ok (.iaload, 1) := dk_46 (dk_at dksX3_agesBehind_4 4 rfl rfl)
theorem dX3_agesBehind_98 : decode cX3_agesBehind 98 = .ok (.iastore, 1) := dk_79 (dk_at dksX3_agesBehind_4 5 rfl rfl)
theorem dX3_agesBehind_99 : decode cX3_agesBehind 99 = .ok (.aload_n 0, 1) := dk_42 (dk_at dksX3_agesBehind_4 6 rfl rfl)
theorem dX3_agesBehind_100 : decode cX3_agesBehind 100 = .ok (.getfield 135, 3) := dk_180 0 135 (dk_at dksX3_agesBehind_4 7 rfl rfl)
theorem dX3_agesBehind_103 : decode cX3_agesBehind 103 = .ok (.iload_n 3, 1) := dk_29 (dk_at dksX3_agesBehind_4 10 rfl rfl)
theorem dX3_agesBehind_104 : decode cX3_agesBehind 104 = .ok (.iaload, 1) := dk_46 (dk_at dksX3_agesBehind_4 11 rfl rfl)
theorem dX3_agesBehind_105 : decode cX3_agesBehind 105 = .ok (.aload_n 0, 1) := dk_42 (dk_at dksX3_agesBehind_4 12 rfl rfl)
theorem dX3_agesBehind_106 : decode cX3_agesBehind 106 = .ok (.getfield 135, 3) := dk_180 0 135 (dk_at dksX3_agesBehind_4 13 rfl rfl)
theorem dX3_agesBehind_109 : decode cX3_agesBehind 109 = .ok (.iload_n 1, 1) := dk_27 (dk_at dksX3_agesBehind_4 16 rfl rfl)
theorem dX3_agesBehind_110 : decode cX3_agesBehind 110 = .ok (.iaload, 1) := dk_46 (dk_at dksX3_agesBehind_4 17 rfl rfl)
theorem dX3_agesBehind_111 : decode cX3_agesBehind 111 = .ok (.if_icmp .le 15, 3) := dk_164 0 15 (dk_at dksX3_agesBehind_4 18 rfl rfl)
theorem dX3_agesBehind_114 : decode cX3_agesBehind 114 = .ok (.aload_n 0, 1) := dk_42 (dk_at dksX3_agesBehind_4 21 rfl rfl)
theorem dX3_agesBehind_115 : decode cX3_agesBehind 115 = .ok (.getfield 135, 3) := dk_180 0 135 (dk_at dksX3_agesBehind_5 0 rfl rfl)
theorem dX3_agesBehind_118 : decode cX3_agesBehind 118 = .ok (.iload_n 1, 1) := dk_27 (dk_at dksX3_agesBehind_5 3 rfl rfl)
theorem dX3_agesBehind_119 : decode cX3_agesBehind 119 = .ok (.aload_n 0, 1) := dk_42 (dk_at dksX3_agesBehind_5 4 rfl rfl)
theorem dX3_agesBehind_120 : decode cX3_agesBehind 120 = .ok (.getfield 135, 3) := dk_180 0 135 (dk_at dksX3_agesBehind_5 5 rfl rfl)
theorem dX3_agesBehind_123 : decode cX3_agesBehind 123 = .ok (.iload_n 3, 1) := dk_29 (dk_at dksX3_agesBehind_5 8 rfl rfl)
theorem dX3_agesBehind_124 : decode cX3_agesBehind 124 = .ok (.iaload, 1) := dk_46 (dk_at dksX3_agesBehind_5 9 rfl rfl)
theorem dX3_agesBehind_125 : decode cX3_agesBehind 125 = .ok (.iastore, 1) := dk_79 (dk_at dksX3_agesBehind_5 10 rfl rfl)
theorem dX3_agesBehind_126 : decode cX3_agesBehind 126 = .ok (.iinc 2 1, 3) := dk_132 2 1 (dk_at dksX3_agesBehind_5 11 rfl rfl)
theorem dX3_agesBehind_129 : decode cX3_agesBehind 129 = .ok (.goto (-113), 3) := dk_167 255 143 (dk_at dksX3_agesBehind_5 14 rfl rfl)
theorem dX3_agesBehind_132 : decode cX3_agesBehind 132 = .ok (.return_, 1) := dk_177 (dk_at dksX3_agesBehind_5 17 rfl rfl)
abbrev cX3_ownerOf : ByteArray := prog_14_method_39_code
def yX3_ownerOf : MethodName := ⟨RX3, "ownerOf", "(I)I"⟩
def dkwX3_ownerOf_1 : List UInt8 := [180, 0, 33, 6, 28, 104, 46, 61, 167, 255, 228, 42, 180, 0, 36, 28, 46, 172]
abbrev dktX3_ownerOf_1 : List UInt8 := dkwX3_ownerOf_1 ++ []
def dkwX3_ownerOf_0 : List UInt8 := [27, 61, 42, 180, 0, 36, 28, 46, 2, 160, 0, 24, 42, 180, 0, 30, 28, 46, 158, 0, 15, 42]
abbrev dktX3_ownerOf_0 : List UInt8 := dkwX3_ownerOf_0 ++ dktX3_ownerOf_1
theorem dksX3_ownerOf_0 : cX3_ownerOf.data.toList.drop 0 = dktX3_ownerOf_0 := by decide +kernel
theorem dksX3_ownerOf_1 : cX3_ownerOf.data.toList.drop 22 = dktX3_ownerOf_1 := dk_seg dksX3_ownerOf_0 22 rfl rfl
theorem dX3_ownerOf_0 : decode cX3_ownerOf 0 = .ok (.iload_n 1, 1) := dk_27 (dk_at dksX3_ownerOf_0 0 rfl rfl)
theorem dX3_ownerOf_1 : decode cX3_ownerOf 1 = .ok (.istore_n 2, 1) := dk_61 (dk_at dksX3_ownerOf_0 1 rfl rfl)
theorem dX3_ownerOf_2 : decode cX3_ownerOf 2 = .ok (.aload_n 0, 1) := dk_42 (dk_at dksX3_ownerOf_0 2 rfl rfl)
theorem dX3_ownerOf_3 : decode cX3_ownerOf 3 = .ok (.getfield 36, 3) := dk_180 0 36 (dk_at dksX3_ownerOf_0 3 rfl rfl)
theorem dX3_ownerOf_6 : decode cX3_ownerOf 6 = .ok (.iload_n 2, 1) := dk_28 (dk_at dksX3_ownerOf_0 6 rfl rfl)
theorem dX3_ownerOf_7 : decode cX3_ownerOf 7 = .ok (.iaload, 1) := dk_46 (dk_at dksX3_ownerOf_0 7 rfl rfl)
theorem dX3_ownerOf_8 : decode cX3_ownerOf 8 = .ok (.iconst (-1), 1) := dk_2 (dk_at dksX3_ownerOf_0 8 rfl rfl)
theorem dX3_ownerOf_9 : decode cX3_ownerOf 9 = .ok (.if_icmp .ne 24, 3) := dk_160 0 24 (dk_at dksX3_ownerOf_0 9 rfl rfl)
theorem dX3_ownerOf_12 : decode cX3_ownerOf 12 = .ok (.aload_n 0, 1) := dk_42 (dk_at dksX3_ownerOf_0 12 rfl rfl)
theorem dX3_ownerOf_13 : decode cX3_ownerOf 13 = .ok (.getfield 30, 3) := dk_180 0 30 (dk_at dksX3_ownerOf_0 13 rfl rfl)
theorem dX3_ownerOf_16 : decode cX3_ownerOf 16 = .ok (.iload_n 2, 1) := dk_28 (dk_at dksX3_ownerOf_0 16 rfl rfl)
theorem dX3_ownerOf_17 : decode cX3_ownerOf 17 = .ok (.iaload, 1) := dk_46 (dk_at dksX3_ownerOf_0 17 rfl rfl)
theorem dX3_ownerOf_18 : decode cX3_ownerOf 18 = .ok (.ifCond .le 15, 3) := dk_158 0 15 (dk_at dksX3_ownerOf_0 18 rfl rfl)
theorem dX3_ownerOf_21 : decode cX3_ownerOf 21 = .ok (.aload_n 0, 1) := dk_42 (dk_at dksX3_ownerOf_0 21 rfl rfl)
theorem dX3_ownerOf_22 : decode cX3_ownerOf 22 = .ok (.getfield 33, 3) := dk_180 0 33 (dk_at dksX3_ownerOf_1 0 rfl rfl)
theorem dX3_ownerOf_25 : decode cX3_ownerOf 25 = .ok (.iconst 3, 1) := dk_6 (dk_at dksX3_ownerOf_1 3 rfl rfl)
theorem dX3_ownerOf_26 : decode cX3_ownerOf 26 = .ok (.iload_n 2, 1) := dk_28 (dk_at dksX3_ownerOf_1 4 rfl rfl)
theorem dX3_ownerOf_27 : decode cX3_ownerOf 27 = .ok (.imul, 1) := dk_104 (dk_at dksX3_ownerOf_1 5 rfl rfl)
theorem dX3_ownerOf_28 : decode cX3_ownerOf 28 = .ok (.iaload, 1) := dk_46 (dk_at dksX3_ownerOf_1 6 rfl rfl)
theorem dX3_ownerOf_29 : decode cX3_ownerOf 29 = .ok (.istore_n 2, 1) := dk_61 (dk_at dksX3_ownerOf_1 7 rfl rfl)
theorem dX3_ownerOf_30 : decode cX3_ownerOf 30 = .ok (.goto (-28), 3) := dk_167 255 228 (dk_at dksX3_ownerOf_1 8 rfl rfl)
theorem dX3_ownerOf_33 : decode cX3_ownerOf 33 = .ok (.aload_n 0, 1) := dk_42 (dk_at dksX3_ownerOf_1 11 rfl rfl)
theorem dX3_ownerOf_34 : decode cX3_ownerOf 34 = .ok (.getfield 36, 3) := dk_180 0 36 (dk_at dksX3_ownerOf_1 12 rfl rfl)
theorem dX3_ownerOf_37 : decode cX3_ownerOf 37 = .ok (.iload_n 2, 1) := dk_28 (dk_at dksX3_ownerOf_1 15 rfl rfl)
theorem dX3_ownerOf_38 : decode cX3_ownerOf 38 = .ok (.iaload, 1) := dk_46 (dk_at dksX3_ownerOf_1 16 rfl rfl)
theorem dX3_ownerOf_39 : decode cX3_ownerOf 39 = .ok (.ireturn, 1) := dk_172 (dk_at dksX3_ownerOf_1 17 rfl rfl)
abbrev cX3_type : ByteArray := prog_14_method_41_code
def yX3_type : MethodName := ⟨RX3, "type", "(II)I"⟩
def dkwX3_type_1 : List UInt8 := [172]
abbrev dktX3_type_1 : List UInt8 := dkwX3_type_1 ++ []
def dkwX3_type_0 : List UInt8 := [42, 27, 28, 182, 1, 64, 153, 0, 17, 42, 180, 0, 27, 16, 8, 27, 104, 28, 96, 46, 167, 0, 4, 2]
abbrev dktX3_type_0 : List UInt8 := dkwX3_type_0 ++ dktX3_type_1
theorem dksX3_type_0 : cX3_type.data.toList.drop 0 = dktX3_type_0 := by decide +kernel
theorem dksX3_type_1 : cX3_type.data.toList.drop 24 = dktX3_type_1 := dk_seg dksX3_type_0 24 rfl rfl
theorem dX3_type_0 : decode cX3_type 0 = .ok (.aload_n 0, 1) := dk_42 (dk_at dksX3_type_0 0 rfl rfl)
theorem dX3_type_1 : decode cX3_type 1 = .ok (.iload_n 1, 1) := dk_27 (dk_at dksX3_type_0 1 rfl rfl)
theorem dX3_type_2 : decode cX3_type 2 = .ok (.iload_n 2, 1) := dk_28 (dk_at dksX3_type_0 2 rfl rfl)
theorem dX3_type_3 : decode cX3_type 3 = .ok (.invokevirtual 320, 3) := dk_182 1 64 (dk_at dksX3_type_0 3 rfl rfl)
theorem dX3_type_6 : decode cX3_type 6 = .ok (.ifCond .eq 17, 3) := dk_153 0 17 (dk_at dksX3_type_0 6 rfl rfl)
theorem dX3_type_9 : decode cX3_type 9 = .ok (.aload_n 0, 1) := dk_42 (dk_at dksX3_type_0 9 rfl rfl)
theorem dX3_type_10 : decode cX3_type 10 = .ok (.getfield 27, 3) := dk_180 0 27 (dk_at dksX3_type_0 10 rfl rfl)
theorem dX3_type_13 : decode cX3_type 13 = .ok (.bipush 8, 2) := dk_16 8 (dk_at dksX3_type_0 13 rfl rfl)
theorem dX3_type_15 : decode cX3_type 15 = .ok (.iload_n 1, 1) := dk_27 (dk_at dksX3_type_0 15 rfl rfl)
theorem dX3_type_16 : decode cX3_type 16 = .ok (.imul, 1) := dk_104 (dk_at dksX3_type_0 16 rfl rfl)
theorem dX3_type_17 : decode cX3_type 17 = .ok (.iload_n 2, 1) := dk_28 (dk_at dksX3_type_0 17 rfl rfl)
theorem dX3_type_18 : decode cX3_type 18 = .ok (.iadd, 1) := dk_96 (dk_at dksX3_type_0 18 rfl rfl)
theorem dX3_type_19 : decode cX3_type 19 = .ok (.iaload, 1) := dk_46 (dk_at dksX3_type_0 19 rfl rfl)
theorem dX3_type_20 : decode cX3_type 20 = .ok (.goto 4, 3) := dk_167 0 4 (dk_at dksX3_type_0 20 rfl rfl)
theorem dX3_type_23 : decode cX3_type 23 = .ok (.iconst (-1), 1) := dk_2 (dk_at dksX3_type_0 23 rfl rfl)
theorem dX3_type_24 : decode cX3_type 24 = .ok (.ireturn, 1) := dk_172 (dk_at dksX3_type_1 0 rfl rfl)
abbrev cX3_isColumn : ByteArray := prog_14_method_3_code
def yX3_isColumn : MethodName := ⟨RX3, "isColumn", "(II)Z"⟩
def dkwX3_isColumn_1 : List UInt8 := [167, 0, 4, 3, 172]
abbrev dktX3_isColumn_1 : List UInt8 := dkwX3_isColumn_1 ++ []
def dkwX3_isColumn_0 : List UInt8 := [42, 27, 182, 0, 162, 153, 0, 21, 28, 155, 0, 17, 28, 42, 180, 0, 21, 27, 46, 162, 0, 7, 4]
abbrev dktX3_isColumn_0 : List UInt8 := dkwX3_isColumn_0 ++ dktX3_isColumn_1
theorem dksX3_isColumn_0 : cX3_isColumn.data.toList.drop 0 = dktX3_isColumn_0 := by decide +kernel
theorem dksX3_isColumn_1 : cX3_isColumn.data.toList.drop 23 = dktX3_isColumn_1 := dk_seg dksX3_isColumn_0 23 rfl rfl
theorem dX3_isColumn_0 : decode cX3_isColumn 0 = .ok (.aload_n 0, 1) := dk_42 (dk_at dksX3_isColumn_0 0 rfl rfl)
theorem dX3_isColumn_1 : decode cX3_isColumn 1 = .ok (.iload_n 1, 1) := dk_27 (dk_at dksX3_isColumn_0 1 rfl rfl)
theorem dX3_isColumn_2 : decode cX3_isColumn 2 = .ok (.invokevirtual 162, 3) := dk_182 0 162 (dk_at dksX3_isColumn_0 2 rfl rfl)
theorem dX3_isColumn_5 : decode cX3_isColumn 5 = .ok (.ifCond .eq 21, 3) := dk_153 0 21 (dk_at dksX3_isColumn_0 5 rfl rfl)
theorem dX3_isColumn_8 : decode cX3_isColumn 8 = .ok (.iload_n 2, 1) := dk_28 (dk_at dksX3_isColumn_0 8 rfl rfl)
theorem dX3_isColumn_9 : decode cX3_isColumn 9 = .ok (.ifCond .lt 17, 3) := dk_155 0 17 (dk_at dksX3_isColumn_0 9 rfl rfl)
theorem dX3_isColumn_12 : decode cX3_isColumn 12 = .ok (.iload_n 2, 1) := dk_28 (dk_at dksX3_isColumn_0 12 rfl rfl)
theorem dX3_isColumn_13 : decode cX3_isColumn 13 = .ok (.aload_n 0, 1) := dk_42 (dk_at dksX3_isColumn_0 13 rfl rfl)
theorem dX3_isColumn_14 : decode cX3_isColumn 14 = .ok (.getfield 21, 3) := dk_180 0 21 (dk_at dksX3_isColumn_0 14 rfl rfl)
theorem dX3_isColumn_17 : decode cX3_isColumn 17 = .ok (.iload_n 1, 1) := dk_27 (dk_at dksX3_isColumn_0 17 rfl rfl)
theorem dX3_isColumn_18 : decode cX3_isColumn 18 = .ok (.iaload, 1) := dk_46 (dk_at dksX3_isColumn_0 18 rfl rfl)
theorem dX3_isColumn_19 : decode cX3_isColumn 19 = .ok (.if_icmp .ge 7, 3) := dk_162 0 7 (dk_at dksX3_isColumn_0 19 rfl rfl)
theorem dX3_isColumn_22 : decode cX3_isColumn 22 = .ok (.iconst 1, 1) := dk_4 (dk_at dksX3_isColumn_0 22 rfl rfl)
theorem dX3_isColumn_23 : decode cX3_isColumn 23 = .ok (.goto 4, 3) := dk_167 0 4 (dk_at dksX3_isColumn_1 0 rfl rfl)
theorem dX3_isColumn_26 : decode cX3_isColumn 26 = .ok (.iconst 0, 1) := dk_3 (dk_at dksX3_isColumn_1 3 rfl rfl)
theorem dX3_isColumn_27 : decode cX3_isColumn 27 = .ok (.ireturn, 1) := dk_172 (dk_at dksX3_isColumn_1 4 rfl rfl)
abbrev cX3_found : ByteArray := prog_14_method_42_code
def yX3_found : MethodName := ⟨RX3, "found", "(I)I"⟩
def dkwX3_found_0 : List UInt8 := [27, 155, 0, 20, 27, 42, 180, 1, 68, 162, 0, 12, 42, 180, 0, 141, 27, 46, 167, 0, 4, 2, 172]
abbrev dktX3_found_0 : List UInt8 := dkwX3_found_0 ++ []
theorem dksX3_found_0 : cX3_found.data.toList.drop 0 = dktX3_found_0 := by decide +kernel
theorem dX3_found_0 : decode cX3_found 0 = .ok (.iload_n 1, 1) := dk_27 (dk_at dksX3_found_0 0 rfl rfl)
theorem dX3_found_1 : decode cX3_found 1 = .ok (.ifCond .lt 20, 3) := dk_155 0 20 (dk_at dksX3_found_0 1 rfl rfl)
theorem dX3_found_4 : decode cX3_found 4 = .ok (.iload_n 1, 1) := dk_27 (dk_at dksX3_found_0 4 rfl rfl)
theorem dX3_found_5 : decode cX3_found 5 = .ok (.aload_n 0, 1) := dk_42 (dk_at dksX3_found_0 5 rfl rfl)
theorem dX3_found_6 : decode cX3_found 6 = .ok (.getfield 324, 3) := dk_180 1 68 (dk_at dksX3_found_0 6 rfl rfl)
theorem dX3_found_9 : decode cX3_found 9 = .ok (.if_icmp .ge 12, 3) := dk_162 0 12 (dk_at dksX3_found_0 9 rfl rfl)
theorem dX3_found_12 : decode cX3_found 12 = .ok (.aload_n 0, 1) := dk_42 (dk_at dksX3_found_0 12 rfl rfl)
theorem dX3_found_13 : decode cX3_found 13 = .ok (.getfield 141, 3) := dk_180 0 141 (dk_at dksX3_found_0 13 rfl rfl)
theorem dX3_found_16 : decode cX3_found 16 = .ok (.iload_n 1, 1) := dk_27 (dk_at dksX3_found_0 16 rfl rfl)
theorem dX3_found_17 : decode cX3_found 17 = .ok (.iaload, 1) := dk_46 (dk_at dksX3_found_0 17 rfl rfl)
theorem dX3_found_18 : decode cX3_found 18 = .ok (.goto 4, 3) := dk_167 0 4 (dk_at dksX3_found_0 18 rfl rfl)
theorem dX3_found_21 : decode cX3_found 21 = .ok (.iconst (-1), 1) := dk_2 (dk_at dksX3_found_0 21 rfl rfl)
theorem dX3_found_22 : decode cX3_found 22 = .ok (.ireturn, 1) := dk_172 (dk_at dksX3_found_0 22 rfl rfl)
abbrev cX3_from : ByteArray := prog_14_method_49_code
def yX3_from : MethodName := ⟨RX3, "from", "(III)I"⟩
def dkwX3_from_8 : List UInt8 := [154, 0, 9, 42, 21, 4, 182, 1, 83, 132, 4, 1, 167, 255, 211, 42, 180, 1, 68, 172]
abbrev dktX3_from_8 : List UInt8 := dkwX3_from_8 ++ []
def dkwX3_from_7 : List UInt8 := [180, 0, 138, 21, 4, 51, 153, 0, 27, 29, 5, 161, 0, 16, 42, 180, 0, 17, 21, 4, 16, 8, 108, 46]
abbrev dktX3_from_7 : List UInt8 := dkwX3_from_7 ++ dktX3_from_8
def dkwX3_from_6 : List UInt8 := [132, 4, 255, 167, 255, 165, 42, 3, 181, 1, 68, 3, 54, 4, 21, 4, 17, 0, 136, 162, 0, 43, 42]
abbrev dktX3_from_6 : List UInt8 := dkwX3_from_6 ++ dktX3_from_7
def dkwX3_from_5 : List UInt8 := [21, 4, 104, 21, 5, 96, 51, 153, 0, 11, 42, 21, 4, 21, 5, 182, 1, 80, 132, 5, 1, 167, 255, 217]
abbrev dktX3_from_5 : List UInt8 := dkwX3_from_5 ++ dktX3_from_6
def dkwX3_from_4 : List UInt8 := [167, 0, 48, 3, 54, 5, 21, 5, 42, 180, 0, 21, 21, 4, 46, 162, 0, 33, 42, 180, 0, 138, 16, 8]
abbrev dktX3_from_4 : List UInt8 := dkwX3_from_4 ++ dktX3_from_5
def dkwX3_from_3 : List UInt8 := [153, 0, 72, 42, 180, 0, 17, 21, 4, 46, 6, 159, 0, 61, 42, 180, 0, 7, 21, 4, 51, 154, 0, 6]
abbrev dktX3_from_3 : List UInt8 := dkwX3_from_3 ++ dktX3_from_4
def dkwX3_from_2 : List UInt8 := [182, 1, 80, 27, 4, 100, 54, 4, 21, 4, 155, 0, 92, 29, 158, 0, 88, 42, 180, 0, 17, 21, 4, 46]
abbrev dktX3_from_2 : List UInt8 := dkwX3_from_2 ++ dktX3_from_3
def dkwX3_from_1 : List UInt8 := [42, 180, 0, 17, 27, 46, 4, 159, 0, 13, 42, 180, 0, 17, 27, 46, 5, 160, 0, 9, 42, 27, 28]
abbrev dktX3_from_1 : List UInt8 := dkwX3_from_1 ++ dktX3_from_2
def dkwX3_from_0 : List UInt8 := [42, 27, 28, 182, 1, 64, 153, 0, 12, 29, 155, 0, 8, 29, 5, 164, 0, 5, 2, 172, 42, 182, 1, 77]
abbrev dktX3_from_0 : List UInt8 := dkwX3_from_0 ++ dktX3_from_1
theorem dksX3_from_0 : cX3_from.data.toList.drop 0 = dktX3_from_0 := by decide +kernel
theorem dksX3_from_1 : cX3_from.data.toList.drop 24 = dktX3_from_1 := dk_seg dksX3_from_0 24 rfl rfl
theorem dksX3_from_2 : cX3_from.data.toList.drop 47 = dktX3_from_2 := dk_seg dksX3_from_1 23 rfl rfl
theorem dksX3_from_3 : cX3_from.data.toList.drop 71 = dktX3_from_3 := dk_seg dksX3_from_2 24 rfl rfl
theorem dksX3_from_4 : cX3_from.data.toList.drop 95 = dktX3_from_4 := dk_seg dksX3_from_3 24 rfl rfl
theorem dksX3_from_5 : cX3_from.data.toList.drop 119 = dktX3_from_5 := dk_seg dksX3_from_4 24 rfl rfl
theorem dksX3_from_6 : cX3_from.data.toList.drop 143 = dktX3_from_6 := dk_seg dksX3_from_5 24 rfl rfl
theorem dksX3_from_7 : cX3_from.data.toList.drop 166 = dktX3_from_7 := dk_seg dksX3_from_6 23 rfl rfl
theorem dksX3_from_8 : cX3_from.data.toList.drop 190 = dktX3_from_8 := dk_seg dksX3_from_7 24 rfl rfl
theorem dX3_from_0 : decode cX3_from 0 = .ok (.aload_n 0, 1) := dk_42 (dk_at dksX3_from_0 0 rfl rfl)
theorem dX3_from_1 : decode cX3_from 1 = .ok (.iload_n 1, 1) := dk_27 (dk_at dksX3_from_0 1 rfl rfl)
theorem dX3_from_2 : decode cX3_from 2 = .ok (.iload_n 2, 1) := dk_28 (dk_at dksX3_from_0 2 rfl rfl)
theorem dX3_from_3 : decode cX3_from 3 = .ok (.invokevirtual 320, 3) := dk_182 1 64 (dk_at dksX3_from_0 3 rfl rfl)
theorem dX3_from_6 : decode cX3_from 6 = .ok (.ifCond .eq 12, 3) := dk_153 0 12 (dk_at dksX3_from_0 6 rfl rfl)
theorem dX3_from_9 : decode cX3_from 9 = .ok (.iload_n 3, 1) := dk_29 (dk_at dksX3_from_0 9 rfl rfl)
theorem dX3_from_10 : decode cX3_from 10 = .ok (.ifCond .lt 8, 3) := dk_155 0 8 (dk_at dksX3_from_0 10 rfl rfl)
theorem dX3_from_13 : decode cX3_from 13 = .ok (.iload_n 3, 1) := dk_29 (dk_at dksX3_from_0 13 rfl rfl)
theorem dX3_from_14 : decode cX3_from 14 = .ok (.iconst 2, 1) := dk_5 (dk_at dksX3_from_0 14 rfl rfl)
theorem dX3_from_15 : decode cX3_from 15 = .ok (.if_icmp .le 5, 3) := dk_164 0 5 (dk_at dksX3_from_0 15 rfl rfl)
theorem dX3_from_18 : decode cX3_from 18 = .ok (.iconst (-1), 1) := dk_2 (dk_at dksX3_from_0 18 rfl rfl)
theorem dX3_from_19 : decode cX3_from 19 = .ok (.ireturn, 1) := dk_172 (dk_at dksX3_from_0 19 rfl rfl)
theorem dX3_from_20 : decode cX3_from 20 = .ok (.aload_n 0, 1) := dk_42 (dk_at dksX3_from_0 20 rfl rfl)
theorem dX3_from_21 : decode cX3_from 21 = .ok (.invokevirtual 333, 3) := dk_182 1 77 (dk_at dksX3_from_0 21 rfl rfl)
theorem dX3_from_24 : decode cX3_from 24 = .ok (.aload_n 0, 1) := dk_42 (dk_at dksX3_from_1 0 rfl rfl)
theorem dX3_from_25 : decode cX3_from 25 = .ok (.getfield 17, 3) := dk_180 0 17 (dk_at dksX3_from_1 1 rfl rfl)
theorem dX3_from_28 : decode cX3_from 28 = .ok (.iload_n 1, 1) := dk_27 (dk_at dksX3_from_1 4 rfl rfl)
theorem dX3_from_29 : decode cX3_from 29 = .ok (.iaload, 1) := dk_46 (dk_at dksX3_from_1 5 rfl rfl)
theorem dX3_from_30 : decode cX3_from 30 = .ok (.iconst 1, 1) := dk_4 (dk_at dksX3_from_1 6 rfl rfl)
theorem dX3_from_31 : decode cX3_from 31 = .ok (.if_icmp .eq 13, 3) := dk_159 0 13 (dk_at dksX3_from_1 7 rfl rfl)
theorem dX3_from_34 : decode cX3_from 34 = .ok (.aload_n 0, 1) := dk_42 (dk_at dksX3_from_1 10 rfl rfl)
theorem dX3_from_35 : decode cX3_from 35 = .ok (.getfield 17, 3) := dk_180 0 17 (dk_at dksX3_from_1 11 rfl rfl)
theorem dX3_from_38 : decode cX3_from 38 = .ok (.iload_n 1, 1) := dk_27 (dk_at dksX3_from_1 14 rfl rfl)
theorem dX3_from_39 : decode cX3_from 39 = .ok (.iaload, 1) := dk_46 (dk_at dksX3_from_1 15 rfl rfl)
theorem dX3_from_40 : decode cX3_from 40 = .ok (.iconst 2, 1) := dk_5 (dk_at dksX3_from_1 16 rfl rfl)
theorem dX3_from_41 : decode cX3_from 41 = .ok (.if_icmp .ne 9, 3) := dk_160 0 9 (dk_at dksX3_from_1 17 rfl rfl)
theorem dX3_from_44 : decode cX3_from 44 = .ok (.aload_n 0, 1) := dk_42 (dk_at dksX3_from_1 20 rfl rfl)
theorem dX3_from_45 : decode cX3_from 45 = .ok (.iload_n 1, 1) := dk_27 (dk_at dksX3_from_1 21 rfl rfl)
theorem dX3_from_46 : decode cX3_from 46 = .ok (.iload_n 2, 1) := dk_28 (dk_at dksX3_from_1 22 rfl rfl)
theorem dX3_from_47 : decode cX3_from 47 = .ok (.invokevirtual 336, 3) := dk_182 1 80 (dk_at dksX3_from_2 0 rfl rfl)
theorem dX3_from_50 : decode cX3_from 50 = .ok (.iload_n 1, 1) := dk_27 (dk_at dksX3_from_2 3 rfl rfl)
theorem dX3_from_51 : decode cX3_from 51 = .ok (.iconst 1, 1) := dk_4 (dk_at dksX3_from_2 4 rfl rfl)
theorem dX3_from_52 : decode cX3_from 52 = .ok (.isub, 1) := dk_100 (dk_at dksX3_from_2 5 rfl rfl)
theorem dX3_from_53 : decode cX3_from 53 = .ok (.istore 4, 2) := dk_54 4 (dk_at dksX3_from_2 6 rfl rfl)
theorem dX3_from_55 : decode cX3_from 55 = .ok (.iload 4, 2) := dk_21 4 (dk_at dksX3_from_2 8 rfl rfl)
theorem dX3_from_57 : decode cX3_from 57 = .ok (.ifCond .lt 92, 3) := dk_155 0 92 (dk_at dksX3_from_2 10 rfl rfl)
theorem dX3_from_60 : decode cX3_from 60 = .ok (.iload_n 3, 1) := dk_29 (dk_at dksX3_from_2 13 rfl rfl)
theorem dX3_from_61 : decode cX3_from 61 = .ok (.ifCond .le 88, 3) := dk_158 0 88 (dk_at dksX3_from_2 14 rfl rfl)
theorem dX3_from_64 : decode cX3_from 64 = .ok (.aload_n 0, 1) := dk_42 (dk_at dksX3_from_2 17 rfl rfl)
theorem dX3_from_65 : decode cX3_from 65 = .ok (.getfield 17, 3) := dk_180 0 17 (dk_at dksX3_from_2 18 rfl rfl)
theorem dX3_from_68 : decode cX3_from 68 = .ok (.iload 4, 2) := dk_21 4 (dk_at dksX3_from_2 21 rfl rfl)
theorem dX3_from_70 : decode cX3_from 70 = .ok (.iaload, 1) := dk_46 (dk_at dksX3_from_2 23 rfl rfl)
theorem dX3_from_71 : decode cX3_from 71 = .ok (.ifCond .eq 72, 3) := dk_153 0 72 (dk_at dksX3_from_3 0 rfl rfl)
theorem dX3_from_74 : decode cX3_from 74 = .ok (.aload_n 0, 1) := dk_42 (dk_at dksX3_from_3 3 rfl rfl)
theorem dX3_from_75 : decode cX3_from 75 = .ok (.getfield 17, 3) := dk_180 0 17 (dk_at dksX3_from_3 4 rfl rfl)
theorem dX3_from_78 : decode cX3_from 78 = .ok (.iload 4, 2) := dk_21 4 (dk_at dksX3_from_3 7 rfl rfl)
theorem dX3_from_80 : decode cX3_from 80 = .ok (.iaload, 1) := dk_46 (dk_at dksX3_from_3 9 rfl rfl)
theorem dX3_from_81 : decode cX3_from 81 = .ok (.iconst 3, 1) := dk_6 (dk_at dksX3_from_3 10 rfl rfl)
theorem dX3_from_82 : decode cX3_from 82 = .ok (.if_icmp .eq 61, 3) := dk_159 0 61 (dk_at dksX3_from_3 11 rfl rfl)
theorem dX3_from_85 : decode cX3_from 85 = .ok (.aload_n 0, 1) := dk_42 (dk_at dksX3_from_3 14 rfl rfl)
theorem dX3_from_86 : decode cX3_from 86 = .ok (.getfield 7, 3) := dk_180 0 7 (dk_at dksX3_from_3 15 rfl rfl)
theorem dX3_from_89 : decode cX3_from 89 = .ok (.iload 4, 2) := dk_21 4 (dk_at dksX3_from_3 18 rfl rfl)
theorem dX3_from_91 : decode cX3_from 91 = .ok (.baload, 1) := dk_51 (dk_at dksX3_from_3 20 rfl rfl)
theorem dX3_from_92 : decode cX3_from 92 = .ok (.ifCond .ne 6, 3) := dk_154 0 6 (dk_at dksX3_from_3 21 rfl rfl)
theorem dX3_from_95 : decode cX3_from 95 = .ok (.goto 48, 3) := dk_167 0 48 (dk_at dksX3_from_4 0 rfl rfl)
theorem dX3_from_98 : decode cX3_from 98 = .ok (.iconst 0, 1) := dk_3 (dk_at dksX3_from_4 3 rfl rfl)
theorem dX3_from_99 : decode cX3_from 99 = .ok (.istore 5, 2) := dk_54 5 (dk_at dksX3_from_4 4 rfl rfl)
theorem dX3_from_101 : decode cX3_from 101 = .ok (.iload 5, 2) := dk_21 5 (dk_at dksX3_from_4 6 rfl rfl)
theorem dX3_from_103 : decode cX3_from 103 = .ok (.aload_n 0, 1) := dk_42 (dk_at dksX3_from_4 8 rfl rfl)
theorem dX3_from_104 : decode cX3_from 104 = .ok (.getfield 21, 3) := dk_180 0 21 (dk_at dksX3_from_4 9 rfl rfl)
theorem dX3_from_107 : decode cX3_from 107 = .ok (.iload 4, 2) := dk_21 4 (dk_at dksX3_from_4 12 rfl rfl)
theorem dX3_from_109 : decode cX3_from 109 = .ok (.iaload, 1) := dk_46 (dk_at dksX3_from_4 14 rfl rfl)
theorem dX3_from_110 : decode cX3_from 110 = .ok (.if_icmp .ge 33, 3) := dk_162 0 33 (dk_at dksX3_from_4 15 rfl rfl)
theorem dX3_from_113 : decode cX3_from 113 = .ok (.aload_n 0, 1) := dk_42 (dk_at dksX3_from_4 18 rfl rfl)
theorem dX3_from_114 : decode cX3_from 114 = .ok (.getfield 138, 3) := dk_180 0 138 (dk_at dksX3_from_4 19 rfl rfl)
theorem dX3_from_117 : decode cX3_from 117 = .ok (.bipush 8, 2) := dk_16 8 (dk_at dksX3_from_4 22 rfl rfl)
theorem dX3_from_119 : decode cX3_from 119 = .ok (.iload 4, 2) := dk_21 4 (dk_at dksX3_from_5 0 rfl rfl)
theorem dX3_from_121 : decode cX3_from 121 = .ok (.imul, 1) := dk_104 (dk_at dksX3_from_5 2 rfl rfl)
theorem dX3_from_122 : decode cX3_from 122 = .ok (.iload 5, 2) := dk_21 5 (dk_at dksX3_from_5 3 rfl rfl)
theorem dX3_from_124 : decode cX3_from 124 = .ok (.iadd, 1) := dk_96 (dk_at dksX3_from_5 5 rfl rfl)
theorem dX3_from_125 : decode cX3_from 125 = .ok (.baload, 1) := dk_51 (dk_at dksX3_from_5 6 rfl rfl)
theorem dX3_from_126 : decode cX3_from 126 = .ok (.ifCond .eq 11, 3) := dk_153 0 11 (dk_at dksX3_from_5 7 rfl rfl)
theorem dX3_from_129 : decode cX3_from 129 = .ok (.aload_n 0, 1) := dk_42 (dk_at dksX3_from_5 10 rfl rfl)
theorem dX3_from_130 : decode cX3_from 130 = .ok (.iload 4, 2) := dk_21 4 (dk_at dksX3_from_5 11 rfl rfl)
theorem dX3_from_132 : decode cX3_from 132 = .ok (.iload 5, 2) := dk_21 5 (dk_at dksX3_from_5 13 rfl rfl)
theorem dX3_from_134 : decode cX3_from 134 = .ok (.invokevirtual 336, 3) := dk_182 1 80 (dk_at dksX3_from_5 15 rfl rfl)
theorem dX3_from_137 : decode cX3_from 137 = .ok (.iinc 5 1, 3) := dk_132 5 1 (dk_at dksX3_from_5 18 rfl rfl)
theorem dX3_from_140 : decode cX3_from 140 = .ok (.goto (-39), 3) := dk_167 255 217 (dk_at dksX3_from_5 21 rfl rfl)
theorem dX3_from_143 : decode cX3_from 143 = .ok (.iinc 4 (-1), 3) := dk_132 4 255 (dk_at dksX3_from_6 0 rfl rfl)
theorem dX3_from_146 : decode cX3_from 146 = .ok (.goto (-91), 3) := dk_167 255 165 (dk_at dksX3_from_6 3 rfl rfl)
theorem dX3_from_149 : decode cX3_from 149 = .ok (.aload_n 0, 1) := dk_42 (dk_at dksX3_from_6 6 rfl rfl)
theorem dX3_from_150 : decode cX3_from 150 = .ok (.iconst 0, 1) := dk_3 (dk_at dksX3_from_6 7 rfl rfl)
theorem dX3_from_151 : decode cX3_from 151 = .ok (.putfield 324, 3) := dk_181 1 68 (dk_at dksX3_from_6 8 rfl rfl)
theorem dX3_from_154 : decode cX3_from 154 = .ok (.iconst 0, 1) := dk_3 (dk_at dksX3_from_6 11 rfl rfl)
theorem dX3_from_155 : decode cX3_from 155 = .ok (.istore 4, 2) := dk_54 4 (dk_at dksX3_from_6 12 rfl rfl)
theorem dX3_from_157 : decode cX3_from 157 = .ok (.iload 4, 2) := dk_21 4 (dk_at dksX3_from_6 14 rfl rfl)
theorem dX3_from_159 : decode cX3_from 159 = .ok (.sipush 136, 3) := dk_17 0 136 (dk_at dksX3_from_6 16 rfl rfl)
theorem dX3_from_162 : decode cX3_from 162 = .ok (.if_icmp .ge 43, 3) := dk_162 0 43 (dk_at dksX3_from_6 19 rfl rfl)
theorem dX3_from_165 : decode cX3_from 165 = .ok (.aload_n 0, 1) := dk_42 (dk_at dksX3_from_6 22 rfl rfl)
theorem dX3_from_166 : decode cX3_from 166 = .ok (.getfield 138, 3) := dk_180 0 138 (dk_at dksX3_from_7 0 rfl rfl)
theorem dX3_from_169 : decode cX3_from 169 = .ok (.iload 4, 2) := dk_21 4 (dk_at dksX3_from_7 3 rfl rfl)
theorem dX3_from_171 : decode cX3_from 171 = .ok (.baload, 1) := dk_51 (dk_at dksX3_from_7 5 rfl rfl)
theorem dX3_from_172 : decode cX3_from 172 = .ok (.ifCond .eq 27, 3) := dk_153 0 27 (dk_at dksX3_from_7 6 rfl rfl)
theorem dX3_from_175 : decode cX3_from 175 = .ok (.iload_n 3, 1) := dk_29 (dk_at dksX3_from_7 9 rfl rfl)
theorem dX3_from_176 : decode cX3_from 176 = .ok (.iconst 2, 1) := dk_5 (dk_at dksX3_from_7 10 rfl rfl)
theorem dX3_from_177 : decode cX3_from 177 = .ok (.if_icmp .lt 16, 3) := dk_161 0 16 (dk_at dksX3_from_7 11 rfl rfl)
theorem dX3_from_180 : decode cX3_from 180 = .ok (.aload_n 0, 1) := dk_42 (dk_at dksX3_from_7 14 rfl rfl)
theorem dX3_from_181 : decode cX3_from 181 = .ok (.getfield 17, 3) := dk_180 0 17 (dk_at dksX3_from_7 15 rfl rfl)
theorem dX3_from_184 : decode cX3_from 184 = .ok (.iload 4, 2) := dk_21 4 (dk_at dksX3_from_7 18 rfl rfl)
theorem dX3_from_186 : decode cX3_from 186 = .ok (.bipush 8, 2) := dk_16 8 (dk_at dksX3_from_7 20 rfl rfl)
theorem dX3_from_188 : decode cX3_from 188 = .ok (.idiv, 1) := dk_108 (dk_at dksX3_from_7 22 rfl rfl)
theorem dX3_from_189 : decode cX3_from 189 = .ok (.iaload, 1) := dk_46 (dk_at dksX3_from_7 23 rfl rfl)
theorem dX3_from_190 : decode cX3_from 190 = .ok (.ifCond .ne 9, 3) := dk_154 0 9 (dk_at dksX3_from_8 0 rfl rfl)
theorem dX3_from_193 : decode cX3_from 193 = .ok (.aload_n 0, 1) := dk_42 (dk_at dksX3_from_8 3 rfl rfl)
theorem dX3_from_194 : decode cX3_from 194 = .ok (.iload 4, 2) := dk_21 4 (dk_at dksX3_from_8 4 rfl rfl)
theorem dX3_from_196 : decode cX3_from 196 = .ok (.invokevirtual 339, 3) := dk_182 1 83 (dk_at dksX3_from_8 6 rfl rfl)
theorem dX3_from_199 : decode cX3_from 199 = .ok (.iinc 4 1, 3) := dk_132 4 1 (dk_at dksX3_from_8 9 rfl rfl)
theorem dX3_from_202 : decode cX3_from 202 = .ok (.goto (-45), 3) := dk_167 255 211 (dk_at dksX3_from_8 12 rfl rfl)
theorem dX3_from_205 : decode cX3_from 205 = .ok (.aload_n 0, 1) := dk_42 (dk_at dksX3_from_8 15 rfl rfl)
theorem dX3_from_206 : decode cX3_from 206 = .ok (.getfield 324, 3) := dk_180 1 68 (dk_at dksX3_from_8 16 rfl rfl)
theorem dX3_from_209 : decode cX3_from 209 = .ok (.ireturn, 1) := dk_172 (dk_at dksX3_from_8 19 rfl rfl)
abbrev cX3_clears : ByteArray := prog_14_method_48_code
def yX3_clears : MethodName := ⟨RX3, "clears", "()V"⟩
def dkwX3_clears_0 : List UInt8 := [3, 60, 27, 17, 0, 136, 162, 0, 16, 42, 180, 0, 138, 27, 3, 84, 132, 1, 1, 167, 255, 239, 177]
abbrev dktX3_clears_0 : List UInt8 := dkwX3_clears_0 ++ []
theorem dksX3_clears_0 : cX3_clears.data.toList.drop 0 = dktX3_clears_0 := by decide +kernel
theorem dX3_clears_0 : decode cX3_clears 0 = .ok (.iconst 0, 1) := dk_3 (dk_at dksX3_clears_0 0 rfl rfl)
theorem dX3_clears_1 : decode cX3_clears 1 = .ok (.istore_n 1, 1) := dk_60 (dk_at dksX3_clears_0 1 rfl rfl)
theorem dX3_clears_2 : decode cX3_clears 2 = .ok (.iload_n 1, 1) := dk_27 (dk_at dksX3_clears_0 2 rfl rfl)
theorem dX3_clears_3 : decode cX3_clears 3 = .ok (.sipush 136, 3) := dk_17 0 136 (dk_at dksX3_clears_0 3 rfl rfl)
theorem dX3_clears_6 : decode cX3_clears 6 = .ok (.if_icmp .ge 16, 3) := dk_162 0 16 (dk_at dksX3_clears_0 6 rfl rfl)
theorem dX3_clears_9 : decode cX3_clears 9 = .ok (.aload_n 0, 1) := dk_42 (dk_at dksX3_clears_0 9 rfl rfl)
theorem dX3_clears_10 : decode cX3_clears 10 = .ok (.getfield 138, 3) := dk_180 0 138 (dk_at dksX3_clears_0 10 rfl rfl)
theorem dX3_clears_13 : decode cX3_clears 13 = .ok (.iload_n 1, 1) := dk_27 (dk_at dksX3_clears_0 13 rfl rfl)
theorem dX3_clears_14 : decode cX3_clears 14 = .ok (.iconst 0, 1) := dk_3 (dk_at dksX3_clears_0 14 rfl rfl)
theorem dX3_clears_15 : decode cX3_clears 15 = .ok (.bastore, 1) := dk_84 (dk_at dksX3_clears_0 15 rfl rfl)
theorem dX3_clears_16 : decode cX3_clears 16 = .ok (.iinc 1 1, 3) := dk_132 1 1 (dk_at dksX3_clears_0 16 rfl rfl)
theorem dX3_clears_19 : decode cX3_clears 19 = .ok (.goto (-17), 3) := dk_167 255 239 (dk_at dksX3_clears_0 19 rfl rfl)
theorem dX3_clears_22 : decode cX3_clears 22 = .ok (.return_, 1) := dk_177 (dk_at dksX3_clears_0 22 rfl rfl)
abbrev cX3_marksUsed : ByteArray := prog_14_method_47_code
def yX3_marksUsed : MethodName := ⟨RX3, "marksUsed", "(II)V"⟩
def dkwX3_marksUsed_2 : List UInt8 := [182, 1, 74, 4, 84, 132, 3, 2, 132, 3, 1, 167, 255, 211, 177]
abbrev dktX3_marksUsed_2 : List UInt8 := dkwX3_marksUsed_2 ++ []
def dkwX3_marksUsed_1 : List UInt8 := [162, 0, 36, 42, 27, 29, 182, 1, 71, 154, 0, 6, 167, 0, 18, 42, 180, 0, 138, 42, 27, 29]
abbrev dktX3_marksUsed_1 : List UInt8 := dkwX3_marksUsed_1 ++ dktX3_marksUsed_2
def dkwX3_marksUsed_0 : List UInt8 := [42, 180, 0, 63, 16, 8, 27, 104, 28, 96, 46, 62, 29, 42, 180, 0, 66, 16, 8, 27, 104, 28, 96, 46]
abbrev dktX3_marksUsed_0 : List UInt8 := dkwX3_marksUsed_0 ++ dktX3_marksUsed_1
theorem dksX3_marksUsed_0 : cX3_marksUsed.data.toList.drop 0 = dktX3_marksUsed_0 := by decide +kernel
theorem dksX3_marksUsed_1 : cX3_marksUsed.data.toList.drop 24 = dktX3_marksUsed_1 := dk_seg dksX3_marksUsed_0 24 rfl rfl
theorem dksX3_marksUsed_2 : cX3_marksUsed.data.toList.drop 46 = dktX3_marksUsed_2 := dk_seg dksX3_marksUsed_1 22 rfl rfl
theorem dX3_marksUsed_0 : decode cX3_marksUsed 0 = .ok (.aload_n 0, 1) := dk_42 (dk_at dksX3_marksUsed_0 0 rfl rfl)
theorem dX3_marksUsed_1 : decode cX3_marksUsed 1 = .ok (.getfield 63, 3) := dk_180 0 63 (dk_at dksX3_marksUsed_0 1 rfl rfl)
theorem dX3_marksUsed_4 : decode cX3_marksUsed 4 = .ok (.bipush 8, 2) := dk_16 8 (dk_at dksX3_marksUsed_0 4 rfl rfl)
theorem dX3_marksUsed_6 : decode cX3_marksUsed 6 = .ok (.iload_n 1, 1) := dk_27 (dk_at dksX3_marksUsed_0 6 rfl rfl)
theorem dX3_marksUsed_7 : decode cX3_marksUsed 7 = .ok (.imul, 1) := dk_104 (dk_at dksX3_marksUsed_0 7 rfl rfl)
theorem dX3_marksUsed_8 : decode cX3_marksUsed 8 = .ok (.iload_n 2, 1) := dk_28 (dk_at dksX3_marksUsed_0 8 rfl rfl)
theorem dX3_marksUsed_9 : decode cX3_marksUsed 9 = .ok (.iadd, 1) := dk_96 (dk_at dksX3_marksUsed_0 9 rfl rfl)
theorem dX3_marksUsed_10 : decode cX3_marksUsed 10 = .ok (.iaload, 1) := dk_46 (dk_at dksX3_marksUsed_0 10 rfl rfl)
theorem dX3_marksUsed_11 : decode cX3_marksUsed 11 = .ok (.istore_n 3, 1) := dk_62 (dk_at dksX3_marksUsed_0 11 rfl rfl)
theorem dX3_marksUsed_12 : decode cX3_marksUsed 12 = .ok (.iload_n 3, 1) := dk_29 (dk_at dksX3_marksUsed_0 12 rfl rfl)
theorem dX3_marksUsed_13 : decode cX3_marksUsed 13 = .ok (.aload_n 0, 1) := dk_42 (dk_at dksX3_marksUsed_0 13 rfl rfl)
theorem dX3_marksUsed_14 : decode cX3_marksUsed 14 = .ok (.getfield 66, 3) := dk_180 0 66 (dk_at dksX3_marksUsed_0 14 rfl rfl)
theorem dX3_marksUsed_17 : decode cX3_marksUsed 17 = .ok (.bipush 8, 2) := dk_16 8 (dk_at dksX3_marksUsed_0 17 rfl rfl)
theorem dX3_marksUsed_19 : decode cX3_marksUsed 19 = .ok (.iload_n 1, 1) := dk_27 (dk_at dksX3_marksUsed_0 19 rfl rfl)
theorem dX3_marksUsed_20 : decode cX3_marksUsed 20 = .ok (.imul, 1) := dk_104 (dk_at dksX3_marksUsed_0 20 rfl rfl)
theorem dX3_marksUsed_21 : decode cX3_marksUsed 21 = .ok (.iload_n 2, 1) := dk_28 (dk_at dksX3_marksUsed_0 21 rfl rfl)
theorem dX3_marksUsed_22 : decode cX3_marksUsed 22 = .ok (.iadd, 1) := dk_96 (dk_at dksX3_marksUsed_0 22 rfl rfl)
theorem dX3_marksUsed_23 : decode cX3_marksUsed 23 = .ok (.iaload, 1) := dk_46 (dk_at dksX3_marksUsed_0 23 rfl rfl)
theorem dX3_marksUsed_24 : decode cX3_marksUsed 24 = .ok (.if_icmp .ge 36, 3) := dk_162 0 36 (dk_at dksX3_marksUsed_1 0 rfl rfl)
theorem dX3_marksUsed_27 : decode cX3_marksUsed 27 = .ok (.aload_n 0, 1) := dk_42 (dk_at dksX3_marksUsed_1 3 rfl rfl)
theorem dX3_marksUsed_28 : decode cX3_marksUsed 28 = .ok (.iload_n 1, 1) := dk_27 (dk_at dksX3_marksUsed_1 4 rfl rfl)
theorem dX3_marksUsed_29 : decode cX3_marksUsed 29 = .ok (.iload_n 3, 1) := dk_29 (dk_at dksX3_marksUsed_1 5 rfl rfl)
theorem dX3_marksUsed_30 : decode cX3_marksUsed 30 = .ok (.invokevirtual 327, 3) := dk_182 1 71 (dk_at dksX3_marksUsed_1 6 rfl rfl)
theorem dX3_marksUsed_33 : decode cX3_marksUsed 33 = .ok (.ifCond .ne 6, 3) := dk_154 0 6 (dk_at dksX3_marksUsed_1 9 rfl rfl)
theorem dX3_marksUsed_36 : decode cX3_marksUsed 36 = .ok (.goto 18, 3) := dk_167 0 18 (dk_at dksX3_marksUsed_1 12 rfl rfl)
theorem dX3_marksUsed_39 : decode cX3_marksUsed 39 = .ok (.aload_n 0, 1) := dk_42 (dk_at dksX3_marksUsed_1 15 rfl rfl)
theorem dX3_marksUsed_40 : decode cX3_marksUsed 40 = .ok (.getfield 138, 3) := dk_180 0 138 (dk_at dksX3_marksUsed_1 16 rfl rfl)
theorem dX3_marksUsed_43 : decode cX3_marksUsed 43 = .ok (.aload_n 0, 1) := dk_42 (dk_at dksX3_marksUsed_1 19 rfl rfl)
theorem dX3_marksUsed_44 : decode cX3_marksUsed 44 = .ok (.iload_n 1, 1) := dk_27 (dk_at dksX3_marksUsed_1 20 rfl rfl)
theorem dX3_marksUsed_45 : decode cX3_marksUsed 45 = .ok (.iload_n 3, 1) := dk_29 (dk_at dksX3_marksUsed_1 21 rfl rfl)
theorem dX3_marksUsed_46 : decode cX3_marksUsed 46 = .ok (.invokevirtual 330, 3) := dk_182 1 74 (dk_at dksX3_marksUsed_2 0 rfl rfl)
theorem dX3_marksUsed_49 : decode cX3_marksUsed 49 = .ok (.iconst 1, 1) := dk_4 (dk_at dksX3_marksUsed_2 3 rfl rfl)
theorem dX3_marksUsed_50 : decode cX3_marksUsed 50 = .ok (.bastore, 1) := dk_84 (dk_at dksX3_marksUsed_2 4 rfl rfl)
theorem dX3_marksUsed_51 : decode cX3_marksUsed 51 = .ok (.iinc 3 2, 3) := dk_132 3 2 (dk_at dksX3_marksUsed_2 5 rfl rfl)
theorem dX3_marksUsed_54 : decode cX3_marksUsed 54 = .ok (.iinc 3 1, 3) := dk_132 3 1 (dk_at dksX3_marksUsed_2 8 rfl rfl)
theorem dX3_marksUsed_57 : decode cX3_marksUsed 57 = .ok (.goto (-45), 3) := dk_167 255 211 (dk_at dksX3_marksUsed_2 11 rfl rfl)
theorem dX3_marksUsed_60 : decode cX3_marksUsed 60 = .ok (.return_, 1) := dk_177 (dk_at dksX3_marksUsed_2 14 rfl rfl)
abbrev cX3_isNameAt : ByteArray := prog_14_method_45_code
def yX3_isNameAt : MethodName := ⟨RX3, "isNameAt", "(II)Z"⟩
def dkwX3_isNameAt_1 : List UInt8 := [104, 28, 96, 4, 96, 46, 16, 46, 160, 0, 7, 4, 167, 0, 4, 3, 172]
abbrev dktX3_isNameAt_1 : List UInt8 := dkwX3_isNameAt_1 ++ []
def dkwX3_isNameAt_0 : List UInt8 := [42, 180, 0, 51, 17, 1, 144, 27, 104, 28, 96, 46, 4, 160, 0, 26, 42, 180, 0, 51, 17, 1, 144, 27]
abbrev dktX3_isNameAt_0 : List UInt8 := dkwX3_isNameAt_0 ++ dktX3_isNameAt_1
theorem dksX3_isNameAt_0 : cX3_isNameAt.data.toList.drop 0 = dktX3_isNameAt_0 := by decide +kernel
theorem dksX3_isNameAt_1 : cX3_isNameAt.data.toList.drop 24 = dktX3_isNameAt_1 := dk_seg dksX3_isNameAt_0 24 rfl rfl
theorem dX3_isNameAt_0 : decode cX3_isNameAt 0 = .ok (.aload_n 0, 1) := dk_42 (dk_at dksX3_isNameAt_0 0 rfl rfl)
theorem dX3_isNameAt_1 : decode cX3_isNameAt 1 = .ok (.getfield 51, 3) := dk_180 0 51 (dk_at dksX3_isNameAt_0 1 rfl rfl)
theorem dX3_isNameAt_4 : decode cX3_isNameAt 4 = .ok (.sipush 400, 3) := dk_17 1 144 (dk_at dksX3_isNameAt_0 4 rfl rfl)
theorem dX3_isNameAt_7 : decode cX3_isNameAt 7 = .ok (.iload_n 1, 1) := dk_27 (dk_at dksX3_isNameAt_0 7 rfl rfl)
theorem dX3_isNameAt_8 : decode cX3_isNameAt 8 = .ok (.imul, 1) := dk_104 (dk_at dksX3_isNameAt_0 8 rfl rfl)
theorem dX3_isNameAt_9 : decode cX3_isNameAt 9 = .ok (.iload_n 2, 1) := dk_28 (dk_at dksX3_isNameAt_0 9 rfl rfl)
theorem dX3_isNameAt_10 : decode cX3_isNameAt 10 = .ok (.iadd, 1) := dk_96 (dk_at dksX3_isNameAt_0 10 rfl rfl)
theorem dX3_isNameAt_11 : decode cX3_isNameAt 11 = .ok (.iaload, 1) := dk_46 (dk_at dksX3_isNameAt_0 11 rfl rfl)
theorem dX3_isNameAt_12 : decode cX3_isNameAt 12 = .ok (.iconst 1, 1) := dk_4 (dk_at dksX3_isNameAt_0 12 rfl rfl)
theorem dX3_isNameAt_13 : decode cX3_isNameAt 13 = .ok (.if_icmp .ne 26, 3) := dk_160 0 26 (dk_at dksX3_isNameAt_0 13 rfl rfl)
theorem dX3_isNameAt_16 : decode cX3_isNameAt 16 = .ok (.aload_n 0, 1) := dk_42 (dk_at dksX3_isNameAt_0 16 rfl rfl)
theorem dX3_isNameAt_17 : decode cX3_isNameAt 17 = .ok (.getfield 51, 3) := dk_180 0 51 (dk_at dksX3_isNameAt_0 17 rfl rfl)
theorem dX3_isNameAt_20 : decode cX3_isNameAt 20 = .ok (.sipush 400, 3) := dk_17 1 144 (dk_at dksX3_isNameAt_0 20 rfl rfl)
theorem dX3_isNameAt_23 : decode cX3_isNameAt 23 = .ok (.iload_n 1, 1) := dk_27 (dk_at dksX3_isNameAt_0 23 rfl rfl)
theorem dX3_isNameAt_24 : decode cX3_isNameAt 24 = .ok (.imul, 1) := dk_104 (dk_at dksX3_isNameAt_1 0 rfl rfl)
theorem dX3_isNameAt_25 : decode cX3_isNameAt 25 = .ok (.iload_n 2, 1) := dk_28 (dk_at dksX3_isNameAt_1 1 rfl rfl)
theorem dX3_isNameAt_26 : decode cX3_isNameAt 26 = .ok (.iadd, 1) := dk_96 (dk_at dksX3_isNameAt_1 2 rfl rfl)
theorem dX3_isNameAt_27 : decode cX3_isNameAt 27 = .ok (.iconst 1, 1) := dk_4 (dk_at dksX3_isNameAt_1 3 rfl rfl)
theorem dX3_isNameAt_28 : decode cX3_isNameAt 28 = .ok (.iadd, 1) := dk_96 (dk_at dksX3_isNameAt_1 4 rfl rfl)
theorem dX3_isNameAt_29 : decode cX3_isNameAt 29 = .ok (.iaload, 1) := dk_46 (dk_at dksX3_isNameAt_1 5 rfl rfl)
theorem dX3_isNameAt_30 : decode cX3_isNameAt 30 = .ok (.bipush 46, 2) := dk_16 46 (dk_at dksX3_isNameAt_1 6 rfl rfl)
theorem dX3_isNameAt_32 : decode cX3_isNameAt 32 = .ok (.if_icmp .ne 7, 3) := dk_160 0 7 (dk_at dksX3_isNameAt_1 8 rfl rfl)
theorem dX3_isNameAt_35 : decode cX3_isNameAt 35 = .ok (.iconst 1, 1) := dk_4 (dk_at dksX3_isNameAt_1 11 rfl rfl)
theorem dX3_isNameAt_36 : decode cX3_isNameAt 36 = .ok (.goto 4, 3) := dk_167 0 4 (dk_at dksX3_isNameAt_1 12 rfl rfl)
theorem dX3_isNameAt_39 : decode cX3_isNameAt 39 = .ok (.iconst 0, 1) := dk_3 (dk_at dksX3_isNameAt_1 15 rfl rfl)
theorem dX3_isNameAt_40 : decode cX3_isNameAt 40 = .ok (.ireturn, 1) := dk_172 (dk_at dksX3_isNameAt_1 16 rfl rfl)
abbrev cX3_usedAt : ByteArray := prog_14_method_44_code
def yX3_usedAt : MethodName := ⟨RX3, "usedAt", "(II)I"⟩
def dkwX3_usedAt_1 : List UInt8 := [182, 1, 18, 182, 1, 29, 96, 172]
abbrev dktX3_usedAt_1 : List UInt8 := dkwX3_usedAt_1 ++ []
def dkwX3_usedAt_0 : List UInt8 := [42, 27, 42, 27, 28, 182, 1, 18, 182, 1, 25, 62, 16, 8, 29, 104, 42, 29, 42, 27, 28, 5, 96]
abbrev dktX3_usedAt_0 : List UInt8 := dkwX3_usedAt_0 ++ dktX3_usedAt_1
theorem dksX3_usedAt_0 : cX3_usedAt.data.toList.drop 0 = dktX3_usedAt_0 := by decide +kernel
theorem dksX3_usedAt_1 : cX3_usedAt.data.toList.drop 23 = dktX3_usedAt_1 := dk_seg dksX3_usedAt_0 23 rfl rfl
theorem dX3_usedAt_0 : decode cX3_usedAt 0 = .ok (.aload_n 0, 1) := dk_42 (dk_at dksX3_usedAt_0 0 rfl rfl)
theorem dX3_usedAt_1 : decode cX3_usedAt 1 = .ok (.iload_n 1, 1) := dk_27 (dk_at dksX3_usedAt_0 1 rfl rfl)
theorem dX3_usedAt_2 : decode cX3_usedAt 2 = .ok (.aload_n 0, 1) := dk_42 (dk_at dksX3_usedAt_0 2 rfl rfl)
theorem dX3_usedAt_3 : decode cX3_usedAt 3 = .ok (.iload_n 1, 1) := dk_27 (dk_at dksX3_usedAt_0 3 rfl rfl)
theorem dX3_usedAt_4 : decode cX3_usedAt 4 = .ok (.iload_n 2, 1) := dk_28 (dk_at dksX3_usedAt_0 4 rfl rfl)
theorem dX3_usedAt_5 : decode cX3_usedAt 5 = .ok (.invokevirtual 274, 3) := dk_182 1 18 (dk_at dksX3_usedAt_0 5 rfl rfl)
theorem dX3_usedAt_8 : decode cX3_usedAt 8 = .ok (.invokevirtual 281, 3) := dk_182 1 25 (dk_at dksX3_usedAt_0 8 rfl rfl)
theorem dX3_usedAt_11 : decode cX3_usedAt 11 = .ok (.istore_n 3, 1) := dk_62 (dk_at dksX3_usedAt_0 11 rfl rfl)
theorem dX3_usedAt_12 : decode cX3_usedAt 12 = .ok (.bipush 8, 2) := dk_16 8 (dk_at dksX3_usedAt_0 12 rfl rfl)
theorem dX3_usedAt_14 : decode cX3_usedAt 14 = .ok (.iload_n 3, 1) := dk_29 (dk_at dksX3_usedAt_0 14 rfl rfl)
theorem dX3_usedAt_15 : decode cX3_usedAt 15 = .ok (.imul, 1) := dk_104 (dk_at dksX3_usedAt_0 15 rfl rfl)
theorem dX3_usedAt_16 : decode cX3_usedAt 16 = .ok (.aload_n 0, 1) := dk_42 (dk_at dksX3_usedAt_0 16 rfl rfl)
theorem dX3_usedAt_17 : decode cX3_usedAt 17 = .ok (.iload_n 3, 1) := dk_29 (dk_at dksX3_usedAt_0 17 rfl rfl)
theorem dX3_usedAt_18 : decode cX3_usedAt 18 = .ok (.aload_n 0, 1) := dk_42 (dk_at dksX3_usedAt_0 18 rfl rfl)
theorem dX3_usedAt_19 : decode cX3_usedAt 19 = .ok (.iload_n 1, 1) := dk_27 (dk_at dksX3_usedAt_0 19 rfl rfl)
theorem dX3_usedAt_20 : decode cX3_usedAt 20 = .ok (.iload_n 2, 1) := dk_28 (dk_at dksX3_usedAt_0 20 rfl rfl)
theorem dX3_usedAt_21 : decode cX3_usedAt 21 = .ok (.iconst 2, 1) := dk_5 (dk_at dksX3_usedAt_0 21 rfl rfl)
theorem dX3_usedAt_22 : decode cX3_usedAt 22 = .ok (.iadd, 1) := dk_96 (dk_at dksX3_usedAt_0 22 rfl rfl)
theorem dX3_usedAt_23 : decode cX3_usedAt 23 = .ok (.invokevirtual 274, 3) := dk_182 1 18 (dk_at dksX3_usedAt_1 0 rfl rfl)
theorem dX3_usedAt_26 : decode cX3_usedAt 26 = .ok (.invokevirtual 285, 3) := dk_182 1 29 (dk_at dksX3_usedAt_1 3 rfl rfl)
theorem dX3_usedAt_29 : decode cX3_usedAt 29 = .ok (.iadd, 1) := dk_96 (dk_at dksX3_usedAt_1 6 rfl rfl)
theorem dX3_usedAt_30 : decode cX3_usedAt 30 = .ok (.ireturn, 1) := dk_172 (dk_at dksX3_usedAt_1 7 rfl rfl)
abbrev cX3_finds : ByteArray := prog_14_method_43_code
def yX3_finds : MethodName := ⟨RX3, "finds", "(I)V"⟩
def dkwX3_finds_0 : List UInt8 := [42, 180, 0, 141, 42, 180, 1, 68, 27, 79, 42, 89, 180, 1, 68, 4, 96, 181, 1, 68, 177]
abbrev dktX3_finds_0 : List UInt8 := dkwX3_finds_0 ++ []
theorem dksX3_finds_0 : cX3_finds.data.toList.drop 0 = dktX3_finds_0 := by decide +kernel
theorem dX3_finds_0 : decode cX3_finds 0 = .ok (.aload_n 0, 1) := dk_42 (dk_at dksX3_finds_0 0 rfl rfl)
theorem dX3_finds_1 : decode cX3_finds 1 = .ok (.getfield 141, 3) := dk_180 0 141 (dk_at dksX3_finds_0 1 rfl rfl)
theorem dX3_finds_4 : decode cX3_finds 4 = .ok (.aload_n 0, 1) := dk_42 (dk_at dksX3_finds_0 4 rfl rfl)
theorem dX3_finds_5 : decode cX3_finds 5 = .ok (.getfield 324, 3) := dk_180 1 68 (dk_at dksX3_finds_0 5 rfl rfl)
theorem dX3_finds_8 : decode cX3_finds 8 = .ok (.iload_n 1, 1) := dk_27 (dk_at dksX3_finds_0 8 rfl rfl)
theorem dX3_finds_9 : decode cX3_finds 9 = .ok (.iastore, 1) := dk_79 (dk_at dksX3_finds_0 9 rfl rfl)
theorem dX3_finds_10 : decode cX3_finds 10 = .ok (.aload_n 0, 1) := dk_42 (dk_at dksX3_finds_0 10 rfl rfl)
theorem dX3_finds_11 : decode cX3_finds 11 = .ok (.dup, 1) := dk_89 (dk_at dksX3_finds_0 11 rfl rfl)
theorem dX3_finds_12 : decode cX3_finds 12 = .ok (.getfield 324, 3) := dk_180 1 68 (dk_at dksX3_finds_0 12 rfl rfl)
theorem dX3_finds_15 : decode cX3_finds 15 = .ok (.iconst 1, 1) := dk_4 (dk_at dksX3_finds_0 15 rfl rfl)
theorem dX3_finds_16 : decode cX3_finds 16 = .ok (.iadd, 1) := dk_96 (dk_at dksX3_finds_0 16 rfl rfl)
theorem dX3_finds_17 : decode cX3_finds 17 = .ok (.putfield 324, 3) := dk_181 1 68 (dk_at dksX3_finds_0 17 rfl rfl)
theorem dX3_finds_20 : decode cX3_finds 20 = .ok (.return_, 1) := dk_177 (dk_at dksX3_finds_0 20 rfl rfl)
abbrev cX3_touch : ByteArray := prog_14_method_51_code
def yX3_touch : MethodName := ⟨RX3, "touch", "(II)I"⟩
def dkwX3_touch_2 : List UInt8 := [159, 0, 8, 42, 29, 182, 1, 83, 132, 3, 1, 167, 255, 222, 42, 180, 1, 68, 172]
abbrev dktX3_touch_2 : List UInt8 := dkwX3_touch_2 ++ []
def dkwX3_touch_1 : List UInt8 := [29, 17, 0, 136, 162, 0, 33, 42, 180, 0, 138, 29, 51, 153, 0, 18, 29, 16, 8, 27, 104, 28, 96]
abbrev dktX3_touch_1 : List UInt8 := dkwX3_touch_1 ++ dktX3_touch_2
def dkwX3_touch_0 : List UInt8 := [42, 27, 28, 182, 1, 64, 154, 0, 5, 2, 172, 42, 27, 28, 182, 1, 89, 42, 3, 181, 1, 68, 3, 62]
abbrev dktX3_touch_0 : List UInt8 := dkwX3_touch_0 ++ dktX3_touch_1
theorem dksX3_touch_0 : cX3_touch.data.toList.drop 0 = dktX3_touch_0 := by decide +kernel
theorem dksX3_touch_1 : cX3_touch.data.toList.drop 24 = dktX3_touch_1 := dk_seg dksX3_touch_0 24 rfl rfl
theorem dksX3_touch_2 : cX3_touch.data.toList.drop 47 = dktX3_touch_2 := dk_seg dksX3_touch_1 23 rfl rfl
theorem dX3_touch_0 : decode cX3_touch 0 = .ok (.aload_n 0, 1) := dk_42 (dk_at dksX3_touch_0 0 rfl rfl)
theorem dX3_touch_1 : decode cX3_touch 1 = .ok (.iload_n 1, 1) := dk_27 (dk_at dksX3_touch_0 1 rfl rfl)
theorem dX3_touch_2 : decode cX3_touch 2 = .ok (.iload_n 2, 1) := dk_28 (dk_at dksX3_touch_0 2 rfl rfl)
theorem dX3_touch_3 : decode cX3_touch 3 = .ok (.invokevirtual 320, 3) := dk_182 1 64 (dk_at dksX3_touch_0 3 rfl rfl)
theorem dX3_touch_6 : decode cX3_touch 6 = .ok (.ifCond .ne 5, 3) := dk_154 0 5 (dk_at dksX3_touch_0 6 rfl rfl)
theorem dX3_touch_9 : decode cX3_touch 9 = .ok (.iconst (-1), 1) := dk_2 (dk_at dksX3_touch_0 9 rfl rfl)
theorem dX3_touch_10 : decode cX3_touch 10 = .ok (.ireturn, 1) := dk_172 (dk_at dksX3_touch_0 10 rfl rfl)
theorem dX3_touch_11 : decode cX3_touch 11 = .ok (.aload_n 0, 1) := dk_42 (dk_at dksX3_touch_0 11 rfl rfl)
theorem dX3_touch_12 : decode cX3_touch 12 = .ok (.iload_n 1, 1) := dk_27 (dk_at dksX3_touch_0 12 rfl rfl)
theorem dX3_touch_13 : decode cX3_touch 13 = .ok (.iload_n 2, 1) := dk_28 (dk_at dksX3_touch_0 13 rfl rfl)
theorem dX3_touch_14 : decode cX3_touch 14 = .ok (.invokevirtual 345, 3) := dk_182 1 89 (dk_at dksX3_touch_0 14 rfl rfl)
theorem dX3_touch_17 : decode cX3_touch 17 = .ok (.aload_n 0, 1) := dk_42 (dk_at dksX3_touch_0 17 rfl rfl)
theorem dX3_touch_18 : decode cX3_touch 18 = .ok (.iconst 0, 1) := dk_3 (dk_at dksX3_touch_0 18 rfl rfl)
theorem dX3_touch_19 : decode cX3_touch 19 = .ok (.putfield 324, 3) := dk_181 1 68 (dk_at dksX3_touch_0 19 rfl rfl)
theorem dX3_touch_22 : decode cX3_touch 22 = .ok (.iconst 0, 1) := dk_3 (dk_at dksX3_touch_0 22 rfl rfl)
theorem dX3_touch_23 : decode cX3_touch 23 = .ok (.istore_n 3, 1) := dk_62 (dk_at dksX3_touch_0 23 rfl rfl)
theorem dX3_touch_24 : decode cX3_touch 24 = .ok (.iload_n 3, 1) := dk_29 (dk_at dksX3_touch_1 0 rfl rfl)
theorem dX3_touch_25 : decode cX3_touch 25 = .ok (.sipush 136, 3) := dk_17 0 136 (dk_at dksX3_touch_1 1 rfl rfl)
theorem dX3_touch_28 : decode cX3_touch 28 = .ok (.if_icmp .ge 33, 3) := dk_162 0 33 (dk_at dksX3_touch_1 4 rfl rfl)
theorem dX3_touch_31 : decode cX3_touch 31 = .ok (.aload_n 0, 1) := dk_42 (dk_at dksX3_touch_1 7 rfl rfl)
theorem dX3_touch_32 : decode cX3_touch 32 = .ok (.getfield 138, 3) := dk_180 0 138 (dk_at dksX3_touch_1 8 rfl rfl)
theorem dX3_touch_35 : decode cX3_touch 35 = .ok (.iload_n 3, 1) := dk_29 (dk_at dksX3_touch_1 11 rfl rfl)
theorem dX3_touch_36 : decode cX3_touch 36 = .ok (.baload, 1) := dk_51 (dk_at dksX3_touch_1 12 rfl rfl)
theorem dX3_touch_37 : decode cX3_touch 37 = .ok (.ifCond .eq 18, 3) := dk_153 0 18 (dk_at dksX3_touch_1 13 rfl rfl)
theorem dX3_touch_40 : decode cX3_touch 40 = .ok (.iload_n 3, 1) := dk_29 (dk_at dksX3_touch_1 16 rfl rfl)
theorem dX3_touch_41 : decode cX3_touch 41 = .ok (.bipush 8, 2) := dk_16 8 (dk_at dksX3_touch_1 17 rfl rfl)
theorem dX3_touch_43 : decode cX3_touch 43 = .ok (.iload_n 1, 1) := dk_27 (dk_at dksX3_touch_1 19 rfl rfl)
theorem dX3_touch_44 : decode cX3_touch 44 = .ok (.imul, 1) := dk_104 (dk_at dksX3_touch_1 20 rfl rfl)
theorem dX3_touch_45 : decode cX3_touch 45 = .ok (.iload_n 2, 1) := dk_28 (dk_at dksX3_touch_1 21 rfl rfl)
theorem dX3_touch_46 : decode cX3_touch 46 = .ok (.iadd, 1) := dk_96 (dk_at dksX3_touch_1 22 rfl rfl)
theorem dX3_touch_47 : decode cX3_touch 47 = .ok (.if_icmp .eq 8, 3) := dk_159 0 8 (dk_at dksX3_touch_2 0 rfl rfl)
theorem dX3_touch_50 : decode cX3_touch 50 = .ok (.aload_n 0, 1) := dk_42 (dk_at dksX3_touch_2 3 rfl rfl)
theorem dX3_touch_51 : decode cX3_touch 51 = .ok (.iload_n 3, 1) := dk_29 (dk_at dksX3_touch_2 4 rfl rfl)
theorem dX3_touch_52 : decode cX3_touch 52 = .ok (.invokevirtual 339, 3) := dk_182 1 83 (dk_at dksX3_touch_2 5 rfl rfl)
theorem dX3_touch_55 : decode cX3_touch 55 = .ok (.iinc 3 1, 3) := dk_132 3 1 (dk_at dksX3_touch_2 8 rfl rfl)
theorem dX3_touch_58 : decode cX3_touch 58 = .ok (.goto (-34), 3) := dk_167 255 222 (dk_at dksX3_touch_2 11 rfl rfl)
theorem dX3_touch_61 : decode cX3_touch 61 = .ok (.aload_n 0, 1) := dk_42 (dk_at dksX3_touch_2 14 rfl rfl)
theorem dX3_touch_62 : decode cX3_touch 62 = .ok (.getfield 324, 3) := dk_180 1 68 (dk_at dksX3_touch_2 15 rfl rfl)
theorem dX3_touch_65 : decode cX3_touch 65 = .ok (.ireturn, 1) := dk_172 (dk_at dksX3_touch_2 18 rfl rfl)
abbrev cX3_touches : ByteArray := prog_14_method_50_code
def yX3_touches : MethodName := ⟨RX3, "touches", "(II)V"⟩
def dkwX3_touches_6 : List UInt8 := [167, 255, 214, 132, 3, 1, 167, 255, 131, 177]
abbrev dktX3_touches_6 : List UInt8 := dkwX3_touches_6 ++ []
def dkwX3_touches_5 : List UInt8 := [21, 5, 182, 1, 86, 153, 0, 16, 42, 180, 0, 138, 16, 8, 29, 104, 21, 5, 96, 4, 84, 132, 5, 1]
abbrev dktX3_touches_5 : List UInt8 := dkwX3_touches_5 ++ dktX3_touches_6
def dkwX3_touches_4 : List UInt8 := [54, 4, 3, 54, 5, 21, 5, 42, 180, 0, 21, 29, 46, 162, 0, 37, 21, 4, 154, 0, 13, 42, 29]
abbrev dktX3_touches_4 : List UInt8 := dkwX3_touches_4 ++ dktX3_touches_5
def dkwX3_touches_3 : List UInt8 := [16, 6, 182, 1, 86, 154, 0, 13, 42, 29, 16, 7, 182, 1, 86, 153, 0, 7, 4, 167, 0, 4, 3]
abbrev dktX3_touches_3 : List UInt8 := dkwX3_touches_3 ++ dktX3_touches_4
def dkwX3_touches_2 : List UInt8 := [42, 180, 0, 17, 29, 46, 6, 160, 0, 6, 167, 0, 86, 42, 29, 182, 1, 39, 153, 0, 27, 42, 29]
abbrev dktX3_touches_2 : List UInt8 := dkwX3_touches_2 ++ dktX3_touches_3
def dkwX3_touches_1 : List UInt8 := [180, 0, 159, 162, 0, 123, 42, 180, 0, 7, 29, 51, 153, 0, 108, 42, 180, 0, 17, 29, 46, 153, 0, 99]
abbrev dktX3_touches_1 : List UInt8 := dkwX3_touches_1 ++ dktX3_touches_2
def dkwX3_touches_0 : List UInt8 := [42, 182, 1, 77, 42, 180, 0, 138, 16, 8, 27, 104, 28, 96, 4, 84, 27, 4, 96, 62, 29, 42]
abbrev dktX3_touches_0 : List UInt8 := dkwX3_touches_0 ++ dktX3_touches_1
theorem dksX3_touches_0 : cX3_touches.data.toList.drop 0 = dktX3_touches_0 := by decide +kernel
theorem dksX3_touches_1 : cX3_touches.data.toList.drop 22 = dktX3_touches_1 := dk_seg dksX3_touches_0 22 rfl rfl
theorem dksX3_touches_2 : cX3_touches.data.toList.drop 46 = dktX3_touches_2 := dk_seg dksX3_touches_1 24 rfl rfl
theorem dksX3_touches_3 : cX3_touches.data.toList.drop 69 = dktX3_touches_3 := dk_seg dksX3_touches_2 23 rfl rfl
theorem dksX3_touches_4 : cX3_touches.data.toList.drop 92 = dktX3_touches_4 := dk_seg dksX3_touches_3 23 rfl rfl
theorem dksX3_touches_5 : cX3_touches.data.toList.drop 115 = dktX3_touches_5 := dk_seg dksX3_touches_4 23 rfl rfl
theorem dksX3_touches_6 : cX3_touches.data.toList.drop 139 = dktX3_touches_6 := dk_seg dksX3_touches_5 24 rfl rfl
theorem dX3_touches_0 : decode cX3_touches 0 = .ok (.aload_n 0, 1) := dk_42 (dk_at dksX3_touches_0 0 rfl rfl)
theorem dX3_touches_1 : decode cX3_touches 1 = .ok (.invokevirtual 333, 3) := dk_182 1 77 (dk_at dksX3_touches_0 1 rfl rfl)
theorem dX3_touches_4 : decode cX3_touches 4 = .ok (.aload_n 0, 1) := dk_42 (dk_at dksX3_touches_0 4 rfl rfl)
theorem dX3_touches_5 : decode cX3_touches 5 = .ok (.getfield 138, 3) := dk_180 0 138 (dk_at dksX3_touches_0 5 rfl rfl)
theorem dX3_touches_8 : decode cX3_touches 8 = .ok (.bipush 8, 2) := dk_16 8 (dk_at dksX3_touches_0 8 rfl rfl)
theorem dX3_touches_10 : decode cX3_touches 10 = .ok (.iload_n 1, 1) := dk_27 (dk_at dksX3_touches_0 10 rfl rfl)
theorem dX3_touches_11 : decode cX3_touches 11 = .ok (.imul, 1) := dk_104 (dk_at dksX3_touches_0 11 rfl rfl)
theorem dX3_touches_12 : decode cX3_touches 12 = .ok (.iload_n 2, 1) := dk_28 (dk_at dksX3_touches_0 12 rfl rfl)
theorem dX3_touches_13 : decode cX3_touches 13 = .ok (.iadd, 1) := dk_96 (dk_at dksX3_touches_0 13 rfl rfl)
theorem dX3_touches_14 : decode cX3_touches 14 = .ok (.iconst 1, 1) := dk_4 (dk_at dksX3_touches_0 14 rfl rfl)
theorem dX3_touches_15 : decode cX3_touches 15 = .ok (.bastore, 1) := dk_84 (dk_at dksX3_touches_0 15 rfl rfl)
theorem dX3_touches_16 : decode cX3_touches 16 = .ok (.iload_n 1, 1) := dk_27 (dk_at dksX3_touches_0 16 rfl rfl)
theorem dX3_touches_17 : decode cX3_touches 17 = .ok (.iconst 1, 1) := dk_4 (dk_at dksX3_touches_0 17 rfl rfl)
theorem dX3_touches_18 : decode cX3_touches 18 = .ok (.iadd, 1) := dk_96 (dk_at dksX3_touches_0 18 rfl rfl)
theorem dX3_touches_19 : decode cX3_touches 19 = .ok (.istore_n 3, 1) := dk_62 (dk_at dksX3_touches_0 19 rfl rfl)
theorem dX3_touches_20 : decode cX3_touches 20 = .ok (.iload_n 3, 1) := dk_29 (dk_at dksX3_touches_0 20 rfl rfl)
theorem dX3_touches_21 : decode cX3_touches 21 = .ok (.aload_n 0, 1) := dk_42 (dk_at dksX3_touches_0 21 rfl rfl)
theorem dX3_touches_22 : decode cX3_touches 22 = .ok (.getfield 159, 3) := dk_180 0 159 (dk_at dksX3_touches_1 0 rfl rfl)
theorem dX3_touches_25 : decode cX3_touches 25 = .ok (.if_icmp .ge 123, 3) := dk_162 0 123 (dk_at dksX3_touches_1 3 rfl rfl)
theorem dX3_touches_28 : decode cX3_touches 28 = .ok (.aload_n 0, 1) := dk_42 (dk_at dksX3_touches_1 6 rfl rfl)
theorem dX3_touches_29 : decode cX3_touches 29 = .ok (.getfield 7, 3) := dk_180 0 7 (dk_at dksX3_touches_1 7 rfl rfl)
theorem dX3_touches_32 : decode cX3_touches 32 = .ok (.iload_n 3, 1) := dk_29 (dk_at dksX3_touches_1 10 rfl rfl)
theorem dX3_touches_33 : decode cX3_touches 33 = .ok (.baload, 1) := dk_51 (dk_at dksX3_touches_1 11 rfl rfl)
theorem dX3_touches_34 : decode cX3_touches 34 = .ok (.ifCond .eq 108, 3) := dk_153 0 108 (dk_at dksX3_touches_1 12 rfl rfl)
theorem dX3_touches_37 : decode cX3_touches 37 = .ok (.aload_n 0, 1) := dk_42 (dk_at dksX3_touches_1 15 rfl rfl)
theorem dX3_touches_38 : decode cX3_touches 38 = .ok (.getfield 17, 3) := dk_180 0 17 (dk_at dksX3_touches_1 16 rfl rfl)
theorem dX3_touches_41 : decode cX3_touches 41 = .ok (.iload_n 3, 1) := dk_29 (dk_at dksX3_touches_1 19 rfl rfl)
theorem dX3_touches_42 : decode cX3_touches 42 = .ok (.iaload, 1) := dk_46 (dk_at dksX3_touches_1 20 rfl rfl)
theorem dX3_touches_43 : decode cX3_touches 43 = .ok (.ifCond .eq 99, 3) := dk_153 0 99 (dk_at dksX3_touches_1 21 rfl rfl)
theorem dX3_touches_46 : decode cX3_touches 46 = .ok (.aload_n 0, 1) := dk_42 (dk_at dksX3_touches_2 0 rfl rfl)
theorem dX3_touches_47 : decode cX3_touches 47 = .ok (.getfield 17, 3) := dk_180 0 17 (dk_at dksX3_touches_2 1 rfl rfl)
theorem dX3_touches_50 : decode cX3_touches 50 = .ok (.iload_n 3, 1) := dk_29 (dk_at dksX3_touches_2 4 rfl rfl)
theorem dX3_touches_51 : decode cX3_touches 51 = .ok (.iaload, 1) := dk_46 (dk_at dksX3_touches_2 5 rfl rfl)
theorem dX3_touches_52 : decode cX3_touches 52 = .ok (.iconst 3, 1) := dk_6 (dk_at dksX3_touches_2 6 rfl rfl)
theorem dX3_touches_53 : decode cX3_touches 53 = .ok (.if_icmp .ne 6, 3) := dk_160 0 6 (dk_at dksX3_touches_2 7 rfl rfl)
theorem dX3_touches_56 : decode cX3_touches 56 = .ok (.goto 86, 3) := dk_167 0 86 (dk_at dksX3_touches_2 10 rfl rfl)
theorem dX3_touches_59 : decode cX3_touches 59 = .ok (.aload_n 0, 1) := dk_42 (dk_at dksX3_touches_2 13 rfl rfl)
theorem dX3_touches_60 : decode cX3_touches 60 = .ok (.iload_n 3, 1) := dk_29 (dk_at dksX3_touches_2 14 rfl rfl)
theorem dX3_touches_61 : decode cX3_touches 61 = .ok (.invokevirtual 295, 3) := dk_182 1 39 (dk_at dksX3_touches_2 15 rfl rfl)
theorem dX3_touches_64 : decode cX3_touches 64 = .ok (.ifCond .eq 27, 3) := dk_153 0 27 (dk_at dksX3_touches_2 18 rfl rfl)
theorem dX3_touches_67 : decode cX3_touches 67 = .ok (.aload_n 0, 1) := dk_42 (dk_at dksX3_touches_2 21 rfl rfl)
theorem dX3_touches_68 : decode cX3_touches 68 = .ok (.iload_n 3, 1) := dk_29 (dk_at dksX3_touches_2 22 rfl rfl)
theorem dX3_touches_69 : decode cX3_touches 69 = .ok (.bipush 6, 2) := dk_16 6 (dk_at dksX3_touches_3 0 rfl rfl)
theorem dX3_touches_71 : decode cX3_touches 71 = .ok (.invokevirtual 342, 3) := dk_182 1 86 (dk_at dksX3_touches_3 2 rfl rfl)
theorem dX3_touches_74 : decode cX3_touches 74 = .ok (.ifCond .ne 13, 3) := dk_154 0 13 (dk_at dksX3_touches_3 5 rfl rfl)
theorem dX3_touches_77 : decode cX3_touches 77 = .ok (.aload_n 0, 1) := dk_42 (dk_at dksX3_touches_3 8 rfl rfl)
theorem dX3_touches_78 : decode cX3_touches 78 = .ok (.iload_n 3, 1) := dk_29 (dk_at dksX3_touches_3 9 rfl rfl)
theorem dX3_touches_79 : decode cX3_touches 79 = .ok (.bipush 7, 2) := dk_16 7 (dk_at dksX3_touches_3 10 rfl rfl)
theorem dX3_touches_81 : decode cX3_touches 81 = .ok (.invokevirtual 342, 3) := dk_182 1 86 (dk_at dksX3_touches_3 12 rfl rfl)
theorem dX3_touches_84 : decode cX3_touches 84 = .ok (.ifCond .eq 7, 3) := dk_153 0 7 (dk_at dksX3_touches_3 15 rfl rfl)
theorem dX3_touches_87 : decode cX3_touches 87 = .ok (.iconst 1, 1) := dk_4 (dk_at dksX3_touches_3 18 rfl rfl)
theorem dX3_touches_88 : decode cX3_touches 88 = .ok (.goto 4, 3) := dk_167 0 4 (dk_at dksX3_touches_3 19 rfl rfl)
theorem dX3_touches_91 : decode cX3_touches 91 = .ok (.iconst 0, 1) := dk_3 (dk_at dksX3_touches_3 22 rfl rfl)
theorem dX3_touches_92 : decode cX3_touches 92 = .ok (.istore 4, 2) := dk_54 4 (dk_at dksX3_touches_4 0 rfl rfl)
theorem dX3_touches_94 : decode cX3_touches 94 = .ok (.iconst 0, 1) := dk_3 (dk_at dksX3_touches_4 2 rfl rfl)
theorem dX3_touches_95 : decode cX3_touches 95 = .ok (.istore 5, 2) := dk_54 5 (dk_at dksX3_touches_4 3 rfl rfl)
theorem dX3_touches_97 : decode cX3_touches 97 = .ok (.iload 5, 2) := dk_21 5 (dk_at dksX3_touches_4 5 rfl rfl)
theorem dX3_touches_99 : decode cX3_touches 99 = .ok (.aload_n 0, 1) := dk_42 (dk_at dksX3_touches_4 7 rfl rfl)
theorem dX3_touches_100 : decode cX3_touches 100 = .ok (.getfield 21, 3) := dk_180 0 21 (dk_at dksX3_touches_4 8 rfl rfl)
theorem dX3_touches_103 : decode cX3_touches 103 = .ok (.iload_n 3, 1) := dk_29 (dk_at dksX3_touches_4 11 rfl rfl)
theorem dX3_touches_104 : decode cX3_touches 104 = .ok (.iaload, 1) := dk_46 (dk_at dksX3_touches_4 12 rfl rfl)
theorem dX3_touches_105 : decode cX3_touches 105 = .ok (.if_icmp .ge 37, 3) := dk_162 0 37 (dk_at dksX3_touches_4 13 rfl rfl)
theorem dX3_touches_108 : decode cX3_touches 108 = .ok (.iload 4, 2) := dk_21 4 (dk_at dksX3_touches_4 16 rfl rfl)
theorem dX3_touches_110 : decode cX3_touches 110 = .ok (.ifCond .ne 13, 3) := dk_154 0 13 (dk_at dksX3_touches_4 18 rfl rfl)
theorem dX3_touches_113 : decode cX3_touches 113 = .ok (.aload_n 0, 1) := dk_42 (dk_at dksX3_touches_4 21 rfl rfl)
theorem dX3_touches_114 : decode cX3_touches 114 = .ok (.iload_n 3, 1) := dk_29 (dk_at dksX3_touches_4 22 rfl rfl)
theorem dX3_touches_115 : decode cX3_touches 115 = .ok (.iload 5, 2) := dk_21 5 (dk_at dksX3_touches_5 0 rfl rfl)
theorem dX3_touches_117 : decode cX3_touches 117 = .ok (.invokevirtual 342, 3) := dk_182 1 86 (dk_at dksX3_touches_5 2 rfl rfl)
theorem dX3_touches_120 : decode cX3_touches 120 = .ok (.ifCond .eq 16, 3) := dk_153 0 16 (dk_at dksX3_touches_5 5 rfl rfl)
theorem dX3_touches_123 : decode cX3_touches 123 = .ok (.aload_n 0, 1) := dk_42 (dk_at dksX3_touches_5 8 rfl rfl)
theorem dX3_touches_124 : decode cX3_touches 124 = .ok (.getfield 138, 3) := dk_180 0 138 (dk_at dksX3_touches_5 9 rfl rfl)
theorem dX3_touches_127 : decode cX3_touches 127 = .ok (.bipush 8, 2) := dk_16 8 (dk_at dksX3_touches_5 12 rfl rfl)
theorem dX3_touches_129 : decode cX3_touches 129 = .ok (.iload_n 3, 1) := dk_29 (dk_at dksX3_touches_5 14 rfl rfl)
theorem dX3_touches_130 : decode cX3_touches 130 = .ok (.imul, 1) := dk_104 (dk_at dksX3_touches_5 15 rfl rfl)
theorem dX3_touches_131 : decode cX3_touches 131 = .ok (.iload 5, 2) := dk_21 5 (dk_at dksX3_touches_5 16 rfl rfl)
theorem dX3_touches_133 : decode cX3_touches 133 = .ok (.iadd, 1) := dk_96 (dk_at dksX3_touches_5 18 rfl rfl)
theorem dX3_touches_134 : decode cX3_touches 134 = .ok (.iconst 1, 1) := dk_4 (dk_at dksX3_touches_5 19 rfl rfl)
theorem dX3_touches_135 : decode cX3_touches 135 = .ok (.bastore, 1) := dk_84 (dk_at dksX3_touches_5 20 rfl rfl)
theorem dX3_touches_136 : decode cX3_touches 136 = .ok (.iinc 5 1, 3) := dk_132 5 1 (dk_at dksX3_touches_5 21 rfl rfl)
theorem dX3_touches_139 : decode cX3_touches 139 = .ok (.goto (-42), 3) := dk_167 255 214 (dk_at dksX3_touches_6 0 rfl rfl)
theorem dX3_touches_142 : decode cX3_touches 142 = .ok (.iinc 3 1, 3) := dk_132 3 1 (dk_at dksX3_touches_6 3 rfl rfl)
theorem dX3_touches_145 : decode cX3_touches 145 = .ok (.goto (-125), 3) := dk_167 255 131 (dk_at dksX3_touches_6 6 rfl rfl)
theorem dX3_touches_148 : decode cX3_touches 148 = .ok (.return_, 1) := dk_177 (dk_at dksX3_touches_6 9 rfl rfl)
abbrev cX3_usesMarked : ByteArray := prog_14_method_46_code
def yX3_usesMarked : MethodName := ⟨RX3, "usesMarked", "(II)Z"⟩
def dkwX3_usesMarked_2 : List UInt8 := [182, 1, 74, 51, 153, 0, 5, 4, 172, 132, 3, 2, 132, 3, 1, 167, 255, 207, 3, 172]
abbrev dktX3_usesMarked_2 : List UInt8 := dkwX3_usesMarked_2 ++ []
def dkwX3_usesMarked_1 : List UInt8 := [162, 0, 40, 42, 27, 29, 182, 1, 71, 154, 0, 6, 167, 0, 22, 42, 180, 0, 138, 42, 27, 29]
abbrev dktX3_usesMarked_1 : List UInt8 := dkwX3_usesMarked_1 ++ dktX3_usesMarked_2
def dkwX3_usesMarked_0 : List UInt8 := [42, 180, 0, 63, 16, 8, 27, 104, 28, 96, 46, 62, 29, 42, 180, 0, 66, 16, 8, 27, 104, 28, 96, 46]
abbrev dktX3_usesMarked_0 : List UInt8 := dkwX3_usesMarked_0 ++ dktX3_usesMarked_1
theorem dksX3_usesMarked_0 : cX3_usesMarked.data.toList.drop 0 = dktX3_usesMarked_0 := by decide +kernel
theorem dksX3_usesMarked_1 : cX3_usesMarked.data.toList.drop 24 = dktX3_usesMarked_1 := dk_seg dksX3_usesMarked_0 24 rfl rfl
theorem dksX3_usesMarked_2 : cX3_usesMarked.data.toList.drop 46 = dktX3_usesMarked_2 := dk_seg dksX3_usesMarked_1 22 rfl rfl
theorem dX3_usesMarked_0 : decode cX3_usesMarked 0 = .ok (.aload_n 0, 1) := dk_42 (dk_at dksX3_usesMarked_0 0 rfl rfl)
theorem dX3_usesMarked_1 : decode cX3_usesMarked 1 = .ok (.getfield 63, 3) := dk_180 0 63 (dk_at dksX3_usesMarked_0 1 rfl rfl)
theorem dX3_usesMarked_4 : decode cX3_usesMarked 4 = .ok (.bipush 8, 2) := dk_16 8 (dk_at dksX3_usesMarked_0 4 rfl rfl)
theorem dX3_usesMarked_6 : decode cX3_usesMarked 6 = .ok (.iload_n 1, 1) := dk_27 (dk_at dksX3_usesMarked_0 6 rfl rfl)
theorem dX3_usesMarked_7 : decode cX3_usesMarked 7 = .ok (.imul, 1) := dk_104 (dk_at dksX3_usesMarked_0 7 rfl rfl)
theorem dX3_usesMarked_8 : decode cX3_usesMarked 8 = .ok (.iload_n 2, 1) := dk_28 (dk_at dksX3_usesMarked_0 8 rfl rfl)
theorem dX3_usesMarked_9 : decode cX3_usesMarked 9 = .ok (.iadd, 1) := dk_96 (dk_at dksX3_usesMarked_0 9 rfl rfl)
theorem dX3_usesMarked_10 : decode cX3_usesMarked 10 = .ok (.iaload, 1) := dk_46 (dk_at dksX3_usesMarked_0 10 rfl rfl)
theorem dX3_usesMarked_11 : decode cX3_usesMarked 11 = .ok (.istore_n 3, 1) := dk_62 (dk_at dksX3_usesMarked_0 11 rfl rfl)
theorem dX3_usesMarked_12 : decode cX3_usesMarked 12 = .ok (.iload_n 3, 1) := dk_29 (dk_at dksX3_usesMarked_0 12 rfl rfl)
theorem dX3_usesMarked_13 : decode cX3_usesMarked 13 = .ok (.aload_n 0, 1) := dk_42 (dk_at dksX3_usesMarked_0 13 rfl rfl)
theorem dX3_usesMarked_14 : decode cX3_usesMarked 14 = .ok (.getfield 66, 3) := dk_180 0 66 (dk_at dksX3_usesMarked_0 14 rfl rfl)
theorem dX3_usesMarked_17 : decode cX3_usesMarked 17 = .ok (.bipush 8, 2) := dk_16 8 (dk_at dksX3_usesMarked_0 17 rfl rfl)
theorem dX3_usesMarked_19 : decode cX3_usesMarked 19 = .ok (.iload_n 1, 1) := dk_27 (dk_at dksX3_usesMarked_0 19 rfl rfl)
theorem dX3_usesMarked_20 : decode cX3_usesMarked 20 = .ok (.imul, 1) := dk_104 (dk_at dksX3_usesMarked_0 20 rfl rfl)
theorem dX3_usesMarked_21 : decode cX3_usesMarked 21 = .ok (.iload_n 2, 1) := dk_28 (dk_at dksX3_usesMarked_0 21 rfl rfl)
theorem dX3_usesMarked_22 : decode cX3_usesMarked 22 = .ok (.iadd, 1) := dk_96 (dk_at dksX3_usesMarked_0 22 rfl rfl)
theorem dX3_usesMarked_23 : decode cX3_usesMarked 23 = .ok (.iaload, 1) := dk_46 (dk_at dksX3_usesMarked_0 23 rfl rfl)
theorem dX3_usesMarked_24 : decode cX3_usesMarked 24 = .ok (.if_icmp .ge 40, 3) := dk_162 0 40 (dk_at dksX3_usesMarked_1 0 rfl rfl)
theorem dX3_usesMarked_27 : decode cX3_usesMarked 27 = .ok (.aload_n 0, 1) := dk_42 (dk_at dksX3_usesMarked_1 3 rfl rfl)
theorem dX3_usesMarked_28 : decode cX3_usesMarked 28 = .ok (.iload_n 1, 1) := dk_27 (dk_at dksX3_usesMarked_1 4 rfl rfl)
theorem dX3_usesMarked_29 : decode cX3_usesMarked 29 = .ok (.iload_n 3, 1) := dk_29 (dk_at dksX3_usesMarked_1 5 rfl rfl)
theorem dX3_usesMarked_30 : decode cX3_usesMarked 30 = .ok (.invokevirtual 327, 3) := dk_182 1 71 (dk_at dksX3_usesMarked_1 6 rfl rfl)
theorem dX3_usesMarked_33 : decode cX3_usesMarked 33 = .ok (.ifCond .ne 6, 3) := dk_154 0 6 (dk_at dksX3_usesMarked_1 9 rfl rfl)
theorem dX3_usesMarked_36 : decode cX3_usesMarked 36 = .ok (.goto 22, 3) := dk_167 0 22 (dk_at dksX3_usesMarked_1 12 rfl rfl)
theorem dX3_usesMarked_39 : decode cX3_usesMarked 39 = .ok (.aload_n 0, 1) := dk_42 (dk_at dksX3_usesMarked_1 15 rfl rfl)
theorem dX3_usesMarked_40 : decode cX3_usesMarked 40 = .ok (.getfield 138, 3) := dk_180 0 138 (dk_at dksX3_usesMarked_1 16 rfl rfl)
theorem dX3_usesMarked_43 : decode cX3_usesMarked 43 = .ok (.aload_n 0, 1) := dk_42 (dk_at dksX3_usesMarked_1 19 rfl rfl)
theorem dX3_usesMarked_44 : decode cX3_usesMarked 44 = .ok (.iload_n 1, 1) := dk_27 (dk_at dksX3_usesMarked_1 20 rfl rfl)
theorem dX3_usesMarked_45 : decode cX3_usesMarked 45 = .ok (.iload_n 3, 1) := dk_29 (dk_at dksX3_usesMarked_1 21 rfl rfl)
theorem dX3_usesMarked_46 : decode cX3_usesMarked 46 = .ok (.invokevirtual 330, 3) := dk_182 1 74 (dk_at dksX3_usesMarked_2 0 rfl rfl)
theorem dX3_usesMarked_49 : decode cX3_usesMarked 49 = .ok (.baload, 1) := dk_51 (dk_at dksX3_usesMarked_2 3 rfl rfl)
theorem dX3_usesMarked_50 : decode cX3_usesMarked 50 = .ok (.ifCond .eq 5, 3) := dk_153 0 5 (dk_at dksX3_usesMarked_2 4 rfl rfl)
theorem dX3_usesMarked_53 : decode cX3_usesMarked 53 = .ok (.iconst 1, 1) := dk_4 (dk_at dksX3_usesMarked_2 7 rfl rfl)
theorem dX3_usesMarked_54 : decode cX3_usesMarked 54 = .ok (.ireturn, 1) := dk_172 (dk_at dksX3_usesMarked_2 8 rfl rfl)
theorem dX3_usesMarked_55 : decode cX3_usesMarked 55 = .ok (.iinc 3 2, 3) := dk_132 3 2 (dk_at dksX3_usesMarked_2 9 rfl rfl)
theorem dX3_usesMarked_58 : decode cX3_usesMarked 58 = .ok (.iinc 3 1, 3) := dk_132 3 1 (dk_at dksX3_usesMarked_2 12 rfl rfl)
theorem dX3_usesMarked_61 : decode cX3_usesMarked 61 = .ok (.goto (-49), 3) := dk_167 255 207 (dk_at dksX3_usesMarked_2 15 rfl rfl)
theorem dX3_usesMarked_64 : decode cX3_usesMarked 64 = .ok (.iconst 0, 1) := dk_3 (dk_at dksX3_usesMarked_2 18 rfl rfl)
theorem dX3_usesMarked_65 : decode cX3_usesMarked 65 = .ok (.ireturn, 1) := dk_172 (dk_at dksX3_usesMarked_2 19 rfl rfl)
abbrev cX3_asked : ByteArray := prog_14_method_52_code
def yX3_asked : MethodName := ⟨RX3, "asked", "(II)I"⟩
def dkwX3_asked_4 : List UInt8 := [167, 255, 199, 21, 4, 153, 0, 8, 42, 29, 182, 1, 83, 132, 3, 1, 167, 255, 169, 42, 180, 1, 68, 172]
abbrev dktX3_asked_4 : List UInt8 := dkwX3_asked_4 ++ []
def dkwX3_asked_3 : List UInt8 := [42, 180, 0, 147, 29, 46, 104, 21, 5, 96, 51, 153, 0, 7, 4, 167, 0, 4, 3, 54, 4, 132, 5, 1]
abbrev dktX3_asked_3 : List UInt8 := dkwX3_asked_3 ++ dktX3_asked_4
def dkwX3_asked_2 : List UInt8 := [154, 0, 38, 42, 180, 0, 150, 29, 46, 21, 5, 122, 4, 126, 4, 160, 0, 27, 42, 180, 0, 138, 16, 8]
abbrev dktX3_asked_2 : List UInt8 := dkwX3_asked_2 ++ dktX3_asked_3
def dkwX3_asked_1 : List UInt8 := [29, 42, 180, 1, 92, 162, 0, 85, 3, 54, 4, 3, 54, 5, 21, 5, 16, 6, 162, 0, 56, 21, 4]
abbrev dktX3_asked_1 : List UInt8 := dkwX3_asked_1 ++ dktX3_asked_2
def dkwX3_asked_0 : List UInt8 := [42, 27, 28, 182, 1, 64, 154, 0, 5, 2, 172, 42, 27, 28, 182, 1, 89, 42, 3, 181, 1, 68, 3, 62]
abbrev dktX3_asked_0 : List UInt8 := dkwX3_asked_0 ++ dktX3_asked_1
theorem dksX3_asked_0 : cX3_asked.data.toList.drop 0 = dktX3_asked_0 := by decide +kernel
theorem dksX3_asked_1 : cX3_asked.data.toList.drop 24 = dktX3_asked_1 := dk_seg dksX3_asked_0 24 rfl rfl
theorem dksX3_asked_2 : cX3_asked.data.toList.drop 47 = dktX3_asked_2 := dk_seg dksX3_asked_1 23 rfl rfl
theorem dksX3_asked_3 : cX3_asked.data.toList.drop 71 = dktX3_asked_3 := dk_seg dksX3_asked_2 24 rfl rfl
theorem dksX3_asked_4 : cX3_asked.data.toList.drop 95 = dktX3_asked_4 := dk_seg dksX3_asked_3 24 rfl rfl
theorem dX3_asked_0 : decode cX3_asked 0 = .ok (.aload_n 0, 1) := dk_42 (dk_at dksX3_asked_0 0 rfl rfl)
theorem dX3_asked_1 : decode cX3_asked 1 = .ok (.iload_n 1, 1) := dk_27 (dk_at dksX3_asked_0 1 rfl rfl)
theorem dX3_asked_2 : decode cX3_asked 2 = .ok (.iload_n 2, 1) := dk_28 (dk_at dksX3_asked_0 2 rfl rfl)
theorem dX3_asked_3 : decode cX3_asked 3 = .ok (.invokevirtual 320, 3) := dk_182 1 64 (dk_at dksX3_asked_0 3 rfl rfl)
theorem dX3_asked_6 : decode cX3_asked 6 = .ok (.ifCond .ne 5, 3) := dk_154 0 5 (dk_at dksX3_asked_0 6 rfl rfl)
theorem dX3_asked_9 : decode cX3_asked 9 = .ok (.iconst (-1), 1) := dk_2 (dk_at dksX3_asked_0 9 rfl rfl)
theorem dX3_asked_10 : decode cX3_asked 10 = .ok (.ireturn, 1) := dk_172 (dk_at dksX3_asked_0 10 rfl rfl)
theorem dX3_asked_11 : decode cX3_asked 11 = .ok (.aload_n 0, 1) := dk_42 (dk_at dksX3_asked_0 11 rfl rfl)
theorem dX3_asked_12 : decode cX3_asked 12 = .ok (.iload_n 1, 1) := dk_27 (dk_at dksX3_asked_0 12 rfl rfl)
theorem dX3_asked_13 : decode cX3_asked 13 = .ok (.iload_n 2, 1) := dk_28 (dk_at dksX3_asked_0 13 rfl rfl)
theorem dX3_asked_14 : decode cX3_asked 14 = .ok (.invokevirtual 345, 3) := dk_182 1 89 (dk_at dksX3_asked_0 14 rfl rfl)
theorem dX3_asked_17 : decode cX3_asked 17 = .ok (.aload_n 0, 1) := dk_42 (dk_at dksX3_asked_0 17 rfl rfl)
theorem dX3_asked_18 : decode cX3_asked 18 = .ok (.iconst 0, 1) := dk_3 (dk_at dksX3_asked_0 18 rfl rfl)
theorem dX3_asked_19 : decode cX3_asked 19 = .ok (.putfield 324, 3) := dk_181 1 68 (dk_at dksX3_asked_0 19 rfl rfl)
theorem dX3_asked_22 : decode cX3_asked 22 = .ok (.iconst 0, 1) := dk_3 (dk_at dksX3_asked_0 22 rfl rfl)
theorem dX3_asked_23 : decode cX3_asked 23 = .ok (.istore_n 3, 1) := dk_62 (dk_at dksX3_asked_0 23 rfl rfl)
theorem dX3_asked_24 : decode cX3_asked 24 = .ok (.iload_n 3, 1) := dk_29 (dk_at dksX3_asked_1 0 rfl rfl)
theorem dX3_asked_25 : decode cX3_asked 25 = .ok (.aload_n 0, 1) := dk_42 (dk_at dksX3_asked_1 1 rfl rfl)
theorem dX3_asked_26 : decode cX3_asked 26 = .ok (.getfield 348, 3) := dk_180 1 92 (dk_at dksX3_asked_1 2 rfl rfl)
theorem dX3_asked_29 : decode cX3_asked 29 = .ok (.if_icmp .ge 85, 3) := dk_162 0 85 (dk_at dksX3_asked_1 5 rfl rfl)
theorem dX3_asked_32 : decode cX3_asked 32 = .ok (.iconst 0, 1) := dk_3 (dk_at dksX3_asked_1 8 rfl rfl)
theorem dX3_asked_33 : decode cX3_asked 33 = .ok (.istore 4, 2) := dk_54 4 (dk_at dksX3_asked_1 9 rfl rfl)
theorem dX3_asked_35 : decode cX3_asked 35 = .ok (.iconst 0, 1) := dk_3 (dk_at dksX3_asked_1 11 rfl rfl)
theorem dX3_asked_36 : decode cX3_asked 36 = .ok (.istore 5, 2) := dk_54 5 (dk_at dksX3_asked_1 12 rfl rfl)
theorem dX3_asked_38 : decode cX3_asked 38 = .ok (.iload 5, 2) := dk_21 5 (dk_at dksX3_asked_1 14 rfl rfl)
theorem dX3_asked_40 : decode cX3_asked 40 = .ok (.bipush 6, 2) := dk_16 6 (dk_at dksX3_asked_1 16 rfl rfl)
theorem dX3_asked_42 : decode cX3_asked 42 = .ok (.if_icmp .ge 56, 3) := dk_162 0 56 (dk_at dksX3_asked_1 18 rfl rfl)
theorem dX3_asked_45 : decode cX3_asked 45 = .ok (.iload 4, 2) := dk_21 4 (dk_at dksX3_asked_1 21 rfl rfl)
theorem dX3_asked_47 : decode cX3_asked 47 = .ok (.ifCond .ne 38, 3) := dk_154 0 38 (dk_at dksX3_asked_2 0 rfl rfl)
theorem dX3_asked_50 : decode cX3_asked 50 = .ok (.aload_n 0, 1) := dk_42 (dk_at dksX3_asked_2 3 rfl rfl)
theorem dX3_asked_51 : decode cX3_asked 51 = .ok (.getfield 150, 3) := dk_180 0 150 (dk_at dksX3_asked_2 4 rfl rfl)
theorem dX3_asked_54 : decode cX3_asked 54 = .ok (.iload_n 3, 1) := dk_29 (dk_at dksX3_asked_2 7 rfl rfl)
theorem dX3_asked_55 : decode cX3_asked 55 = .ok (.iaload, 1) := dk_46 (dk_at dksX3_asked_2 8 rfl rfl)
theorem dX3_asked_56 : decode cX3_asked 56 = .ok (.iload 5, 2) := dk_21 5 (dk_at dksX3_asked_2 9 rfl rfl)
theorem dX3_asked_58 : decode cX3_asked 58 = .ok (.ishr, 1) := dk_122 (dk_at dksX3_asked_2 11 rfl rfl)
theorem dX3_asked_59 : decode cX3_asked 59 = .ok (.iconst 1, 1) := dk_4 (dk_at dksX3_asked_2 12 rfl rfl)
theorem dX3_asked_60 : decode cX3_asked 60 = .ok (.iand, 1) := dk_126 (dk_at dksX3_asked_2 13 rfl rfl)
theorem dX3_asked_61 : decode cX3_asked 61 = .ok (.iconst 1, 1) := dk_4 (dk_at dksX3_asked_2 14 rfl rfl)
theorem dX3_asked_62 : decode cX3_asked 62 = .ok (.if_icmp .ne 27, 3) := dk_160 0 27 (dk_at dksX3_asked_2 15 rfl rfl)
theorem dX3_asked_65 : decode cX3_asked 65 = .ok (.aload_n 0, 1) := dk_42 (dk_at dksX3_asked_2 18 rfl rfl)
theorem dX3_asked_66 : decode cX3_asked 66 = .ok (.getfield 138, 3) := dk_180 0 138 (dk_at dksX3_asked_2 19 rfl rfl)
theorem dX3_asked_69 : decode cX3_asked 69 = .ok (.bipush 8, 2) := dk_16 8 (dk_at dksX3_asked_2 22 rfl rfl)
theorem dX3_asked_71 : decode cX3_asked 71 = .ok (.aload_n 0, 1) := dk_42 (dk_at dksX3_asked_3 0 rfl rfl)
theorem dX3_asked_72 : decode cX3_asked 72 = .ok (.getfield 147, 3) := dk_180 0 147 (dk_at dksX3_asked_3 1 rfl rfl)
theorem dX3_asked_75 : decode cX3_asked 75 = .ok (.iload_n 3, 1) := dk_29 (dk_at dksX3_asked_3 4 rfl rfl)
theorem dX3_asked_76 : decode cX3_asked 76 = .ok (.iaload, 1) := dk_46 (dk_at dksX3_asked_3 5 rfl rfl)
theorem dX3_asked_77 : decode cX3_asked 77 = .ok (.imul, 1) := dk_104 (dk_at dksX3_asked_3 6 rfl rfl)
theorem dX3_asked_78 : decode cX3_asked 78 = .ok (.iload 5, 2) := dk_21 5 (dk_at dksX3_asked_3 7 rfl rfl)
theorem dX3_asked_80 : decode cX3_asked 80 = .ok (.iadd, 1) := dk_96 (dk_at dksX3_asked_3 9 rfl rfl)
theorem dX3_asked_81 : decode cX3_asked 81 = .ok (.baload, 1) := dk_51 (dk_at dksX3_asked_3 10 rfl rfl)
theorem dX3_asked_82 : decode cX3_asked 82 = .ok (.ifCond .eq 7, 3) := dk_153 0 7 (dk_at dksX3_asked_3 11 rfl rfl)
theorem dX3_asked_85 : decode cX3_asked 85 = .ok (.iconst 1, 1) := dk_4 (dk_at dksX3_asked_3 14 rfl rfl)
theorem dX3_asked_86 : decode cX3_asked 86 = .ok (.goto 4, 3) := dk_167 0 4 (dk_at dksX3_asked_3 15 rfl rfl)
theorem dX3_asked_89 : decode cX3_asked 89 = .ok (.iconst 0, 1) := dk_3 (dk_at dksX3_asked_3 18 rfl rfl)
theorem dX3_asked_90 : decode cX3_asked 90 = .ok (.istore 4, 2) := dk_54 4 (dk_at dksX3_asked_3 19 rfl rfl)
theorem dX3_asked_92 : decode cX3_asked 92 = .ok (.iinc 5 1, 3) := dk_132 5 1 (dk_at dksX3_asked_3 21 rfl rfl)
theorem dX3_asked_95 : decode cX3_asked 95 = .ok (.goto (-57), 3) := dk_167 255 199 (dk_at dksX3_asked_4 0 rfl rfl)
theorem dX3_asked_98 : decode cX3_asked 98 = .ok (.iload 4, 2) := dk_21 4 (dk_at dksX3_asked_4 3 rfl rfl)
theorem dX3_asked_100 : decode cX3_asked 100 = .ok (.ifCond .eq 8, 3) := dk_153 0 8 (dk_at dksX3_asked_4 5 rfl rfl)
theorem dX3_asked_103 : decode cX3_asked 103 = .ok (.aload_n 0, 1) := dk_42 (dk_at dksX3_asked_4 8 rfl rfl)
theorem dX3_asked_104 : decode cX3_asked 104 = .ok (.iload_n 3, 1) := dk_29 (dk_at dksX3_asked_4 9 rfl rfl)
theorem dX3_asked_105 : decode cX3_asked 105 = .ok (.invokevirtual 339, 3) := dk_182 1 83 (dk_at dksX3_asked_4 10 rfl rfl)
theorem dX3_asked_108 : decode cX3_asked 108 = .ok (.iinc 3 1, 3) := dk_132 3 1 (dk_at dksX3_asked_4 13 rfl rfl)
theorem dX3_asked_111 : decode cX3_asked 111 = .ok (.goto (-87), 3) := dk_167 255 169 (dk_at dksX3_asked_4 16 rfl rfl)
theorem dX3_asked_114 : decode cX3_asked 114 = .ok (.aload_n 0, 1) := dk_42 (dk_at dksX3_asked_4 19 rfl rfl)
theorem dX3_asked_115 : decode cX3_asked 115 = .ok (.getfield 324, 3) := dk_180 1 68 (dk_at dksX3_asked_4 20 rfl rfl)
theorem dX3_asked_118 : decode cX3_asked 118 = .ok (.ireturn, 1) := dk_172 (dk_at dksX3_asked_4 23 rfl rfl)
abbrev cX3_ask : ByteArray := prog_14_method_53_code
def yX3_ask : MethodName := ⟨RX3, "ask", "(III)I"⟩
def dkwX3_ask_4 : List UInt8 := [96, 181, 1, 92, 42, 180, 1, 92, 4, 100, 172]
abbrev dktX3_ask_4 : List UInt8 := dkwX3_ask_4 ++ []
def dkwX3_ask_3 : List UInt8 := [180, 1, 92, 29, 79, 42, 180, 0, 153, 42, 180, 1, 92, 42, 180, 1, 95, 79, 42, 89, 180, 1, 92, 4]
abbrev dktX3_ask_3 : List UInt8 := dkwX3_ask_3 ++ dktX3_ask_4
def dkwX3_ask_2 : List UInt8 := [180, 0, 144, 42, 180, 1, 92, 27, 79, 42, 180, 0, 147, 42, 180, 1, 92, 28, 79, 42, 180, 0, 150, 42]
abbrev dktX3_ask_2 : List UInt8 := dkwX3_ask_2 ++ dktX3_ask_3
def dkwX3_ask_1 : List UInt8 := [4, 42, 180, 0, 21, 28, 46, 120, 162, 0, 12, 42, 180, 1, 92, 16, 40, 160, 0, 5, 2, 172, 42]
abbrev dktX3_ask_1 : List UInt8 := dkwX3_ask_1 ++ dktX3_ask_2
def dkwX3_ask_0 : List UInt8 := [27, 155, 0, 43, 27, 16, 9, 163, 0, 37, 42, 28, 182, 0, 162, 153, 0, 29, 29, 4, 161, 0, 24, 29]
abbrev dktX3_ask_0 : List UInt8 := dkwX3_ask_0 ++ dktX3_ask_1
theorem dksX3_ask_0 : cX3_ask.data.toList.drop 0 = dktX3_ask_0 := by decide +kernel
theorem dksX3_ask_1 : cX3_ask.data.toList.drop 24 = dktX3_ask_1 := dk_seg dksX3_ask_0 24 rfl rfl
theorem dksX3_ask_2 : cX3_ask.data.toList.drop 47 = dktX3_ask_2 := dk_seg dksX3_ask_1 23 rfl rfl
theorem dksX3_ask_3 : cX3_ask.data.toList.drop 71 = dktX3_ask_3 := dk_seg dksX3_ask_2 24 rfl rfl
theorem dksX3_ask_4 : cX3_ask.data.toList.drop 95 = dktX3_ask_4 := dk_seg dksX3_ask_3 24 rfl rfl
theorem dX3_ask_0 : decode cX3_ask 0 = .ok (.iload_n 1, 1) := dk_27 (dk_at dksX3_ask_0 0 rfl rfl)
theorem dX3_ask_1 : decode cX3_ask 1 = .ok (.ifCond .lt 43, 3) := dk_155 0 43 (dk_at dksX3_ask_0 1 rfl rfl)
theorem dX3_ask_4 : decode cX3_ask 4 = .ok (.iload_n 1, 1) := dk_27 (dk_at dksX3_ask_0 4 rfl rfl)
theorem dX3_ask_5 : decode cX3_ask 5 = .ok (.bipush 9, 2) := dk_16 9 (dk_at dksX3_ask_0 5 rfl rfl)
theorem dX3_ask_7 : decode cX3_ask 7 = .ok (.if_icmp .gt 37, 3) := dk_163 0 37 (dk_at dksX3_ask_0 7 rfl rfl)
theorem dX3_ask_10 : decode cX3_ask 10 = .ok (.aload_n 0, 1) := dk_42 (dk_at dksX3_ask_0 10 rfl rfl)
theorem dX3_ask_11 : decode cX3_ask 11 = .ok (.iload_n 2, 1) := dk_28 (dk_at dksX3_ask_0 11 rfl rfl)
theorem dX3_ask_12 : decode cX3_ask 12 = .ok (.invokevirtual 162, 3) := dk_182 0 162 (dk_at dksX3_ask_0 12 rfl rfl)
theorem dX3_ask_15 : decode cX3_ask 15 = .ok (.ifCond .eq 29, 3) := dk_153 0 29 (dk_at dksX3_ask_0 15 rfl rfl)
theorem dX3_ask_18 : decode cX3_ask 18 = .ok (.iload_n 3, 1) := dk_29 (dk_at dksX3_ask_0 18 rfl rfl)
theorem dX3_ask_19 : decode cX3_ask 19 = .ok (.iconst 1, 1) := dk_4 (dk_at dksX3_ask_0 19 rfl rfl)
theorem dX3_ask_20 : decode cX3_ask 20 = .ok (.if_icmp .lt 24, 3) := dk_161 0 24 (dk_at dksX3_ask_0 20 rfl rfl)
theorem dX3_ask_23 : decode cX3_ask 23 = .ok (.iload_n 3, 1) := dk_29 (dk_at dksX3_ask_0 23 rfl rfl)
theorem dX3_ask_24 : decode cX3_ask 24 = .ok (.iconst 1, 1) := dk_4 (dk_at dksX3_ask_1 0 rfl rfl)
theorem dX3_ask_25 : decode cX3_ask 25 = .ok (.aload_n 0, 1) := dk_42 (dk_at dksX3_ask_1 1 rfl rfl)
theorem dX3_ask_26 : decode cX3_ask 26 = .ok (.getfield 21, 3) := dk_180 0 21 (dk_at dksX3_ask_1 2 rfl rfl)
theorem dX3_ask_29 : decode cX3_ask 29 = .ok (.iload_n 2, 1) := dk_28 (dk_at dksX3_ask_1 5 rfl rfl)
theorem dX3_ask_30 : decode cX3_ask 30 = .ok (.iaload, 1) := dk_46 (dk_at dksX3_ask_1 6 rfl rfl)
theorem dX3_ask_31 : decode cX3_ask 31 = .ok (.ishl, 1) := dk_120 (dk_at dksX3_ask_1 7 rfl rfl)
theorem dX3_ask_32 : decode cX3_ask 32 = .ok (.if_icmp .ge 12, 3) := dk_162 0 12 (dk_at dksX3_ask_1 8 rfl rfl)
theorem dX3_ask_35 : decode cX3_ask 35 = .ok (.aload_n 0, 1) := dk_42 (dk_at dksX3_ask_1 11 rfl rfl)
theorem dX3_ask_36 : decode cX3_ask 36 = .ok (.getfield 348, 3) := dk_180 1 92 (dk_at dksX3_ask_1 12 rfl rfl)
theorem dX3_ask_39 : decode cX3_ask 39 = .ok (.bipush 40, 2) := dk_16 40 (dk_at dksX3_ask_1 15 rfl rfl)
theorem dX3_ask_41 : decode cX3_ask 41 = .ok (.if_icmp .ne 5, 3) := dk_160 0 5 (dk_at dksX3_ask_1 17 rfl rfl)
theorem dX3_ask_44 : decode cX3_ask 44 = .ok (.iconst (-1), 1) := dk_2 (dk_at dksX3_ask_1 20 rfl rfl)
theorem dX3_ask_45 : decode cX3_ask 45 = .ok (.ireturn, 1) := dk_172 (dk_at dksX3_ask_1 21 rfl rfl)
theorem dX3_ask_46 : decode cX3_ask 46 = .ok (.aload_n 0, 1) := dk_42 (dk_at dksX3_ask_1 22 rfl rfl)
theorem dX3_ask_47 : decode cX3_ask 47 = .ok (.getfield 144, 3) := dk_180 0 144 (dk_at dksX3_ask_2 0 rfl rfl)
theorem dX3_ask_50 : decode cX3_ask 50 = .ok (.aload_n 0, 1) := dk_42 (dk_at dksX3_ask_2 3 rfl rfl)
theorem dX3_ask_51 : decode cX3_ask 51 = .ok (.getfield 348, 3) := dk_180 1 92 (dk_at dksX3_ask_2 4 rfl rfl)
theorem dX3_ask_54 : decode cX3_ask 54 = .ok (.iload_n 1, 1) := dk_27 (dk_at dksX3_ask_2 7 rfl rfl)
theorem dX3_ask_55 : decode cX3_ask 55 = .ok (.iastore, 1) := dk_79 (dk_at dksX3_ask_2 8 rfl rfl)
theorem dX3_ask_56 : decode cX3_ask 56 = .ok (.aload_n 0, 1) := dk_42 (dk_at dksX3_ask_2 9 rfl rfl)
theorem dX3_ask_57 : decode cX3_ask 57 = .ok (.getfield 147, 3) := dk_180 0 147 (dk_at dksX3_ask_2 10 rfl rfl)
theorem dX3_ask_60 : decode cX3_ask 60 = .ok (.aload_n 0, 1) := dk_42 (dk_at dksX3_ask_2 13 rfl rfl)
theorem dX3_ask_61 : decode cX3_ask 61 = .ok (.getfield 348, 3) := dk_180 1 92 (dk_at dksX3_ask_2 14 rfl rfl)
theorem dX3_ask_64 : decode cX3_ask 64 = .ok (.iload_n 2, 1) := dk_28 (dk_at dksX3_ask_2 17 rfl rfl)
theorem dX3_ask_65 : decode cX3_ask 65 = .ok (.iastore, 1) := dk_79 (dk_at dksX3_ask_2 18 rfl rfl)
theorem dX3_ask_66 : decode cX3_ask 66 = .ok (.aload_n 0, 1) := dk_42 (dk_at dksX3_ask_2 19 rfl rfl)
theorem dX3_ask_67 : decode cX3_ask 67 = .ok (.getfield 150, 3) := dk_180 0 150 (dk_at dksX3_ask_2 20 rfl rfl)
theorem dX3_ask_70 : decode cX3_ask 70 = .ok (.aload_n 0, 1) := dk_42 (dk_at dksX3_ask_2 23 rfl rfl)
theorem dX3_ask_71 : decode cX3_ask 71 = .ok (.getfield 348, 3) := dk_180 1 92 (dk_at dksX3_ask_3 0 rfl rfl)
theorem dX3_ask_74 : decode cX3_ask 74 = .ok (.iload_n 3, 1) := dk_29 (dk_at dksX3_ask_3 3 rfl rfl)
theorem dX3_ask_75 : decode cX3_ask 75 = .ok (.iastore, 1) := dk_79 (dk_at dksX3_ask_3 4 rfl rfl)
theorem dX3_ask_76 : decode cX3_ask 76 = .ok (.aload_n 0, 1) := dk_42 (dk_at dksX3_ask_3 5 rfl rfl)
theorem dX3_ask_77 : decode cX3_ask 77 = .ok (.getfield 153, 3) := dk_180 0 153 (dk_at dksX3_ask_3 6 rfl rfl)
theorem dX3_ask_80 : decode cX3_ask 80 = .ok (.aload_n 0, 1) := dk_42 (dk_at dksX3_ask_3 9 rfl rfl)
theorem dX3_ask_81 : decode cX3_ask 81 = .ok (.getfield 348, 3) := dk_180 1 92 (dk_at dksX3_ask_3 10 rfl rfl)
theorem dX3_ask_84 : decode cX3_ask 84 = .ok (.aload_n 0, 1) := dk_42 (dk_at dksX3_ask_3 13 rfl rfl)
theorem dX3_ask_85 : decode cX3_ask 85 = .ok (.getfield 351, 3) := dk_180 1 95 (dk_at dksX3_ask_3 14 rfl rfl)
theorem dX3_ask_88 : decode cX3_ask 88 = .ok (.iastore, 1) := dk_79 (dk_at dksX3_ask_3 17 rfl rfl)
theorem dX3_ask_89 : decode cX3_ask 89 = .ok (.aload_n 0, 1) := dk_42 (dk_at dksX3_ask_3 18 rfl rfl)
theorem dX3_ask_90 : decode cX3_ask 90 = .ok (.dup, 1) := dk_89 (dk_at dksX3_ask_3 19 rfl rfl)
theorem dX3_ask_91 : decode cX3_ask 91 = .ok (.getfield 348, 3) := dk_180 1 92 (dk_at dksX3_ask_3 20 rfl rfl)
theorem dX3_ask_94 : decode cX3_ask 94 = .ok (.iconst 1, 1) := dk_4 (dk_at dksX3_ask_3 23 rfl rfl)
theorem dX3_ask_95 : decode cX3_ask 95 = .ok (.iadd, 1) := dk_96 (dk_at dksX3_ask_4 0 rfl rfl)
theorem dX3_ask_96 : decode cX3_ask 96 = .ok (.putfield 348, 3) := dk_181 1 92 (dk_at dksX3_ask_4 1 rfl rfl)
theorem dX3_ask_99 : decode cX3_ask 99 = .ok (.aload_n 0, 1) := dk_42 (dk_at dksX3_ask_4 4 rfl rfl)
theorem dX3_ask_100 : decode cX3_ask 100 = .ok (.getfield 348, 3) := dk_180 1 92 (dk_at dksX3_ask_4 5 rfl rfl)
theorem dX3_ask_103 : decode cX3_ask 103 = .ok (.iconst 1, 1) := dk_4 (dk_at dksX3_ask_4 8 rfl rfl)
theorem dX3_ask_104 : decode cX3_ask 104 = .ok (.isub, 1) := dk_100 (dk_at dksX3_ask_4 9 rfl rfl)
theorem dX3_ask_105 : decode cX3_ask 105 = .ok (.ireturn, 1) := dk_172 (dk_at dksX3_ask_4 10 rfl rfl)
abbrev cX3_retype : ByteArray := prog_14_method_54_code
def yX3_retype : MethodName := ⟨RX3, "retype", "(III)I"⟩
def dkwX3_retype_17 : List UInt8 := [180, 0, 129, 21, 6, 46, 79, 132, 6, 1, 167, 255, 231, 21, 5, 172]
abbrev dktX3_retype_17 : List UInt8 := dkwX3_retype_17 ++ []
def dkwX3_retype_16 : List UInt8 := [21, 4, 181, 1, 68, 3, 54, 6, 21, 6, 17, 0, 136, 162, 0, 23, 42, 180, 0, 27, 21, 6, 42]
abbrev dktX3_retype_16 : List UInt8 := dkwX3_retype_16 ++ dktX3_retype_17
def dkwX3_retype_15 : List UInt8 := [42, 180, 0, 156, 21, 6, 46, 79, 132, 6, 1, 167, 255, 230, 42, 3, 181, 1, 101, 16, 254, 172, 42]
abbrev dktX3_retype_15 : List UInt8 := dkwX3_retype_15 ++ dktX3_retype_16
def dkwX3_retype_14 : List UInt8 := [180, 1, 101, 181, 1, 68, 3, 54, 6, 21, 6, 42, 180, 1, 101, 162, 0, 23, 42, 180, 0, 141, 21, 6]
abbrev dktX3_retype_14 : List UInt8 := dkwX3_retype_14 ++ dktX3_retype_15
def dkwX3_retype_13 : List UInt8 := [104, 16, 6, 96, 182, 1, 98, 132, 6, 1, 167, 255, 42, 42, 180, 1, 101, 158, 0, 51, 42, 42]
abbrev dktX3_retype_13 : List UInt8 := dkwX3_retype_13 ++ dktX3_retype_14
def dkwX3_retype_12 : List UInt8 := [182, 1, 36, 54, 8, 42, 180, 0, 255, 157, 0, 10, 21, 7, 21, 8, 159, 0, 15, 42, 16, 8, 21, 6]
abbrev dktX3_retype_12 : List UInt8 := dkwX3_retype_12 ++ dktX3_retype_13
def dkwX3_retype_11 : List UInt8 := [167, 0, 54, 42, 3, 181, 0, 255, 42, 21, 6, 16, 6, 182, 1, 36, 54, 7, 42, 21, 6, 16, 7]
abbrev dktX3_retype_11 : List UInt8 := dkwX3_retype_11 ++ dktX3_retype_12
def dkwX3_retype_10 : List UInt8 := [46, 159, 0, 6, 132, 5, 1, 132, 7, 1, 167, 255, 157, 42, 21, 6, 182, 1, 39, 154, 0, 6]
abbrev dktX3_retype_10 : List UInt8 := dkwX3_retype_10 ++ dktX3_retype_11
def dkwX3_retype_9 : List UInt8 := [180, 0, 129, 16, 8, 21, 6, 104, 21, 7, 96, 46, 42, 180, 0, 27, 16, 8, 21, 6, 104, 21, 7, 96]
abbrev dktX3_retype_9 : List UInt8 := dkwX3_retype_9 ++ dktX3_retype_10
def dkwX3_retype_8 : List UInt8 := [182, 1, 98, 167, 0, 18, 42, 180, 0, 129, 16, 8, 21, 6, 104, 21, 7, 96, 21, 8, 79, 42]
abbrev dktX3_retype_8 : List UInt8 := dkwX3_retype_8 ++ dktX3_retype_9
def dkwX3_retype_7 : List UInt8 := [21, 7, 182, 1, 36, 54, 8, 42, 180, 0, 255, 158, 0, 18, 42, 16, 8, 21, 6, 104, 21, 7, 96]
abbrev dktX3_retype_7 : List UInt8 := dkwX3_retype_7 ++ dktX3_retype_8
def dkwX3_retype_6 : List UInt8 := [3, 54, 7, 21, 7, 42, 180, 0, 21, 21, 6, 46, 162, 0, 93, 42, 3, 181, 0, 255, 42, 21, 6]
abbrev dktX3_retype_6 : List UInt8 := dkwX3_retype_6 ++ dktX3_retype_7
def dkwX3_retype_5 : List UInt8 := [42, 180, 0, 17, 21, 6, 46, 153, 0, 185, 42, 180, 0, 17, 21, 6, 46, 6, 160, 0, 6, 167, 0, 171]
abbrev dktX3_retype_5 : List UInt8 := dkwX3_retype_5 ++ dktX3_retype_6
def dkwX3_retype_4 : List UInt8 := [54, 5, 3, 54, 6, 21, 6, 42, 180, 0, 159, 162, 0, 211, 42, 180, 0, 7, 21, 6, 51, 153, 0, 195]
abbrev dktX3_retype_4 : List UInt8 := dkwX3_retype_4 ++ dktX3_retype_5
def dkwX3_retype_3 : List UInt8 := [180, 0, 129, 16, 8, 27, 104, 28, 96, 29, 79, 42, 180, 1, 68, 54, 4, 42, 3, 181, 1, 68, 3]
abbrev dktX3_retype_3 : List UInt8 := dkwX3_retype_3 ++ dktX3_retype_4
def dkwX3_retype_2 : List UInt8 := [162, 0, 23, 42, 180, 0, 129, 21, 4, 42, 180, 0, 27, 21, 4, 46, 79, 132, 4, 1, 167, 255, 231, 42]
abbrev dktX3_retype_2 : List UInt8 := dkwX3_retype_2 ++ dktX3_retype_3
def dkwX3_retype_1 : List UInt8 := [29, 16, 116, 159, 0, 11, 29, 16, 100, 159, 0, 5, 2, 172, 3, 54, 4, 21, 4, 17, 0, 136]
abbrev dktX3_retype_1 : List UInt8 := dkwX3_retype_1 ++ dktX3_retype_2
def dkwX3_retype_0 : List UInt8 := [42, 27, 28, 182, 1, 64, 153, 0, 30, 42, 180, 0, 17, 27, 46, 154, 0, 21, 29, 16, 110, 159, 0, 17]
abbrev dktX3_retype_0 : List UInt8 := dkwX3_retype_0 ++ dktX3_retype_1
theorem dksX3_retype_0 : cX3_retype.data.toList.drop 0 = dktX3_retype_0 := by decide +kernel
theorem dksX3_retype_1 : cX3_retype.data.toList.drop 24 = dktX3_retype_1 := dk_seg dksX3_retype_0 24 rfl rfl
theorem dksX3_retype_2 : cX3_retype.data.toList.drop 46 = dktX3_retype_2 := dk_seg dksX3_retype_1 22 rfl rfl
theorem dksX3_retype_3 : cX3_retype.data.toList.drop 70 = dktX3_retype_3 := dk_seg dksX3_retype_2 24 rfl rfl
theorem dksX3_retype_4 : cX3_retype.data.toList.drop 93 = dktX3_retype_4 := dk_seg dksX3_retype_3 23 rfl rfl
theorem dksX3_retype_5 : cX3_retype.data.toList.drop 117 = dktX3_retype_5 := dk_seg dksX3_retype_4 24 rfl rfl
theorem dksX3_retype_6 : cX3_retype.data.toList.drop 141 = dktX3_retype_6 := dk_seg dksX3_retype_5 24 rfl rfl
theorem dksX3_retype_7 : cX3_retype.data.toList.drop 164 = dktX3_retype_7 := dk_seg dksX3_retype_6 23 rfl rfl
theorem dksX3_retype_8 : cX3_retype.data.toList.drop 187 = dktX3_retype_8 := dk_seg dksX3_retype_7 23 rfl rfl
theorem dksX3_retype_9 : cX3_retype.data.toList.drop 209 = dktX3_retype_9 := dk_seg dksX3_retype_8 22 rfl rfl
theorem dksX3_retype_10 : cX3_retype.data.toList.drop 233 = dktX3_retype_10 := dk_seg dksX3_retype_9 24 rfl rfl
theorem dksX3_retype_11 : cX3_retype.data.toList.drop 255 = dktX3_retype_11 := dk_seg dksX3_retype_10 22 rfl rfl
theorem dksX3_retype_12 : cX3_retype.data.toList.drop 278 = dktX3_retype_12 := dk_seg dksX3_retype_11 23 rfl rfl
theorem dksX3_retype_13 : cX3_retype.data.toList.drop 302 = dktX3_retype_13 := dk_seg dksX3_retype_12 24 rfl rfl
theorem dksX3_retype_14 : cX3_retype.data.toList.drop 324 = dktX3_retype_14 := dk_seg dksX3_retype_13 22 rfl rfl
theorem dksX3_retype_15 : cX3_retype.data.toList.drop 348 = dktX3_retype_15 := dk_seg dksX3_retype_14 24 rfl rfl
theorem dksX3_retype_16 : cX3_retype.data.toList.drop 371 = dktX3_retype_16 := dk_seg dksX3_retype_15 23 rfl rfl
theorem dksX3_retype_17 : cX3_retype.data.toList.drop 394 = dktX3_retype_17 := dk_seg dksX3_retype_16 23 rfl rfl
theorem dX3_retype_0 : decode cX3_retype 0 = .ok (.aload_n 0, 1) := dk_42 (dk_at dksX3_retype_0 0 rfl rfl)
theorem dX3_retype_1 : decode cX3_retype 1 = .ok (.iload_n 1, 1) := dk_27 (dk_at dksX3_retype_0 1 rfl rfl)
theorem dX3_retype_2 : decode cX3_retype 2 = .ok (.iload_n 2, 1) := dk_28 (dk_at dksX3_retype_0 2 rfl rfl)
theorem dX3_retype_3 : decode cX3_retype 3 = .ok (.invokevirtual 320, 3) := dk_182 1 64 (dk_at dksX3_retype_0 3 rfl rfl)
theorem dX3_retype_6 : decode cX3_retype 6 = .ok (.ifCond .eq 30, 3) := dk_153 0 30 (dk_at dksX3_retype_0 6 rfl rfl)
theorem dX3_retype_9 : decode cX3_retype 9 = .ok (.aload_n 0, 1) := dk_42 (dk_at dksX3_retype_0 9 rfl rfl)
theorem dX3_retype_10 : decode cX3_retype 10 = .ok (.getfield 17, 3) := dk_180 0 17 (dk_at dksX3_retype_0 10 rfl rfl)
theorem dX3_retype_13 : decode cX3_retype 13 = .ok (.iload_n 1, 1) := dk_27 (dk_at dksX3_retype_0 13 rfl rfl)
theorem dX3_retype_14 : decode cX3_retype 14 = .ok (.iaload, 1) := dk_46 (dk_at dksX3_retype_0 14 rfl rfl)
theorem dX3_retype_15 : decode cX3_retype 15 = .ok (.ifCond .ne 21, 3) := dk_154 0 21 (dk_at dksX3_retype_0 15 rfl rfl)
theorem dX3_retype_18 : decode cX3_retype 18 = .ok (.iload_n 3, 1) := dk_29 (dk_at dksX3_retype_0 18 rfl rfl)
theorem dX3_retype_19 : decode cX3_retype 19 = .ok (.bipush 110, 2) := dk_16 110 (dk_at dksX3_retype_0 19 rfl rfl)
theorem dX3_retype_21 : decode cX3_retype 21 = .ok (.if_icmp .eq 17, 3) := dk_159 0 17 (dk_at dksX3_retype_0 21 rfl rfl)
theorem dX3_retype_24 : decode cX3_retype 24 = .ok (.iload_n 3, 1) := dk_29 (dk_at dksX3_retype_1 0 rfl rfl)
theorem dX3_retype_25 : decode cX3_retype 25 = .ok (.bipush 116, 2) := dk_16 116 (dk_at dksX3_retype_1 1 rfl rfl)
theorem dX3_retype_27 : decode cX3_retype 27 = .ok (.if_icmp .eq 11, 3) := dk_159 0 11 (dk_at dksX3_retype_1 3 rfl rfl)
theorem dX3_retype_30 : decode cX3_retype 30 = .ok (.iload_n 3, 1) := dk_29 (dk_at dksX3_retype_1 6 rfl rfl)
theorem dX3_retype_31 : decode cX3_retype 31 = .ok (.bipush 100, 2) := dk_16 100 (dk_at dksX3_retype_1 7 rfl rfl)
theorem dX3_retype_33 : decode cX3_retype 33 = .ok (.if_icmp .eq 5, 3) := dk_159 0 5 (dk_at dksX3_retype_1 9 rfl rfl)
theorem dX3_retype_36 : decode cX3_retype 36 = .ok (.iconst (-1), 1) := dk_2 (dk_at dksX3_retype_1 12 rfl rfl)
theorem dX3_retype_37 : decode cX3_retype 37 = .ok (.ireturn, 1) := dk_172 (dk_at dksX3_retype_1 13 rfl rfl)
theorem dX3_retype_38 : decode cX3_retype 38 = .ok (.iconst 0, 1) := dk_3 (dk_at dksX3_retype_1 14 rfl rfl)
theorem dX3_retype_39 : decode cX3_retype 39 = .ok (.istore 4, 2) := dk_54 4 (dk_at dksX3_retype_1 15 rfl rfl)
theorem dX3_retype_41 : decode cX3_retype 41 = .ok (.iload 4, 2) := dk_21 4 (dk_at dksX3_retype_1 17 rfl rfl)
theorem dX3_retype_43 : decode cX3_retype 43 = .ok (.sipush 136, 3) := dk_17 0 136 (dk_at dksX3_retype_1 19 rfl rfl)
theorem dX3_retype_46 : decode cX3_retype 46 = .ok (.if_icmp .ge 23, 3) := dk_162 0 23 (dk_at dksX3_retype_2 0 rfl rfl)
theorem dX3_retype_49 : decode cX3_retype 49 = .ok (.aload_n 0, 1) := dk_42 (dk_at dksX3_retype_2 3 rfl rfl)
theorem dX3_retype_50 : decode cX3_retype 50 = .ok (.getfield 129, 3) := dk_180 0 129 (dk_at dksX3_retype_2 4 rfl rfl)
theorem dX3_retype_53 : decode cX3_retype 53 = .ok (.iload 4, 2) := dk_21 4 (dk_at dksX3_retype_2 7 rfl rfl)
theorem dX3_retype_55 : decode cX3_retype 55 = .ok (.aload_n 0, 1) := dk_42 (dk_at dksX3_retype_2 9 rfl rfl)
theorem dX3_retype_56 : decode cX3_retype 56 = .ok (.getfield 27, 3) := dk_180 0 27 (dk_at dksX3_retype_2 10 rfl rfl)
theorem dX3_retype_59 : decode cX3_retype 59 = .ok (.iload 4, 2) := dk_21 4 (dk_at dksX3_retype_2 13 rfl rfl)
theorem dX3_retype_61 : decode cX3_retype 61 = .ok (.iaload, 1) := dk_46 (dk_at dksX3_retype_2 15 rfl rfl)
theorem dX3_retype_62 : decode cX3_retype 62 = .ok (.iastore, 1) := dk_79 (dk_at dksX3_retype_2 16 rfl rfl)
theorem dX3_retype_63 : decode cX3_retype 63 = .ok (.iinc 4 1, 3) := dk_132 4 1 (dk_at dksX3_retype_2 17 rfl rfl)
theorem dX3_retype_66 : decode cX3_retype 66 = .ok (.goto (-25), 3) := dk_167 255 231 (dk_at dksX3_retype_2 20 rfl rfl)
theorem dX3_retype_69 : decode cX3_retype 69 = .ok (.aload_n 0, 1) := dk_42 (dk_at dksX3_retype_2 23 rfl rfl)
theorem dX3_retype_70 : decode cX3_retype 70 = .ok (.getfield 129, 3) := dk_180 0 129 (dk_at dksX3_retype_3 0 rfl rfl)
theorem dX3_retype_73 : decode cX3_retype 73 = .ok (.bipush 8, 2) := dk_16 8 (dk_at dksX3_retype_3 3 rfl rfl)
theorem dX3_retype_75 : decode cX3_retype 75 = .ok (.iload_n 1, 1) := dk_27 (dk_at dksX3_retype_3 5 rfl rfl)
theorem dX3_retype_76 : decode cX3_retype 76 = .ok (.imul, 1) := dk_104 (dk_at dksX3_retype_3 6 rfl rfl)
theorem dX3_retype_77 : decode cX3_retype 77 = .ok (.iload_n 2, 1) := dk_28 (dk_at dksX3_retype_3 7 rfl rfl)
theorem dX3_retype_78 : decode cX3_retype 78 = .ok (.iadd, 1) := dk_96 (dk_at dksX3_retype_3 8 rfl rfl)
theorem dX3_retype_79 : decode cX3_retype 79 = .ok (.iload_n 3, 1) := dk_29 (dk_at dksX3_retype_3 9 rfl rfl)
theorem dX3_retype_80 : decode cX3_retype 80 = .ok (.iastore, 1) := dk_79 (dk_at dksX3_retype_3 10 rfl rfl)
theorem dX3_retype_81 : decode cX3_retype 81 = .ok (.aload_n 0, 1) := dk_42 (dk_at dksX3_retype_3 11 rfl rfl)
theorem dX3_retype_82 : decode cX3_retype 82 = .ok (.getfield 324, 3) := dk_180 1 68 (dk_at dksX3_retype_3 12 rfl rfl)
theorem dX3_retype_85 : decode cX3_retype 85 = .ok (.istore 4, 2) := dk_54 4 (dk_at dksX3_retype_3 15 rfl rfl)
theorem dX3_retype_87 : decode cX3_retype 87 = .ok (.aload_n 0, 1) := dk_42 (dk_at dksX3_retype_3 17 rfl rfl)
theorem dX3_retype_88 : decode cX3_retype 88 = .ok (.iconst 0, 1) := dk_3 (dk_at dksX3_retype_3 18 rfl rfl)
theorem dX3_retype_89 : decode cX3_retype 89 = .ok (.putfield 324, 3) := dk_181 1 68 (dk_at dksX3_retype_3 19 rfl rfl)
theorem dX3_retype_92 : decode cX3_retype 92 = .ok (.iconst 0, 1) := dk_3 (dk_at dksX3_retype_3 22 rfl rfl)
theorem dX3_retype_93 : decode cX3_retype 93 = .ok (.istore 5, 2) := dk_54 5 (dk_at dksX3_retype_4 0 rfl rfl)
theorem dX3_retype_95 : decode cX3_retype 95 = .ok (.iconst 0, 1) := dk_3 (dk_at dksX3_retype_4 2 rfl rfl)
theorem dX3_retype_96 : decode cX3_retype 96 = .ok (.istore 6, 2) := dk_54 6 (dk_at dksX3_retype_4 3 rfl rfl)
theorem dX3_retype_98 : decode cX3_retype 98 = .ok (.iload 6, 2) := dk_21 6 (dk_at dksX3_retype_4 5 rfl rfl)
theorem dX3_retype_100 : decode cX3_retype 100 = .ok (.aload_n 0, 1) := dk_42 (dk_at dksX3_retype_4 7 rfl rfl)
theorem dX3_retype_101 : decode cX3_retype 101 = .ok (.getfield 159, 3) := dk_180 0 159 (dk_at dksX3_retype_4 8 rfl rfl)
theorem dX3_retype_104 : decode cX3_retype 104 = .ok (.if_icmp .ge 211, 3) := dk_162 0 211 (dk_at dksX3_retype_4 11 rfl rfl)
theorem dX3_retype_107 : decode cX3_retype 107 = .ok (.aload_n 0, 1) := dk_42 (dk_at dksX3_retype_4 14 rfl rfl)
theorem dX3_retype_108 : decode cX3_retype 108 = .ok (.getfield 7, 3) := dk_180 0 7 (dk_at dksX3_retype_4 15 rfl rfl)
theorem dX3_retype_111 : decode cX3_retype 111 = .ok (.iload 6, 2) := dk_21 6 (dk_at dksX3_retype_4 18 rfl rfl)
theorem dX3_retype_113 : decode cX3_retype 113 = .ok (.baload, 1) := dk_51 (dk_at dksX3_retype_4 20 rfl rfl)
theorem dX3_retype_114 : decode cX3_retype 114 = .ok (.ifCond .eq 195, 3) := dk_153 0 195 (dk_at dksX3_retype_4 21 rfl rfl)
theorem dX3_retype_117 : decode cX3_retype 117 = .ok (.aload_n 0, 1) := dk_42 (dk_at dksX3_retype_5 0 rfl rfl)
theorem dX3_retype_118 : decode cX3_retype 118 = .ok (.getfield 17, 3) := dk_180 0 17 (dk_at dksX3_retype_5 1 rfl rfl)
theorem dX3_retype_121 : decode cX3_retype 121 = .ok (.iload 6, 2) := dk_21 6 (dk_at dksX3_retype_5 4 rfl rfl)
theorem dX3_retype_123 : decode cX3_retype 123 = .ok (.iaload, 1) := dk_46 (dk_at dksX3_retype_5 6 rfl rfl)
theorem dX3_retype_124 : decode cX3_retype 124 = .ok (.ifCond .eq 185, 3) := dk_153 0 185 (dk_at dksX3_retype_5 7 rfl rfl)
theorem dX3_retype_127 : decode cX3_retype 127 = .ok (.aload_n 0, 1) := dk_42 (dk_at dksX3_retype_5 10 rfl rfl)
theorem dX3_retype_128 : decode cX3_retype 128 = .ok (.getfield 17, 3) := dk_180 0 17 (dk_at dksX3_retype_5 11 rfl rfl)
theorem dX3_retype_131 : decode cX3_retype 131 = .ok (.iload 6, 2) := dk_21 6 (dk_at dksX3_retype_5 14 rfl rfl)
theorem dX3_retype_133 : decode cX3_retype 133 = .ok (.iaload, 1) := dk_46 (dk_at dksX3_retype_5 16 rfl rfl)
theorem dX3_retype_134 : decode cX3_retype 134 = .ok (.iconst 3, 1) := dk_6 (dk_at dksX3_retype_5 17 rfl rfl)
theorem dX3_retype_135 : decode cX3_retype 135 = .ok (.if_icmp .ne 6, 3) := dk_160 0 6 (dk_at dksX3_retype_5 18 rfl rfl)
theorem dX3_retype_138 : decode cX3_retype 138 = .ok (.goto 171, 3) := dk_167 0 171 (dk_at dksX3_retype_5 21 rfl rfl)
theorem dX3_retype_141 : decode cX3_retype 141 = .ok (.iconst 0, 1) := dk_3 (dk_at dksX3_retype_6 0 rfl rfl)
theorem dX3_retype_142 : decode cX3_retype 142 = .ok (.istore 7, 2) := dk_54 7 (dk_at dksX3_retype_6 1 rfl rfl)
theorem dX3_retype_144 : decode cX3_retype 144 = .ok (.iload 7, 2) := dk_21 7 (dk_at dksX3_retype_6 3 rfl rfl)
theorem dX3_retype_146 : decode cX3_retype 146 = .ok (.aload_n 0, 1) := dk_42 (dk_at dksX3_retype_6 5 rfl rfl)
theorem dX3_retype_147 : decode cX3_retype 147 = .ok (.getfield 21, 3) := dk_180 0 21 (dk_at dksX3_retype_6 6 rfl rfl)
theorem dX3_retype_150 : decode cX3_retype 150 = .ok (.iload 6, 2) := dk_21 6 (dk_at dksX3_retype_6 9 rfl rfl)
theorem dX3_retype_152 : decode cX3_retype 152 = .ok (.iaload, 1) := dk_46 (dk_at dksX3_retype_6 11 rfl rfl)
theorem dX3_retype_153 : decode cX3_retype 153 = .ok (.if_icmp .ge 93, 3) := dk_162 0 93 (dk_at dksX3_retype_6 12 rfl rfl)
theorem dX3_retype_156 : decode cX3_retype 156 = .ok (.aload_n 0, 1) := dk_42 (dk_at dksX3_retype_6 15 rfl rfl)
theorem dX3_retype_157 : decode cX3_retype 157 = .ok (.iconst 0, 1) := dk_3 (dk_at dksX3_retype_6 16 rfl rfl)
theorem dX3_retype_158 : decode cX3_retype 158 = .ok (.putfield 255, 3) := dk_181 0 255 (dk_at dksX3_retype_6 17 rfl rfl)
theorem dX3_retype_161 : decode cX3_retype 161 = .ok (.aload_n 0, 1) := dk_42 (dk_at dksX3_retype_6 20 rfl rfl)
theorem dX3_retype_162 : decode cX3_retype 162 = .ok (.iload 6, 2) := dk_21 6 (dk_at dksX3_retype_6 21 rfl rfl)
theorem dX3_retype_164 : decode cX3_retype 164 = .ok (.iload 7, 2) := dk_21 7 (dk_at dksX3_retype_7 0 rfl rfl)
theorem dX3_retype_166 : decode cX3_retype 166 = .ok (.invokevirtual 292, 3) := dk_182 1 36 (dk_at dksX3_retype_7 2 rfl rfl)
theorem dX3_retype_169 : decode cX3_retype 169 = .ok (.istore 8, 2) := dk_54 8 (dk_at dksX3_retype_7 5 rfl rfl)
theorem dX3_retype_171 : decode cX3_retype 171 = .ok (.aload_n 0, 1) := dk_42 (dk_at dksX3_retype_7 7 rfl rfl)
theorem dX3_retype_172 : decode cX3_retype 172 = .ok (.getfield 255, 3) := dk_180 0 255 (dk_at dksX3_retype_7 8 rfl rfl)
theorem dX3_retype_175 : decode cX3_retype 175 = .ok (.ifCond .le 18, 3) := dk_158 0 18 (dk_at dksX3_retype_7 11 rfl rfl)
theorem dX3_retype_178 : decode cX3_retype 178 = .ok (.aload_n 0, 1) := dk_42 (dk_at dksX3_retype_7 14 rfl rfl)
theorem dX3_retype_179 : decode cX3_retype 179 = .ok (.bipush 8, 2) := dk_16 8 (dk_at dksX3_retype_7 15 rfl rfl)
theorem dX3_retype_181 : decode cX3_retype 181 = .ok (.iload 6, 2) := dk_21 6 (dk_at dksX3_retype_7 17 rfl rfl)
theorem dX3_retype_183 : decode cX3_retype 183 = .ok (.imul, 1) := dk_104 (dk_at dksX3_retype_7 19 rfl rfl)
theorem dX3_retype_184 : decode cX3_retype 184 = .ok (.iload 7, 2) := dk_21 7 (dk_at dksX3_retype_7 20 rfl rfl)
theorem dX3_retype_186 : decode cX3_retype 186 = .ok (.iadd, 1) := dk_96 (dk_at dksX3_retype_7 22 rfl rfl)
theorem dX3_retype_187 : decode cX3_retype 187 = .ok (.invokevirtual 354, 3) := dk_182 1 98 (dk_at dksX3_retype_8 0 rfl rfl)
theorem dX3_retype_190 : decode cX3_retype 190 = .ok (.goto 18, 3) := dk_167 0 18 (dk_at dksX3_retype_8 3 rfl rfl)
theorem dX3_retype_193 : decode cX3_retype 193 = .ok (.aload_n 0, 1) := dk_42 (dk_at dksX3_retype_8 6 rfl rfl)
theorem dX3_retype_194 : decode cX3_retype 194 = .ok (.getfield 129, 3) := dk_180 0 129 (dk_at dksX3_retype_8 7 rfl rfl)
theorem dX3_retype_197 : decode cX3_retype 197 = .ok (.bipush 8, 2) := dk_16 8 (dk_at dksX3_retype_8 10 rfl rfl)
theorem dX3_retype_199 : decode cX3_retype 199 = .ok (.iload 6, 2) := dk_21 6 (dk_at dksX3_retype_8 12 rfl rfl)
theorem dX3_retype_201 : decode cX3_retype 201 = .ok (.imul, 1) := dk_104 (dk_at dksX3_retype_8 14 rfl rfl)
theorem dX3_retype_202 : decode cX3_retype 202 = .ok (.iload 7, 2) := dk_21 7 (dk_at dksX3_retype_8 15 rfl rfl)
theorem dX3_retype_204 : decode cX3_retype 204 = .ok (.iadd, 1) := dk_96 (dk_at dksX3_retype_8 17 rfl rfl)
theorem dX3_retype_205 : decode cX3_retype 205 = .ok (.iload 8, 2) := dk_21 8 (dk_at dksX3_retype_8 18 rfl rfl)
theorem dX3_retype_207 : decode cX3_retype 207 = .ok (.iastore, 1) := dk_79 (dk_at dksX3_retype_8 20 rfl rfl)
theorem dX3_retype_208 : decode cX3_retype 208 = .ok (.aload_n 0, 1) := dk_42 (dk_at dksX3_retype_8 21 rfl rfl)
theorem dX3_retype_209 : decode cX3_retype 209 = .ok (.getfield 129, 3) := dk_180 0 129 (dk_at dksX3_retype_9 0 rfl rfl)
theorem dX3_retype_212 : decode cX3_retype 212 = .ok (.bipush 8, 2) := dk_16 8 (dk_at dksX3_retype_9 3 rfl rfl)
theorem dX3_retype_214 : decode cX3_retype 214 = .ok (.iload 6, 2) := dk_21 6 (dk_at dksX3_retype_9 5 rfl rfl)
theorem dX3_retype_216 : decode cX3_retype 216 = .ok (.imul, 1) := dk_104 (dk_at dksX3_retype_9 7 rfl rfl)
theorem dX3_retype_217 : decode cX3_retype 217 = .ok (.iload 7, 2) := dk_21 7 (dk_at dksX3_retype_9 8 rfl rfl)
theorem dX3_retype_219 : decode cX3_retype 219 = .ok (.iadd, 1) := dk_96 (dk_at dksX3_retype_9 10 rfl rfl)
theorem dX3_retype_220 : decode cX3_retype 220 = .ok (.iaload, 1) := dk_46 (dk_at dksX3_retype_9 11 rfl rfl)
theorem dX3_retype_221 : decode cX3_retype 221 = .ok (.aload_n 0, 1) := dk_42 (dk_at dksX3_retype_9 12 rfl rfl)
theorem dX3_retype_222 : decode cX3_retype 222 = .ok (.getfield 27, 3) := dk_180 0 27 (dk_at dksX3_retype_9 13 rfl rfl)
theorem dX3_retype_225 : decode cX3_retype 225 = .ok (.bipush 8, 2) := dk_16 8 (dk_at dksX3_retype_9 16 rfl rfl)
theorem dX3_retype_227 : decode cX3_retype 227 = .ok (.iload 6, 2) := dk_21 6 (dk_at dksX3_retype_9 18 rfl rfl)
theorem dX3_retype_229 : decode cX3_retype 229 = .ok (.imul, 1) := dk_104 (dk_at dksX3_retype_9 20 rfl rfl)
theorem dX3_retype_230 : decode cX3_retype 230 = .ok (.iload 7, 2) := dk_21 7 (dk_at dksX3_retype_9 21 rfl rfl)
theorem dX3_retype_232 : decode cX3_retype 232 = .ok (.iadd, 1) := dk_96 (dk_at dksX3_retype_9 23 rfl rfl)
theorem dX3_retype_233 : decode cX3_retype 233 = .ok (.iaload, 1) := dk_46 (dk_at dksX3_retype_10 0 rfl rfl)
theorem dX3_retype_234 : decode cX3_retype 234 = .ok (.if_icmp .eq 6, 3) := dk_159 0 6 (dk_at dksX3_retype_10 1 rfl rfl)
theorem dX3_retype_237 : decode cX3_retype 237 = .ok (.iinc 5 1, 3) := dk_132 5 1 (dk_at dksX3_retype_10 4 rfl rfl)
theorem dX3_retype_240 : decode cX3_retype 240 = .ok (.iinc 7 1, 3) := dk_132 7 1 (dk_at dksX3_retype_10 7 rfl rfl)
theorem dX3_retype_243 : decode cX3_retype 243 = .ok (.goto (-99), 3) := dk_167 255 157 (dk_at dksX3_retype_10 10 rfl rfl)
theorem dX3_retype_246 : decode cX3_retype 246 = .ok (.aload_n 0, 1) := dk_42 (dk_at dksX3_retype_10 13 rfl rfl)
theorem dX3_retype_247 : decode cX3_retype 247 = .ok (.iload 6, 2) := dk_21 6 (dk_at dksX3_retype_10 14 rfl rfl)
theorem dX3_retype_249 : decode cX3_retype 249 = .ok (.invokevirtual 295, 3) := dk_182 1 39 (dk_at dksX3_retype_10 16 rfl rfl)
theorem dX3_retype_252 : decode cX3_retype 252 = .ok (.ifCond .ne 6, 3) := dk_154 0 6 (dk_at dksX3_retype_10 19 rfl rfl)
theorem dX3_retype_255 : decode cX3_retype 255 = .ok (.goto 54, 3) := dk_167 0 54 (dk_at dksX3_retype_11 0 rfl rfl)
theorem dX3_retype_258 : decode cX3_retype 258 = .ok (.aload_n 0, 1) := dk_42 (dk_at dksX3_retype_11 3 rfl rfl)
theorem dX3_retype_259 : decode cX3_retype 259 = .ok (.iconst 0, 1) := dk_3 (dk_at dksX3_retype_11 4 rfl rfl)
theorem dX3_retype_260 : decode cX3_retype 260 = .ok (.putfield 255, 3) := dk_181 0 255 (dk_at dksX3_retype_11 5 rfl rfl)
theorem dX3_retype_263 : decode cX3_retype 263 = .ok (.aload_n 0, 1) := dk_42 (dk_at dksX3_retype_11 8 rfl rfl)
theorem dX3_retype_264 : decode cX3_retype 264 = .ok (.iload 6, 2) := dk_21 6 (dk_at dksX3_retype_11 9 rfl rfl)
theorem dX3_retype_266 : decode cX3_retype 266 = .ok (.bipush 6, 2) := dk_16 6 (dk_at dksX3_retype_11 11 rfl rfl)
theorem dX3_retype_268 : decode cX3_retype 268 = .ok (.invokevirtual 292, 3) := dk_182 1 36 (dk_at dksX3_retype_11 13 rfl rfl)
theorem dX3_retype_271 : decode cX3_retype 271 = .ok (.istore 7, 2) := dk_54 7 (dk_at dksX3_retype_11 16 rfl rfl)
theorem dX3_retype_273 : decode cX3_retype 273 = .ok (.aload_n 0, 1) := dk_42 (dk_at dksX3_retype_11 18 rfl rfl)
theorem dX3_retype_274 : decode cX3_retype 274 = .ok (.iload 6, 2) := dk_21 6 (dk_at dksX3_retype_11 19 rfl rfl)
theorem dX3_retype_276 : decode cX3_retype 276 = .ok (.bipush 7, 2) := dk_16 7 (dk_at dksX3_retype_11 21 rfl rfl)
theorem dX3_retype_278 : decode cX3_retype 278 = .ok (.invokevirtual 292, 3) := dk_182 1 36 (dk_at dksX3_retype_12 0 rfl rfl)
theorem dX3_retype_281 : decode cX3_retype 281 = .ok (.istore 8, 2) := dk_54 8 (dk_at dksX3_retype_12 3 rfl rfl)
theorem dX3_retype_283 : decode cX3_retype 283 = .ok (.aload_n 0, 1) := dk_42 (dk_at dksX3_retype_12 5 rfl rfl)
theorem dX3_retype_284 : decode cX3_retype 284 = .ok (.getfield 255, 3) := dk_180 0 255 (dk_at dksX3_retype_12 6 rfl rfl)
theorem dX3_retype_287 : decode cX3_retype 287 = .ok (.ifCond .gt 10, 3) := dk_157 0 10 (dk_at dksX3_retype_12 9 rfl rfl)
theorem dX3_retype_290 : decode cX3_retype 290 = .ok (.iload 7, 2) := dk_21 7 (dk_at dksX3_retype_12 12 rfl rfl)
theorem dX3_retype_292 : decode cX3_retype 292 = .ok (.iload 8, 2) := dk_21 8 (dk_at dksX3_retype_12 14 rfl rfl)
theorem dX3_retype_294 : decode cX3_retype 294 = .ok (.if_icmp .eq 15, 3) := dk_159 0 15 (dk_at dksX3_retype_12 16 rfl rfl)
theorem dX3_retype_297 : decode cX3_retype 297 = .ok (.aload_n 0, 1) := dk_42 (dk_at dksX3_retype_12 19 rfl rfl)
theorem dX3_retype_298 : decode cX3_retype 298 = .ok (.bipush 8, 2) := dk_16 8 (dk_at dksX3_retype_12 20 rfl rfl)
theorem dX3_retype_300 : decode cX3_retype 300 = .ok (.iload 6, 2) := dk_21 6 (dk_at dksX3_retype_12 22 rfl rfl)
theorem dX3_retype_302 : decode cX3_retype 302 = .ok (.imul, 1) := dk_104 (dk_at dksX3_retype_13 0 rfl rfl)
theorem dX3_retype_303 : decode cX3_retype 303 = .ok (.bipush 6, 2) := dk_16 6 (dk_at dksX3_retype_13 1 rfl rfl)
theorem dX3_retype_305 : decode cX3_retype 305 = .ok (.iadd, 1) := dk_96 (dk_at dksX3_retype_13 3 rfl rfl)
theorem dX3_retype_306 : decode cX3_retype 306 = .ok (.invokevirtual 354, 3) := dk_182 1 98 (dk_at dksX3_retype_13 4 rfl rfl)
theorem dX3_retype_309 : decode cX3_retype 309 = .ok (.iinc 6 1, 3) := dk_132 6 1 (dk_at dksX3_retype_13 7 rfl rfl)
theorem dX3_retype_312 : decode cX3_retype 312 = .ok (.goto (-214), 3) := dk_167 255 42 (dk_at dksX3_retype_13 10 rfl rfl)
theorem dX3_retype_315 : decode cX3_retype 315 = .ok (.aload_n 0, 1) := dk_42 (dk_at dksX3_retype_13 13 rfl rfl)
theorem dX3_retype_316 : decode cX3_retype 316 = .ok (.getfield 357, 3) := dk_180 1 101 (dk_at dksX3_retype_13 14 rfl rfl)
theorem dX3_retype_319 : decode cX3_retype 319 = .ok (.ifCond .le 51, 3) := dk_158 0 51 (dk_at dksX3_retype_13 17 rfl rfl)
theorem dX3_retype_322 : decode cX3_retype 322 = .ok (.aload_n 0, 1) := dk_42 (dk_at dksX3_retype_13 20 rfl rfl)
theorem dX3_retype_323 : decode cX3_retype 323 = .ok (.aload_n 0, 1) := dk_42 (dk_at dksX3_retype_13 21 rfl rfl)
theorem dX3_retype_324 : decode cX3_retype 324 = .ok (.getfield 357, 3) := dk_180 1 101 (dk_at dksX3_retype_14 0 rfl rfl)
theorem dX3_retype_327 : decode cX3_retype 327 = .ok (.putfield 324, 3) := dk_181 1 68 (dk_at dksX3_retype_14 3 rfl rfl)
theorem dX3_retype_330 : decode cX3_retype 330 = .ok (.iconst 0, 1) := dk_3 (dk_at dksX3_retype_14 6 rfl rfl)
theorem dX3_retype_331 : decode cX3_retype 331 = .ok (.istore 6, 2) := dk_54 6 (dk_at dksX3_retype_14 7 rfl rfl)
theorem dX3_retype_333 : decode cX3_retype 333 = .ok (.iload 6, 2) := dk_21 6 (dk_at dksX3_retype_14 9 rfl rfl)
theorem dX3_retype_335 : decode cX3_retype 335 = .ok (.aload_n 0, 1) := dk_42 (dk_at dksX3_retype_14 11 rfl rfl)
theorem dX3_retype_336 : decode cX3_retype 336 = .ok (.getfield 357, 3) := dk_180 1 101 (dk_at dksX3_retype_14 12 rfl rfl)
theorem dX3_retype_339 : decode cX3_retype 339 = .ok (.if_icmp .ge 23, 3) := dk_162 0 23 (dk_at dksX3_retype_14 15 rfl rfl)
theorem dX3_retype_342 : decode cX3_retype 342 = .ok (.aload_n 0, 1) := dk_42 (dk_at dksX3_retype_14 18 rfl rfl)
theorem dX3_retype_343 : decode cX3_retype 343 = .ok (.getfield 141, 3) := dk_180 0 141 (dk_at dksX3_retype_14 19 rfl rfl)
theorem dX3_retype_346 : decode cX3_retype 346 = .ok (.iload 6, 2) := dk_21 6 (dk_at dksX3_retype_14 22 rfl rfl)
theorem dX3_retype_348 : decode cX3_retype 348 = .ok (.aload_n 0, 1) := dk_42 (dk_at dksX3_retype_15 0 rfl rfl)
theorem dX3_retype_349 : decode cX3_retype 349 = .ok (.getfield 156, 3) := dk_180 0 156 (dk_at dksX3_retype_15 1 rfl rfl)
theorem dX3_retype_352 : decode cX3_retype 352 = .ok (.iload 6, 2) := dk_21 6 (dk_at dksX3_retype_15 4 rfl rfl)
theorem dX3_retype_354 : decode cX3_retype 354 = .ok (.iaload, 1) := dk_46 (dk_at dksX3_retype_15 6 rfl rfl)
theorem dX3_retype_355 : decode cX3_retype 355 = .ok (.iastore, 1) := dk_79 (dk_at dksX3_retype_15 7 rfl rfl)
theorem dX3_retype_356 : decode cX3_retype 356 = .ok (.iinc 6 1, 3) := dk_132 6 1 (dk_at dksX3_retype_15 8 rfl rfl)
theorem dX3_retype_359 : decode cX3_retype 359 = .ok (.goto (-26), 3) := dk_167 255 230 (dk_at dksX3_retype_15 11 rfl rfl)
theorem dX3_retype_362 : decode cX3_retype 362 = .ok (.aload_n 0, 1) := dk_42 (dk_at dksX3_retype_15 14 rfl rfl)
theorem dX3_retype_363 : decode cX3_retype 363 = .ok (.iconst 0, 1) := dk_3 (dk_at dksX3_retype_15 15 rfl rfl)
theorem dX3_retype_364 : decode cX3_retype 364 = .ok (.putfield 357, 3) := dk_181 1 101 (dk_at dksX3_retype_15 16 rfl rfl)
theorem dX3_retype_367 : decode cX3_retype 367 = .ok (.bipush (-2), 2) := dk_16 254 (dk_at dksX3_retype_15 19 rfl rfl)
theorem dX3_retype_369 : decode cX3_retype 369 = .ok (.ireturn, 1) := dk_172 (dk_at dksX3_retype_15 21 rfl rfl)
theorem dX3_retype_370 : decode cX3_retype 370 = .ok (.aload_n 0, 1) := dk_42 (dk_at dksX3_retype_15 22 rfl rfl)
theorem dX3_retype_371 : decode cX3_retype 371 = .ok (.iload 4, 2) := dk_21 4 (dk_at dksX3_retype_16 0 rfl rfl)
theorem dX3_retype_373 : decode cX3_retype 373 = .ok (.putfield 324, 3) := dk_181 1 68 (dk_at dksX3_retype_16 2 rfl rfl)
theorem dX3_retype_376 : decode cX3_retype 376 = .ok (.iconst 0, 1) := dk_3 (dk_at dksX3_retype_16 5 rfl rfl)
theorem dX3_retype_377 : decode cX3_retype 377 = .ok (.istore 6, 2) := dk_54 6 (dk_at dksX3_retype_16 6 rfl rfl)
theorem dX3_retype_379 : decode cX3_retype 379 = .ok (.iload 6, 2) := dk_21 6 (dk_at dksX3_retype_16 8 rfl rfl)
theorem dX3_retype_381 : decode cX3_retype 381 = .ok (.sipush 136, 3) := dk_17 0 136 (dk_at dksX3_retype_16 10 rfl rfl)
theorem dX3_retype_384 : decode cX3_retype 384 = .ok (.if_icmp .ge 23, 3) := dk_162 0 23 (dk_at dksX3_retype_16 13 rfl rfl)
theorem dX3_retype_387 : decode cX3_retype 387 = .ok (.aload_n 0, 1) := dk_42 (dk_at dksX3_retype_16 16 rfl rfl)
theorem dX3_retype_388 : decode cX3_retype 388 = .ok (.getfield 27, 3) := dk_180 0 27 (dk_at dksX3_retype_16 17 rfl rfl)
theorem dX3_retype_391 : decode cX3_retype 391 = .ok (.iload 6, 2) := dk_21 6 (dk_at dksX3_retype_16 20 rfl rfl)
theorem dX3_retype_393 : decode cX3_retype 393 = .ok (.aload_n 0, 1) := dk_42 (dk_at dksX3_retype_16 22 rfl rfl)
theorem dX3_retype_394 : decode cX3_retype 394 = .ok (.getfield 129, 3) := dk_180 0 129 (dk_at dksX3_retype_17 0 rfl rfl)
theorem dX3_retype_397 : decode cX3_retype 397 = .ok (.iload 6, 2) := dk_21 6 (dk_at dksX3_retype_17 3 rfl rfl)
theorem dX3_retype_399 : decode cX3_retype 399 = .ok (.iaload, 1) := dk_46 (dk_at dksX3_retype_17 5 rfl rfl)
theorem dX3_retype_400 : decode cX3_retype 400 = .ok (.iastore, 1) := dk_79 (dk_at dksX3_retype_17 6 rfl rfl)
theorem dX3_retype_401 : decode cX3_retype 401 = .ok (.iinc 6 1, 3) := dk_132 6 1 (dk_at dksX3_retype_17 7 rfl rfl)
theorem dX3_retype_404 : decode cX3_retype 404 = .ok (.goto (-25), 3) := dk_167 255 231 (dk_at dksX3_retype_17 10 rfl rfl)
theorem dX3_retype_407 : decode cX3_retype 407 = .ok (.iload 5, 2) := dk_21 5 (dk_at dksX3_retype_17 13 rfl rfl)
theorem dX3_retype_409 : decode cX3_retype 409 = .ok (.ireturn, 1) := dk_172 (dk_at dksX3_retype_17 15 rfl rfl)
abbrev cX3_looks : ByteArray := prog_14_method_55_code
def yX3_looks : MethodName := ⟨RX3, "looks", "(I)V"⟩
def dkwX3_looks_0 : List UInt8 := [42, 180, 0, 156, 42, 180, 1, 101, 27, 79, 42, 89, 180, 1, 101, 4, 96, 181, 1, 101, 177]
abbrev dktX3_looks_0 : List UInt8 := dkwX3_looks_0 ++ []
theorem dksX3_looks_0 : cX3_looks.data.toList.drop 0 = dktX3_looks_0 := by decide +kernel
theorem dX3_looks_0 : decode cX3_looks 0 = .ok (.aload_n 0, 1) := dk_42 (dk_at dksX3_looks_0 0 rfl rfl)
theorem dX3_looks_1 : decode cX3_looks 1 = .ok (.getfield 156, 3) := dk_180 0 156 (dk_at dksX3_looks_0 1 rfl rfl)
theorem dX3_looks_4 : decode cX3_looks 4 = .ok (.aload_n 0, 1) := dk_42 (dk_at dksX3_looks_0 4 rfl rfl)
theorem dX3_looks_5 : decode cX3_looks 5 = .ok (.getfield 357, 3) := dk_180 1 101 (dk_at dksX3_looks_0 5 rfl rfl)
theorem dX3_looks_8 : decode cX3_looks 8 = .ok (.iload_n 1, 1) := dk_27 (dk_at dksX3_looks_0 8 rfl rfl)
theorem dX3_looks_9 : decode cX3_looks 9 = .ok (.iastore, 1) := dk_79 (dk_at dksX3_looks_0 9 rfl rfl)
theorem dX3_looks_10 : decode cX3_looks 10 = .ok (.aload_n 0, 1) := dk_42 (dk_at dksX3_looks_0 10 rfl rfl)
theorem dX3_looks_11 : decode cX3_looks 11 = .ok (.dup, 1) := dk_89 (dk_at dksX3_looks_0 11 rfl rfl)
theorem dX3_looks_12 : decode cX3_looks 12 = .ok (.getfield 357, 3) := dk_180 1 101 (dk_at dksX3_looks_0 12 rfl rfl)
theorem dX3_looks_15 : decode cX3_looks 15 = .ok (.iconst 1, 1) := dk_4 (dk_at dksX3_looks_0 15 rfl rfl)
theorem dX3_looks_16 : decode cX3_looks 16 = .ok (.iadd, 1) := dk_96 (dk_at dksX3_looks_0 16 rfl rfl)
theorem dX3_looks_17 : decode cX3_looks 17 = .ok (.putfield 357, 3) := dk_181 1 101 (dk_at dksX3_looks_0 17 rfl rfl)
theorem dX3_looks_20 : decode cX3_looks 20 = .ok (.return_, 1) := dk_177 (dk_at dksX3_looks_0 20 rfl rfl)
abbrev cX3_drop : ByteArray := prog_14_method_57_code
def yX3_drop : MethodName := ⟨RX3, "drop", "(I)I"⟩
def dkwX3_drop_4 : List UInt8 := [132, 2, 1, 132, 3, 1, 167, 255, 213, 28, 172]
abbrev dktX3_drop_4 : List UInt8 := dkwX3_drop_4 ++ []
def dkwX3_drop_3 : List UInt8 := [27, 160, 0, 25, 42, 180, 0, 150, 29, 46, 154, 0, 6, 167, 0, 13, 42, 180, 0, 150, 29, 3, 79]
abbrev dktX3_drop_3 : List UInt8 := dkwX3_drop_3 ++ dktX3_drop_4
def dkwX3_drop_2 : List UInt8 := [180, 0, 7, 27, 3, 84, 3, 61, 3, 62, 29, 42, 180, 1, 92, 162, 0, 41, 42, 180, 0, 147, 29, 46]
abbrev dktX3_drop_2 : List UInt8 := dkwX3_drop_2 ++ dktX3_drop_3
def dkwX3_drop_1 : List UInt8 := [28, 51, 153, 0, 15, 42, 28, 27, 182, 1, 104, 153, 0, 6, 16, 254, 172, 132, 2, 1, 167, 255, 224, 42]
abbrev dktX3_drop_1 : List UInt8 := dkwX3_drop_1 ++ dktX3_drop_2
def dkwX3_drop_0 : List UInt8 := [42, 27, 182, 0, 162, 154, 0, 5, 2, 172, 3, 61, 28, 42, 180, 0, 159, 162, 0, 30, 42, 180, 0, 7]
abbrev dktX3_drop_0 : List UInt8 := dkwX3_drop_0 ++ dktX3_drop_1
theorem dksX3_drop_0 : cX3_drop.data.toList.drop 0 = dktX3_drop_0 := by decide +kernel
theorem dksX3_drop_1 : cX3_drop.data.toList.drop 24 = dktX3_drop_1 := dk_seg dksX3_drop_0 24 rfl rfl
theorem dksX3_drop_2 : cX3_drop.data.toList.drop 48 = dktX3_drop_2 := dk_seg dksX3_drop_1 24 rfl rfl
theorem dksX3_drop_3 : cX3_drop.data.toList.drop 72 = dktX3_drop_3 := dk_seg dksX3_drop_2 24 rfl rfl
theorem dksX3_drop_4 : cX3_drop.data.toList.drop 95 = dktX3_drop_4 := dk_seg dksX3_drop_3 23 rfl rfl
theorem dX3_drop_0 : decode cX3_drop 0 = .ok (.aload_n 0, 1) := dk_42 (dk_at dksX3_drop_0 0 rfl rfl)
theorem dX3_drop_1 : decode cX3_drop 1 = .ok (.iload_n 1, 1) := dk_27 (dk_at dksX3_drop_0 1 rfl rfl)
theorem dX3_drop_2 : decode cX3_drop 2 = .ok (.invokevirtual 162, 3) := dk_182 0 162 (dk_at dksX3_drop_0 2 rfl rfl)
theorem dX3_drop_5 : decode cX3_drop 5 = .ok (.ifCond .ne 5, 3) := dk_154 0 5 (dk_at dksX3_drop_0 5 rfl rfl)
theorem dX3_drop_8 : decode cX3_drop 8 = .ok (.iconst (-1), 1) := dk_2 (dk_at dksX3_drop_0 8 rfl rfl)
theorem dX3_drop_9 : decode cX3_drop 9 = .ok (.ireturn, 1) := dk_172 (dk_at dksX3_drop_0 9 rfl rfl)
theorem dX3_drop_10 : decode cX3_drop 10 = .ok (.iconst 0, 1) := dk_3 (dk_at dksX3_drop_0 10 rfl rfl)
theorem dX3_drop_11 : decode cX3_drop 11 = .ok (.istore_n 2, 1) := dk_61 (dk_at dksX3_drop_0 11 rfl rfl)
theorem dX3_drop_12 : decode cX3_drop 12 = .ok (.iload_n 2, 1) := dk_28 (dk_at dksX3_drop_0 12 rfl rfl)
theorem dX3_drop_13 : decode cX3_drop 13 = .ok (.aload_n 0, 1) := dk_42 (dk_at dksX3_drop_0 13 rfl rfl)
theorem dX3_drop_14 : decode cX3_drop 14 = .ok (.getfield 159, 3) := dk_180 0 159 (dk_at dksX3_drop_0 14 rfl rfl)
theorem dX3_drop_17 : decode cX3_drop 17 = .ok (.if_icmp .ge 30, 3) := dk_162 0 30 (dk_at dksX3_drop_0 17 rfl rfl)
theorem dX3_drop_20 : decode cX3_drop 20 = .ok (.aload_n 0, 1) := dk_42 (dk_at dksX3_drop_0 20 rfl rfl)
theorem dX3_drop_21 : decode cX3_drop 21 = .ok (.getfield 7, 3) := dk_180 0 7 (dk_at dksX3_drop_0 21 rfl rfl)
theorem dX3_drop_24 : decode cX3_drop 24 = .ok (.iload_n 2, 1) := dk_28 (dk_at dksX3_drop_1 0 rfl rfl)
theorem dX3_drop_25 : decode cX3_drop 25 = .ok (.baload, 1) := dk_51 (dk_at dksX3_drop_1 1 rfl rfl)
theorem dX3_drop_26 : decode cX3_drop 26 = .ok (.ifCond .eq 15, 3) := dk_153 0 15 (dk_at dksX3_drop_1 2 rfl rfl)
theorem dX3_drop_29 : decode cX3_drop 29 = .ok (.aload_n 0, 1) := dk_42 (dk_at dksX3_drop_1 5 rfl rfl)
theorem dX3_drop_30 : decode cX3_drop 30 = .ok (.iload_n 2, 1) := dk_28 (dk_at dksX3_drop_1 6 rfl rfl)
theorem dX3_drop_31 : decode cX3_drop 31 = .ok (.iload_n 1, 1) := dk_27 (dk_at dksX3_drop_1 7 rfl rfl)
theorem dX3_drop_32 : decode cX3_drop 32 = .ok (.invokevirtual 360, 3) := dk_182 1 104 (dk_at dksX3_drop_1 8 rfl rfl)
theorem dX3_drop_35 : decode cX3_drop 35 = .ok (.ifCond .eq 6, 3) := dk_153 0 6 (dk_at dksX3_drop_1 11 rfl rfl)
theorem dX3_drop_38 : decode cX3_drop 38 = .ok (.bipush (-2), 2) := dk_16 254 (dk_at dksX3_drop_1 14 rfl rfl)
theorem dX3_drop_40 : decode cX3_drop 40 = .ok (.ireturn, 1) := dk_172 (dk_at dksX3_drop_1 16 rfl rfl)
theorem dX3_drop_41 : decode cX3_drop 41 = .ok (.iinc 2 1, 3) := dk_132 2 1 (dk_at dksX3_drop_1 17 rfl rfl)
theorem dX3_drop_44 : decode cX3_drop 44 = .ok (.goto (-32), 3) := dk_167 255 224 (dk_at dksX3_drop_1 20 rfl rfl)
theorem dX3_drop_47 : decode cX3_drop 47 = .ok (.aload_n 0, 1) := dk_42 (dk_at dksX3_drop_1 23 rfl rfl)
theorem dX3_drop_48 : decode cX3_drop 48 = .ok (.getfield 7, 3) := dk_180 0 7 (dk_at dksX3_drop_2 0 rfl rfl)
theorem dX3_drop_51 : decode cX3_drop 51 = .ok (.iload_n 1, 1) := dk_27 (dk_at dksX3_drop_2 3 rfl rfl)
theorem dX3_drop_52 : decode cX3_drop 52 = .ok (.iconst 0, 1) := dk_3 (dk_at dksX3_drop_2 4 rfl rfl)
theorem dX3_drop_53 : decode cX3_drop 53 = .ok (.bastore, 1) := dk_84 (dk_at dksX3_drop_2 5 rfl rfl)
theorem dX3_drop_54 : decode cX3_drop 54 = .ok (.iconst 0, 1) := dk_3 (dk_at dksX3_drop_2 6 rfl rfl)
theorem dX3_drop_55 : decode cX3_drop 55 = .ok (.istore_n 2, 1) := dk_61 (dk_at dksX3_drop_2 7 rfl rfl)
theorem dX3_drop_56 : decode cX3_drop 56 = .ok (.iconst 0, 1) := dk_3 (dk_at dksX3_drop_2 8 rfl rfl)
theorem dX3_drop_57 : decode cX3_drop 57 = .ok (.istore_n 3, 1) := dk_62 (dk_at dksX3_drop_2 9 rfl rfl)
theorem dX3_drop_58 : decode cX3_drop 58 = .ok (.iload_n 3, 1) := dk_29 (dk_at dksX3_drop_2 10 rfl rfl)
theorem dX3_drop_59 : decode cX3_drop 59 = .ok (.aload_n 0, 1) := dk_42 (dk_at dksX3_drop_2 11 rfl rfl)
theorem dX3_drop_60 : decode cX3_drop 60 = .ok (.getfield 348, 3) := dk_180 1 92 (dk_at dksX3_drop_2 12 rfl rfl)
theorem dX3_drop_63 : decode cX3_drop 63 = .ok (.if_icmp .ge 41, 3) := dk_162 0 41 (dk_at dksX3_drop_2 15 rfl rfl)
theorem dX3_drop_66 : decode cX3_drop 66 = .ok (.aload_n 0, 1) := dk_42 (dk_at dksX3_drop_2 18 rfl rfl)
theorem dX3_drop_67 : decode cX3_drop 67 = .ok (.getfield 147, 3) := dk_180 0 147 (dk_at dksX3_drop_2 19 rfl rfl)
theorem dX3_drop_70 : decode cX3_drop 70 = .ok (.iload_n 3, 1) := dk_29 (dk_at dksX3_drop_2 22 rfl rfl)
theorem dX3_drop_71 : decode cX3_drop 71 = .ok (.iaload, 1) := dk_46 (dk_at dksX3_drop_2 23 rfl rfl)
theorem dX3_drop_72 : decode cX3_drop 72 = .ok (.iload_n 1, 1) := dk_27 (dk_at dksX3_drop_3 0 rfl rfl)
theorem dX3_drop_73 : decode cX3_drop 73 = .ok (.if_icmp .ne 25, 3) := dk_160 0 25 (dk_at dksX3_drop_3 1 rfl rfl)
theorem dX3_drop_76 : decode cX3_drop 76 = .ok (.aload_n 0, 1) := dk_42 (dk_at dksX3_drop_3 4 rfl rfl)
theorem dX3_drop_77 : decode cX3_drop 77 = .ok (.getfield 150, 3) := dk_180 0 150 (dk_at dksX3_drop_3 5 rfl rfl)
theorem dX3_drop_80 : decode cX3_drop 80 = .ok (.iload_n 3, 1) := dk_29 (dk_at dksX3_drop_3 8 rfl rfl)
theorem dX3_drop_81 : decode cX3_drop 81 = .ok (.iaload, 1) := dk_46 (dk_at dksX3_drop_3 9 rfl rfl)
theorem dX3_drop_82 : decode cX3_drop 82 = .ok (.ifCond .ne 6, 3) := dk_154 0 6 (dk_at dksX3_drop_3 10 rfl rfl)
theorem dX3_drop_85 : decode cX3_drop 85 = .ok (.goto 13, 3) := dk_167 0 13 (dk_at dksX3_drop_3 13 rfl rfl)
theorem dX3_drop_88 : decode cX3_drop 88 = .ok (.aload_n 0, 1) := dk_42 (dk_at dksX3_drop_3 16 rfl rfl)
theorem dX3_drop_89 : decode cX3_drop 89 = .ok (.getfield 150, 3) := dk_180 0 150 (dk_at dksX3_drop_3 17 rfl rfl)
theorem dX3_drop_92 : decode cX3_drop 92 = .ok (.iload_n 3, 1) := dk_29 (dk_at dksX3_drop_3 20 rfl rfl)
theorem dX3_drop_93 : decode cX3_drop 93 = .ok (.iconst 0, 1) := dk_3 (dk_at dksX3_drop_3 21 rfl rfl)
theorem dX3_drop_94 : decode cX3_drop 94 = .ok (.iastore, 1) := dk_79 (dk_at dksX3_drop_3 22 rfl rfl)
theorem dX3_drop_95 : decode cX3_drop 95 = .ok (.iinc 2 1, 3) := dk_132 2 1 (dk_at dksX3_drop_4 0 rfl rfl)
theorem dX3_drop_98 : decode cX3_drop 98 = .ok (.iinc 3 1, 3) := dk_132 3 1 (dk_at dksX3_drop_4 3 rfl rfl)
theorem dX3_drop_101 : decode cX3_drop 101 = .ok (.goto (-43), 3) := dk_167 255 213 (dk_at dksX3_drop_4 6 rfl rfl)
theorem dX3_drop_104 : decode cX3_drop 104 = .ok (.iload_n 2, 1) := dk_28 (dk_at dksX3_drop_4 9 rfl rfl)
theorem dX3_drop_105 : decode cX3_drop 105 = .ok (.ireturn, 1) := dk_172 (dk_at dksX3_drop_4 10 rfl rfl)
abbrev cX3_hasBehind : ByteArray := prog_14_method_56_code
def yX3_hasBehind : MethodName := ⟨RX3, "hasBehind", "(II)Z"⟩
def dkwX3_hasBehind_1 : List UInt8 := [160, 0, 5, 4, 172, 132, 3, 1, 167, 255, 227, 3, 172]
abbrev dktX3_hasBehind_1 : List UInt8 := dkwX3_hasBehind_1 ++ []
def dkwX3_hasBehind_0 : List UInt8 := [3, 62, 29, 42, 180, 0, 30, 27, 46, 162, 0, 25, 42, 180, 0, 33, 6, 27, 104, 29, 96, 46, 28]
abbrev dktX3_hasBehind_0 : List UInt8 := dkwX3_hasBehind_0 ++ dktX3_hasBehind_1
theorem dksX3_hasBehind_0 : cX3_hasBehind.data.toList.drop 0 = dktX3_hasBehind_0 := by decide +kernel
theorem dksX3_hasBehind_1 : cX3_hasBehind.data.toList.drop 23 = dktX3_hasBehind_1 := dk_seg dksX3_hasBehind_0 23 rfl rfl
theorem dX3_hasBehind_0 : decode cX3_hasBehind 0 = .ok (.iconst 0, 1) := dk_3 (dk_at dksX3_hasBehind_0 0 rfl rfl)
theorem dX3_hasBehind_1 : decode cX3_hasBehind 1 = .ok (.istore_n 3, 1) := dk_62 (dk_at dksX3_hasBehind_0 1 rfl rfl)
theorem dX3_hasBehind_2 : decode cX3_hasBehind 2 = .ok (.iload_n 3, 1) := dk_29 (dk_at dksX3_hasBehind_0 2 rfl rfl)
theorem dX3_hasBehind_3 : decode cX3_hasBehind 3 = .ok (.aload_n 0, 1) := dk_42 (dk_at dksX3_hasBehind_0 3 rfl rfl)
theorem dX3_hasBehind_4 : decode cX3_hasBehind 4 = .ok (.getfield 30, 3) := dk_180 0 30 (dk_at dksX3_hasBehind_0 4 rfl rfl)
theorem dX3_hasBehind_7 : decode cX3_hasBehind 7 = .ok (.iload_n 1, 1) := dk_27 (dk_at dksX3_hasBehind_0 7 rfl rfl)
theorem dX3_hasBehind_8 : decode cX3_hasBehind 8 = .ok (.iaload, 1) := dk_46 (dk_at dksX3_hasBehind_0 8 rfl rfl)
theorem dX3_hasBehind_9 : decode cX3_hasBehind 9 = .ok (.if_icmp .ge 25, 3) := dk_162 0 25 (dk_at dksX3_hasBehind_0 9 rfl rfl)
theorem dX3_hasBehind_12 : decode cX3_hasBehind 12 = .ok (.aload_n 0, 1) := dk_42 (dk_at dksX3_hasBehind_0 12 rfl rfl)
theorem dX3_hasBehind_13 : decode cX3_hasBehind 13 = .ok (.getfield 33, 3) := dk_180 0 33 (dk_at dksX3_hasBehind_0 13 rfl rfl)
theorem dX3_hasBehind_16 : decode cX3_hasBehind 16 = .ok (.iconst 3, 1) := dk_6 (dk_at dksX3_hasBehind_0 16 rfl rfl)
theorem dX3_hasBehind_17 : decode cX3_hasBehind 17 = .ok (.iload_n 1, 1) := dk_27 (dk_at dksX3_hasBehind_0 17 rfl rfl)
theorem dX3_hasBehind_18 : decode cX3_hasBehind 18 = .ok (.imul, 1) := dk_104 (dk_at dksX3_hasBehind_0 18 rfl rfl)
theorem dX3_hasBehind_19 : decode cX3_hasBehind 19 = .ok (.iload_n 3, 1) := dk_29 (dk_at dksX3_hasBehind_0 19 rfl rfl)
theorem dX3_hasBehind_20 : decode cX3_hasBehind 20 = .ok (.iadd, 1) := dk_96 (dk_at dksX3_hasBehind_0 20 rfl rfl)
theorem dX3_hasBehind_21 : decode cX3_hasBehind 21 = .ok (.iaload, 1) := dk_46 (dk_at dksX3_hasBehind_0 21 rfl rfl)
theorem dX3_hasBehind_22 : decode cX3_hasBehind 22 = .ok (.iload_n 2, 1) := dk_28 (dk_at dksX3_hasBehind_0 22 rfl rfl)
theorem dX3_hasBehind_23 : decode cX3_hasBehind 23 = .ok (.if_icmp .ne 5, 3) := dk_160 0 5 (dk_at dksX3_hasBehind_1 0 rfl rfl)
theorem dX3_hasBehind_26 : decode cX3_hasBehind 26 = .ok (.iconst 1, 1) := dk_4 (dk_at dksX3_hasBehind_1 3 rfl rfl)
theorem dX3_hasBehind_27 : decode cX3_hasBehind 27 = .ok (.ireturn, 1) := dk_172 (dk_at dksX3_hasBehind_1 4 rfl rfl)
theorem dX3_hasBehind_28 : decode cX3_hasBehind 28 = .ok (.iinc 3 1, 3) := dk_132 3 1 (dk_at dksX3_hasBehind_1 5 rfl rfl)
theorem dX3_hasBehind_31 : decode cX3_hasBehind 31 = .ok (.goto (-29), 3) := dk_167 255 227 (dk_at dksX3_hasBehind_1 8 rfl rfl)
theorem dX3_hasBehind_34 : decode cX3_hasBehind 34 = .ok (.iconst 0, 1) := dk_3 (dk_at dksX3_hasBehind_1 11 rfl rfl)
theorem dX3_hasBehind_35 : decode cX3_hasBehind 35 = .ok (.ireturn, 1) := dk_172 (dk_at dksX3_hasBehind_1 12 rfl rfl)
abbrev cX3_freeze : ByteArray := prog_14_method_58_code
def yX3_freeze : MethodName := ⟨RX3, "freeze", "(I)Z"⟩
def dkwX3_freeze_1 : List UInt8 := [27, 6, 79, 42, 180, 0, 30, 27, 3, 79, 4, 172]
abbrev dktX3_freeze_1 : List UInt8 := dkwX3_freeze_1 ++ []
def dkwX3_freeze_0 : List UInt8 := [42, 27, 182, 0, 162, 153, 0, 13, 42, 180, 0, 17, 27, 46, 5, 159, 0, 5, 3, 172, 42, 180, 0, 17]
abbrev dktX3_freeze_0 : List UInt8 := dkwX3_freeze_0 ++ dktX3_freeze_1
theorem dksX3_freeze_0 : cX3_freeze.data.toList.drop 0 = dktX3_freeze_0 := by decide +kernel
theorem dksX3_freeze_1 : cX3_freeze.data.toList.drop 24 = dktX3_freeze_1 := dk_seg dksX3_freeze_0 24 rfl rfl
theorem dX3_freeze_0 : decode cX3_freeze 0 = .ok (.aload_n 0, 1) := dk_42 (dk_at dksX3_freeze_0 0 rfl rfl)
theorem dX3_freeze_1 : decode cX3_freeze 1 = .ok (.iload_n 1, 1) := dk_27 (dk_at dksX3_freeze_0 1 rfl rfl)
theorem dX3_freeze_2 : decode cX3_freeze 2 = .ok (.invokevirtual 162, 3) := dk_182 0 162 (dk_at dksX3_freeze_0 2 rfl rfl)
theorem dX3_freeze_5 : decode cX3_freeze 5 = .ok (.ifCond .eq 13, 3) := dk_153 0 13 (dk_at dksX3_freeze_0 5 rfl rfl)
theorem dX3_freeze_8 : decode cX3_freeze 8 = .ok (.aload_n 0, 1) := dk_42 (dk_at dksX3_freeze_0 8 rfl rfl)
theorem dX3_freeze_9 : decode cX3_freeze 9 = .ok (.getfield 17, 3) := dk_180 0 17 (dk_at dksX3_freeze_0 9 rfl rfl)
theorem dX3_freeze_12 : decode cX3_freeze 12 = .ok (.iload_n 1, 1) := dk_27 (dk_at dksX3_freeze_0 12 rfl rfl)
theorem dX3_freeze_13 : decode cX3_freeze 13 = .ok (.iaload, 1) := dk_46 (dk_at dksX3_freeze_0 13 rfl rfl)
theorem dX3_freeze_14 : decode cX3_freeze 14 = .ok (.iconst 2, 1) := dk_5 (dk_at dksX3_freeze_0 14 rfl rfl)
theorem dX3_freeze_15 : decode cX3_freeze 15 = .ok (.if_icmp .eq 5, 3) := dk_159 0 5 (dk_at dksX3_freeze_0 15 rfl rfl)
theorem dX3_freeze_18 : decode cX3_freeze 18 = .ok (.iconst 0, 1) := dk_3 (dk_at dksX3_freeze_0 18 rfl rfl)
theorem dX3_freeze_19 : decode cX3_freeze 19 = .ok (.ireturn, 1) := dk_172 (dk_at dksX3_freeze_0 19 rfl rfl)
theorem dX3_freeze_20 : decode cX3_freeze 20 = .ok (.aload_n 0, 1) := dk_42 (dk_at dksX3_freeze_0 20 rfl rfl)
theorem dX3_freeze_21 : decode cX3_freeze 21 = .ok (.getfield 17, 3) := dk_180 0 17 (dk_at dksX3_freeze_0 21 rfl rfl)
theorem dX3_freeze_24 : decode cX3_freeze 24 = .ok (.iload_n 1, 1) := dk_27 (dk_at dksX3_freeze_1 0 rfl rfl)
theorem dX3_freeze_25 : decode cX3_freeze 25 = .ok (.iconst 3, 1) := dk_6 (dk_at dksX3_freeze_1 1 rfl rfl)
theorem dX3_freeze_26 : decode cX3_freeze 26 = .ok (.iastore, 1) := dk_79 (dk_at dksX3_freeze_1 2 rfl rfl)
theorem dX3_freeze_27 : decode cX3_freeze 27 = .ok (.aload_n 0, 1) := dk_42 (dk_at dksX3_freeze_1 3 rfl rfl)
theorem dX3_freeze_28 : decode cX3_freeze 28 = .ok (.getfield 30, 3) := dk_180 0 30 (dk_at dksX3_freeze_1 4 rfl rfl)
theorem dX3_freeze_31 : decode cX3_freeze 31 = .ok (.iload_n 1, 1) := dk_27 (dk_at dksX3_freeze_1 7 rfl rfl)
theorem dX3_freeze_32 : decode cX3_freeze 32 = .ok (.iconst 0, 1) := dk_3 (dk_at dksX3_freeze_1 8 rfl rfl)
theorem dX3_freeze_33 : decode cX3_freeze 33 = .ok (.iastore, 1) := dk_79 (dk_at dksX3_freeze_1 9 rfl rfl)
theorem dX3_freeze_34 : decode cX3_freeze 34 = .ok (.iconst 1, 1) := dk_4 (dk_at dksX3_freeze_1 10 rfl rfl)
theorem dX3_freeze_35 : decode cX3_freeze 35 = .ok (.ireturn, 1) := dk_172 (dk_at dksX3_freeze_1 11 rfl rfl)
abbrev cX3_today : ByteArray := prog_14_method_59_code
def yX3_today : MethodName := ⟨RX3, "today", "(I)Z"⟩
def dkwX3_today_0 : List UInt8 := [27, 42, 180, 1, 95, 161, 0, 10, 27, 17, 117, 48, 164, 0, 5, 3, 172, 42, 27, 181, 1, 95, 4, 172]
abbrev dktX3_today_0 : List UInt8 := dkwX3_today_0 ++ []
theorem dksX3_today_0 : cX3_today.data.toList.drop 0 = dktX3_today_0 := by decide +kernel
theorem dX3_today_0 : decode cX3_today 0 = .ok (.iload_n 1, 1) := dk_27 (dk_at dksX3_today_0 0 rfl rfl)
theorem dX3_today_1 : decode cX3_today 1 = .ok (.aload_n 0, 1) := dk_42 (dk_at dksX3_today_0 1 rfl rfl)
theorem dX3_today_2 : decode cX3_today 2 = .ok (.getfield 351, 3) := dk_180 1 95 (dk_at dksX3_today_0 2 rfl rfl)
theorem dX3_today_5 : decode cX3_today 5 = .ok (.if_icmp .lt 10, 3) := dk_161 0 10 (dk_at dksX3_today_0 5 rfl rfl)
theorem dX3_today_8 : decode cX3_today 8 = .ok (.iload_n 1, 1) := dk_27 (dk_at dksX3_today_0 8 rfl rfl)
theorem dX3_today_9 : decode cX3_today 9 = .ok (.sipush 30000, 3) := dk_17 117 48 (dk_at dksX3_today_0 9 rfl rfl)
theorem dX3_today_12 : decode cX3_today 12 = .ok (.if_icmp .le 5, 3) := dk_164 0 5 (dk_at dksX3_today_0 12 rfl rfl)
theorem dX3_today_15 : decode cX3_today 15 = .ok (.iconst 0, 1) := dk_3 (dk_at dksX3_today_0 15 rfl rfl)
theorem dX3_today_16 : decode cX3_today 16 = .ok (.ireturn, 1) := dk_172 (dk_at dksX3_today_0 16 rfl rfl)
theorem dX3_today_17 : decode cX3_today 17 = .ok (.aload_n 0, 1) := dk_42 (dk_at dksX3_today_0 17 rfl rfl)
theorem dX3_today_18 : decode cX3_today 18 = .ok (.iload_n 1, 1) := dk_27 (dk_at dksX3_today_0 18 rfl rfl)
theorem dX3_today_19 : decode cX3_today 19 = .ok (.putfield 351, 3) := dk_181 1 95 (dk_at dksX3_today_0 19 rfl rfl)
theorem dX3_today_22 : decode cX3_today 22 = .ok (.iconst 1, 1) := dk_4 (dk_at dksX3_today_0 22 rfl rfl)
theorem dX3_today_23 : decode cX3_today 23 = .ok (.ireturn, 1) := dk_172 (dk_at dksX3_today_0 23 rfl rfl)
abbrev cX3_fed : ByteArray := prog_14_method_60_code
def yX3_fed : MethodName := ⟨RX3, "fed", "(III)Z"⟩
def dkwX3_fed_2 : List UInt8 := [27, 29, 79, 4, 172]
abbrev dktX3_fed_2 : List UInt8 := dkwX3_fed_2 ++ []
def dkwX3_fed_1 : List UInt8 := [163, 0, 11, 29, 42, 180, 1, 95, 164, 0, 5, 3, 172, 42, 180, 0, 42, 27, 28, 79, 42, 180, 0, 45]
abbrev dktX3_fed_1 : List UInt8 := dkwX3_fed_1 ++ dktX3_fed_2
def dkwX3_fed_0 : List UInt8 := [42, 27, 182, 0, 162, 153, 0, 29, 42, 180, 0, 17, 27, 46, 154, 0, 20, 28, 155, 0, 16, 28, 29]
abbrev dktX3_fed_0 : List UInt8 := dkwX3_fed_0 ++ dktX3_fed_1
theorem dksX3_fed_0 : cX3_fed.data.toList.drop 0 = dktX3_fed_0 := by decide +kernel
theorem dksX3_fed_1 : cX3_fed.data.toList.drop 23 = dktX3_fed_1 := dk_seg dksX3_fed_0 23 rfl rfl
theorem dksX3_fed_2 : cX3_fed.data.toList.drop 47 = dktX3_fed_2 := dk_seg dksX3_fed_1 24 rfl rfl
theorem dX3_fed_0 : decode cX3_fed 0 = .ok (.aload_n 0, 1) := dk_42 (dk_at dksX3_fed_0 0 rfl rfl)
theorem dX3_fed_1 : decode cX3_fed 1 = .ok (.iload_n 1, 1) := dk_27 (dk_at dksX3_fed_0 1 rfl rfl)
theorem dX3_fed_2 : decode cX3_fed 2 = .ok (.invokevirtual 162, 3) := dk_182 0 162 (dk_at dksX3_fed_0 2 rfl rfl)
theorem dX3_fed_5 : decode cX3_fed 5 = .ok (.ifCond .eq 29, 3) := dk_153 0 29 (dk_at dksX3_fed_0 5 rfl rfl)
theorem dX3_fed_8 : decode cX3_fed 8 = .ok (.aload_n 0, 1) := dk_42 (dk_at dksX3_fed_0 8 rfl rfl)
theorem dX3_fed_9 : decode cX3_fed 9 = .ok (.getfield 17, 3) := dk_180 0 17 (dk_at dksX3_fed_0 9 rfl rfl)
theorem dX3_fed_12 : decode cX3_fed 12 = .ok (.iload_n 1, 1) := dk_27 (dk_at dksX3_fed_0 12 rfl rfl)
theorem dX3_fed_13 : decode cX3_fed 13 = .ok (.iaload, 1) := dk_46 (dk_at dksX3_fed_0 13 rfl rfl)
theorem dX3_fed_14 : decode cX3_fed 14 = .ok (.ifCond .ne 20, 3) := dk_154 0 20 (dk_at dksX3_fed_0 14 rfl rfl)
theorem dX3_fed_17 : decode cX3_fed 17 = .ok (.iload_n 2, 1) := dk_28 (dk_at dksX3_fed_0 17 rfl rfl)
theorem dX3_fed_18 : decode cX3_fed 18 = .ok (.ifCond .lt 16, 3) := dk_155 0 16 (dk_at dksX3_fed_0 18 rfl rfl)
theorem dX3_fed_21 : decode cX3_fed 21 = .ok (.iload_n 2, 1) := dk_28 (dk_at dksX3_fed_0 21 rfl rfl)
theorem dX3_fed_22 : decode cX3_fed 22 = .ok (.iload_n 3, 1) := dk_29 (dk_at dksX3_fed_0 22 rfl rfl)
theorem dX3_fed_23 : decode cX3_fed 23 = .ok (.if_icmp .gt 11, 3) := dk_163 0 11 (dk_at dksX3_fed_1 0 rfl rfl)
theorem dX3_fed_26 : decode cX3_fed 26 = .ok (.iload_n 3, 1) := dk_29 (dk_at dksX3_fed_1 3 rfl rfl)
theorem dX3_fed_27 : decode cX3_fed 27 = .ok (.aload_n 0, 1) := dk_42 (dk_at dksX3_fed_1 4 rfl rfl)
theorem dX3_fed_28 : decode cX3_fed 28 = .ok (.getfield 351, 3) := dk_180 1 95 (dk_at dksX3_fed_1 5 rfl rfl)
theorem dX3_fed_31 : decode cX3_fed 31 = .ok (.if_icmp .le 5, 3) := dk_164 0 5 (dk_at dksX3_fed_1 8 rfl rfl)
theorem dX3_fed_34 : decode cX3_fed 34 = .ok (.iconst 0, 1) := dk_3 (dk_at dksX3_fed_1 11 rfl rfl)
theorem dX3_fed_35 : decode cX3_fed 35 = .ok (.ireturn, 1) := dk_172 (dk_at dksX3_fed_1 12 rfl rfl)
theorem dX3_fed_36 : decode cX3_fed 36 = .ok (.aload_n 0, 1) := dk_42 (dk_at dksX3_fed_1 13 rfl rfl)
theorem dX3_fed_37 : decode cX3_fed 37 = .ok (.getfield 42, 3) := dk_180 0 42 (dk_at dksX3_fed_1 14 rfl rfl)
theorem dX3_fed_40 : decode cX3_fed 40 = .ok (.iload_n 1, 1) := dk_27 (dk_at dksX3_fed_1 17 rfl rfl)
theorem dX3_fed_41 : decode cX3_fed 41 = .ok (.iload_n 2, 1) := dk_28 (dk_at dksX3_fed_1 18 rfl rfl)
theorem dX3_fed_42 : decode cX3_fed 42 = .ok (.iastore, 1) := dk_79 (dk_at dksX3_fed_1 19 rfl rfl)
theorem dX3_fed_43 : decode cX3_fed 43 = .ok (.aload_n 0, 1) := dk_42 (dk_at dksX3_fed_1 20 rfl rfl)
theorem dX3_fed_44 : decode cX3_fed 44 = .ok (.getfield 45, 3) := dk_180 0 45 (dk_at dksX3_fed_1 21 rfl rfl)
theorem dX3_fed_47 : decode cX3_fed 47 = .ok (.iload_n 1, 1) := dk_27 (dk_at dksX3_fed_2 0 rfl rfl)
theorem dX3_fed_48 : decode cX3_fed 48 = .ok (.iload_n 3, 1) := dk_29 (dk_at dksX3_fed_2 1 rfl rfl)
theorem dX3_fed_49 : decode cX3_fed 49 = .ok (.iastore, 1) := dk_79 (dk_at dksX3_fed_2 2 rfl rfl)
theorem dX3_fed_50 : decode cX3_fed 50 = .ok (.iconst 1, 1) := dk_4 (dk_at dksX3_fed_2 3 rfl rfl)
theorem dX3_fed_51 : decode cX3_fed 51 = .ok (.ireturn, 1) := dk_172 (dk_at dksX3_fed_2 4 rfl rfl)
abbrev cX3_run : ByteArray := prog_14_method_61_code
def yX3_run : MethodName := ⟨RX3, "run", "(I)Z"⟩
def dkwX3_run_2 : List UInt8 := [180, 0, 132, 27, 46, 79, 42, 180, 0, 45, 27, 42, 180, 0, 135, 27, 46, 79, 4, 172]
abbrev dktX3_run_2 : List UInt8 := dkwX3_run_2 ++ []
def dkwX3_run_1 : List UInt8 := [42, 27, 182, 1, 54, 42, 180, 0, 135, 27, 46, 2, 160, 0, 5, 3, 172, 42, 180, 0, 42, 27, 42]
abbrev dktX3_run_1 : List UInt8 := dkwX3_run_1 ++ dktX3_run_2
def dkwX3_run_0 : List UInt8 := [42, 27, 182, 0, 162, 153, 0, 13, 42, 180, 0, 17, 27, 46, 5, 159, 0, 5, 3, 172, 42, 182, 1, 57]
abbrev dktX3_run_0 : List UInt8 := dkwX3_run_0 ++ dktX3_run_1
theorem dksX3_run_0 : cX3_run.data.toList.drop 0 = dktX3_run_0 := by decide +kernel
theorem dksX3_run_1 : cX3_run.data.toList.drop 24 = dktX3_run_1 := dk_seg dksX3_run_0 24 rfl rfl
theorem dksX3_run_2 : cX3_run.data.toList.drop 47 = dktX3_run_2 := dk_seg dksX3_run_1 23 rfl rfl
theorem dX3_run_0 : decode cX3_run 0 = .ok (.aload_n 0, 1) := dk_42 (dk_at dksX3_run_0 0 rfl rfl)
theorem dX3_run_1 : decode cX3_run 1 = .ok (.iload_n 1, 1) := dk_27 (dk_at dksX3_run_0 1 rfl rfl)
theorem dX3_run_2 : decode cX3_run 2 = .ok (.invokevirtual 162, 3) := dk_182 0 162 (dk_at dksX3_run_0 2 rfl rfl)
theorem dX3_run_5 : decode cX3_run 5 = .ok (.ifCond .eq 13, 3) := dk_153 0 13 (dk_at dksX3_run_0 5 rfl rfl)
theorem dX3_run_8 : decode cX3_run 8 = .ok (.aload_n 0, 1) := dk_42 (dk_at dksX3_run_0 8 rfl rfl)
theorem dX3_run_9 : decode cX3_run 9 = .ok (.getfield 17, 3) := dk_180 0 17 (dk_at dksX3_run_0 9 rfl rfl)
theorem dX3_run_12 : decode cX3_run 12 = .ok (.iload_n 1, 1) := dk_27 (dk_at dksX3_run_0 12 rfl rfl)
theorem dX3_run_13 : decode cX3_run 13 = .ok (.iaload, 1) := dk_46 (dk_at dksX3_run_0 13 rfl rfl)
theorem dX3_run_14 : decode cX3_run 14 = .ok (.iconst 2, 1) := dk_5 (dk_at dksX3_run_0 14 rfl rfl)
theorem dX3_run_15 : decode cX3_run 15 = .ok (.if_icmp .eq 5, 3) := dk_159 0 5 (dk_at dksX3_run_0 15 rfl rfl)
theorem dX3_run_18 : decode cX3_run 18 = .ok (.iconst 0, 1) := dk_3 (dk_at dksX3_run_0 18 rfl rfl)
theorem dX3_run_19 : decode cX3_run 19 = .ok (.ireturn, 1) := dk_172 (dk_at dksX3_run_0 19 rfl rfl)
theorem dX3_run_20 : decode cX3_run 20 = .ok (.aload_n 0, 1) := dk_42 (dk_at dksX3_run_0 20 rfl rfl)
theorem dX3_run_21 : decode cX3_run 21 = .ok (.invokevirtual 313, 3) := dk_182 1 57 (dk_at dksX3_run_0 21 rfl rfl)
theorem dX3_run_24 : decode cX3_run 24 = .ok (.aload_n 0, 1) := dk_42 (dk_at dksX3_run_1 0 rfl rfl)
theorem dX3_run_25 : decode cX3_run 25 = .ok (.iload_n 1, 1) := dk_27 (dk_at dksX3_run_1 1 rfl rfl)
theorem dX3_run_26 : decode cX3_run 26 = .ok (.invokevirtual 310, 3) := dk_182 1 54 (dk_at dksX3_run_1 2 rfl rfl)
theorem dX3_run_29 : decode cX3_run 29 = .ok (.aload_n 0, 1) := dk_42 (dk_at dksX3_run_1 5 rfl rfl)
theorem dX3_run_30 : decode cX3_run 30 = .ok (.getfield 135, 3) := dk_180 0 135 (dk_at dksX3_run_1 6 rfl rfl)
theorem dX3_run_33 : decode cX3_run 33 = .ok (.iload_n 1, 1) := dk_27 (dk_at dksX3_run_1 9 rfl rfl)
theorem dX3_run_34 : decode cX3_run 34 = .ok (.iaload, 1) := dk_46 (dk_at dksX3_run_1 10 rfl rfl)
theorem dX3_run_35 : decode cX3_run 35 = .ok (.iconst (-1), 1) := dk_2 (dk_at dksX3_run_1 11 rfl rfl)
theorem dX3_run_36 : decode cX3_run 36 = .ok (.if_icmp .ne 5, 3) := dk_160 0 5 (dk_at dksX3_run_1 12 rfl rfl)
theorem dX3_run_39 : decode cX3_run 39 = .ok (.iconst 0, 1) := dk_3 (dk_at dksX3_run_1 15 rfl rfl)
theorem dX3_run_40 : decode cX3_run 40 = .ok (.ireturn, 1) := dk_172 (dk_at dksX3_run_1 16 rfl rfl)
theorem dX3_run_41 : decode cX3_run 41 = .ok (.aload_n 0, 1) := dk_42 (dk_at dksX3_run_1 17 rfl rfl)
theorem dX3_run_42 : decode cX3_run 42 = .ok (.getfield 42, 3) := dk_180 0 42 (dk_at dksX3_run_1 18 rfl rfl)
theorem dX3_run_45 : decode cX3_run 45 = .ok (.iload_n 1, 1) := dk_27 (dk_at dksX3_run_1 21 rfl rfl)
theorem dX3_run_46 : decode cX3_run 46 = .ok (.aload_n 0, 1) := dk_42 (dk_at dksX3_run_1 22 rfl rfl)
theorem dX3_run_47 : decode cX3_run 47 = .ok (.getfield 132, 3) := dk_180 0 132 (dk_at dksX3_run_2 0 rfl rfl)
theorem dX3_run_50 : decode cX3_run 50 = .ok (.iload_n 1, 1) := dk_27 (dk_at dksX3_run_2 3 rfl rfl)
theorem dX3_run_51 : decode cX3_run 51 = .ok (.iaload, 1) := dk_46 (dk_at dksX3_run_2 4 rfl rfl)
theorem dX3_run_52 : decode cX3_run 52 = .ok (.iastore, 1) := dk_79 (dk_at dksX3_run_2 5 rfl rfl)
theorem dX3_run_53 : decode cX3_run 53 = .ok (.aload_n 0, 1) := dk_42 (dk_at dksX3_run_2 6 rfl rfl)
theorem dX3_run_54 : decode cX3_run 54 = .ok (.getfield 45, 3) := dk_180 0 45 (dk_at dksX3_run_2 7 rfl rfl)
theorem dX3_run_57 : decode cX3_run 57 = .ok (.iload_n 1, 1) := dk_27 (dk_at dksX3_run_2 10 rfl rfl)
theorem dX3_run_58 : decode cX3_run 58 = .ok (.aload_n 0, 1) := dk_42 (dk_at dksX3_run_2 11 rfl rfl)
theorem dX3_run_59 : decode cX3_run 59 = .ok (.getfield 135, 3) := dk_180 0 135 (dk_at dksX3_run_2 12 rfl rfl)
theorem dX3_run_62 : decode cX3_run 62 = .ok (.iload_n 1, 1) := dk_27 (dk_at dksX3_run_2 15 rfl rfl)
theorem dX3_run_63 : decode cX3_run 63 = .ok (.iaload, 1) := dk_46 (dk_at dksX3_run_2 16 rfl rfl)
theorem dX3_run_64 : decode cX3_run 64 = .ok (.iastore, 1) := dk_79 (dk_at dksX3_run_2 17 rfl rfl)
theorem dX3_run_65 : decode cX3_run 65 = .ok (.iconst 1, 1) := dk_4 (dk_at dksX3_run_2 18 rfl rfl)
theorem dX3_run_66 : decode cX3_run 66 = .ok (.ireturn, 1) := dk_172 (dk_at dksX3_run_2 19 rfl rfl)
abbrev cX3_promise : ByteArray := prog_14_method_62_code
def yX3_promise : MethodName := ⟨RX3, "promise", "(II)Z"⟩
def dkwX3_promise_1 : List UInt8 := [180, 0, 39, 27, 28, 79, 4, 172]
abbrev dktX3_promise_1 : List UInt8 := dkwX3_promise_1 ++ []
def dkwX3_promise_0 : List UInt8 := [42, 27, 182, 0, 162, 153, 0, 15, 28, 2, 161, 0, 10, 28, 17, 3, 232, 164, 0, 5, 3, 172, 42]
abbrev dktX3_promise_0 : List UInt8 := dkwX3_promise_0 ++ dktX3_promise_1
theorem dksX3_promise_0 : cX3_promise.data.toList.drop 0 = dktX3_promise_0 := by decide +kernel
theorem dksX3_promise_1 : cX3_promise.data.toList.drop 23 = dktX3_promise_1 := dk_seg dksX3_promise_0 23 rfl rfl
theorem dX3_promise_0 : decode cX3_promise 0 = .ok (.aload_n 0, 1) := dk_42 (dk_at dksX3_promise_0 0 rfl rfl)
theorem dX3_promise_1 : decode cX3_promise 1 = .ok (.iload_n 1, 1) := dk_27 (dk_at dksX3_promise_0 1 rfl rfl)
theorem dX3_promise_2 : decode cX3_promise 2 = .ok (.invokevirtual 162, 3) := dk_182 0 162 (dk_at dksX3_promise_0 2 rfl rfl)
theorem dX3_promise_5 : decode cX3_promise 5 = .ok (.ifCond .eq 15, 3) := dk_153 0 15 (dk_at dksX3_promise_0 5 rfl rfl)
theorem dX3_promise_8 : decode cX3_promise 8 = .ok (.iload_n 2, 1) := dk_28 (dk_at dksX3_promise_0 8 rfl rfl)
theorem dX3_promise_9 : decode cX3_promise 9 = .ok (.iconst (-1), 1) := dk_2 (dk_at dksX3_promise_0 9 rfl rfl)
theorem dX3_promise_10 : decode cX3_promise 10 = .ok (.if_icmp .lt 10, 3) := dk_161 0 10 (dk_at dksX3_promise_0 10 rfl rfl)
theorem dX3_promise_13 : decode cX3_promise 13 = .ok (.iload_n 2, 1) := dk_28 (dk_at dksX3_promise_0 13 rfl rfl)
theorem dX3_promise_14 : decode cX3_promise 14 = .ok (.sipush 1000, 3) := dk_17 3 232 (dk_at dksX3_promise_0 14 rfl rfl)
theorem dX3_promise_17 : decode cX3_promise 17 = .ok (.if_icmp .le 5, 3) := dk_164 0 5 (dk_at dksX3_promise_0 17 rfl rfl)
theorem dX3_promise_20 : decode cX3_promise 20 = .ok (.iconst 0, 1) := dk_3 (dk_at dksX3_promise_0 20 rfl rfl)
theorem dX3_promise_21 : decode cX3_promise 21 = .ok (.ireturn, 1) := dk_172 (dk_at dksX3_promise_0 21 rfl rfl)
theorem dX3_promise_22 : decode cX3_promise 22 = .ok (.aload_n 0, 1) := dk_42 (dk_at dksX3_promise_0 22 rfl rfl)
theorem dX3_promise_23 : decode cX3_promise 23 = .ok (.getfield 39, 3) := dk_180 0 39 (dk_at dksX3_promise_1 0 rfl rfl)
theorem dX3_promise_26 : decode cX3_promise 26 = .ok (.iload_n 1, 1) := dk_27 (dk_at dksX3_promise_1 3 rfl rfl)
theorem dX3_promise_27 : decode cX3_promise 27 = .ok (.iload_n 2, 1) := dk_28 (dk_at dksX3_promise_1 4 rfl rfl)
theorem dX3_promise_28 : decode cX3_promise 28 = .ok (.iastore, 1) := dk_79 (dk_at dksX3_promise_1 5 rfl rfl)
theorem dX3_promise_29 : decode cX3_promise 29 = .ok (.iconst 1, 1) := dk_4 (dk_at dksX3_promise_1 6 rfl rfl)
theorem dX3_promise_30 : decode cX3_promise 30 = .ok (.ireturn, 1) := dk_172 (dk_at dksX3_promise_1 7 rfl rfl)
abbrev cX3_broken : ByteArray := prog_14_method_64_code
def yX3_broken : MethodName := ⟨RX3, "broken", "()I"⟩
def dkwX3_broken_2 : List UInt8 := [180, 1, 68, 172]
abbrev dktX3_broken_2 : List UInt8 := dkwX3_broken_2 ++ []
def dkwX3_broken_1 : List UInt8 := [51, 153, 0, 16, 42, 27, 182, 1, 107, 153, 0, 8, 42, 27, 182, 1, 83, 132, 1, 1, 167, 255, 223, 42]
abbrev dktX3_broken_1 : List UInt8 := dkwX3_broken_1 ++ dktX3_broken_2
def dkwX3_broken_0 : List UInt8 := [42, 182, 1, 57, 42, 3, 181, 1, 68, 3, 60, 27, 42, 180, 0, 159, 162, 0, 31, 42, 180, 0, 7, 27]
abbrev dktX3_broken_0 : List UInt8 := dkwX3_broken_0 ++ dktX3_broken_1
theorem dksX3_broken_0 : cX3_broken.data.toList.drop 0 = dktX3_broken_0 := by decide +kernel
theorem dksX3_broken_1 : cX3_broken.data.toList.drop 24 = dktX3_broken_1 := dk_seg dksX3_broken_0 24 rfl rfl
theorem dksX3_broken_2 : cX3_broken.data.toList.drop 48 = dktX3_broken_2 := dk_seg dksX3_broken_1 24 rfl rfl
theorem dX3_broken_0 : decode cX3_broken 0 = .ok (.aload_n 0, 1) := dk_42 (dk_at dksX3_broken_0 0 rfl rfl)
theorem dX3_broken_1 : decode cX3_broken 1 = .ok (.invokevirtual 313, 3) := dk_182 1 57 (dk_at dksX3_broken_0 1 rfl rfl)
theorem dX3_broken_4 : decode cX3_broken 4 = .ok (.aload_n 0, 1) := dk_42 (dk_at dksX3_broken_0 4 rfl rfl)
theorem dX3_broken_5 : decode cX3_broken 5 = .ok (.iconst 0, 1) := dk_3 (dk_at dksX3_broken_0 5 rfl rfl)
theorem dX3_broken_6 : decode cX3_broken 6 = .ok (.putfield 324, 3) := dk_181 1 68 (dk_at dksX3_broken_0 6 rfl rfl)
theorem dX3_broken_9 : decode cX3_broken 9 = .ok (.iconst 0, 1) := dk_3 (dk_at dksX3_broken_0 9 rfl rfl)
theorem dX3_broken_10 : decode cX3_broken 10 = .ok (.istore_n 1, 1) := dk_60 (dk_at dksX3_broken_0 10 rfl rfl)
theorem dX3_broken_11 : decode cX3_broken 11 = .ok (.iload_n 1, 1) := dk_27 (dk_at dksX3_broken_0 11 rfl rfl)
theorem dX3_broken_12 : decode cX3_broken 12 = .ok (.aload_n 0, 1) := dk_42 (dk_at dksX3_broken_0 12 rfl rfl)
theorem dX3_broken_13 : decode cX3_broken 13 = .ok (.getfield 159, 3) := dk_180 0 159 (dk_at dksX3_broken_0 13 rfl rfl)
theorem dX3_broken_16 : decode cX3_broken 16 = .ok (.if_icmp .ge 31, 3) := dk_162 0 31 (dk_at dksX3_broken_0 16 rfl rfl)
theorem dX3_broken_19 : decode cX3_broken 19 = .ok (.aload_n 0, 1) := dk_42 (dk_at dksX3_broken_0 19 rfl rfl)
theorem dX3_broken_20 : decode cX3_broken 20 = .ok (.getfield 7, 3) := dk_180 0 7 (dk_at dksX3_broken_0 20 rfl rfl)
theorem dX3_broken_23 : decode cX3_broken 23 = .ok (.iload_n 1, 1) := dk_27 (dk_at dksX3_broken_0 23 rfl rfl)
theorem dX3_broken_24 : decode cX3_broken 24 = .ok (.baload, 1) := dk_51 (dk_at dksX3_broken_1 0 rfl rfl)
theorem dX3_broken_25 : decode cX3_broken 25 = .ok (.ifCond .eq 16, 3) := dk_153 0 16 (dk_at dksX3_broken_1 1 rfl rfl)
theorem dX3_broken_28 : decode cX3_broken 28 = .ok (.aload_n 0, 1) := dk_42 (dk_at dksX3_broken_1 4 rfl rfl)
theorem dX3_broken_29 : decode cX3_broken 29 = .ok (.iload_n 1, 1) := dk_27 (dk_at dksX3_broken_1 5 rfl rfl)
theorem dX3_broken_30 : decode cX3_broken 30 = .ok (.invokevirtual 363, 3) := dk_182 1 107 (dk_at dksX3_broken_1 6 rfl rfl)
theorem dX3_broken_33 : decode cX3_broken 33 = .ok (.ifCond .eq 8, 3) := dk_153 0 8 (dk_at dksX3_broken_1 9 rfl rfl)
theorem dX3_broken_36 : decode cX3_broken 36 = .ok (.aload_n 0, 1) := dk_42 (dk_at dksX3_broken_1 12 rfl rfl)
theorem dX3_broken_37 : decode cX3_broken 37 = .ok (.iload_n 1, 1) := dk_27 (dk_at dksX3_broken_1 13 rfl rfl)
theorem dX3_broken_38 : decode cX3_broken 38 = .ok (.invokevirtual 339, 3) := dk_182 1 83 (dk_at dksX3_broken_1 14 rfl rfl)
theorem dX3_broken_41 : decode cX3_broken 41 = .ok (.iinc 1 1, 3) := dk_132 1 1 (dk_at dksX3_broken_1 17 rfl rfl)
theorem dX3_broken_44 : decode cX3_broken 44 = .ok (.goto (-33), 3) := dk_167 255 223 (dk_at dksX3_broken_1 20 rfl rfl)
theorem dX3_broken_47 : decode cX3_broken 47 = .ok (.aload_n 0, 1) := dk_42 (dk_at dksX3_broken_1 23 rfl rfl)
theorem dX3_broken_48 : decode cX3_broken 48 = .ok (.getfield 324, 3) := dk_180 1 68 (dk_at dksX3_broken_2 0 rfl rfl)
theorem dX3_broken_51 : decode cX3_broken 51 = .ok (.ireturn, 1) := dk_172 (dk_at dksX3_broken_2 3 rfl rfl)
abbrev cX3_isBroken : ByteArray := prog_14_method_63_code
def yX3_isBroken : MethodName := ⟨RX3, "isBroken", "(I)Z"⟩
def dkwX3_isBroken_1 : List UInt8 := [27, 46, 42, 180, 1, 95, 42, 180, 0, 39, 27, 46, 100, 162, 0, 7, 4, 167, 0, 4, 3, 172]
abbrev dktX3_isBroken_1 : List UInt8 := dkwX3_isBroken_1 ++ []
def dkwX3_isBroken_0 : List UInt8 := [42, 180, 0, 39, 27, 46, 2, 159, 0, 37, 42, 180, 0, 135, 27, 46, 2, 159, 0, 23, 42, 180, 0, 135]
abbrev dktX3_isBroken_0 : List UInt8 := dkwX3_isBroken_0 ++ dktX3_isBroken_1
theorem dksX3_isBroken_0 : cX3_isBroken.data.toList.drop 0 = dktX3_isBroken_0 := by decide +kernel
theorem dksX3_isBroken_1 : cX3_isBroken.data.toList.drop 24 = dktX3_isBroken_1 := dk_seg dksX3_isBroken_0 24 rfl rfl
theorem dX3_isBroken_0 : decode cX3_isBroken 0 = .ok (.aload_n 0, 1) := dk_42 (dk_at dksX3_isBroken_0 0 rfl rfl)
theorem dX3_isBroken_1 : decode cX3_isBroken 1 = .ok (.getfield 39, 3) := dk_180 0 39 (dk_at dksX3_isBroken_0 1 rfl rfl)
theorem dX3_isBroken_4 : decode cX3_isBroken 4 = .ok (.iload_n 1, 1) := dk_27 (dk_at dksX3_isBroken_0 4 rfl rfl)
theorem dX3_isBroken_5 : decode cX3_isBroken 5 = .ok (.iaload, 1) := dk_46 (dk_at dksX3_isBroken_0 5 rfl rfl)
theorem dX3_isBroken_6 : decode cX3_isBroken 6 = .ok (.iconst (-1), 1) := dk_2 (dk_at dksX3_isBroken_0 6 rfl rfl)
theorem dX3_isBroken_7 : decode cX3_isBroken 7 = .ok (.if_icmp .eq 37, 3) := dk_159 0 37 (dk_at dksX3_isBroken_0 7 rfl rfl)
theorem dX3_isBroken_10 : decode cX3_isBroken 10 = .ok (.aload_n 0, 1) := dk_42 (dk_at dksX3_isBroken_0 10 rfl rfl)
theorem dX3_isBroken_11 : decode cX3_isBroken 11 = .ok (.getfield 135, 3) := dk_180 0 135 (dk_at dksX3_isBroken_0 11 rfl rfl)
theorem dX3_isBroken_14 : decode cX3_isBroken 14 = .ok (.iload_n 1, 1) := dk_27 (dk_at dksX3_isBroken_0 14 rfl rfl)
theorem dX3_isBroken_15 : decode cX3_isBroken 15 = .ok (.iaload, 1) := dk_46 (dk_at dksX3_isBroken_0 15 rfl rfl)
theorem dX3_isBroken_16 : decode cX3_isBroken 16 = .ok (.iconst (-1), 1) := dk_2 (dk_at dksX3_isBroken_0 16 rfl rfl)
theorem dX3_isBroken_17 : decode cX3_isBroken 17 = .ok (.if_icmp .eq 23, 3) := dk_159 0 23 (dk_at dksX3_isBroken_0 17 rfl rfl)
theorem dX3_isBroken_20 : decode cX3_isBroken 20 = .ok (.aload_n 0, 1) := dk_42 (dk_at dksX3_isBroken_0 20 rfl rfl)
theorem dX3_isBroken_21 : decode cX3_isBroken 21 = .ok (.getfield 135, 3) := dk_180 0 135 (dk_at dksX3_isBroken_0 21 rfl rfl)
theorem dX3_isBroken_24 : decode cX3_isBroken 24 = .ok (.iload_n 1, 1) := dk_27 (dk_at dksX3_isBroken_1 0 rfl rfl)
theorem dX3_isBroken_25 : decode cX3_isBroken 25 = .ok (.iaload, 1) := dk_46 (dk_at dksX3_isBroken_1 1 rfl rfl)
theorem dX3_isBroken_26 : decode cX3_isBroken 26 = .ok (.aload_n 0, 1) := dk_42 (dk_at dksX3_isBroken_1 2 rfl rfl)
theorem dX3_isBroken_27 : decode cX3_isBroken 27 = .ok (.getfield 351, 3) := dk_180 1 95 (dk_at dksX3_isBroken_1 3 rfl rfl)
theorem dX3_isBroken_30 : decode cX3_isBroken 30 = .ok (.aload_n 0, 1) := dk_42 (dk_at dksX3_isBroken_1 6 rfl rfl)
theorem dX3_isBroken_31 : decode cX3_isBroken 31 = .ok (.getfield 39, 3) := dk_180 0 39 (dk_at dksX3_isBroken_1 7 rfl rfl)
theorem dX3_isBroken_34 : decode cX3_isBroken 34 = .ok (.iload_n 1, 1) := dk_27 (dk_at dksX3_isBroken_1 10 rfl rfl)
theorem dX3_isBroken_35 : decode cX3_isBroken 35 = .ok (.iaload, 1) := dk_46 (dk_at dksX3_isBroken_1 11 rfl rfl)
theorem dX3_isBroken_36 : decode cX3_isBroken 36 = .ok (.isub, 1) := dk_100 (dk_at dksX3_isBroken_1 12 rfl rfl)
theorem dX3_isBroken_37 : decode cX3_isBroken 37 = .ok (.if_icmp .ge 7, 3) := dk_162 0 7 (dk_at dksX3_isBroken_1 13 rfl rfl)
theorem dX3_isBroken_40 : decode cX3_isBroken 40 = .ok (.iconst 1, 1) := dk_4 (dk_at dksX3_isBroken_1 16 rfl rfl)
theorem dX3_isBroken_41 : decode cX3_isBroken 41 = .ok (.goto 4, 3) := dk_167 0 4 (dk_at dksX3_isBroken_1 17 rfl rfl)
theorem dX3_isBroken_44 : decode cX3_isBroken 44 = .ok (.iconst 0, 1) := dk_3 (dk_at dksX3_isBroken_1 20 rfl rfl)
theorem dX3_isBroken_45 : decode cX3_isBroken 45 = .ok (.ireturn, 1) := dk_172 (dk_at dksX3_isBroken_1 21 rfl rfl)
abbrev cX3_late : ByteArray := prog_14_method_65_code
def yX3_late : MethodName := ⟨RX3, "late", "(I)I"⟩
def dkwX3_late_4 : List UInt8 := [161, 0, 6, 167, 0, 8, 21, 5, 61, 4, 62, 132, 4, 1, 167, 255, 185, 167, 255, 173, 28, 172]
abbrev dktX3_late_4 : List UInt8 := dkwX3_late_4 ++ []
def dkwX3_late_3 : List UInt8 := [2, 159, 0, 27, 42, 180, 0, 135, 21, 5, 46, 42, 180, 1, 95, 42, 180, 0, 39, 27, 46, 100]
abbrev dktX3_late_3 : List UInt8 := dkwX3_late_3 ++ dktX3_late_4
def dkwX3_late_2 : List UInt8 := [29, 154, 0, 62, 42, 180, 0, 33, 6, 28, 104, 21, 4, 96, 46, 54, 5, 42, 180, 0, 135, 21, 5, 46]
abbrev dktX3_late_2 : List UInt8 := dkwX3_late_2 ++ dktX3_late_3
def dkwX3_late_1 : List UInt8 := [27, 61, 4, 62, 29, 153, 0, 85, 3, 62, 3, 54, 4, 21, 4, 42, 180, 0, 30, 28, 46, 162, 0, 66]
abbrev dktX3_late_1 : List UInt8 := dkwX3_late_1 ++ dktX3_late_2
def dkwX3_late_0 : List UInt8 := [42, 27, 182, 0, 162, 154, 0, 5, 2, 172, 42, 182, 1, 57, 42, 27, 182, 1, 107, 154, 0, 5, 2, 172]
abbrev dktX3_late_0 : List UInt8 := dkwX3_late_0 ++ dktX3_late_1
theorem dksX3_late_0 : cX3_late.data.toList.drop 0 = dktX3_late_0 := by decide +kernel
theorem dksX3_late_1 : cX3_late.data.toList.drop 24 = dktX3_late_1 := dk_seg dksX3_late_0 24 rfl rfl
theorem dksX3_late_2 : cX3_late.data.toList.drop 48 = dktX3_late_2 := dk_seg dksX3_late_1 24 rfl rfl
theorem dksX3_late_3 : cX3_late.data.toList.drop 72 = dktX3_late_3 := dk_seg dksX3_late_2 24 rfl rfl
theorem dksX3_late_4 : cX3_late.data.toList.drop 94 = dktX3_late_4 := dk_seg dksX3_late_3 22 rfl rfl
theorem dX3_late_0 : decode cX3_late 0 = .ok (.aload_n 0, 1) := dk_42 (dk_at dksX3_late_0 0 rfl rfl)
theorem dX3_late_1 : decode cX3_late 1 = .ok (.iload_n 1, 1) := dk_27 (dk_at dksX3_late_0 1 rfl rfl)
theorem dX3_late_2 : decode cX3_late 2 = .ok (.invokevirtual 162, 3) := dk_182 0 162 (dk_at dksX3_late_0 2 rfl rfl)
theorem dX3_late_5 : decode cX3_late 5 = .ok (.ifCond .ne 5, 3) := dk_154 0 5 (dk_at dksX3_late_0 5 rfl rfl)
theorem dX3_late_8 : decode cX3_late 8 = .ok (.iconst (-1), 1) := dk_2 (dk_at dksX3_late_0 8 rfl rfl)
theorem dX3_late_9 : decode cX3_late 9 = .ok (.ireturn, 1) := dk_172 (dk_at dksX3_late_0 9 rfl rfl)
theorem dX3_late_10 : decode cX3_late 10 = .ok (.aload_n 0, 1) := dk_42 (dk_at dksX3_late_0 10 rfl rfl)
theorem dX3_late_11 : decode cX3_late 11 = .ok (.invokevirtual 313, 3) := dk_182 1 57 (dk_at dksX3_late_0 11 rfl rfl)
theorem dX3_late_14 : decode cX3_late 14 = .ok (.aload_n 0, 1) := dk_42 (dk_at dksX3_late_0 14 rfl rfl)
theorem dX3_late_15 : decode cX3_late 15 = .ok (.iload_n 1, 1) := dk_27 (dk_at dksX3_late_0 15 rfl rfl)
theorem dX3_late_16 : decode cX3_late 16 = .ok (.invokevirtual 363, 3) := dk_182 1 107 (dk_at dksX3_late_0 16 rfl rfl)
theorem dX3_late_19 : decode cX3_late 19 = .ok (.ifCond .ne 5, 3) := dk_154 0 5 (dk_at dksX3_late_0 19 rfl rfl)
theorem dX3_late_22 : decode cX3_late 22 = .ok (.iconst (-1), 1) := dk_2 (dk_at dksX3_late_0 22 rfl rfl)
theorem dX3_late_23 : decode cX3_late 23 = .ok (.ireturn, 1) := dk_172 (dk_at dksX3_late_0 23 rfl rfl)
theorem dX3_late_24 : decode cX3_late 24 = .ok (.iload_n 1, 1) := dk_27 (dk_at dksX3_late_1 0 rfl rfl)
theorem dX3_late_25 : decode cX3_late 25 = .ok (.istore_n 2, 1) := dk_61 (dk_at dksX3_late_1 1 rfl rfl)
theorem dX3_late_26 : decode cX3_late 26 = .ok (.iconst 1, 1) := dk_4 (dk_at dksX3_late_1 2 rfl rfl)
theorem dX3_late_27 : decode cX3_late 27 = .ok (.istore_n 3, 1) := dk_62 (dk_at dksX3_late_1 3 rfl rfl)
theorem dX3_late_28 : decode cX3_late 28 = .ok (.iload_n 3, 1) := dk_29 (dk_at dksX3_late_1 4 rfl rfl)
theorem dX3_late_29 : decode cX3_late 29 = .ok (.ifCond .eq 85, 3) := dk_153 0 85 (dk_at dksX3_late_1 5 rfl rfl)
theorem dX3_late_32 : decode cX3_late 32 = .ok (.iconst 0, 1) := dk_3 (dk_at dksX3_late_1 8 rfl rfl)
theorem dX3_late_33 : decode cX3_late 33 = .ok (.istore_n 3, 1) := dk_62 (dk_at dksX3_late_1 9 rfl rfl)
theorem dX3_late_34 : decode cX3_late 34 = .ok (.iconst 0, 1) := dk_3 (dk_at dksX3_late_1 10 rfl rfl)
theorem dX3_late_35 : decode cX3_late 35 = .ok (.istore 4, 2) := dk_54 4 (dk_at dksX3_late_1 11 rfl rfl)
theorem dX3_late_37 : decode cX3_late 37 = .ok (.iload 4, 2) := dk_21 4 (dk_at dksX3_late_1 13 rfl rfl)
theorem dX3_late_39 : decode cX3_late 39 = .ok (.aload_n 0, 1) := dk_42 (dk_at dksX3_late_1 15 rfl rfl)
theorem dX3_late_40 : decode cX3_late 40 = .ok (.getfield 30, 3) := dk_180 0 30 (dk_at dksX3_late_1 16 rfl rfl)
theorem dX3_late_43 : decode cX3_late 43 = .ok (.iload_n 2, 1) := dk_28 (dk_at dksX3_late_1 19 rfl rfl)
theorem dX3_late_44 : decode cX3_late 44 = .ok (.iaload, 1) := dk_46 (dk_at dksX3_late_1 20 rfl rfl)
theorem dX3_late_45 : decode cX3_late 45 = .ok (.if_icmp .ge 66, 3) := dk_162 0 66 (dk_at dksX3_late_1 21 rfl rfl)
theorem dX3_late_48 : decode cX3_late 48 = .ok (.iload_n 3, 1) := dk_29 (dk_at dksX3_late_2 0 rfl rfl)
theorem dX3_late_49 : decode cX3_late 49 = .ok (.ifCond .ne 62, 3) := dk_154 0 62 (dk_at dksX3_late_2 1 rfl rfl)
theorem dX3_late_52 : decode cX3_late 52 = .ok (.aload_n 0, 1) := dk_42 (dk_at dksX3_late_2 4 rfl rfl)
theorem dX3_late_53 : decode cX3_late 53 = .ok (.getfield 33, 3) := dk_180 0 33 (dk_at dksX3_late_2 5 rfl rfl)
theorem dX3_late_56 : decode cX3_late 56 = .ok (.iconst 3, 1) := dk_6 (dk_at dksX3_late_2 8 rfl rfl)
theorem dX3_late_57 : decode cX3_late 57 = .ok (.iload_n 2, 1) := dk_28 (dk_at dksX3_late_2 9 rfl rfl)
theorem dX3_late_58 : decode cX3_late 58 = .ok (.imul, 1) := dk_104 (dk_at dksX3_late_2 10 rfl rfl)
theorem dX3_late_59 : decode cX3_late 59 = .ok (.iload 4, 2) := dk_21 4 (dk_at dksX3_late_2 11 rfl rfl)
theorem dX3_late_61 : decode cX3_late 61 = .ok (.iadd, 1) := dk_96 (dk_at dksX3_late_2 13 rfl rfl)
theorem dX3_late_62 : decode cX3_late 62 = .ok (.iaload, 1) := dk_46 (dk_at dksX3_late_2 14 rfl rfl)
theorem dX3_late_63 : decode cX3_late 63 = .ok (.istore 5, 2) := dk_54 5 (dk_at dksX3_late_2 15 rfl rfl)
theorem dX3_late_65 : decode cX3_late 65 = .ok (.aload_n 0, 1) := dk_42 (dk_at dksX3_late_2 17 rfl rfl)
theorem dX3_late_66 : decode cX3_late 66 = .ok (.getfield 135, 3) := dk_180 0 135 (dk_at dksX3_late_2 18 rfl rfl)
theorem dX3_late_69 : decode cX3_late 69 = .ok (.iload 5, 2) := dk_21 5 (dk_at dksX3_late_2 21 rfl rfl)
theorem dX3_late_71 : decode cX3_late 71 = .ok (.iaload, 1) := dk_46 (dk_at dksX3_late_2 23 rfl rfl)
theorem dX3_late_72 : decode cX3_late 72 = .ok (.iconst (-1), 1) := dk_2 (dk_at dksX3_late_3 0 rfl rfl)
theorem dX3_late_73 : decode cX3_late 73 = .ok (.if_icmp .eq 27, 3) := dk_159 0 27 (dk_at dksX3_late_3 1 rfl rfl)
theorem dX3_late_76 : decode cX3_late 76 = .ok (.aload_n 0, 1) := dk_42 (dk_at dksX3_late_3 4 rfl rfl)
theorem dX3_late_77 : decode cX3_late 77 = .ok (.getfield 135, 3) := dk_180 0 135 (dk_at dksX3_late_3 5 rfl rfl)
theorem dX3_late_80 : decode cX3_late 80 = .ok (.iload 5, 2) := dk_21 5 (dk_at dksX3_late_3 8 rfl rfl)
theorem dX3_late_82 : decode cX3_late 82 = .ok (.iaload, 1) := dk_46 (dk_at dksX3_late_3 10 rfl rfl)
theorem dX3_late_83 : decode cX3_late 83 = .ok (.aload_n 0, 1) := dk_42 (dk_at dksX3_late_3 11 rfl rfl)
theorem dX3_late_84 : decode cX3_late 84 = .ok (.getfield 351, 3) := dk_180 1 95 (dk_at dksX3_late_3 12 rfl rfl)
theorem dX3_late_87 : decode cX3_late 87 = .ok (.aload_n 0, 1) := dk_42 (dk_at dksX3_late_3 15 rfl rfl)
theorem dX3_late_88 : decode cX3_late 88 = .ok (.getfield 39, 3) := dk_180 0 39 (dk_at dksX3_late_3 16 rfl rfl)
theorem dX3_late_91 : decode cX3_late 91 = .ok (.iload_n 1, 1) := dk_27 (dk_at dksX3_late_3 19 rfl rfl)
theorem dX3_late_92 : decode cX3_late 92 = .ok (.iaload, 1) := dk_46 (dk_at dksX3_late_3 20 rfl rfl)
theorem dX3_late_93 : decode cX3_late 93 = .ok (.isub, 1) := dk_100 (dk_at dksX3_late_3 21 rfl rfl)
theorem dX3_late_94 : decode cX3_late 94 = .ok (.if_icmp .lt 6, 3) := dk_161 0 6 (dk_at dksX3_late_4 0 rfl rfl)
theorem dX3_late_97 : decode cX3_late 97 = .ok (.goto 8, 3) := dk_167 0 8 (dk_at dksX3_late_4 3 rfl rfl)
theorem dX3_late_100 : decode cX3_late 100 = .ok (.iload 5, 2) := dk_21 5 (dk_at dksX3_late_4 6 rfl rfl)
theorem dX3_late_102 : decode cX3_late 102 = .ok (.istore_n 2, 1) := dk_61 (dk_at dksX3_late_4 8 rfl rfl)
theorem dX3_late_103 : decode cX3_late 103 = .ok (.iconst 1, 1) := dk_4 (dk_at dksX3_late_4 9 rfl rfl)
theorem dX3_late_104 : decode cX3_late 104 = .ok (.istore_n 3, 1) := dk_62 (dk_at dksX3_late_4 10 rfl rfl)
theorem dX3_late_105 : decode cX3_late 105 = .ok (.iinc 4 1, 3) := dk_132 4 1 (dk_at dksX3_late_4 11 rfl rfl)
theorem dX3_late_108 : decode cX3_late 108 = .ok (.goto (-71), 3) := dk_167 255 185 (dk_at dksX3_late_4 14 rfl rfl)
theorem dX3_late_111 : decode cX3_late 111 = .ok (.goto (-83), 3) := dk_167 255 173 (dk_at dksX3_late_4 17 rfl rfl)
theorem dX3_late_114 : decode cX3_late 114 = .ok (.iload_n 2, 1) := dk_28 (dk_at dksX3_late_4 20 rfl rfl)
theorem dX3_late_115 : decode cX3_late 115 = .ok (.ireturn, 1) := dk_172 (dk_at dksX3_late_4 21 rfl rfl)
abbrev cX3_own : ByteArray := prog_14_method_66_code
def yX3_own : MethodName := ⟨RX3, "own", "(II)Z"⟩
def dkwX3_own_1 : List UInt8 := [180, 0, 36, 27, 28, 79, 4, 172]
abbrev dktX3_own_1 : List UInt8 := dkwX3_own_1 ++ []
def dkwX3_own_0 : List UInt8 := [42, 27, 182, 0, 162, 153, 0, 14, 28, 2, 161, 0, 9, 28, 16, 9, 164, 0, 5, 3, 172, 42]
abbrev dktX3_own_0 : List UInt8 := dkwX3_own_0 ++ dktX3_own_1
theorem dksX3_own_0 : cX3_own.data.toList.drop 0 = dktX3_own_0 := by decide +kernel
theorem dksX3_own_1 : cX3_own.data.toList.drop 22 = dktX3_own_1 := dk_seg dksX3_own_0 22 rfl rfl
theorem dX3_own_0 : decode cX3_own 0 = .ok (.aload_n 0, 1) := dk_42 (dk_at dksX3_own_0 0 rfl rfl)
theorem dX3_own_1 : decode cX3_own 1 = .ok (.iload_n 1, 1) := dk_27 (dk_at dksX3_own_0 1 rfl rfl)
theorem dX3_own_2 : decode cX3_own 2 = .ok (.invokevirtual 162, 3) := dk_182 0 162 (dk_at dksX3_own_0 2 rfl rfl)
theorem dX3_own_5 : decode cX3_own 5 = .ok (.ifCond .eq 14, 3) := dk_153 0 14 (dk_at dksX3_own_0 5 rfl rfl)
theorem dX3_own_8 : decode cX3_own 8 = .ok (.iload_n 2, 1) := dk_28 (dk_at dksX3_own_0 8 rfl rfl)
theorem dX3_own_9 : decode cX3_own 9 = .ok (.iconst (-1), 1) := dk_2 (dk_at dksX3_own_0 9 rfl rfl)
theorem dX3_own_10 : decode cX3_own 10 = .ok (.if_icmp .lt 9, 3) := dk_161 0 9 (dk_at dksX3_own_0 10 rfl rfl)
theorem dX3_own_13 : decode cX3_own 13 = .ok (.iload_n 2, 1) := dk_28 (dk_at dksX3_own_0 13 rfl rfl)
theorem dX3_own_14 : decode cX3_own 14 = .ok (.bipush 9, 2) := dk_16 9 (dk_at dksX3_own_0 14 rfl rfl)
theorem dX3_own_16 : decode cX3_own 16 = .ok (.if_icmp .le 5, 3) := dk_164 0 5 (dk_at dksX3_own_0 16 rfl rfl)
theorem dX3_own_19 : decode cX3_own 19 = .ok (.iconst 0, 1) := dk_3 (dk_at dksX3_own_0 19 rfl rfl)
theorem dX3_own_20 : decode cX3_own 20 = .ok (.ireturn, 1) := dk_172 (dk_at dksX3_own_0 20 rfl rfl)
theorem dX3_own_21 : decode cX3_own 21 = .ok (.aload_n 0, 1) := dk_42 (dk_at dksX3_own_0 21 rfl rfl)
theorem dX3_own_22 : decode cX3_own 22 = .ok (.getfield 36, 3) := dk_180 0 36 (dk_at dksX3_own_1 0 rfl rfl)
theorem dX3_own_25 : decode cX3_own 25 = .ok (.iload_n 1, 1) := dk_27 (dk_at dksX3_own_1 3 rfl rfl)
theorem dX3_own_26 : decode cX3_own 26 = .ok (.iload_n 2, 1) := dk_28 (dk_at dksX3_own_1 4 rfl rfl)
theorem dX3_own_27 : decode cX3_own 27 = .ok (.iastore, 1) := dk_79 (dk_at dksX3_own_1 5 rfl rfl)
theorem dX3_own_28 : decode cX3_own 28 = .ok (.iconst 1, 1) := dk_4 (dk_at dksX3_own_1 6 rfl rfl)
theorem dX3_own_29 : decode cX3_own 29 = .ok (.ireturn, 1) := dk_172 (dk_at dksX3_own_1 7 rfl rfl)
abbrev cX3_unused : ByteArray := prog_14_method_67_code
def yX3_unused : MethodName := ⟨RX3, "unused", "(I)I"⟩
def dkwX3_unused_7 : List UInt8 := [180, 1, 68, 172]
abbrev dktX3_unused_7 : List UInt8 := dkwX3_unused_7 ++ []
def dkwX3_unused_6 : List UInt8 := [153, 0, 17, 42, 180, 0, 138, 28, 51, 154, 0, 8, 42, 28, 182, 1, 83, 132, 2, 1, 167, 255, 222, 42]
abbrev dktX3_unused_6 : List UInt8 := dkwX3_unused_6 ++ dktX3_unused_7
def dkwX3_unused_5 : List UInt8 := [167, 255, 194, 42, 3, 181, 1, 68, 3, 61, 28, 42, 180, 0, 159, 162, 0, 32, 42, 180, 0, 7, 28, 51]
abbrev dktX3_unused_5 : List UInt8 := dkwX3_unused_5 ++ dktX3_unused_6
def dkwX3_unused_4 : List UInt8 := [180, 0, 138, 42, 180, 0, 33, 6, 28, 104, 29, 96, 46, 4, 84, 132, 3, 1, 167, 255, 227, 132, 2, 255]
abbrev dktX3_unused_4 : List UInt8 := dkwX3_unused_4 ++ dktX3_unused_5
def dkwX3_unused_3 : List UInt8 := [180, 0, 138, 28, 51, 154, 0, 6, 167, 0, 37, 3, 62, 29, 42, 180, 0, 30, 28, 46, 162, 0, 25, 42]
abbrev dktX3_unused_3 : List UInt8 := dkwX3_unused_3 ++ dktX3_unused_4
def dkwX3_unused_2 : List UInt8 := [167, 255, 214, 42, 180, 0, 159, 4, 100, 61, 28, 155, 0, 64, 42, 180, 0, 7, 28, 51, 153, 0, 49, 42]
abbrev dktX3_unused_2 : List UInt8 := dkwX3_unused_2 ++ dktX3_unused_3
def dkwX3_unused_1 : List UInt8 := [180, 0, 153, 28, 46, 27, 161, 0, 15, 42, 180, 0, 138, 42, 180, 0, 147, 28, 46, 4, 84, 132, 2, 1]
abbrev dktX3_unused_1 : List UInt8 := dkwX3_unused_1 ++ dktX3_unused_2
def dkwX3_unused_0 : List UInt8 := [42, 182, 1, 77, 3, 61, 28, 42, 180, 1, 92, 162, 0, 40, 42, 180, 0, 150, 28, 46, 158, 0, 25, 42]
abbrev dktX3_unused_0 : List UInt8 := dkwX3_unused_0 ++ dktX3_unused_1
theorem dksX3_unused_0 : cX3_unused.data.toList.drop 0 = dktX3_unused_0 := by decide +kernel
theorem dksX3_unused_1 : cX3_unused.data.toList.drop 24 = dktX3_unused_1 := dk_seg dksX3_unused_0 24 rfl rfl
theorem dksX3_unused_2 : cX3_unused.data.toList.drop 48 = dktX3_unused_2 := dk_seg dksX3_unused_1 24 rfl rfl
theorem dksX3_unused_3 : cX3_unused.data.toList.drop 72 = dktX3_unused_3 := dk_seg dksX3_unused_2 24 rfl rfl
theorem dksX3_unused_4 : cX3_unused.data.toList.drop 96 = dktX3_unused_4 := dk_seg dksX3_unused_3 24 rfl rfl
theorem dksX3_unused_5 : cX3_unused.data.toList.drop 120 = dktX3_unused_5 := dk_seg dksX3_unused_4 24 rfl rfl
theorem dksX3_unused_6 : cX3_unused.data.toList.drop 144 = dktX3_unused_6 := dk_seg dksX3_unused_5 24 rfl rfl
theorem dksX3_unused_7 : cX3_unused.data.toList.drop 168 = dktX3_unused_7 := dk_seg dksX3_unused_6 24 rfl rfl
theorem dX3_unused_0 : decode cX3_unused 0 = .ok (.aload_n 0, 1) := dk_42 (dk_at dksX3_unused_0 0 rfl rfl)
theorem dX3_unused_1 : decode cX3_unused 1 = .ok (.invokevirtual 333, 3) := dk_182 1 77 (dk_at dksX3_unused_0 1 rfl rfl)
theorem dX3_unused_4 : decode cX3_unused 4 = .ok (.iconst 0, 1) := dk_3 (dk_at dksX3_unused_0 4 rfl rfl)
theorem dX3_unused_5 : decode cX3_unused 5 = .ok (.istore_n 2, 1) := dk_61 (dk_at dksX3_unused_0 5 rfl rfl)
theorem dX3_unused_6 : decode cX3_unused 6 = .ok (.iload_n 2, 1) := dk_28 (dk_at dksX3_unused_0 6 rfl rfl)
theorem dX3_unused_7 : decode cX3_unused 7 = .ok (.aload_n 0, 1) := dk_42 (dk_at dksX3_unused_0 7 rfl rfl)
theorem dX3_unused_8 : decode cX3_unused 8 = .ok (.getfield 348, 3) := dk_180 1 92 (dk_at dksX3_unused_0 8 rfl rfl)
theorem dX3_unused_11 : decode cX3_unused 11 = .ok (.if_icmp .ge 40, 3) := dk_162 0 40 (dk_at dksX3_unused_0 11 rfl rfl)
theorem dX3_unused_14 : decode cX3_unused 14 = .ok (.aload_n 0, 1) := dk_42 (dk_at dksX3_unused_0 14 rfl rfl)
theorem dX3_unused_15 : decode cX3_unused 15 = .ok (.getfield 150, 3) := dk_180 0 150 (dk_at dksX3_unused_0 15 rfl rfl)
theorem dX3_unused_18 : decode cX3_unused 18 = .ok (.iload_n 2, 1) := dk_28 (dk_at dksX3_unused_0 18 rfl rfl)
theorem dX3_unused_19 : decode cX3_unused 19 = .ok (.iaload, 1) := dk_46 (dk_at dksX3_unused_0 19 rfl rfl)
theorem dX3_unused_20 : decode cX3_unused 20 = .ok (.ifCond .le 25, 3) := dk_158 0 25 (dk_at dksX3_unused_0 20 rfl rfl)
theorem dX3_unused_23 : decode cX3_unused 23 = .ok (.aload_n 0, 1) := dk_42 (dk_at dksX3_unused_0 23 rfl rfl)
theorem dX3_unused_24 : decode cX3_unused 24 = .ok (.getfield 153, 3) := dk_180 0 153 (dk_at dksX3_unused_1 0 rfl rfl)
theorem dX3_unused_27 : decode cX3_unused 27 = .ok (.iload_n 2, 1) := dk_28 (dk_at dksX3_unused_1 3 rfl rfl)
theorem dX3_unused_28 : decode cX3_unused 28 = .ok (.iaload, 1) := dk_46 (dk_at dksX3_unused_1 4 rfl rfl)
theorem dX3_unused_29 : decode cX3_unused 29 = .ok (.iload_n 1, 1) := dk_27 (dk_at dksX3_unused_1 5 rfl rfl)
theorem dX3_unused_30 : decode cX3_unused 30 = .ok (.if_icmp .lt 15, 3) := dk_161 0 15 (dk_at dksX3_unused_1 6 rfl rfl)
theorem dX3_unused_33 : decode cX3_unused 33 = .ok (.aload_n 0, 1) := dk_42 (dk_at dksX3_unused_1 9 rfl rfl)
theorem dX3_unused_34 : decode cX3_unused 34 = .ok (.getfield 138, 3) := dk_180 0 138 (dk_at dksX3_unused_1 10 rfl rfl)
theorem dX3_unused_37 : decode cX3_unused 37 = .ok (.aload_n 0, 1) := dk_42 (dk_at dksX3_unused_1 13 rfl rfl)
theorem dX3_unused_38 : decode cX3_unused 38 = .ok (.getfield 147, 3) := dk_180 0 147 (dk_at dksX3_unused_1 14 rfl rfl)
theorem dX3_unused_41 : decode cX3_unused 41 = .ok (.iload_n 2, 1) := dk_28 (dk_at dksX3_unused_1 17 rfl rfl)
theorem dX3_unused_42 : decode cX3_unused 42 = .ok (.iaload, 1) := dk_46 (dk_at dksX3_unused_1 18 rfl rfl)
theorem dX3_unused_43 : decode cX3_unused 43 = .ok (.iconst 1, 1) := dk_4 (dk_at dksX3_unused_1 19 rfl rfl)
theorem dX3_unused_44 : decode cX3_unused 44 = .ok (.bastore, 1) := dk_84 (dk_at dksX3_unused_1 20 rfl rfl)
theorem dX3_unused_45 : decode cX3_unused 45 = .ok (.iinc 2 1, 3) := dk_132 2 1 (dk_at dksX3_unused_1 21 rfl rfl)
theorem dX3_unused_48 : decode cX3_unused 48 = .ok (.goto (-42), 3) := dk_167 255 214 (dk_at dksX3_unused_2 0 rfl rfl)
theorem dX3_unused_51 : decode cX3_unused 51 = .ok (.aload_n 0, 1) := dk_42 (dk_at dksX3_unused_2 3 rfl rfl)
theorem dX3_unused_52 : decode cX3_unused 52 = .ok (.getfield 159, 3) := dk_180 0 159 (dk_at dksX3_unused_2 4 rfl rfl)
theorem dX3_unused_55 : decode cX3_unused 55 = .ok (.iconst 1, 1) := dk_4 (dk_at dksX3_unused_2 7 rfl rfl)
theorem dX3_unused_56 : decode cX3_unused 56 = .ok (.isub, 1) := dk_100 (dk_at dksX3_unused_2 8 rfl rfl)
theorem dX3_unused_57 : decode cX3_unused 57 = .ok (.istore_n 2, 1) := dk_61 (dk_at dksX3_unused_2 9 rfl rfl)
theorem dX3_unused_58 : decode cX3_unused 58 = .ok (.iload_n 2, 1) := dk_28 (dk_at dksX3_unused_2 10 rfl rfl)
theorem dX3_unused_59 : decode cX3_unused 59 = .ok (.ifCond .lt 64, 3) := dk_155 0 64 (dk_at dksX3_unused_2 11 rfl rfl)
theorem dX3_unused_62 : decode cX3_unused 62 = .ok (.aload_n 0, 1) := dk_42 (dk_at dksX3_unused_2 14 rfl rfl)
theorem dX3_unused_63 : decode cX3_unused 63 = .ok (.getfield 7, 3) := dk_180 0 7 (dk_at dksX3_unused_2 15 rfl rfl)
theorem dX3_unused_66 : decode cX3_unused 66 = .ok (.iload_n 2, 1) := dk_28 (dk_at dksX3_unused_2 18 rfl rfl)
theorem dX3_unused_67 : decode cX3_unused 67 = .ok (.baload, 1) := dk_51 (dk_at dksX3_unused_2 19 rfl rfl)
theorem dX3_unused_68 : decode cX3_unused 68 = .ok (.ifCond .eq 49, 3) := dk_153 0 49 (dk_at dksX3_unused_2 20 rfl rfl)
theorem dX3_unused_71 : decode cX3_unused 71 = .ok (.aload_n 0, 1) := dk_42 (dk_at dksX3_unused_2 23 rfl rfl)
theorem dX3_unused_72 : decode cX3_unused 72 = .ok (.getfield 138, 3) := dk_180 0 138 (dk_at dksX3_unused_3 0 rfl rfl)
theorem dX3_unused_75 : decode cX3_unused 75 = .ok (.iload_n 2, 1) := dk_28 (dk_at dksX3_unused_3 3 rfl rfl)
theorem dX3_unused_76 : decode cX3_unused 76 = .ok (.baload, 1) := dk_51 (dk_at dksX3_unused_3 4 rfl rfl)
theorem dX3_unused_77 : decode cX3_unused 77 = .ok (.ifCond .ne 6, 3) := dk_154 0 6 (dk_at dksX3_unused_3 5 rfl rfl)
theorem dX3_unused_80 : decode cX3_unused 80 = .ok (.goto 37, 3) := dk_167 0 37 (dk_at dksX3_unused_3 8 rfl rfl)
theorem dX3_unused_83 : decode cX3_unused 83 = .ok (.iconst 0, 1) := dk_3 (dk_at dksX3_unused_3 11 rfl rfl)
theorem dX3_unused_84 : decode cX3_unused 84 = .ok (.istore_n 3, 1) := dk_62 (dk_at dksX3_unused_3 12 rfl rfl)
theorem dX3_unused_85 : decode cX3_unused 85 = .ok (.iload_n 3, 1) := dk_29 (dk_at dksX3_unused_3 13 rfl rfl)
theorem dX3_unused_86 : decode cX3_unused 86 = .ok (.aload_n 0, 1) := dk_42 (dk_at dksX3_unused_3 14 rfl rfl)
theorem dX3_unused_87 : decode cX3_unused 87 = .ok (.getfield 30, 3) := dk_180 0 30 (dk_at dksX3_unused_3 15 rfl rfl)
theorem dX3_unused_90 : decode cX3_unused 90 = .ok (.iload_n 2, 1) := dk_28 (dk_at dksX3_unused_3 18 rfl rfl)
theorem dX3_unused_91 : decode cX3_unused 91 = .ok (.iaload, 1) := dk_46 (dk_at dksX3_unused_3 19 rfl rfl)
theorem dX3_unused_92 : decode cX3_unused 92 = .ok (.if_icmp .ge 25, 3) := dk_162 0 25 (dk_at dksX3_unused_3 20 rfl rfl)
theorem dX3_unused_95 : decode cX3_unused 95 = .ok (.aload_n 0, 1) := dk_42 (dk_at dksX3_unused_3 23 rfl rfl)
theorem dX3_unused_96 : decode cX3_unused 96 = .ok (.getfield 138, 3) := dk_180 0 138 (dk_at dksX3_unused_4 0 rfl rfl)
theorem dX3_unused_99 : decode cX3_unused 99 = .ok (.aload_n 0, 1) := dk_42 (dk_at dksX3_unused_4 3 rfl rfl)
theorem dX3_unused_100 : decode cX3_unused 100 = .ok (.getfield 33, 3) := dk_180 0 33 (dk_at dksX3_unused_4 4 rfl rfl)
theorem dX3_unused_103 : decode cX3_unused 103 = .ok (.iconst 3, 1) := dk_6 (dk_at dksX3_unused_4 7 rfl rfl)
theorem dX3_unused_104 : decode cX3_unused 104 = .ok (.iload_n 2, 1) := dk_28 (dk_at dksX3_unused_4 8 rfl rfl)
theorem dX3_unused_105 : decode cX3_unused 105 = .ok (.imul, 1) := dk_104 (dk_at dksX3_unused_4 9 rfl rfl)
theorem dX3_unused_106 : decode cX3_unused 106 = .ok (.iload_n 3, 1) := dk_29 (dk_at dksX3_unused_4 10 rfl rfl)
theorem dX3_unused_107 : decode cX3_unused 107 = .ok (.iadd, 1) := dk_96 (dk_at dksX3_unused_4 11 rfl rfl)
theorem dX3_unused_108 : decode cX3_unused 108 = .ok (.iaload, 1) := dk_46 (dk_at dksX3_unused_4 12 rfl rfl)
theorem dX3_unused_109 : decode cX3_unused 109 = .ok (.iconst 1, 1) := dk_4 (dk_at dksX3_unused_4 13 rfl rfl)
theorem dX3_unused_110 : decode cX3_unused 110 = .ok (.bastore, 1) := dk_84 (dk_at dksX3_unused_4 14 rfl rfl)
theorem dX3_unused_111 : decode cX3_unused 111 = .ok (.iinc 3 1, 3) := dk_132 3 1 (dk_at dksX3_unused_4 15 rfl rfl)
theorem dX3_unused_114 : decode cX3_unused 114 = .ok (.goto (-29), 3) := dk_167 255 227 (dk_at dksX3_unused_4 18 rfl rfl)
theorem dX3_unused_117 : decode cX3_unused 117 = .ok (.iinc 2 (-1), 3) := dk_132 2 255 (dk_at dksX3_unused_4 21 rfl rfl)
theorem dX3_unused_120 : decode cX3_unused 120 = .ok (.goto (-62), 3) := dk_167 255 194 (dk_at dksX3_unused_5 0 rfl rfl)
theorem dX3_unused_123 : decode cX3_unused 123 = .ok (.aload_n 0, 1) := dk_42 (dk_at dksX3_unused_5 3 rfl rfl)
theorem dX3_unused_124 : decode cX3_unused 124 = .ok (.iconst 0, 1) := dk_3 (dk_at dksX3_unused_5 4 rfl rfl)
theorem dX3_unused_125 : decode cX3_unused 125 = .ok (.putfield 324, 3) := dk_181 1 68 (dk_at dksX3_unused_5 5 rfl rfl)
theorem dX3_unused_128 : decode cX3_unused 128 = .ok (.iconst 0, 1) := dk_3 (dk_at dksX3_unused_5 8 rfl rfl)
theorem dX3_unused_129 : decode cX3_unused 129 = .ok (.istore_n 2, 1) := dk_61 (dk_at dksX3_unused_5 9 rfl rfl)
theorem dX3_unused_130 : decode cX3_unused 130 = .ok (.iload_n 2, 1) := dk_28 (dk_at dksX3_unused_5 10 rfl rfl)
theorem dX3_unused_131 : decode cX3_unused 131 = .ok (.aload_n 0, 1) := dk_42 (dk_at dksX3_unused_5 11 rfl rfl)
theorem dX3_unused_132 : decode cX3_unused 132 = .ok (.getfield 159, 3) := dk_180 0 159 (dk_at dksX3_unused_5 12 rfl rfl)
theorem dX3_unused_135 : decode cX3_unused 135 = .ok (.if_icmp .ge 32, 3) := dk_162 0 32 (dk_at dksX3_unused_5 15 rfl rfl)
theorem dX3_unused_138 : decode cX3_unused 138 = .ok (.aload_n 0, 1) := dk_42 (dk_at dksX3_unused_5 18 rfl rfl)
theorem dX3_unused_139 : decode cX3_unused 139 = .ok (.getfield 7, 3) := dk_180 0 7 (dk_at dksX3_unused_5 19 rfl rfl)
theorem dX3_unused_142 : decode cX3_unused 142 = .ok (.iload_n 2, 1) := dk_28 (dk_at dksX3_unused_5 22 rfl rfl)
theorem dX3_unused_143 : decode cX3_unused 143 = .ok (.baload, 1) := dk_51 (dk_at dksX3_unused_5 23 rfl rfl)
theorem dX3_unused_144 : decode cX3_unused 144 = .ok (.ifCond .eq 17, 3) := dk_153 0 17 (dk_at dksX3_unused_6 0 rfl rfl)
theorem dX3_unused_147 : decode cX3_unused 147 = .ok (.aload_n 0, 1) := dk_42 (dk_at dksX3_unused_6 3 rfl rfl)
theorem dX3_unused_148 : decode cX3_unused 148 = .ok (.getfield 138, 3) := dk_180 0 138 (dk_at dksX3_unused_6 4 rfl rfl)
theorem dX3_unused_151 : decode cX3_unused 151 = .ok (.iload_n 2, 1) := dk_28 (dk_at dksX3_unused_6 7 rfl rfl)
theorem dX3_unused_152 : decode cX3_unused 152 = .ok (.baload, 1) := dk_51 (dk_at dksX3_unused_6 8 rfl rfl)
theorem dX3_unused_153 : decode cX3_unused 153 = .ok (.ifCond .ne 8, 3) := dk_154 0 8 (dk_at dksX3_unused_6 9 rfl rfl)
theorem dX3_unused_156 : decode cX3_unused 156 = .ok (.aload_n 0, 1) := dk_42 (dk_at dksX3_unused_6 12 rfl rfl)
theorem dX3_unused_157 : decode cX3_unused 157 = .ok (.iload_n 2, 1) := dk_28 (dk_at dksX3_unused_6 13 rfl rfl)
theorem dX3_unused_158 : decode cX3_unused 158 = .ok (.invokevirtual 339, 3) := dk_182 1 83 (dk_at dksX3_unused_6 14 rfl rfl)
theorem dX3_unused_161 : decode cX3_unused 161 = .ok (.iinc 2 1, 3) := dk_132 2 1 (dk_at dksX3_unused_6 17 rfl rfl)
theorem dX3_unused_164 : decode cX3_unused 164 = .ok (.goto (-34), 3) := dk_167 255 222 (dk_at dksX3_unused_6 20 rfl rfl)
theorem dX3_unused_167 : decode cX3_unused 167 = .ok (.aload_n 0, 1) := dk_42 (dk_at dksX3_unused_6 23 rfl rfl)
theorem dX3_unused_168 : decode cX3_unused 168 = .ok (.getfield 324, 3) := dk_180 1 68 (dk_at dksX3_unused_7 0 rfl rfl)
theorem dX3_unused_171 : decode cX3_unused 171 = .ok (.ireturn, 1) := dk_172 (dk_at dksX3_unused_7 3 rfl rfl)
abbrev cX3_alike : ByteArray := prog_14_method_69_code
def yX3_alike : MethodName := ⟨RX3, "alike", "(II)I"⟩
def dkwX3_alike_8 : List UInt8 := [46, 159, 0, 5, 3, 172, 132, 7, 1, 167, 255, 194, 132, 3, 1, 132, 4, 1, 167, 255, 117, 4, 172]
abbrev dktX3_alike_8 : List UInt8 := dkwX3_alike_8 ++ []
def dkwX3_alike_7 : List UInt8 := [21, 7, 96, 46, 42, 180, 0, 60, 17, 1, 144, 28, 104, 42, 180, 0, 54, 21, 6, 46, 96, 21, 7, 96]
abbrev dktX3_alike_7 : List UInt8 := dkwX3_alike_7 ++ dktX3_alike_8
def dkwX3_alike_6 : List UInt8 := [21, 5, 46, 162, 0, 56, 42, 180, 0, 60, 17, 1, 144, 27, 104, 42, 180, 0, 54, 21, 5, 46, 96]
abbrev dktX3_alike_6 : List UInt8 := dkwX3_alike_6 ++ dktX3_alike_7
def dkwX3_alike_5 : List UInt8 := [21, 5, 46, 42, 180, 0, 57, 21, 6, 46, 159, 0, 5, 3, 172, 3, 54, 7, 21, 7, 42, 180, 0, 57]
abbrev dktX3_alike_5 : List UInt8 := dkwX3_alike_5 ++ dktX3_alike_6
def dkwX3_alike_4 : List UInt8 := [96, 54, 6, 42, 180, 0, 51, 21, 5, 46, 42, 180, 0, 51, 21, 6, 46, 160, 0, 20, 42, 180, 0, 57]
abbrev dktX3_alike_4 : List UInt8 := dkwX3_alike_4 ++ dktX3_alike_5
def dkwX3_alike_3 : List UInt8 := [180, 0, 48, 27, 46, 162, 0, 135, 17, 1, 144, 27, 104, 29, 96, 54, 5, 17, 1, 144, 28, 104, 21, 4]
abbrev dktX3_alike_3 : List UInt8 := dkwX3_alike_3 ++ dktX3_alike_4
def dkwX3_alike_2 : List UInt8 := [100, 159, 0, 5, 3, 172, 42, 180, 0, 69, 27, 46, 62, 42, 180, 0, 69, 28, 46, 54, 4, 29, 42]
abbrev dktX3_alike_2 : List UInt8 := dkwX3_alike_2 ++ dktX3_alike_3
def dkwX3_alike_1 : List UInt8 := [180, 0, 48, 27, 46, 42, 180, 0, 69, 27, 46, 100, 42, 180, 0, 48, 28, 46, 42, 180, 0, 69, 28, 46]
abbrev dktX3_alike_1 : List UInt8 := dkwX3_alike_1 ++ dktX3_alike_2
def dkwX3_alike_0 : List UInt8 := [42, 27, 182, 1, 110, 153, 0, 16, 42, 28, 182, 1, 110, 153, 0, 8, 27, 28, 160, 0, 5, 2, 172, 42]
abbrev dktX3_alike_0 : List UInt8 := dkwX3_alike_0 ++ dktX3_alike_1
theorem dksX3_alike_0 : cX3_alike.data.toList.drop 0 = dktX3_alike_0 := by decide +kernel
theorem dksX3_alike_1 : cX3_alike.data.toList.drop 24 = dktX3_alike_1 := dk_seg dksX3_alike_0 24 rfl rfl
theorem dksX3_alike_2 : cX3_alike.data.toList.drop 48 = dktX3_alike_2 := dk_seg dksX3_alike_1 24 rfl rfl
theorem dksX3_alike_3 : cX3_alike.data.toList.drop 71 = dktX3_alike_3 := dk_seg dksX3_alike_2 23 rfl rfl
theorem dksX3_alike_4 : cX3_alike.data.toList.drop 95 = dktX3_alike_4 := dk_seg dksX3_alike_3 24 rfl rfl
theorem dksX3_alike_5 : cX3_alike.data.toList.drop 119 = dktX3_alike_5 := dk_seg dksX3_alike_4 24 rfl rfl
theorem dksX3_alike_6 : cX3_alike.data.toList.drop 143 = dktX3_alike_6 := dk_seg dksX3_alike_5 24 rfl rfl
theorem dksX3_alike_7 : cX3_alike.data.toList.drop 166 = dktX3_alike_7 := dk_seg dksX3_alike_6 23 rfl rfl
theorem dksX3_alike_8 : cX3_alike.data.toList.drop 190 = dktX3_alike_8 := dk_seg dksX3_alike_7 24 rfl rfl
theorem dX3_alike_0 : decode cX3_alike 0 = .ok (.aload_n 0, 1) := dk_42 (dk_at dksX3_alike_0 0 rfl rfl)
theorem dX3_alike_1 : decode cX3_alike 1 = .ok (.iload_n 1, 1) := dk_27 (dk_at dksX3_alike_0 1 rfl rfl)
theorem dX3_alike_2 : decode cX3_alike 2 = .ok (.invokevirtual 366, 3) := dk_182 1 110 (dk_at dksX3_alike_0 2 rfl rfl)
theorem dX3_alike_5 : decode cX3_alike 5 = .ok (.ifCond .eq 16, 3) := dk_153 0 16 (dk_at dksX3_alike_0 5 rfl rfl)
theorem dX3_alike_8 : decode cX3_alike 8 = .ok (.aload_n 0, 1) := dk_42 (dk_at dksX3_alike_0 8 rfl rfl)
theorem dX3_alike_9 : decode cX3_alike 9 = .ok (.iload_n 2, 1) := dk_28 (dk_at dksX3_alike_0 9 rfl rfl)
theorem dX3_alike_10 : decode cX3_alike 10 = .ok (.invokevirtual 366, 3) := dk_182 1 110 (dk_at dksX3_alike_0 10 rfl rfl)
theorem dX3_alike_13 : decode cX3_alike 13 = .ok (.ifCond .eq 8, 3) := dk_153 0 8 (dk_at dksX3_alike_0 13 rfl rfl)
theorem dX3_alike_16 : decode cX3_alike 16 = .ok (.iload_n 1, 1) := dk_27 (dk_at dksX3_alike_0 16 rfl rfl)
theorem dX3_alike_17 : decode cX3_alike 17 = .ok (.iload_n 2, 1) := dk_28 (dk_at dksX3_alike_0 17 rfl rfl)
theorem dX3_alike_18 : decode cX3_alike 18 = .ok (.if_icmp .ne 5, 3) := dk_160 0 5 (dk_at dksX3_alike_0 18 rfl rfl)
theorem dX3_alike_21 : decode cX3_alike 21 = .ok (.iconst (-1), 1) := dk_2 (dk_at dksX3_alike_0 21 rfl rfl)
theorem dX3_alike_22 : decode cX3_alike 22 = .ok (.ireturn, 1) := dk_172 (dk_at dksX3_alike_0 22 rfl rfl)
theorem dX3_alike_23 : decode cX3_alike 23 = .ok (.aload_n 0, 1) := dk_42 (dk_at dksX3_alike_0 23 rfl rfl)
theorem dX3_alike_24 : decode cX3_alike 24 = .ok (.getfield 48, 3) := dk_180 0 48 (dk_at dksX3_alike_1 0 rfl rfl)
theorem dX3_alike_27 : decode cX3_alike 27 = .ok (.iload_n 1, 1) := dk_27 (dk_at dksX3_alike_1 3 rfl rfl)
theorem dX3_alike_28 : decode cX3_alike 28 = .ok (.iaload, 1) := dk_46 (dk_at dksX3_alike_1 4 rfl rfl)
theorem dX3_alike_29 : decode cX3_alike 29 = .ok (.aload_n 0, 1) := dk_42 (dk_at dksX3_alike_1 5 rfl rfl)
theorem dX3_alike_30 : decode cX3_alike 30 = .ok (.getfield 69, 3) := dk_180 0 69 (dk_at dksX3_alike_1 6 rfl rfl)
theorem dX3_alike_33 : decode cX3_alike 33 = .ok (.iload_n 1, 1) := dk_27 (dk_at dksX3_alike_1 9 rfl rfl)
theorem dX3_alike_34 : decode cX3_alike 34 = .ok (.iaload, 1) := dk_46 (dk_at dksX3_alike_1 10 rfl rfl)
theorem dX3_alike_35 : decode cX3_alike 35 = .ok (.isub, 1) := dk_100 (dk_at dksX3_alike_1 11 rfl rfl)
theorem dX3_alike_36 : decode cX3_alike 36 = .ok (.aload_n 0, 1) := dk_42 (dk_at dksX3_alike_1 12 rfl rfl)
theorem dX3_alike_37 : decode cX3_alike 37 = .ok (.getfield 48, 3) := dk_180 0 48 (dk_at dksX3_alike_1 13 rfl rfl)
theorem dX3_alike_40 : decode cX3_alike 40 = .ok (.iload_n 2, 1) := dk_28 (dk_at dksX3_alike_1 16 rfl rfl)
theorem dX3_alike_41 : decode cX3_alike 41 = .ok (.iaload, 1) := dk_46 (dk_at dksX3_alike_1 17 rfl rfl)
theorem dX3_alike_42 : decode cX3_alike 42 = .ok (.aload_n 0, 1) := dk_42 (dk_at dksX3_alike_1 18 rfl rfl)
theorem dX3_alike_43 : decode cX3_alike 43 = .ok (.getfield 69, 3) := dk_180 0 69 (dk_at dksX3_alike_1 19 rfl rfl)
theorem dX3_alike_46 : decode cX3_alike 46 = .ok (.iload_n 2, 1) := dk_28 (dk_at dksX3_alike_1 22 rfl rfl)
theorem dX3_alike_47 : decode cX3_alike 47 = .ok (.iaload, 1) := dk_46 (dk_at dksX3_alike_1 23 rfl rfl)
theorem dX3_alike_48 : decode cX3_alike 48 = .ok (.isub, 1) := dk_100 (dk_at dksX3_alike_2 0 rfl rfl)
theorem dX3_alike_49 : decode cX3_alike 49 = .ok (.if_icmp .eq 5, 3) := dk_159 0 5 (dk_at dksX3_alike_2 1 rfl rfl)
theorem dX3_alike_52 : decode cX3_alike 52 = .ok (.iconst 0, 1) := dk_3 (dk_at dksX3_alike_2 4 rfl rfl)
theorem dX3_alike_53 : decode cX3_alike 53 = .ok (.ireturn, 1) := dk_172 (dk_at dksX3_alike_2 5 rfl rfl)
theorem dX3_alike_54 : decode cX3_alike 54 = .ok (.aload_n 0, 1) := dk_42 (dk_at dksX3_alike_2 6 rfl rfl)
theorem dX3_alike_55 : decode cX3_alike 55 = .ok (.getfield 69, 3) := dk_180 0 69 (dk_at dksX3_alike_2 7 rfl rfl)
theorem dX3_alike_58 : decode cX3_alike 58 = .ok (.iload_n 1, 1) := dk_27 (dk_at dksX3_alike_2 10 rfl rfl)
theorem dX3_alike_59 : decode cX3_alike 59 = .ok (.iaload, 1) := dk_46 (dk_at dksX3_alike_2 11 rfl rfl)
theorem dX3_alike_60 : decode cX3_alike 60 = .ok (.istore_n 3, 1) := dk_62 (dk_at dksX3_alike_2 12 rfl rfl)
theorem dX3_alike_61 : decode cX3_alike 61 = .ok (.aload_n 0, 1) := dk_42 (dk_at dksX3_alike_2 13 rfl rfl)
theorem dX3_alike_62 : decode cX3_alike 62 = .ok (.getfield 69, 3) := dk_180 0 69 (dk_at dksX3_alike_2 14 rfl rfl)
theorem dX3_alike_65 : decode cX3_alike 65 = .ok (.iload_n 2, 1) := dk_28 (dk_at dksX3_alike_2 17 rfl rfl)
theorem dX3_alike_66 : decode cX3_alike 66 = .ok (.iaload, 1) := dk_46 (dk_at dksX3_alike_2 18 rfl rfl)
theorem dX3_alike_67 : decode cX3_alike 67 = .ok (.istore 4, 2) := dk_54 4 (dk_at dksX3_alike_2 19 rfl rfl)
theorem dX3_alike_69 : decode cX3_alike 69 = .ok (.iload_n 3, 1) := dk_29 (dk_at dksX3_alike_2 21 rfl rfl)
theorem dX3_alike_70 : decode cX3_alike 70 = .ok (.aload_n 0, 1) := dk_42 (dk_at dksX3_alike_2 22 rfl rfl)
theorem dX3_alike_71 : decode cX3_alike 71 = .ok (.getfield 48, 3) := dk_180 0 48 (dk_at dksX3_alike_3 0 rfl rfl)
theorem dX3_alike_74 : decode cX3_alike 74 = .ok (.iload_n 1, 1) := dk_27 (dk_at dksX3_alike_3 3 rfl rfl)
theorem dX3_alike_75 : decode cX3_alike 75 = .ok (.iaload, 1) := dk_46 (dk_at dksX3_alike_3 4 rfl rfl)
theorem dX3_alike_76 : decode cX3_alike 76 = .ok (.if_icmp .ge 135, 3) := dk_162 0 135 (dk_at dksX3_alike_3 5 rfl rfl)
theorem dX3_alike_79 : decode cX3_alike 79 = .ok (.sipush 400, 3) := dk_17 1 144 (dk_at dksX3_alike_3 8 rfl rfl)
theorem dX3_alike_82 : decode cX3_alike 82 = .ok (.iload_n 1, 1) := dk_27 (dk_at dksX3_alike_3 11 rfl rfl)
theorem dX3_alike_83 : decode cX3_alike 83 = .ok (.imul, 1) := dk_104 (dk_at dksX3_alike_3 12 rfl rfl)
theorem dX3_alike_84 : decode cX3_alike 84 = .ok (.iload_n 3, 1) := dk_29 (dk_at dksX3_alike_3 13 rfl rfl)
theorem dX3_alike_85 : decode cX3_alike 85 = .ok (.iadd, 1) := dk_96 (dk_at dksX3_alike_3 14 rfl rfl)
theorem dX3_alike_86 : decode cX3_alike 86 = .ok (.istore 5, 2) := dk_54 5 (dk_at dksX3_alike_3 15 rfl rfl)
theorem dX3_alike_88 : decode cX3_alike 88 = .ok (.sipush 400, 3) := dk_17 1 144 (dk_at dksX3_alike_3 17 rfl rfl)
theorem dX3_alike_91 : decode cX3_alike 91 = .ok (.iload_n 2, 1) := dk_28 (dk_at dksX3_alike_3 20 rfl rfl)
theorem dX3_alike_92 : decode cX3_alike 92 = .ok (.imul, 1) := dk_104 (dk_at dksX3_alike_3 21 rfl rfl)
theorem dX3_alike_93 : decode cX3_alike 93 = .ok (.iload 4, 2) := dk_21 4 (dk_at dksX3_alike_3 22 rfl rfl)
theorem dX3_alike_95 : decode cX3_alike 95 = .ok (.iadd, 1) := dk_96 (dk_at dksX3_alike_4 0 rfl rfl)
theorem dX3_alike_96 : decode cX3_alike 96 = .ok (.istore 6, 2) := dk_54 6 (dk_at dksX3_alike_4 1 rfl rfl)
theorem dX3_alike_98 : decode cX3_alike 98 = .ok (.aload_n 0, 1) := dk_42 (dk_at dksX3_alike_4 3 rfl rfl)
theorem dX3_alike_99 : decode cX3_alike 99 = .ok (.getfield 51, 3) := dk_180 0 51 (dk_at dksX3_alike_4 4 rfl rfl)
theorem dX3_alike_102 : decode cX3_alike 102 = .ok (.iload 5, 2) := dk_21 5 (dk_at dksX3_alike_4 7 rfl rfl)
theorem dX3_alike_104 : decode cX3_alike 104 = .ok (.iaload, 1) := dk_46 (dk_at dksX3_alike_4 9 rfl rfl)
theorem dX3_alike_105 : decode cX3_alike 105 = .ok (.aload_n 0, 1) := dk_42 (dk_at dksX3_alike_4 10 rfl rfl)
theorem dX3_alike_106 : decode cX3_alike 106 = .ok (.getfield 51, 3) := dk_180 0 51 (dk_at dksX3_alike_4 11 rfl rfl)
theorem dX3_alike_109 : decode cX3_alike 109 = .ok (.iload 6, 2) := dk_21 6 (dk_at dksX3_alike_4 14 rfl rfl)
theorem dX3_alike_111 : decode cX3_alike 111 = .ok (.iaload, 1) := dk_46 (dk_at dksX3_alike_4 16 rfl rfl)
theorem dX3_alike_112 : decode cX3_alike 112 = .ok (.if_icmp .ne 20, 3) := dk_160 0 20 (dk_at dksX3_alike_4 17 rfl rfl)
theorem dX3_alike_115 : decode cX3_alike 115 = .ok (.aload_n 0, 1) := dk_42 (dk_at dksX3_alike_4 20 rfl rfl)
theorem dX3_alike_116 : decode cX3_alike 116 = .ok (.getfield 57, 3) := dk_180 0 57 (dk_at dksX3_alike_4 21 rfl rfl)
theorem dX3_alike_119 : decode cX3_alike 119 = .ok (.iload 5, 2) := dk_21 5 (dk_at dksX3_alike_5 0 rfl rfl)
theorem dX3_alike_121 : decode cX3_alike 121 = .ok (.iaload, 1) := dk_46 (dk_at dksX3_alike_5 2 rfl rfl)
theorem dX3_alike_122 : decode cX3_alike 122 = .ok (.aload_n 0, 1) := dk_42 (dk_at dksX3_alike_5 3 rfl rfl)
theorem dX3_alike_123 : decode cX3_alike 123 = .ok (.getfield 57, 3) := dk_180 0 57 (dk_at dksX3_alike_5 4 rfl rfl)
theorem dX3_alike_126 : decode cX3_alike 126 = .ok (.iload 6, 2) := dk_21 6 (dk_at dksX3_alike_5 7 rfl rfl)
theorem dX3_alike_128 : decode cX3_alike 128 = .ok (.iaload, 1) := dk_46 (dk_at dksX3_alike_5 9 rfl rfl)
theorem dX3_alike_129 : decode cX3_alike 129 = .ok (.if_icmp .eq 5, 3) := dk_159 0 5 (dk_at dksX3_alike_5 10 rfl rfl)
theorem dX3_alike_132 : decode cX3_alike 132 = .ok (.iconst 0, 1) := dk_3 (dk_at dksX3_alike_5 13 rfl rfl)
theorem dX3_alike_133 : decode cX3_alike 133 = .ok (.ireturn, 1) := dk_172 (dk_at dksX3_alike_5 14 rfl rfl)
theorem dX3_alike_134 : decode cX3_alike 134 = .ok (.iconst 0, 1) := dk_3 (dk_at dksX3_alike_5 15 rfl rfl)
theorem dX3_alike_135 : decode cX3_alike 135 = .ok (.istore 7, 2) := dk_54 7 (dk_at dksX3_alike_5 16 rfl rfl)
theorem dX3_alike_137 : decode cX3_alike 137 = .ok (.iload 7, 2) := dk_21 7 (dk_at dksX3_alike_5 18 rfl rfl)
theorem dX3_alike_139 : decode cX3_alike 139 = .ok (.aload_n 0, 1) := dk_42 (dk_at dksX3_alike_5 20 rfl rfl)
theorem dX3_alike_140 : decode cX3_alike 140 = .ok (.getfield 57, 3) := dk_180 0 57 (dk_at dksX3_alike_5 21 rfl rfl)
theorem dX3_alike_143 : decode cX3_alike 143 = .ok (.iload 5, 2) := dk_21 5 (dk_at dksX3_alike_6 0 rfl rfl)
theorem dX3_alike_145 : decode cX3_alike 145 = .ok (.iaload, 1) := dk_46 (dk_at dksX3_alike_6 2 rfl rfl)
theorem dX3_alike_146 : decode cX3_alike 146 = .ok (.if_icmp .ge 56, 3) := dk_162 0 56 (dk_at dksX3_alike_6 3 rfl rfl)
theorem dX3_alike_149 : decode cX3_alike 149 = .ok (.aload_n 0, 1) := dk_42 (dk_at dksX3_alike_6 6 rfl rfl)
theorem dX3_alike_150 : decode cX3_alike 150 = .ok (.getfield 60, 3) := dk_180 0 60 (dk_at dksX3_alike_6 7 rfl rfl)
theorem dX3_alike_153 : decode cX3_alike 153 = .ok (.sipush 400, 3) := dk_17 1 144 (dk_at dksX3_alike_6 10 rfl rfl)
theorem dX3_alike_156 : decode cX3_alike 156 = .ok (.iload_n 1, 1) := dk_27 (dk_at dksX3_alike_6 13 rfl rfl)
theorem dX3_alike_157 : decode cX3_alike 157 = .ok (.imul, 1) := dk_104 (dk_at dksX3_alike_6 14 rfl rfl)
theorem dX3_alike_158 : decode cX3_alike 158 = .ok (.aload_n 0, 1) := dk_42 (dk_at dksX3_alike_6 15 rfl rfl)
theorem dX3_alike_159 : decode cX3_alike 159 = .ok (.getfield 54, 3) := dk_180 0 54 (dk_at dksX3_alike_6 16 rfl rfl)
theorem dX3_alike_162 : decode cX3_alike 162 = .ok (.iload 5, 2) := dk_21 5 (dk_at dksX3_alike_6 19 rfl rfl)
theorem dX3_alike_164 : decode cX3_alike 164 = .ok (.iaload, 1) := dk_46 (dk_at dksX3_alike_6 21 rfl rfl)
theorem dX3_alike_165 : decode cX3_alike 165 = .ok (.iadd, 1) := dk_96 (dk_at dksX3_alike_6 22 rfl rfl)
theorem dX3_alike_166 : decode cX3_alike 166 = .ok (.iload 7, 2) := dk_21 7 (dk_at dksX3_alike_7 0 rfl rfl)
theorem dX3_alike_168 : decode cX3_alike 168 = .ok (.iadd, 1) := dk_96 (dk_at dksX3_alike_7 2 rfl rfl)
theorem dX3_alike_169 : decode cX3_alike 169 = .ok (.iaload, 1) := dk_46 (dk_at dksX3_alike_7 3 rfl rfl)
theorem dX3_alike_170 : decode cX3_alike 170 = .ok (.aload_n 0, 1) := dk_42 (dk_at dksX3_alike_7 4 rfl rfl)
theorem dX3_alike_171 : decode cX3_alike 171 = .ok (.getfield 60, 3) := dk_180 0 60 (dk_at dksX3_alike_7 5 rfl rfl)
theorem dX3_alike_174 : decode cX3_alike 174 = .ok (.sipush 400, 3) := dk_17 1 144 (dk_at dksX3_alike_7 8 rfl rfl)
theorem dX3_alike_177 : decode cX3_alike 177 = .ok (.iload_n 2, 1) := dk_28 (dk_at dksX3_alike_7 11 rfl rfl)
theorem dX3_alike_178 : decode cX3_alike 178 = .ok (.imul, 1) := dk_104 (dk_at dksX3_alike_7 12 rfl rfl)
theorem dX3_alike_179 : decode cX3_alike 179 = .ok (.aload_n 0, 1) := dk_42 (dk_at dksX3_alike_7 13 rfl rfl)
theorem dX3_alike_180 : decode cX3_alike 180 = .ok (.getfield 54, 3) := dk_180 0 54 (dk_at dksX3_alike_7 14 rfl rfl)
theorem dX3_alike_183 : decode cX3_alike 183 = .ok (.iload 6, 2) := dk_21 6 (dk_at dksX3_alike_7 17 rfl rfl)
theorem dX3_alike_185 : decode cX3_alike 185 = .ok (.iaload, 1) := dk_46 (dk_at dksX3_alike_7 19 rfl rfl)
theorem dX3_alike_186 : decode cX3_alike 186 = .ok (.iadd, 1) := dk_96 (dk_at dksX3_alike_7 20 rfl rfl)
theorem dX3_alike_187 : decode cX3_alike 187 = .ok (.iload 7, 2) := dk_21 7 (dk_at dksX3_alike_7 21 rfl rfl)
theorem dX3_alike_189 : decode cX3_alike 189 = .ok (.iadd, 1) := dk_96 (dk_at dksX3_alike_7 23 rfl rfl)
theorem dX3_alike_190 : decode cX3_alike 190 = .ok (.iaload, 1) := dk_46 (dk_at dksX3_alike_8 0 rfl rfl)
theorem dX3_alike_191 : decode cX3_alike 191 = .ok (.if_icmp .eq 5, 3) := dk_159 0 5 (dk_at dksX3_alike_8 1 rfl rfl)
theorem dX3_alike_194 : decode cX3_alike 194 = .ok (.iconst 0, 1) := dk_3 (dk_at dksX3_alike_8 4 rfl rfl)
theorem dX3_alike_195 : decode cX3_alike 195 = .ok (.ireturn, 1) := dk_172 (dk_at dksX3_alike_8 5 rfl rfl)
theorem dX3_alike_196 : decode cX3_alike 196 = .ok (.iinc 7 1, 3) := dk_132 7 1 (dk_at dksX3_alike_8 6 rfl rfl)
theorem dX3_alike_199 : decode cX3_alike 199 = .ok (.goto (-62), 3) := dk_167 255 194 (dk_at dksX3_alike_8 9 rfl rfl)
theorem dX3_alike_202 : decode cX3_alike 202 = .ok (.iinc 3 1, 3) := dk_132 3 1 (dk_at dksX3_alike_8 12 rfl rfl)
theorem dX3_alike_205 : decode cX3_alike 205 = .ok (.iinc 4 1, 3) := dk_132 4 1 (dk_at dksX3_alike_8 15 rfl rfl)
theorem dX3_alike_208 : decode cX3_alike 208 = .ok (.goto (-139), 3) := dk_167 255 117 (dk_at dksX3_alike_8 18 rfl rfl)
theorem dX3_alike_211 : decode cX3_alike 211 = .ok (.iconst 1, 1) := dk_4 (dk_at dksX3_alike_8 21 rfl rfl)
theorem dX3_alike_212 : decode cX3_alike 212 = .ok (.ireturn, 1) := dk_172 (dk_at dksX3_alike_8 22 rfl rfl)
abbrev cX3_isSelect : ByteArray := prog_14_method_68_code
def yX3_isSelect : MethodName := ⟨RX3, "isSelect", "(I)Z"⟩
def dkwX3_isSelect_1 : List UInt8 := [5, 160, 0, 7, 4, 167, 0, 4, 3, 172]
abbrev dktX3_isSelect_1 : List UInt8 := dkwX3_isSelect_1 ++ []
def dkwX3_isSelect_0 : List UInt8 := [42, 27, 182, 0, 162, 153, 0, 27, 42, 180, 0, 17, 27, 46, 4, 159, 0, 13, 42, 180, 0, 17, 27, 46]
abbrev dktX3_isSelect_0 : List UInt8 := dkwX3_isSelect_0 ++ dktX3_isSelect_1
theorem dksX3_isSelect_0 : cX3_isSelect.data.toList.drop 0 = dktX3_isSelect_0 := by decide +kernel
theorem dksX3_isSelect_1 : cX3_isSelect.data.toList.drop 24 = dktX3_isSelect_1 := dk_seg dksX3_isSelect_0 24 rfl rfl
theorem dX3_isSelect_0 : decode cX3_isSelect 0 = .ok (.aload_n 0, 1) := dk_42 (dk_at dksX3_isSelect_0 0 rfl rfl)
theorem dX3_isSelect_1 : decode cX3_isSelect 1 = .ok (.iload_n 1, 1) := dk_27 (dk_at dksX3_isSelect_0 1 rfl rfl)
theorem dX3_isSelect_2 : decode cX3_isSelect 2 = .ok (.invokevirtual 162, 3) := dk_182 0 162 (dk_at dksX3_isSelect_0 2 rfl rfl)
theorem dX3_isSelect_5 : decode cX3_isSelect 5 = .ok (.ifCond .eq 27, 3) := dk_153 0 27 (dk_at dksX3_isSelect_0 5 rfl rfl)
theorem dX3_isSelect_8 : decode cX3_isSelect 8 = .ok (.aload_n 0, 1) := dk_42 (dk_at dksX3_isSelect_0 8 rfl rfl)
theorem dX3_isSelect_9 : decode cX3_isSelect 9 = .ok (.getfield 17, 3) := dk_180 0 17 (dk_at dksX3_isSelect_0 9 rfl rfl)
theorem dX3_isSelect_12 : decode cX3_isSelect 12 = .ok (.iload_n 1, 1) := dk_27 (dk_at dksX3_isSelect_0 12 rfl rfl)
theorem dX3_isSelect_13 : decode cX3_isSelect 13 = .ok (.iaload, 1) := dk_46 (dk_at dksX3_isSelect_0 13 rfl rfl)
theorem dX3_isSelect_14 : decode cX3_isSelect 14 = .ok (.iconst 1, 1) := dk_4 (dk_at dksX3_isSelect_0 14 rfl rfl)
theorem dX3_isSelect_15 : decode cX3_isSelect 15 = .ok (.if_icmp .eq 13, 3) := dk_159 0 13 (dk_at dksX3_isSelect_0 15 rfl rfl)
theorem dX3_isSelect_18 : decode cX3_isSelect 18 = .ok (.aload_n 0, 1) := dk_42 (dk_at dksX3_isSelect_0 18 rfl rfl)
theorem dX3_isSelect_19 : decode cX3_isSelect 19 = .ok (.getfield 17, 3) := dk_180 0 17 (dk_at dksX3_isSelect_0 19 rfl rfl)
theorem dX3_isSelect_22 : decode cX3_isSelect 22 = .ok (.iload_n 1, 1) := dk_27 (dk_at dksX3_isSelect_0 22 rfl rfl)
theorem dX3_isSelect_23 : decode cX3_isSelect 23 = .ok (.iaload, 1) := dk_46 (dk_at dksX3_isSelect_0 23 rfl rfl)
theorem dX3_isSelect_24 : decode cX3_isSelect 24 = .ok (.iconst 2, 1) := dk_5 (dk_at dksX3_isSelect_1 0 rfl rfl)
theorem dX3_isSelect_25 : decode cX3_isSelect 25 = .ok (.if_icmp .ne 7, 3) := dk_160 0 7 (dk_at dksX3_isSelect_1 1 rfl rfl)
theorem dX3_isSelect_28 : decode cX3_isSelect 28 = .ok (.iconst 1, 1) := dk_4 (dk_at dksX3_isSelect_1 4 rfl rfl)
theorem dX3_isSelect_29 : decode cX3_isSelect 29 = .ok (.goto 4, 3) := dk_167 0 4 (dk_at dksX3_isSelect_1 5 rfl rfl)
theorem dX3_isSelect_32 : decode cX3_isSelect 32 = .ok (.iconst 0, 1) := dk_3 (dk_at dksX3_isSelect_1 8 rfl rfl)
theorem dX3_isSelect_33 : decode cX3_isSelect 33 = .ok (.ireturn, 1) := dk_172 (dk_at dksX3_isSelect_1 9 rfl rfl)
theorem q90 : (Jvm.Cond.initialized "TableCatalogModel") ∈ lw_all := lw_g (lw_at lw_m1 10 rfl) rfl
theorem q675 : (Jvm.Cond.selects "TableCatalogModel" ({ cls := "java/lang/Object", name := "getClass", desc := "()Ljava/lang/Class;" } : Jvm.MethodName) ({ cls := "java/lang/Object", name := "getClass", desc := "()Ljava/lang/Class;" } : Jvm.MethodName)) ∈ lw_all := lw_g (lw_at lw_m3 115 rfl) rfl
theorem q923 : (Jvm.Cond.selects "TableCatalogModel" ({ cls := "java/lang/Object", name := "equals", desc := "(Ljava/lang/Object;)Z" } : Jvm.MethodName) ({ cls := "java/lang/Object", name := "equals", desc := "(Ljava/lang/Object;)Z" } : Jvm.MethodName)) ∈ lw_all := lw_g (lw_at lw_m4 123 rfl) rfl
theorem q1163 : (Jvm.Cond.instantiable "TableCatalogModel" (67 : Nat)) ∈ lw_all := lw_g (lw_at lw_m5 123 rfl) rfl
theorem q1165 : (Jvm.Cond.instanceMethod ({ cls := "TableCatalogModel", name := "<init>", desc := "()V" } : Jvm.MethodName)) ∈ lw_all := lw_g (lw_at lw_m5 125 rfl) rfl
theorem q1166 : (Jvm.Cond.code ({ cls := "TableCatalogModel", name := "<init>", desc := "()V" } : Jvm.MethodName) prog_14_method_1_code (1 : Nat) (Option.none : Option Jvm.ClassFile.FieldType)) ∈ lw_all := lw_g (lw_at lw_m5 126 rfl) rfl
theorem q1167 : (Jvm.Cond.methodLink "TableCatalogModel" (1 : Nat) ({ cls := "java/lang/Object", name := "<init>", desc := "()V" } : Jvm.MethodName)) ∈ lw_all := lw_g (lw_at lw_m5 127 rfl) rfl
theorem q1168 : (Jvm.Cond.methodLink "TableCatalogModel" (79 : Nat) ({ cls := "TableCatalogModel", name := "named", desc := "(CCCCC)J" } : Jvm.MethodName)) ∈ lw_all := lw_g (lw_at lw_m5 128 rfl) rfl
theorem q1169 : (Jvm.Cond.static ({ cls := "TableCatalogModel", name := "named", desc := "(CCCCC)J" } : Jvm.MethodName)) ∈ lw_all := lw_g (lw_at lw_m5 129 rfl) rfl
theorem q1170 : (Jvm.Cond.code ({ cls := "TableCatalogModel", name := "named", desc := "(CCCCC)J" } : Jvm.MethodName) prog_14_method_13_code (9 : Nat) (Option.some Jvm.ClassFile.FieldType.long)) ∈ lw_all := lw_g (lw_at lw_m5 130 rfl) rfl
theorem q1171 : (Jvm.Cond.constantLong "TableCatalogModel" (175 : Nat) (27 : Int64)) ∈ lw_all := lw_g (lw_at lw_m5 131 rfl) rfl
theorem q1172 : (Jvm.Cond.constantLong "TableCatalogModel" (177 : Nat) (97 : Int64)) ∈ lw_all := lw_g (lw_at lw_m5 132 rfl) rfl
theorem q1173 : (Jvm.Cond.fieldLink "TableCatalogModel" (159 : Nat) "TableCatalogModel" "tables" "I") ∈ lw_all := lw_g (lw_at lw_m5 133 rfl) rfl
theorem q1174 : (Jvm.Cond.fieldLink "TableCatalogModel" (7 : Nat) "TableCatalogModel" "isThere" "[Z") ∈ lw_all := lw_g (lw_at lw_m5 134 rfl) rfl
theorem q1175 : (Jvm.Cond.fieldLink "TableCatalogModel" (13 : Nat) "TableCatalogModel" "name" "[J") ∈ lw_all := lw_g (lw_at lw_m5 135 rfl) rfl
theorem q1176 : (Jvm.Cond.fieldLink "TableCatalogModel" (17 : Nat) "TableCatalogModel" "sort" "[I") ∈ lw_all := lw_g (lw_at lw_m5 136 rfl) rfl
theorem q1177 : (Jvm.Cond.fieldLink "TableCatalogModel" (21 : Nat) "TableCatalogModel" "columns" "[I") ∈ lw_all := lw_g (lw_at lw_m5 137 rfl) rfl
theorem q1178 : (Jvm.Cond.fieldLink "TableCatalogModel" (24 : Nat) "TableCatalogModel" "columnName" "[J") ∈ lw_all := lw_g (lw_at lw_m5 138 rfl) rfl
theorem q1179 : (Jvm.Cond.fieldLink "TableCatalogModel" (27 : Nat) "TableCatalogModel" "type" "[I") ∈ lw_all := lw_g (lw_at lw_m5 139 rfl) rfl
theorem q1180 : (Jvm.Cond.fieldLink "TableCatalogModel" (30 : Nat) "TableCatalogModel" "behind" "[I") ∈ lw_all := lw_g (lw_at lw_m5 140 rfl) rfl
theorem q1181 : (Jvm.Cond.fieldLink "TableCatalogModel" (33 : Nat) "TableCatalogModel" "from" "[I") ∈ lw_all := lw_g (lw_at lw_m5 141 rfl) rfl
theorem q1182 : (Jvm.Cond.fieldLink "TableCatalogModel" (36 : Nat) "TableCatalogModel" "owner" "[I") ∈ lw_all := lw_g (lw_at lw_m5 142 rfl) rfl
theorem q1183 : (Jvm.Cond.fieldLink "TableCatalogModel" (39 : Nat) "TableCatalogModel" "lag" "[I") ∈ lw_all := lw_g (lw_at lw_m5 143 rfl) rfl
theorem q1184 : (Jvm.Cond.fieldLink "TableCatalogModel" (42 : Nat) "TableCatalogModel" "oldest" "[I") ∈ lw_all := lw_g (lw_at lw_m5 144 rfl) rfl
theorem q1185 : (Jvm.Cond.fieldLink "TableCatalogModel" (45 : Nat) "TableCatalogModel" "newest" "[I") ∈ lw_all := lw_g (lw_at lw_m5 145 rfl) rfl
theorem q1186 : (Jvm.Cond.fieldLink "TableCatalogModel" (48 : Nat) "TableCatalogModel" "tokens" "[I") ∈ lw_all := lw_g (lw_at lw_m5 146 rfl) rfl
theorem q1187 : (Jvm.Cond.fieldLink "TableCatalogModel" (51 : Nat) "TableCatalogModel" "token" "[I") ∈ lw_all := lw_g (lw_at lw_m5 147 rfl) rfl
theorem q1188 : (Jvm.Cond.fieldLink "TableCatalogModel" (54 : Nat) "TableCatalogModel" "tokenAt" "[I") ∈ lw_all := lw_g (lw_at lw_m5 148 rfl) rfl
theorem q1189 : (Jvm.Cond.fieldLink "TableCatalogModel" (57 : Nat) "TableCatalogModel" "tokenLong" "[I") ∈ lw_all := lw_g (lw_at lw_m5 149 rfl) rfl
theorem q1190 : (Jvm.Cond.fieldLink "TableCatalogModel" (60 : Nat) "TableCatalogModel" "text" "[I") ∈ lw_all := lw_g (lw_at lw_m5 150 rfl) rfl
theorem q1191 : (Jvm.Cond.fieldLink "TableCatalogModel" (63 : Nat) "TableCatalogModel" "formulaFrom" "[I") ∈ lw_all := lw_g (lw_at lw_m5 151 rfl) rfl
theorem q1192 : (Jvm.Cond.fieldLink "TableCatalogModel" (66 : Nat) "TableCatalogModel" "formulaTo" "[I") ∈ lw_all := lw_g (lw_at lw_m5 152 rfl) rfl
theorem q1193 : (Jvm.Cond.fieldLink "TableCatalogModel" (69 : Nat) "TableCatalogModel" "equal" "[I") ∈ lw_all := lw_g (lw_at lw_m5 153 rfl) rfl
theorem q1194 : (Jvm.Cond.fieldLink "TableCatalogModel" (72 : Nat) "TableCatalogModel" "tape" "[I") ∈ lw_all := lw_g (lw_at lw_m5 154 rfl) rfl
theorem q1195 : (Jvm.Cond.fieldLink "TableCatalogModel" (166 : Nat) "TableCatalogModel" "taped" "I") ∈ lw_all := lw_g (lw_at lw_m5 155 rfl) rfl
theorem q1196 : (Jvm.Cond.fieldLink "TableCatalogModel" (179 : Nat) "TableCatalogModel" "at" "I") ∈ lw_all := lw_g (lw_at lw_m5 156 rfl) rfl
theorem q1197 : (Jvm.Cond.fieldLink "TableCatalogModel" (182 : Nat) "TableCatalogModel" "size" "I") ∈ lw_all := lw_g (lw_at lw_m5 157 rfl) rfl
theorem q1198 : (Jvm.Cond.fieldLink "TableCatalogModel" (169 : Nat) "TableCatalogModel" "bad" "I") ∈ lw_all := lw_g (lw_at lw_m5 158 rfl) rfl
theorem q1199 : (Jvm.Cond.fieldLink "TableCatalogModel" (172 : Nat) "TableCatalogModel" "badPlace" "I") ∈ lw_all := lw_g (lw_at lw_m5 159 rfl) rfl
theorem q1200 : (Jvm.Cond.fieldLink "TableCatalogModel" (307 : Nat) "TableCatalogModel" "fault" "I") ∈ lw_all := lw_g (lw_at lw_m5 160 rfl) rfl
theorem q1201 : (Jvm.Cond.fieldLink "TableCatalogModel" (75 : Nat) "TableCatalogModel" "faultPlace" "I") ∈ lw_all := lw_g (lw_at lw_m5 161 rfl) rfl
theorem q1202 : (Jvm.Cond.fieldLink "TableCatalogModel" (197 : Nat) "TableCatalogModel" "now" "I") ∈ lw_all := lw_g (lw_at lw_m5 162 rfl) rfl
theorem q1203 : (Jvm.Cond.fieldLink "TableCatalogModel" (188 : Nat) "TableCatalogModel" "begun" "I") ∈ lw_all := lw_g (lw_at lw_m5 163 rfl) rfl
theorem q1204 : (Jvm.Cond.fieldLink "TableCatalogModel" (191 : Nat) "TableCatalogModel" "over" "I") ∈ lw_all := lw_g (lw_at lw_m5 164 rfl) rfl
theorem q1205 : (Jvm.Cond.fieldLink "TableCatalogModel" (194 : Nat) "TableCatalogModel" "word" "J") ∈ lw_all := lw_g (lw_at lw_m5 165 rfl) rfl
theorem q1206 : (Jvm.Cond.fieldLink "TableCatalogModel" (83 : Nat) "TableCatalogModel" "view" "J") ∈ lw_all := lw_g (lw_at lw_m5 166 rfl) rfl
theorem q1207 : (Jvm.Cond.fieldLink "TableCatalogModel" (87 : Nat) "TableCatalogModel" "copy" "J") ∈ lw_all := lw_g (lw_at lw_m5 167 rfl) rfl
theorem q1208 : (Jvm.Cond.fieldLink "TableCatalogModel" (90 : Nat) "TableCatalogModel" "table" "J") ∈ lw_all := lw_g (lw_at lw_m5 168 rfl) rfl
theorem q1209 : (Jvm.Cond.fieldLink "TableCatalogModel" (93 : Nat) "TableCatalogModel" "fromWord" "J") ∈ lw_all := lw_g (lw_at lw_m5 169 rfl) rfl
theorem q1210 : (Jvm.Cond.fieldLink "TableCatalogModel" (96 : Nat) "TableCatalogModel" "where" "J") ∈ lw_all := lw_g (lw_at lw_m5 170 rfl) rfl
theorem q1211 : (Jvm.Cond.fieldLink "TableCatalogModel" (99 : Nat) "TableCatalogModel" "len" "J") ∈ lw_all := lw_g (lw_at lw_m5 171 rfl) rfl
theorem q1212 : (Jvm.Cond.fieldLink "TableCatalogModel" (102 : Nat) "TableCatalogModel" "str" "J") ∈ lw_all := lw_g (lw_at lw_m5 172 rfl) rfl
theorem q1213 : (Jvm.Cond.fieldLink "TableCatalogModel" (105 : Nat) "TableCatalogModel" "terms" "[I") ∈ lw_all := lw_g (lw_at lw_m5 173 rfl) rfl
theorem q1214 : (Jvm.Cond.fieldLink "TableCatalogModel" (249 : Nat) "TableCatalogModel" "fromToken" "I") ∈ lw_all := lw_g (lw_at lw_m5 174 rfl) rfl
theorem q1215 : (Jvm.Cond.fieldLink "TableCatalogModel" (252 : Nat) "TableCatalogModel" "signPlace" "I") ∈ lw_all := lw_g (lw_at lw_m5 175 rfl) rfl
theorem q1216 : (Jvm.Cond.fieldLink "TableCatalogModel" (108 : Nat) "TableCatalogModel" "fromName" "[J") ∈ lw_all := lw_g (lw_at lw_m5 176 rfl) rfl
theorem q1217 : (Jvm.Cond.fieldLink "TableCatalogModel" (111 : Nat) "TableCatalogModel" "fromPlace" "[I") ∈ lw_all := lw_g (lw_at lw_m5 177 rfl) rfl
theorem q1218 : (Jvm.Cond.fieldLink "TableCatalogModel" (114 : Nat) "TableCatalogModel" "left" "[I") ∈ lw_all := lw_g (lw_at lw_m5 178 rfl) rfl
theorem q1219 : (Jvm.Cond.fieldLink "TableCatalogModel" (117 : Nat) "TableCatalogModel" "waits" "[I") ∈ lw_all := lw_g (lw_at lw_m5 179 rfl) rfl
theorem q1220 : (Jvm.Cond.fieldLink "TableCatalogModel" (120 : Nat) "TableCatalogModel" "waitsAt" "[I") ∈ lw_all := lw_g (lw_at lw_m5 180 rfl) rfl
theorem q1221 : (Jvm.Cond.fieldLink "TableCatalogModel" (123 : Nat) "TableCatalogModel" "called" "[I") ∈ lw_all := lw_g (lw_at lw_m5 181 rfl) rfl
theorem q1222 : (Jvm.Cond.fieldLink "TableCatalogModel" (126 : Nat) "TableCatalogModel" "calledAt" "[I") ∈ lw_all := lw_g (lw_at lw_m5 182 rfl) rfl
theorem q1223 : (Jvm.Cond.fieldLink "TableCatalogModel" (255 : Nat) "TableCatalogModel" "errors" "I") ∈ lw_all := lw_g (lw_at lw_m5 183 rfl) rfl
theorem q1224 : (Jvm.Cond.fieldLink "TableCatalogModel" (265 : Nat) "TableCatalogModel" "depth" "I") ∈ lw_all := lw_g (lw_at lw_m5 184 rfl) rfl
theorem q1225 : (Jvm.Cond.fieldLink "TableCatalogModel" (258 : Nat) "TableCatalogModel" "isMeant" "Z") ∈ lw_all := lw_g (lw_at lw_m5 185 rfl) rfl
theorem q1226 : (Jvm.Cond.fieldLink "TableCatalogModel" (129 : Nat) "TableCatalogModel" "newType" "[I") ∈ lw_all := lw_g (lw_at lw_m5 186 rfl) rfl
theorem q1227 : (Jvm.Cond.fieldLink "TableCatalogModel" (132 : Nat) "TableCatalogModel" "old" "[I") ∈ lw_all := lw_g (lw_at lw_m5 187 rfl) rfl
theorem q1228 : (Jvm.Cond.fieldLink "TableCatalogModel" (135 : Nat) "TableCatalogModel" "young" "[I") ∈ lw_all := lw_g (lw_at lw_m5 188 rfl) rfl
theorem q1229 : (Jvm.Cond.fieldLink "TableCatalogModel" (138 : Nat) "TableCatalogModel" "mark" "[Z") ∈ lw_all := lw_g (lw_at lw_m5 189 rfl) rfl
theorem q1230 : (Jvm.Cond.fieldLink "TableCatalogModel" (324 : Nat) "TableCatalogModel" "founds" "I") ∈ lw_all := lw_g (lw_at lw_m5 190 rfl) rfl
theorem q1231 : (Jvm.Cond.fieldLink "TableCatalogModel" (141 : Nat) "TableCatalogModel" "foundOnes" "[I") ∈ lw_all := lw_g (lw_at lw_m5 191 rfl) rfl
theorem q1232 : (Jvm.Cond.fieldLink "TableCatalogModel" (348 : Nat) "TableCatalogModel" "asks" "I") ∈ lw_all := lw_g (lw_at lw_m5 192 rfl) rfl
theorem q1233 : (Jvm.Cond.fieldLink "TableCatalogModel" (144 : Nat) "TableCatalogModel" "askUser" "[I") ∈ lw_all := lw_g (lw_at lw_m5 193 rfl) rfl
theorem q1234 : (Jvm.Cond.fieldLink "TableCatalogModel" (147 : Nat) "TableCatalogModel" "askTable" "[I") ∈ lw_all := lw_g (lw_at lw_m5 194 rfl) rfl
theorem q1235 : (Jvm.Cond.fieldLink "TableCatalogModel" (150 : Nat) "TableCatalogModel" "askBits" "[I") ∈ lw_all := lw_g (lw_at lw_m5 195 rfl) rfl
theorem q1236 : (Jvm.Cond.fieldLink "TableCatalogModel" (153 : Nat) "TableCatalogModel" "askDay" "[I") ∈ lw_all := lw_g (lw_at lw_m5 196 rfl) rfl
theorem q1237 : (Jvm.Cond.fieldLink "TableCatalogModel" (351 : Nat) "TableCatalogModel" "today" "I") ∈ lw_all := lw_g (lw_at lw_m5 197 rfl) rfl
theorem q1238 : (Jvm.Cond.fieldLink "TableCatalogModel" (357 : Nat) "TableCatalogModel" "wrongs" "I") ∈ lw_all := lw_g (lw_at lw_m5 198 rfl) rfl
theorem q1239 : (Jvm.Cond.fieldLink "TableCatalogModel" (156 : Nat) "TableCatalogModel" "wrongOnes" "[I") ∈ lw_all := lw_g (lw_at lw_m5 199 rfl) rfl
theorem q1240 : (Jvm.Cond.lays "TableCatalogModel" "TableCatalogModel" "tables" "I") ∈ lw_all := lw_g (lw_at lw_m5 200 rfl) rfl
theorem q1241 : (Jvm.Cond.soleField "TableCatalogModel" "tables") ∈ lw_all := lw_g (lw_at lw_m5 201 rfl) rfl
theorem q1242 : (Jvm.Cond.laysFinal "TableCatalogModel" "TableCatalogModel" "isThere" "[Z") ∈ lw_all := lw_g (lw_at lw_m5 202 rfl) rfl
theorem q1243 : (Jvm.Cond.soleField "TableCatalogModel" "isThere") ∈ lw_all := lw_g (lw_at lw_m5 203 rfl) rfl
theorem q1244 : (Jvm.Cond.laysFinal "TableCatalogModel" "TableCatalogModel" "name" "[J") ∈ lw_all := lw_g (lw_at lw_m5 204 rfl) rfl
theorem q1245 : (Jvm.Cond.soleField "TableCatalogModel" "name") ∈ lw_all := lw_g (lw_at lw_m5 205 rfl) rfl
theorem q1246 : (Jvm.Cond.laysFinal "TableCatalogModel" "TableCatalogModel" "sort" "[I") ∈ lw_all := lw_g (lw_at lw_m5 206 rfl) rfl
theorem q1247 : (Jvm.Cond.soleField "TableCatalogModel" "sort") ∈ lw_all := lw_g (lw_at lw_m5 207 rfl) rfl
theorem q1248 : (Jvm.Cond.laysFinal "TableCatalogModel" "TableCatalogModel" "columns" "[I") ∈ lw_all := lw_g (lw_at lw_m5 208 rfl) rfl
theorem q1249 : (Jvm.Cond.soleField "TableCatalogModel" "columns") ∈ lw_all := lw_g (lw_at lw_m5 209 rfl) rfl
theorem q1250 : (Jvm.Cond.laysFinal "TableCatalogModel" "TableCatalogModel" "columnName" "[J") ∈ lw_all := lw_g (lw_at lw_m5 210 rfl) rfl
theorem q1251 : (Jvm.Cond.soleField "TableCatalogModel" "columnName") ∈ lw_all := lw_g (lw_at lw_m5 211 rfl) rfl
theorem q1252 : (Jvm.Cond.laysFinal "TableCatalogModel" "TableCatalogModel" "type" "[I") ∈ lw_all := lw_g (lw_at lw_m5 212 rfl) rfl
theorem q1253 : (Jvm.Cond.soleField "TableCatalogModel" "type") ∈ lw_all := lw_g (lw_at lw_m5 213 rfl) rfl
theorem q1254 : (Jvm.Cond.laysFinal "TableCatalogModel" "TableCatalogModel" "behind" "[I") ∈ lw_all := lw_g (lw_at lw_m5 214 rfl) rfl
theorem q1255 : (Jvm.Cond.soleField "TableCatalogModel" "behind") ∈ lw_all := lw_g (lw_at lw_m5 215 rfl) rfl
theorem q1256 : (Jvm.Cond.laysFinal "TableCatalogModel" "TableCatalogModel" "from" "[I") ∈ lw_all := lw_g (lw_at lw_m5 216 rfl) rfl
theorem q1257 : (Jvm.Cond.soleField "TableCatalogModel" "from") ∈ lw_all := lw_g (lw_at lw_m5 217 rfl) rfl
theorem q1258 : (Jvm.Cond.laysFinal "TableCatalogModel" "TableCatalogModel" "owner" "[I") ∈ lw_all := lw_g (lw_at lw_m5 218 rfl) rfl
theorem q1259 : (Jvm.Cond.soleField "TableCatalogModel" "owner") ∈ lw_all := lw_g (lw_at lw_m5 219 rfl) rfl
theorem q1260 : (Jvm.Cond.laysFinal "TableCatalogModel" "TableCatalogModel" "lag" "[I") ∈ lw_all := lw_g (lw_at lw_m5 220 rfl) rfl
theorem q1261 : (Jvm.Cond.soleField "TableCatalogModel" "lag") ∈ lw_all := lw_g (lw_at lw_m5 221 rfl) rfl
theorem q1262 : (Jvm.Cond.laysFinal "TableCatalogModel" "TableCatalogModel" "oldest" "[I") ∈ lw_all := lw_g (lw_at lw_m5 222 rfl) rfl
theorem q1263 : (Jvm.Cond.soleField "TableCatalogModel" "oldest") ∈ lw_all := lw_g (lw_at lw_m5 223 rfl) rfl
theorem q1264 : (Jvm.Cond.laysFinal "TableCatalogModel" "TableCatalogModel" "newest" "[I") ∈ lw_all := lw_g (lw_at lw_m5 224 rfl) rfl
theorem q1265 : (Jvm.Cond.soleField "TableCatalogModel" "newest") ∈ lw_all := lw_g (lw_at lw_m5 225 rfl) rfl
theorem q1266 : (Jvm.Cond.laysFinal "TableCatalogModel" "TableCatalogModel" "tokens" "[I") ∈ lw_all := lw_g (lw_at lw_m5 226 rfl) rfl
theorem q1267 : (Jvm.Cond.soleField "TableCatalogModel" "tokens") ∈ lw_all := lw_g (lw_at lw_m5 227 rfl) rfl
theorem q1268 : (Jvm.Cond.laysFinal "TableCatalogModel" "TableCatalogModel" "token" "[I") ∈ lw_all := lw_g (lw_at lw_m5 228 rfl) rfl
theorem q1269 : (Jvm.Cond.soleField "TableCatalogModel" "token") ∈ lw_all := lw_g (lw_at lw_m5 229 rfl) rfl
theorem q1270 : (Jvm.Cond.laysFinal "TableCatalogModel" "TableCatalogModel" "tokenAt" "[I") ∈ lw_all := lw_g (lw_at lw_m5 230 rfl) rfl
theorem q1271 : (Jvm.Cond.soleField "TableCatalogModel" "tokenAt") ∈ lw_all := lw_g (lw_at lw_m5 231 rfl) rfl
theorem q1272 : (Jvm.Cond.laysFinal "TableCatalogModel" "TableCatalogModel" "tokenLong" "[I") ∈ lw_all := lw_g (lw_at lw_m5 232 rfl) rfl
theorem q1273 : (Jvm.Cond.soleField "TableCatalogModel" "tokenLong") ∈ lw_all := lw_g (lw_at lw_m5 233 rfl) rfl
theorem q1274 : (Jvm.Cond.laysFinal "TableCatalogModel" "TableCatalogModel" "text" "[I") ∈ lw_all := lw_g (lw_at lw_m5 234 rfl) rfl
theorem q1275 : (Jvm.Cond.soleField "TableCatalogModel" "text") ∈ lw_all := lw_g (lw_at lw_m5 235 rfl) rfl
theorem q1276 : (Jvm.Cond.laysFinal "TableCatalogModel" "TableCatalogModel" "formulaFrom" "[I") ∈ lw_all := lw_g (lw_at lw_m5 236 rfl) rfl
theorem q1277 : (Jvm.Cond.soleField "TableCatalogModel" "formulaFrom") ∈ lw_all := lw_g (lw_at lw_m5 237 rfl) rfl
theorem q1278 : (Jvm.Cond.laysFinal "TableCatalogModel" "TableCatalogModel" "formulaTo" "[I") ∈ lw_all := lw_g (lw_at lw_m5 238 rfl) rfl
theorem q1279 : (Jvm.Cond.soleField "TableCatalogModel" "formulaTo") ∈ lw_all := lw_g (lw_at lw_m5 239 rfl) rfl
theorem q1280 : (Jvm.Cond.laysFinal "TableCatalogModel" "TableCatalogModel" "equal" "[I") ∈ lw_all := lw_g (lw_at lw_m6 0 rfl) rfl
theorem q1281 : (Jvm.Cond.soleField "TableCatalogModel" "equal") ∈ lw_all := lw_g (lw_at lw_m6 1 rfl) rfl
theorem q1282 : (Jvm.Cond.laysFinal "TableCatalogModel" "TableCatalogModel" "tape" "[I") ∈ lw_all := lw_g (lw_at lw_m6 2 rfl) rfl
theorem q1283 : (Jvm.Cond.soleField "TableCatalogModel" "tape") ∈ lw_all := lw_g (lw_at lw_m6 3 rfl) rfl
theorem q1284 : (Jvm.Cond.lays "TableCatalogModel" "TableCatalogModel" "taped" "I") ∈ lw_all := lw_g (lw_at lw_m6 4 rfl) rfl
theorem q1285 : (Jvm.Cond.soleField "TableCatalogModel" "taped") ∈ lw_all := lw_g (lw_at lw_m6 5 rfl) rfl
theorem q1286 : (Jvm.Cond.lays "TableCatalogModel" "TableCatalogModel" "at" "I") ∈ lw_all := lw_g (lw_at lw_m6 6 rfl) rfl
theorem q1287 : (Jvm.Cond.soleField "TableCatalogModel" "at") ∈ lw_all := lw_g (lw_at lw_m6 7 rfl) rfl
theorem q1288 : (Jvm.Cond.lays "TableCatalogModel" "TableCatalogModel" "size" "I") ∈ lw_all := lw_g (lw_at lw_m6 8 rfl) rfl
theorem q1289 : (Jvm.Cond.soleField "TableCatalogModel" "size") ∈ lw_all := lw_g (lw_at lw_m6 9 rfl) rfl
theorem q1290 : (Jvm.Cond.lays "TableCatalogModel" "TableCatalogModel" "bad" "I") ∈ lw_all := lw_g (lw_at lw_m6 10 rfl) rfl
theorem q1291 : (Jvm.Cond.soleField "TableCatalogModel" "bad") ∈ lw_all := lw_g (lw_at lw_m6 11 rfl) rfl
theorem q1292 : (Jvm.Cond.lays "TableCatalogModel" "TableCatalogModel" "badPlace" "I") ∈ lw_all := lw_g (lw_at lw_m6 12 rfl) rfl
theorem q1293 : (Jvm.Cond.soleField "TableCatalogModel" "badPlace") ∈ lw_all := lw_g (lw_at lw_m6 13 rfl) rfl
theorem q1294 : (Jvm.Cond.lays "TableCatalogModel" "TableCatalogModel" "fault" "I") ∈ lw_all := lw_g (lw_at lw_m6 14 rfl) rfl
theorem q1295 : (Jvm.Cond.soleField "TableCatalogModel" "fault") ∈ lw_all := lw_g (lw_at lw_m6 15 rfl) rfl
theorem q1296 : (Jvm.Cond.lays "TableCatalogModel" "TableCatalogModel" "faultPlace" "I") ∈ lw_all := lw_g (lw_at lw_m6 16 rfl) rfl
theorem q1297 : (Jvm.Cond.soleField "TableCatalogModel" "faultPlace") ∈ lw_all := lw_g (lw_at lw_m6 17 rfl) rfl
theorem q1298 : (Jvm.Cond.lays "TableCatalogModel" "TableCatalogModel" "now" "I") ∈ lw_all := lw_g (lw_at lw_m6 18 rfl) rfl
theorem q1299 : (Jvm.Cond.soleField "TableCatalogModel" "now") ∈ lw_all := lw_g (lw_at lw_m6 19 rfl) rfl
theorem q1300 : (Jvm.Cond.lays "TableCatalogModel" "TableCatalogModel" "begun" "I") ∈ lw_all := lw_g (lw_at lw_m6 20 rfl) rfl
theorem q1301 : (Jvm.Cond.soleField "TableCatalogModel" "begun") ∈ lw_all := lw_g (lw_at lw_m6 21 rfl) rfl
theorem q1302 : (Jvm.Cond.lays "TableCatalogModel" "TableCatalogModel" "over" "I") ∈ lw_all := lw_g (lw_at lw_m6 22 rfl) rfl
theorem q1303 : (Jvm.Cond.soleField "TableCatalogModel" "over") ∈ lw_all := lw_g (lw_at lw_m6 23 rfl) rfl
theorem q1304 : (Jvm.Cond.lays "TableCatalogModel" "TableCatalogModel" "word" "J") ∈ lw_all := lw_g (lw_at lw_m6 24 rfl) rfl
theorem q1305 : (Jvm.Cond.soleField "TableCatalogModel" "word") ∈ lw_all := lw_g (lw_at lw_m6 25 rfl) rfl
theorem q1306 : (Jvm.Cond.laysFinal "TableCatalogModel" "TableCatalogModel" "view" "J") ∈ lw_all := lw_g (lw_at lw_m6 26 rfl) rfl
theorem q1307 : (Jvm.Cond.soleField "TableCatalogModel" "view") ∈ lw_all := lw_g (lw_at lw_m6 27 rfl) rfl
theorem q1308 : (Jvm.Cond.laysFinal "TableCatalogModel" "TableCatalogModel" "copy" "J") ∈ lw_all := lw_g (lw_at lw_m6 28 rfl) rfl
theorem q1309 : (Jvm.Cond.soleField "TableCatalogModel" "copy") ∈ lw_all := lw_g (lw_at lw_m6 29 rfl) rfl
theorem q1310 : (Jvm.Cond.laysFinal "TableCatalogModel" "TableCatalogModel" "table" "J") ∈ lw_all := lw_g (lw_at lw_m6 30 rfl) rfl
theorem q1311 : (Jvm.Cond.soleField "TableCatalogModel" "table") ∈ lw_all := lw_g (lw_at lw_m6 31 rfl) rfl
theorem q1312 : (Jvm.Cond.laysFinal "TableCatalogModel" "TableCatalogModel" "fromWord" "J") ∈ lw_all := lw_g (lw_at lw_m6 32 rfl) rfl
theorem q1313 : (Jvm.Cond.soleField "TableCatalogModel" "fromWord") ∈ lw_all := lw_g (lw_at lw_m6 33 rfl) rfl
theorem q1314 : (Jvm.Cond.laysFinal "TableCatalogModel" "TableCatalogModel" "where" "J") ∈ lw_all := lw_g (lw_at lw_m6 34 rfl) rfl
theorem q1315 : (Jvm.Cond.soleField "TableCatalogModel" "where") ∈ lw_all := lw_g (lw_at lw_m6 35 rfl) rfl
theorem q1316 : (Jvm.Cond.laysFinal "TableCatalogModel" "TableCatalogModel" "len" "J") ∈ lw_all := lw_g (lw_at lw_m6 36 rfl) rfl
theorem q1317 : (Jvm.Cond.soleField "TableCatalogModel" "len") ∈ lw_all := lw_g (lw_at lw_m6 37 rfl) rfl
theorem q1318 : (Jvm.Cond.laysFinal "TableCatalogModel" "TableCatalogModel" "str" "J") ∈ lw_all := lw_g (lw_at lw_m6 38 rfl) rfl
theorem q1319 : (Jvm.Cond.soleField "TableCatalogModel" "str") ∈ lw_all := lw_g (lw_at lw_m6 39 rfl) rfl
theorem q1320 : (Jvm.Cond.laysFinal "TableCatalogModel" "TableCatalogModel" "terms" "[I") ∈ lw_all := lw_g (lw_at lw_m6 40 rfl) rfl
theorem q1321 : (Jvm.Cond.soleField "TableCatalogModel" "terms") ∈ lw_all := lw_g (lw_at lw_m6 41 rfl) rfl
theorem q1322 : (Jvm.Cond.lays "TableCatalogModel" "TableCatalogModel" "fromToken" "I") ∈ lw_all := lw_g (lw_at lw_m6 42 rfl) rfl
theorem q1323 : (Jvm.Cond.soleField "TableCatalogModel" "fromToken") ∈ lw_all := lw_g (lw_at lw_m6 43 rfl) rfl
theorem q1324 : (Jvm.Cond.lays "TableCatalogModel" "TableCatalogModel" "signPlace" "I") ∈ lw_all := lw_g (lw_at lw_m6 44 rfl) rfl
theorem q1325 : (Jvm.Cond.soleField "TableCatalogModel" "signPlace") ∈ lw_all := lw_g (lw_at lw_m6 45 rfl) rfl
theorem q1326 : (Jvm.Cond.laysFinal "TableCatalogModel" "TableCatalogModel" "fromName" "[J") ∈ lw_all := lw_g (lw_at lw_m6 46 rfl) rfl
theorem q1327 : (Jvm.Cond.soleField "TableCatalogModel" "fromName") ∈ lw_all := lw_g (lw_at lw_m6 47 rfl) rfl
theorem q1328 : (Jvm.Cond.laysFinal "TableCatalogModel" "TableCatalogModel" "fromPlace" "[I") ∈ lw_all := lw_g (lw_at lw_m6 48 rfl) rfl
theorem q1329 : (Jvm.Cond.soleField "TableCatalogModel" "fromPlace") ∈ lw_all := lw_g (lw_at lw_m6 49 rfl) rfl
theorem q1330 : (Jvm.Cond.laysFinal "TableCatalogModel" "TableCatalogModel" "left" "[I") ∈ lw_all := lw_g (lw_at lw_m6 50 rfl) rfl
theorem q1331 : (Jvm.Cond.soleField "TableCatalogModel" "left") ∈ lw_all := lw_g (lw_at lw_m6 51 rfl) rfl
theorem q1332 : (Jvm.Cond.laysFinal "TableCatalogModel" "TableCatalogModel" "waits" "[I") ∈ lw_all := lw_g (lw_at lw_m6 52 rfl) rfl
theorem q1333 : (Jvm.Cond.soleField "TableCatalogModel" "waits") ∈ lw_all := lw_g (lw_at lw_m6 53 rfl) rfl
theorem q1334 : (Jvm.Cond.laysFinal "TableCatalogModel" "TableCatalogModel" "waitsAt" "[I") ∈ lw_all := lw_g (lw_at lw_m6 54 rfl) rfl
theorem q1335 : (Jvm.Cond.soleField "TableCatalogModel" "waitsAt") ∈ lw_all := lw_g (lw_at lw_m6 55 rfl) rfl
theorem q1336 : (Jvm.Cond.laysFinal "TableCatalogModel" "TableCatalogModel" "called" "[I") ∈ lw_all := lw_g (lw_at lw_m6 56 rfl) rfl
theorem q1337 : (Jvm.Cond.soleField "TableCatalogModel" "called") ∈ lw_all := lw_g (lw_at lw_m6 57 rfl) rfl
theorem q1338 : (Jvm.Cond.laysFinal "TableCatalogModel" "TableCatalogModel" "calledAt" "[I") ∈ lw_all := lw_g (lw_at lw_m6 58 rfl) rfl
theorem q1339 : (Jvm.Cond.soleField "TableCatalogModel" "calledAt") ∈ lw_all := lw_g (lw_at lw_m6 59 rfl) rfl
theorem q1340 : (Jvm.Cond.lays "TableCatalogModel" "TableCatalogModel" "errors" "I") ∈ lw_all := lw_g (lw_at lw_m6 60 rfl) rfl
theorem q1341 : (Jvm.Cond.soleField "TableCatalogModel" "errors") ∈ lw_all := lw_g (lw_at lw_m6 61 rfl) rfl
theorem q1342 : (Jvm.Cond.lays "TableCatalogModel" "TableCatalogModel" "depth" "I") ∈ lw_all := lw_g (lw_at lw_m6 62 rfl) rfl
theorem q1343 : (Jvm.Cond.soleField "TableCatalogModel" "depth") ∈ lw_all := lw_g (lw_at lw_m6 63 rfl) rfl
theorem q1344 : (Jvm.Cond.lays "TableCatalogModel" "TableCatalogModel" "isMeant" "Z") ∈ lw_all := lw_g (lw_at lw_m6 64 rfl) rfl
theorem q1345 : (Jvm.Cond.soleField "TableCatalogModel" "isMeant") ∈ lw_all := lw_g (lw_at lw_m6 65 rfl) rfl
theorem q1346 : (Jvm.Cond.laysFinal "TableCatalogModel" "TableCatalogModel" "newType" "[I") ∈ lw_all := lw_g (lw_at lw_m6 66 rfl) rfl
theorem q1347 : (Jvm.Cond.soleField "TableCatalogModel" "newType") ∈ lw_all := lw_g (lw_at lw_m6 67 rfl) rfl
theorem q1348 : (Jvm.Cond.laysFinal "TableCatalogModel" "TableCatalogModel" "old" "[I") ∈ lw_all := lw_g (lw_at lw_m6 68 rfl) rfl
theorem q1349 : (Jvm.Cond.soleField "TableCatalogModel" "old") ∈ lw_all := lw_g (lw_at lw_m6 69 rfl) rfl
theorem q1350 : (Jvm.Cond.laysFinal "TableCatalogModel" "TableCatalogModel" "young" "[I") ∈ lw_all := lw_g (lw_at lw_m6 70 rfl) rfl
theorem q1351 : (Jvm.Cond.soleField "TableCatalogModel" "young") ∈ lw_all := lw_g (lw_at lw_m6 71 rfl) rfl
theorem q1352 : (Jvm.Cond.laysFinal "TableCatalogModel" "TableCatalogModel" "mark" "[Z") ∈ lw_all := lw_g (lw_at lw_m6 72 rfl) rfl
theorem q1353 : (Jvm.Cond.soleField "TableCatalogModel" "mark") ∈ lw_all := lw_g (lw_at lw_m6 73 rfl) rfl
theorem q1354 : (Jvm.Cond.lays "TableCatalogModel" "TableCatalogModel" "founds" "I") ∈ lw_all := lw_g (lw_at lw_m6 74 rfl) rfl
theorem q1355 : (Jvm.Cond.soleField "TableCatalogModel" "founds") ∈ lw_all := lw_g (lw_at lw_m6 75 rfl) rfl
theorem q1356 : (Jvm.Cond.laysFinal "TableCatalogModel" "TableCatalogModel" "foundOnes" "[I") ∈ lw_all := lw_g (lw_at lw_m6 76 rfl) rfl
theorem q1357 : (Jvm.Cond.soleField "TableCatalogModel" "foundOnes") ∈ lw_all := lw_g (lw_at lw_m6 77 rfl) rfl
theorem q1358 : (Jvm.Cond.lays "TableCatalogModel" "TableCatalogModel" "asks" "I") ∈ lw_all := lw_g (lw_at lw_m6 78 rfl) rfl
theorem q1359 : (Jvm.Cond.soleField "TableCatalogModel" "asks") ∈ lw_all := lw_g (lw_at lw_m6 79 rfl) rfl
theorem q1360 : (Jvm.Cond.laysFinal "TableCatalogModel" "TableCatalogModel" "askUser" "[I") ∈ lw_all := lw_g (lw_at lw_m6 80 rfl) rfl
theorem q1361 : (Jvm.Cond.soleField "TableCatalogModel" "askUser") ∈ lw_all := lw_g (lw_at lw_m6 81 rfl) rfl
theorem q1362 : (Jvm.Cond.laysFinal "TableCatalogModel" "TableCatalogModel" "askTable" "[I") ∈ lw_all := lw_g (lw_at lw_m6 82 rfl) rfl
theorem q1363 : (Jvm.Cond.soleField "TableCatalogModel" "askTable") ∈ lw_all := lw_g (lw_at lw_m6 83 rfl) rfl
theorem q1364 : (Jvm.Cond.laysFinal "TableCatalogModel" "TableCatalogModel" "askBits" "[I") ∈ lw_all := lw_g (lw_at lw_m6 84 rfl) rfl
theorem q1365 : (Jvm.Cond.soleField "TableCatalogModel" "askBits") ∈ lw_all := lw_g (lw_at lw_m6 85 rfl) rfl
theorem q1366 : (Jvm.Cond.laysFinal "TableCatalogModel" "TableCatalogModel" "askDay" "[I") ∈ lw_all := lw_g (lw_at lw_m6 86 rfl) rfl
theorem q1367 : (Jvm.Cond.soleField "TableCatalogModel" "askDay") ∈ lw_all := lw_g (lw_at lw_m6 87 rfl) rfl
theorem q1368 : (Jvm.Cond.lays "TableCatalogModel" "TableCatalogModel" "today" "I") ∈ lw_all := lw_g (lw_at lw_m6 88 rfl) rfl
theorem q1369 : (Jvm.Cond.soleField "TableCatalogModel" "today") ∈ lw_all := lw_g (lw_at lw_m6 89 rfl) rfl
theorem q1370 : (Jvm.Cond.lays "TableCatalogModel" "TableCatalogModel" "wrongs" "I") ∈ lw_all := lw_g (lw_at lw_m6 90 rfl) rfl
theorem q1371 : (Jvm.Cond.soleField "TableCatalogModel" "wrongs") ∈ lw_all := lw_g (lw_at lw_m6 91 rfl) rfl
theorem q1372 : (Jvm.Cond.laysFinal "TableCatalogModel" "TableCatalogModel" "wrongOnes" "[I") ∈ lw_all := lw_g (lw_at lw_m6 92 rfl) rfl
theorem q1373 : (Jvm.Cond.soleField "TableCatalogModel" "wrongOnes") ∈ lw_all := lw_g (lw_at lw_m6 93 rfl) rfl
theorem q1374 : (Jvm.Cond.superclass "TableCatalogModel" "java/lang/Object") ∈ lw_all := lw_g (lw_at lw_m6 94 rfl) rfl
theorem q1377 : (Jvm.Cond.instanceMethod ({ cls := "TableCatalogModel", name := "feed", desc := "(IIIII)I" } : Jvm.MethodName)) ∈ lw_all := lw_g (lw_at lw_m6 97 rfl) rfl
theorem q1378 : (Jvm.Cond.selects "TableCatalogModel" ({ cls := "TableCatalogModel", name := "feed", desc := "(IIIII)I" } : Jvm.MethodName) ({ cls := "TableCatalogModel", name := "feed", desc := "(IIIII)I" } : Jvm.MethodName)) ∈ lw_all := lw_g (lw_at lw_m6 98 rfl) rfl
theorem q1379 : (Jvm.Cond.code ({ cls := "TableCatalogModel", name := "feed", desc := "(IIIII)I" } : Jvm.MethodName) prog_14_method_4_code (8 : Nat) (Option.some Jvm.ClassFile.FieldType.int)) ∈ lw_all := lw_g (lw_at lw_m6 99 rfl) rfl
theorem q1381 : (Jvm.Cond.instanceMethod ({ cls := "TableCatalogModel", name := "end", desc := "(I)Z" } : Jvm.MethodName)) ∈ lw_all := lw_g (lw_at lw_m6 101 rfl) rfl
theorem q1382 : (Jvm.Cond.selects "TableCatalogModel" ({ cls := "TableCatalogModel", name := "end", desc := "(I)Z" } : Jvm.MethodName) ({ cls := "TableCatalogModel", name := "end", desc := "(I)Z" } : Jvm.MethodName)) ∈ lw_all := lw_g (lw_at lw_m6 102 rfl) rfl
theorem q1383 : (Jvm.Cond.code ({ cls := "TableCatalogModel", name := "end", desc := "(I)Z" } : Jvm.MethodName) prog_14_method_5_code (2 : Nat) (Option.some Jvm.ClassFile.FieldType.boolean)) ∈ lw_all := lw_g (lw_at lw_m6 103 rfl) rfl
theorem q1385 : (Jvm.Cond.instanceMethod ({ cls := "TableCatalogModel", name := "act", desc := "()I" } : Jvm.MethodName)) ∈ lw_all := lw_g (lw_at lw_m6 105 rfl) rfl
theorem q1386 : (Jvm.Cond.selects "TableCatalogModel" ({ cls := "TableCatalogModel", name := "act", desc := "()I" } : Jvm.MethodName) ({ cls := "TableCatalogModel", name := "act", desc := "()I" } : Jvm.MethodName)) ∈ lw_all := lw_g (lw_at lw_m6 106 rfl) rfl
theorem q1387 : (Jvm.Cond.code ({ cls := "TableCatalogModel", name := "act", desc := "()I" } : Jvm.MethodName) prog_14_method_34_code (3 : Nat) (Option.some Jvm.ClassFile.FieldType.int)) ∈ lw_all := lw_g (lw_at lw_m6 107 rfl) rfl
theorem q1388 : (Jvm.Cond.methodLink "TableCatalogModel" (210 : Nat) ({ cls := "TableCatalogModel", name := "next", desc := "()V" } : Jvm.MethodName)) ∈ lw_all := lw_g (lw_at lw_m6 108 rfl) rfl
theorem q1389 : (Jvm.Cond.privateMethod ({ cls := "TableCatalogModel", name := "next", desc := "()V" } : Jvm.MethodName)) ∈ lw_tbl := lw_at lw_m6 109 rfl
theorem q1390 : (Jvm.Cond.instanceMethod ({ cls := "TableCatalogModel", name := "next", desc := "()V" } : Jvm.MethodName)) ∈ lw_all := lw_g (lw_at lw_m6 110 rfl) rfl
theorem q1391 : (Jvm.Cond.code ({ cls := "TableCatalogModel", name := "next", desc := "()V" } : Jvm.MethodName) prog_14_method_11_code (1 : Nat) (Option.none : Option Jvm.ClassFile.FieldType)) ∈ lw_all := lw_g (lw_at lw_m6 111 rfl) rfl
theorem q1392 : (Jvm.Cond.methodLink "TableCatalogModel" (185 : Nat) ({ cls := "TableCatalogModel", name := "isBlank", desc := "(I)Z" } : Jvm.MethodName)) ∈ lw_all := lw_g (lw_at lw_m6 112 rfl) rfl
theorem q1393 : (Jvm.Cond.static ({ cls := "TableCatalogModel", name := "isBlank", desc := "(I)Z" } : Jvm.MethodName)) ∈ lw_all := lw_g (lw_at lw_m6 113 rfl) rfl
theorem q1394 : (Jvm.Cond.code ({ cls := "TableCatalogModel", name := "isBlank", desc := "(I)Z" } : Jvm.MethodName) prog_14_method_8_code (1 : Nat) (Option.some Jvm.ClassFile.FieldType.boolean)) ∈ lw_all := lw_g (lw_at lw_m6 114 rfl) rfl
theorem q1395 : (Jvm.Cond.methodLink "TableCatalogModel" (200 : Nat) ({ cls := "TableCatalogModel", name := "isLetter", desc := "(I)Z" } : Jvm.MethodName)) ∈ lw_all := lw_g (lw_at lw_m6 115 rfl) rfl
theorem q1396 : (Jvm.Cond.static ({ cls := "TableCatalogModel", name := "isLetter", desc := "(I)Z" } : Jvm.MethodName)) ∈ lw_all := lw_g (lw_at lw_m6 116 rfl) rfl
theorem q1397 : (Jvm.Cond.code ({ cls := "TableCatalogModel", name := "isLetter", desc := "(I)Z" } : Jvm.MethodName) prog_14_method_6_code (1 : Nat) (Option.some Jvm.ClassFile.FieldType.boolean)) ∈ lw_all := lw_g (lw_at lw_m6 117 rfl) rfl
theorem q1398 : (Jvm.Cond.methodLink "TableCatalogModel" (203 : Nat) ({ cls := "TableCatalogModel", name := "wordFrom", desc := "(II)J" } : Jvm.MethodName)) ∈ lw_all := lw_g (lw_at lw_m6 118 rfl) rfl
theorem q1399 : (Jvm.Cond.privateMethod ({ cls := "TableCatalogModel", name := "wordFrom", desc := "(II)J" } : Jvm.MethodName)) ∈ lw_tbl := lw_at lw_m6 119 rfl
theorem q1400 : (Jvm.Cond.instanceMethod ({ cls := "TableCatalogModel", name := "wordFrom", desc := "(II)J" } : Jvm.MethodName)) ∈ lw_all := lw_g (lw_at lw_m6 120 rfl) rfl
theorem q1401 : (Jvm.Cond.code ({ cls := "TableCatalogModel", name := "wordFrom", desc := "(II)J" } : Jvm.MethodName) prog_14_method_10_code (6 : Nat) (Option.some Jvm.ClassFile.FieldType.long)) ∈ lw_all := lw_g (lw_at lw_m6 121 rfl) rfl
theorem q1402 : (Jvm.Cond.methodLink "TableCatalogModel" (207 : Nat) ({ cls := "TableCatalogModel", name := "isDigit", desc := "(I)Z" } : Jvm.MethodName)) ∈ lw_all := lw_g (lw_at lw_m6 122 rfl) rfl
theorem q1403 : (Jvm.Cond.static ({ cls := "TableCatalogModel", name := "isDigit", desc := "(I)Z" } : Jvm.MethodName)) ∈ lw_all := lw_g (lw_at lw_m6 123 rfl) rfl
theorem q1404 : (Jvm.Cond.code ({ cls := "TableCatalogModel", name := "isDigit", desc := "(I)Z" } : Jvm.MethodName) prog_14_method_7_code (1 : Nat) (Option.some Jvm.ClassFile.FieldType.boolean)) ∈ lw_all := lw_g (lw_at lw_m6 124 rfl) rfl
theorem q1405 : (Jvm.Cond.methodLink "TableCatalogModel" (227 : Nat) ({ cls := "TableCatalogModel", name := "isWord", desc := "(J)Z" } : Jvm.MethodName)) ∈ lw_all := lw_g (lw_at lw_m6 125 rfl) rfl
theorem q1406 : (Jvm.Cond.privateMethod ({ cls := "TableCatalogModel", name := "isWord", desc := "(J)Z" } : Jvm.MethodName)) ∈ lw_tbl := lw_at lw_m6 126 rfl
theorem q1407 : (Jvm.Cond.instanceMethod ({ cls := "TableCatalogModel", name := "isWord", desc := "(J)Z" } : Jvm.MethodName)) ∈ lw_all := lw_g (lw_at lw_m6 127 rfl) rfl
theorem q1408 : (Jvm.Cond.code ({ cls := "TableCatalogModel", name := "isWord", desc := "(J)Z" } : Jvm.MethodName) prog_14_method_14_code (3 : Nat) (Option.some Jvm.ClassFile.FieldType.boolean)) ∈ lw_all := lw_g (lw_at lw_m6 128 rfl) rfl
theorem q1409 : (Jvm.Cond.methodLink "TableCatalogModel" (216 : Nat) ({ cls := "TableCatalogModel", name := "fail", desc := "(II)V" } : Jvm.MethodName)) ∈ lw_all := lw_g (lw_at lw_m6 129 rfl) rfl
theorem q1410 : (Jvm.Cond.privateMethod ({ cls := "TableCatalogModel", name := "fail", desc := "(II)V" } : Jvm.MethodName)) ∈ lw_tbl := lw_at lw_m6 130 rfl
theorem q1411 : (Jvm.Cond.instanceMethod ({ cls := "TableCatalogModel", name := "fail", desc := "(II)V" } : Jvm.MethodName)) ∈ lw_all := lw_g (lw_at lw_m6 131 rfl) rfl
theorem q1412 : (Jvm.Cond.code ({ cls := "TableCatalogModel", name := "fail", desc := "(II)V" } : Jvm.MethodName) prog_14_method_9_code (3 : Nat) (Option.none : Option Jvm.ClassFile.FieldType)) ∈ lw_all := lw_g (lw_at lw_m6 132 rfl) rfl
theorem q1413 : (Jvm.Cond.methodLink "TableCatalogModel" (213 : Nat) ({ cls := "TableCatalogModel", name := "keeps", desc := "()V" } : Jvm.MethodName)) ∈ lw_all := lw_g (lw_at lw_m6 133 rfl) rfl
theorem q1414 : (Jvm.Cond.privateMethod ({ cls := "TableCatalogModel", name := "keeps", desc := "()V" } : Jvm.MethodName)) ∈ lw_tbl := lw_at lw_m6 134 rfl
theorem q1415 : (Jvm.Cond.instanceMethod ({ cls := "TableCatalogModel", name := "keeps", desc := "()V" } : Jvm.MethodName)) ∈ lw_all := lw_g (lw_at lw_m6 135 rfl) rfl
theorem q1416 : (Jvm.Cond.code ({ cls := "TableCatalogModel", name := "keeps", desc := "()V" } : Jvm.MethodName) prog_14_method_12_code (2 : Nat) (Option.none : Option Jvm.ClassFile.FieldType)) ∈ lw_all := lw_g (lw_at lw_m6 136 rfl) rfl
theorem q1417 : (Jvm.Cond.methodLink "TableCatalogModel" (238 : Nat) ({ cls := "TableCatalogModel", name := "name", desc := "()V" } : Jvm.MethodName)) ∈ lw_all := lw_g (lw_at lw_m6 137 rfl) rfl
theorem q1418 : (Jvm.Cond.privateMethod ({ cls := "TableCatalogModel", name := "name", desc := "()V" } : Jvm.MethodName)) ∈ lw_tbl := lw_at lw_m6 138 rfl
theorem q1419 : (Jvm.Cond.instanceMethod ({ cls := "TableCatalogModel", name := "name", desc := "()V" } : Jvm.MethodName)) ∈ lw_all := lw_g (lw_at lw_m6 139 rfl) rfl
theorem q1420 : (Jvm.Cond.code ({ cls := "TableCatalogModel", name := "name", desc := "()V" } : Jvm.MethodName) prog_14_method_17_code (1 : Nat) (Option.none : Option Jvm.ClassFile.FieldType)) ∈ lw_all := lw_g (lw_at lw_m6 140 rfl) rfl
theorem q1421 : (Jvm.Cond.methodLink "TableCatalogModel" (220 : Nat) ({ cls := "TableCatalogModel", name := "isName", desc := "()Z" } : Jvm.MethodName)) ∈ lw_all := lw_g (lw_at lw_m6 141 rfl) rfl
theorem q1422 : (Jvm.Cond.privateMethod ({ cls := "TableCatalogModel", name := "isName", desc := "()Z" } : Jvm.MethodName)) ∈ lw_tbl := lw_at lw_m6 142 rfl
theorem q1423 : (Jvm.Cond.instanceMethod ({ cls := "TableCatalogModel", name := "isName", desc := "()Z" } : Jvm.MethodName)) ∈ lw_all := lw_g (lw_at lw_m6 143 rfl) rfl
theorem q1424 : (Jvm.Cond.code ({ cls := "TableCatalogModel", name := "isName", desc := "()Z" } : Jvm.MethodName) prog_14_method_15_code (1 : Nat) (Option.some Jvm.ClassFile.FieldType.boolean)) ∈ lw_all := lw_g (lw_at lw_m6 144 rfl) rfl
theorem q1425 : (Jvm.Cond.methodLink "TableCatalogModel" (298 : Nat) ({ cls := "TableCatalogModel", name := "source", desc := "()V" } : Jvm.MethodName)) ∈ lw_all := lw_g (lw_at lw_m6 145 rfl) rfl
theorem q1426 : (Jvm.Cond.privateMethod ({ cls := "TableCatalogModel", name := "source", desc := "()V" } : Jvm.MethodName)) ∈ lw_tbl := lw_at lw_m6 146 rfl
theorem q1427 : (Jvm.Cond.instanceMethod ({ cls := "TableCatalogModel", name := "source", desc := "()V" } : Jvm.MethodName)) ∈ lw_all := lw_g (lw_at lw_m6 147 rfl) rfl
theorem q1428 : (Jvm.Cond.code ({ cls := "TableCatalogModel", name := "source", desc := "()V" } : Jvm.MethodName) prog_14_method_21_code (2 : Nat) (Option.none : Option Jvm.ClassFile.FieldType)) ∈ lw_all := lw_g (lw_at lw_m6 148 rfl) rfl
theorem q1429 : (Jvm.Cond.methodLink "TableCatalogModel" (231 : Nat) ({ cls := "TableCatalogModel", name := "sign", desc := "(I)V" } : Jvm.MethodName)) ∈ lw_all := lw_g (lw_at lw_m6 149 rfl) rfl
theorem q1430 : (Jvm.Cond.privateMethod ({ cls := "TableCatalogModel", name := "sign", desc := "(I)V" } : Jvm.MethodName)) ∈ lw_tbl := lw_at lw_m6 150 rfl
theorem q1431 : (Jvm.Cond.instanceMethod ({ cls := "TableCatalogModel", name := "sign", desc := "(I)V" } : Jvm.MethodName)) ∈ lw_all := lw_g (lw_at lw_m6 151 rfl) rfl
theorem q1432 : (Jvm.Cond.code ({ cls := "TableCatalogModel", name := "sign", desc := "(I)V" } : Jvm.MethodName) prog_14_method_16_code (2 : Nat) (Option.none : Option Jvm.ClassFile.FieldType)) ∈ lw_all := lw_g (lw_at lw_m6 152 rfl) rfl
theorem q1433 : (Jvm.Cond.constantLong "TableCatalogModel" (240 : Nat) (14 : Int64)) ∈ lw_all := lw_g (lw_at lw_m6 153 rfl) rfl
theorem q1434 : (Jvm.Cond.constantLong "TableCatalogModel" (242 : Nat) (20 : Int64)) ∈ lw_all := lw_g (lw_at lw_m6 154 rfl) rfl
theorem q1435 : (Jvm.Cond.constantLong "TableCatalogModel" (244 : Nat) (4 : Int64)) ∈ lw_all := lw_g (lw_at lw_m6 155 rfl) rfl
theorem q1436 : (Jvm.Cond.methodLink "TableCatalogModel" (301 : Nat) ({ cls := "TableCatalogModel", name := "select", desc := "()V" } : Jvm.MethodName)) ∈ lw_all := lw_g (lw_at lw_m6 156 rfl) rfl
theorem q1437 : (Jvm.Cond.privateMethod ({ cls := "TableCatalogModel", name := "select", desc := "()V" } : Jvm.MethodName)) ∈ lw_tbl := lw_at lw_m6 157 rfl
theorem q1438 : (Jvm.Cond.instanceMethod ({ cls := "TableCatalogModel", name := "select", desc := "()V" } : Jvm.MethodName)) ∈ lw_all := lw_g (lw_at lw_m6 158 rfl) rfl
theorem q1439 : (Jvm.Cond.code ({ cls := "TableCatalogModel", name := "select", desc := "()V" } : Jvm.MethodName) prog_14_method_22_code (2 : Nat) (Option.none : Option Jvm.ClassFile.FieldType)) ∈ lw_all := lw_g (lw_at lw_m6 159 rfl) rfl
theorem q1440 : (Jvm.Cond.methodLink "TableCatalogModel" (246 : Nat) ({ cls := "TableCatalogModel", name := "formula", desc := "(I)V" } : Jvm.MethodName)) ∈ lw_all := lw_g (lw_at lw_m6 160 rfl) rfl
theorem q1441 : (Jvm.Cond.privateMethod ({ cls := "TableCatalogModel", name := "formula", desc := "(I)V" } : Jvm.MethodName)) ∈ lw_tbl := lw_at lw_m6 161 rfl
theorem q1442 : (Jvm.Cond.instanceMethod ({ cls := "TableCatalogModel", name := "formula", desc := "(I)V" } : Jvm.MethodName)) ∈ lw_all := lw_g (lw_at lw_m6 162 rfl) rfl
theorem q1443 : (Jvm.Cond.code ({ cls := "TableCatalogModel", name := "formula", desc := "(I)V" } : Jvm.MethodName) prog_14_method_18_code (5 : Nat) (Option.none : Option Jvm.ClassFile.FieldType)) ∈ lw_all := lw_g (lw_at lw_m6 163 rfl) rfl
theorem q1444 : (Jvm.Cond.methodLink "TableCatalogModel" (224 : Nat) ({ cls := "TableCatalogModel", name := "isMore", desc := "()Z" } : Jvm.MethodName)) ∈ lw_all := lw_g (lw_at lw_m6 164 rfl) rfl
theorem q1445 : (Jvm.Cond.privateMethod ({ cls := "TableCatalogModel", name := "isMore", desc := "()Z" } : Jvm.MethodName)) ∈ lw_tbl := lw_at lw_m6 165 rfl
theorem q1446 : (Jvm.Cond.instanceMethod ({ cls := "TableCatalogModel", name := "isMore", desc := "()Z" } : Jvm.MethodName)) ∈ lw_all := lw_g (lw_at lw_m6 166 rfl) rfl
theorem q1447 : (Jvm.Cond.code ({ cls := "TableCatalogModel", name := "isMore", desc := "()Z" } : Jvm.MethodName) prog_14_method_19_code (1 : Nat) (Option.some Jvm.ClassFile.FieldType.boolean)) ∈ lw_all := lw_g (lw_at lw_m6 167 rfl) rfl
theorem q1448 : (Jvm.Cond.methodLink "TableCatalogModel" (235 : Nat) ({ cls := "TableCatalogModel", name := "term", desc := "()V" } : Jvm.MethodName)) ∈ lw_all := lw_g (lw_at lw_m6 168 rfl) rfl
theorem q1449 : (Jvm.Cond.privateMethod ({ cls := "TableCatalogModel", name := "term", desc := "()V" } : Jvm.MethodName)) ∈ lw_tbl := lw_at lw_m6 169 rfl
theorem q1450 : (Jvm.Cond.instanceMethod ({ cls := "TableCatalogModel", name := "term", desc := "()V" } : Jvm.MethodName)) ∈ lw_all := lw_g (lw_at lw_m6 170 rfl) rfl
theorem q1451 : (Jvm.Cond.code ({ cls := "TableCatalogModel", name := "term", desc := "()V" } : Jvm.MethodName) prog_14_method_20_code (1 : Nat) (Option.none : Option Jvm.ClassFile.FieldType)) ∈ lw_all := lw_g (lw_at lw_m6 171 rfl) rfl
theorem q1452 : (Jvm.Cond.methodLink "TableCatalogModel" (304 : Nat) ({ cls := "TableCatalogModel", name := "meant", desc := "()V" } : Jvm.MethodName)) ∈ lw_all := lw_g (lw_at lw_m6 172 rfl) rfl
theorem q1453 : (Jvm.Cond.privateMethod ({ cls := "TableCatalogModel", name := "meant", desc := "()V" } : Jvm.MethodName)) ∈ lw_tbl := lw_at lw_m6 173 rfl
theorem q1454 : (Jvm.Cond.instanceMethod ({ cls := "TableCatalogModel", name := "meant", desc := "()V" } : Jvm.MethodName)) ∈ lw_all := lw_g (lw_at lw_m6 174 rfl) rfl
theorem q1455 : (Jvm.Cond.code ({ cls := "TableCatalogModel", name := "meant", desc := "()V" } : Jvm.MethodName) prog_14_method_33_code (5 : Nat) (Option.none : Option Jvm.ClassFile.FieldType)) ∈ lw_all := lw_g (lw_at lw_m6 175 rfl) rfl
theorem q1456 : (Jvm.Cond.methodLink "TableCatalogModel" (288 : Nat) ({ cls := "TableCatalogModel", name := "tableNamed", desc := "(J)I" } : Jvm.MethodName)) ∈ lw_all := lw_g (lw_at lw_m6 176 rfl) rfl
theorem q1457 : (Jvm.Cond.privateMethod ({ cls := "TableCatalogModel", name := "tableNamed", desc := "(J)I" } : Jvm.MethodName)) ∈ lw_tbl := lw_at lw_m6 177 rfl
theorem q1458 : (Jvm.Cond.instanceMethod ({ cls := "TableCatalogModel", name := "tableNamed", desc := "(J)I" } : Jvm.MethodName)) ∈ lw_all := lw_g (lw_at lw_m6 178 rfl) rfl
theorem q1459 : (Jvm.Cond.code ({ cls := "TableCatalogModel", name := "tableNamed", desc := "(J)I" } : Jvm.MethodName) prog_14_method_24_code (4 : Nat) (Option.some Jvm.ClassFile.FieldType.int)) ∈ lw_all := lw_g (lw_at lw_m6 179 rfl) rfl
theorem q1460 : (Jvm.Cond.methodLink "TableCatalogModel" (262 : Nat) ({ cls := "TableCatalogModel", name := "means", desc := "(II)V" } : Jvm.MethodName)) ∈ lw_all := lw_g (lw_at lw_m6 180 rfl) rfl
theorem q1461 : (Jvm.Cond.privateMethod ({ cls := "TableCatalogModel", name := "means", desc := "(II)V" } : Jvm.MethodName)) ∈ lw_tbl := lw_at lw_m6 181 rfl
theorem q1462 : (Jvm.Cond.instanceMethod ({ cls := "TableCatalogModel", name := "means", desc := "(II)V" } : Jvm.MethodName)) ∈ lw_all := lw_g (lw_at lw_m6 182 rfl) rfl
theorem q1463 : (Jvm.Cond.code ({ cls := "TableCatalogModel", name := "means", desc := "(II)V" } : Jvm.MethodName) prog_14_method_23_code (3 : Nat) (Option.none : Option Jvm.ClassFile.FieldType)) ∈ lw_all := lw_g (lw_at lw_m6 183 rfl) rfl
theorem q1464 : (Jvm.Cond.methodLink "TableCatalogModel" (292 : Nat) ({ cls := "TableCatalogModel", name := "typeOf", desc := "(II)I" } : Jvm.MethodName)) ∈ lw_all := lw_g (lw_at lw_m6 184 rfl) rfl
theorem q1465 : (Jvm.Cond.privateMethod ({ cls := "TableCatalogModel", name := "typeOf", desc := "(II)I" } : Jvm.MethodName)) ∈ lw_tbl := lw_at lw_m6 185 rfl
theorem q1466 : (Jvm.Cond.instanceMethod ({ cls := "TableCatalogModel", name := "typeOf", desc := "(II)I" } : Jvm.MethodName)) ∈ lw_all := lw_g (lw_at lw_m6 186 rfl) rfl
theorem q1467 : (Jvm.Cond.code ({ cls := "TableCatalogModel", name := "typeOf", desc := "(II)I" } : Jvm.MethodName) prog_14_method_30_code (7 : Nat) (Option.some Jvm.ClassFile.FieldType.int)) ∈ lw_all := lw_g (lw_at lw_m6 187 rfl) rfl
theorem q1468 : (Jvm.Cond.methodLink "TableCatalogModel" (271 : Nat) ({ cls := "TableCatalogModel", name := "comes", desc := "(I)V" } : Jvm.MethodName)) ∈ lw_all := lw_g (lw_at lw_m6 188 rfl) rfl
theorem q1469 : (Jvm.Cond.privateMethod ({ cls := "TableCatalogModel", name := "comes", desc := "(I)V" } : Jvm.MethodName)) ∈ lw_tbl := lw_at lw_m6 189 rfl
theorem q1470 : (Jvm.Cond.instanceMethod ({ cls := "TableCatalogModel", name := "comes", desc := "(I)V" } : Jvm.MethodName)) ∈ lw_all := lw_g (lw_at lw_m6 190 rfl) rfl
theorem q1471 : (Jvm.Cond.code ({ cls := "TableCatalogModel", name := "comes", desc := "(I)V" } : Jvm.MethodName) prog_14_method_29_code (6 : Nat) (Option.none : Option Jvm.ClassFile.FieldType)) ∈ lw_all := lw_g (lw_at lw_m6 191 rfl) rfl
theorem q1472 : (Jvm.Cond.methodLink "TableCatalogModel" (268 : Nat) ({ cls := "TableCatalogModel", name := "wrong", desc := "(I)V" } : Jvm.MethodName)) ∈ lw_all := lw_g (lw_at lw_m6 192 rfl) rfl
theorem q1473 : (Jvm.Cond.privateMethod ({ cls := "TableCatalogModel", name := "wrong", desc := "(I)V" } : Jvm.MethodName)) ∈ lw_tbl := lw_at lw_m6 193 rfl
theorem q1474 : (Jvm.Cond.instanceMethod ({ cls := "TableCatalogModel", name := "wrong", desc := "(I)V" } : Jvm.MethodName)) ∈ lw_all := lw_g (lw_at lw_m6 194 rfl) rfl
theorem q1475 : (Jvm.Cond.code ({ cls := "TableCatalogModel", name := "wrong", desc := "(I)V" } : Jvm.MethodName) prog_14_method_28_code (2 : Nat) (Option.none : Option Jvm.ClassFile.FieldType)) ∈ lw_all := lw_g (lw_at lw_m6 195 rfl) rfl
theorem q1476 : (Jvm.Cond.methodLink "TableCatalogModel" (274 : Nat) ({ cls := "TableCatalogModel", name := "wordOf", desc := "(II)J" } : Jvm.MethodName)) ∈ lw_all := lw_g (lw_at lw_m6 196 rfl) rfl
theorem q1477 : (Jvm.Cond.privateMethod ({ cls := "TableCatalogModel", name := "wordOf", desc := "(II)J" } : Jvm.MethodName)) ∈ lw_tbl := lw_at lw_m6 197 rfl
theorem q1478 : (Jvm.Cond.instanceMethod ({ cls := "TableCatalogModel", name := "wordOf", desc := "(II)J" } : Jvm.MethodName)) ∈ lw_all := lw_g (lw_at lw_m6 198 rfl) rfl
theorem q1479 : (Jvm.Cond.code ({ cls := "TableCatalogModel", name := "wordOf", desc := "(II)J" } : Jvm.MethodName) prog_14_method_25_code (7 : Nat) (Option.some Jvm.ClassFile.FieldType.long)) ∈ lw_all := lw_g (lw_at lw_m6 199 rfl) rfl
theorem q1480 : (Jvm.Cond.methodLink "TableCatalogModel" (277 : Nat) ({ cls := "TableCatalogModel", name := "typeOfName", desc := "(II)I" } : Jvm.MethodName)) ∈ lw_all := lw_g (lw_at lw_m6 200 rfl) rfl
theorem q1481 : (Jvm.Cond.privateMethod ({ cls := "TableCatalogModel", name := "typeOfName", desc := "(II)I" } : Jvm.MethodName)) ∈ lw_tbl := lw_at lw_m6 201 rfl
theorem q1482 : (Jvm.Cond.instanceMethod ({ cls := "TableCatalogModel", name := "typeOfName", desc := "(II)I" } : Jvm.MethodName)) ∈ lw_all := lw_g (lw_at lw_m6 202 rfl) rfl
theorem q1483 : (Jvm.Cond.code ({ cls := "TableCatalogModel", name := "typeOfName", desc := "(II)I" } : Jvm.MethodName) prog_14_method_31_code (6 : Nat) (Option.some Jvm.ClassFile.FieldType.int)) ∈ lw_all := lw_g (lw_at lw_m6 203 rfl) rfl
theorem q1484 : (Jvm.Cond.methodLink "TableCatalogModel" (281 : Nat) ({ cls := "TableCatalogModel", name := "behindNamed", desc := "(IJ)I" } : Jvm.MethodName)) ∈ lw_all := lw_g (lw_at lw_m6 204 rfl) rfl
theorem q1485 : (Jvm.Cond.privateMethod ({ cls := "TableCatalogModel", name := "behindNamed", desc := "(IJ)I" } : Jvm.MethodName)) ∈ lw_tbl := lw_at lw_m6 205 rfl
theorem q1486 : (Jvm.Cond.instanceMethod ({ cls := "TableCatalogModel", name := "behindNamed", desc := "(IJ)I" } : Jvm.MethodName)) ∈ lw_all := lw_g (lw_at lw_m6 206 rfl) rfl
theorem q1487 : (Jvm.Cond.code ({ cls := "TableCatalogModel", name := "behindNamed", desc := "(IJ)I" } : Jvm.MethodName) prog_14_method_26_code (5 : Nat) (Option.some Jvm.ClassFile.FieldType.int)) ∈ lw_all := lw_g (lw_at lw_m6 207 rfl) rfl
theorem q1488 : (Jvm.Cond.methodLink "TableCatalogModel" (285 : Nat) ({ cls := "TableCatalogModel", name := "columnNamed", desc := "(IJ)I" } : Jvm.MethodName)) ∈ lw_all := lw_g (lw_at lw_m6 208 rfl) rfl
theorem q1489 : (Jvm.Cond.privateMethod ({ cls := "TableCatalogModel", name := "columnNamed", desc := "(IJ)I" } : Jvm.MethodName)) ∈ lw_tbl := lw_at lw_m6 209 rfl
theorem q1490 : (Jvm.Cond.instanceMethod ({ cls := "TableCatalogModel", name := "columnNamed", desc := "(IJ)I" } : Jvm.MethodName)) ∈ lw_all := lw_g (lw_at lw_m6 210 rfl) rfl
theorem q1491 : (Jvm.Cond.code ({ cls := "TableCatalogModel", name := "columnNamed", desc := "(IJ)I" } : Jvm.MethodName) prog_14_method_27_code (5 : Nat) (Option.some Jvm.ClassFile.FieldType.int)) ∈ lw_all := lw_g (lw_at lw_m6 211 rfl) rfl
theorem q1492 : (Jvm.Cond.methodLink "TableCatalogModel" (295 : Nat) ({ cls := "TableCatalogModel", name := "hasWhere", desc := "(I)Z" } : Jvm.MethodName)) ∈ lw_all := lw_g (lw_at lw_m6 212 rfl) rfl
theorem q1493 : (Jvm.Cond.privateMethod ({ cls := "TableCatalogModel", name := "hasWhere", desc := "(I)Z" } : Jvm.MethodName)) ∈ lw_tbl := lw_at lw_m6 213 rfl
theorem q1494 : (Jvm.Cond.instanceMethod ({ cls := "TableCatalogModel", name := "hasWhere", desc := "(I)Z" } : Jvm.MethodName)) ∈ lw_all := lw_g (lw_at lw_m6 214 rfl) rfl
theorem q1495 : (Jvm.Cond.code ({ cls := "TableCatalogModel", name := "hasWhere", desc := "(I)Z" } : Jvm.MethodName) prog_14_method_32_code (2 : Nat) (Option.some Jvm.ClassFile.FieldType.boolean)) ∈ lw_all := lw_g (lw_at lw_m6 215 rfl) rfl
theorem q1497 : (Jvm.Cond.instanceMethod ({ cls := "TableCatalogModel", name := "fault", desc := "(I)I" } : Jvm.MethodName)) ∈ lw_all := lw_g (lw_at lw_m6 217 rfl) rfl
theorem q1498 : (Jvm.Cond.selects "TableCatalogModel" ({ cls := "TableCatalogModel", name := "fault", desc := "(I)I" } : Jvm.MethodName) ({ cls := "TableCatalogModel", name := "fault", desc := "(I)I" } : Jvm.MethodName)) ∈ lw_all := lw_g (lw_at lw_m6 218 rfl) rfl
theorem q1499 : (Jvm.Cond.code ({ cls := "TableCatalogModel", name := "fault", desc := "(I)I" } : Jvm.MethodName) prog_14_method_35_code (2 : Nat) (Option.some Jvm.ClassFile.FieldType.int)) ∈ lw_all := lw_g (lw_at lw_m6 219 rfl) rfl
theorem q1501 : (Jvm.Cond.instanceMethod ({ cls := "TableCatalogModel", name := "named", desc := "()I" } : Jvm.MethodName)) ∈ lw_all := lw_g (lw_at lw_m6 221 rfl) rfl
theorem q1502 : (Jvm.Cond.selects "TableCatalogModel" ({ cls := "TableCatalogModel", name := "named", desc := "()I" } : Jvm.MethodName) ({ cls := "TableCatalogModel", name := "named", desc := "()I" } : Jvm.MethodName)) ∈ lw_all := lw_g (lw_at lw_m6 222 rfl) rfl
theorem q1503 : (Jvm.Cond.code ({ cls := "TableCatalogModel", name := "named", desc := "()I" } : Jvm.MethodName) prog_14_method_36_code (5 : Nat) (Option.some Jvm.ClassFile.FieldType.int)) ∈ lw_all := lw_g (lw_at lw_m6 223 rfl) rfl
theorem q1505 : (Jvm.Cond.instanceMethod ({ cls := "TableCatalogModel", name := "table", desc := "(II)I" } : Jvm.MethodName)) ∈ lw_all := lw_g (lw_at lw_m6 225 rfl) rfl
theorem q1506 : (Jvm.Cond.selects "TableCatalogModel" ({ cls := "TableCatalogModel", name := "table", desc := "(II)I" } : Jvm.MethodName) ({ cls := "TableCatalogModel", name := "table", desc := "(II)I" } : Jvm.MethodName)) ∈ lw_all := lw_g (lw_at lw_m6 226 rfl) rfl
theorem q1507 : (Jvm.Cond.code ({ cls := "TableCatalogModel", name := "table", desc := "(II)I" } : Jvm.MethodName) prog_14_method_40_code (3 : Nat) (Option.some Jvm.ClassFile.FieldType.int)) ∈ lw_all := lw_g (lw_at lw_m6 227 rfl) rfl
theorem q1508 : (Jvm.Cond.methodLink "TableCatalogModel" (162 : Nat) ({ cls := "TableCatalogModel", name := "isTable", desc := "(I)Z" } : Jvm.MethodName)) ∈ lw_all := lw_g (lw_at lw_m6 228 rfl) rfl
theorem q1509 : (Jvm.Cond.privateMethod ({ cls := "TableCatalogModel", name := "isTable", desc := "(I)Z" } : Jvm.MethodName)) ∈ lw_tbl := lw_at lw_m6 229 rfl
theorem q1510 : (Jvm.Cond.instanceMethod ({ cls := "TableCatalogModel", name := "isTable", desc := "(I)Z" } : Jvm.MethodName)) ∈ lw_all := lw_g (lw_at lw_m6 230 rfl) rfl
theorem q1511 : (Jvm.Cond.code ({ cls := "TableCatalogModel", name := "isTable", desc := "(I)Z" } : Jvm.MethodName) prog_14_method_2_code (2 : Nat) (Option.some Jvm.ClassFile.FieldType.boolean)) ∈ lw_all := lw_g (lw_at lw_m6 231 rfl) rfl
theorem q1512 : (Jvm.Cond.methodLink "TableCatalogModel" (313 : Nat) ({ cls := "TableCatalogModel", name := "ages", desc := "()V" } : Jvm.MethodName)) ∈ lw_all := lw_g (lw_at lw_m6 232 rfl) rfl
theorem q1513 : (Jvm.Cond.privateMethod ({ cls := "TableCatalogModel", name := "ages", desc := "()V" } : Jvm.MethodName)) ∈ lw_tbl := lw_at lw_m6 233 rfl
theorem q1514 : (Jvm.Cond.instanceMethod ({ cls := "TableCatalogModel", name := "ages", desc := "()V" } : Jvm.MethodName)) ∈ lw_all := lw_g (lw_at lw_m6 234 rfl) rfl
theorem q1515 : (Jvm.Cond.code ({ cls := "TableCatalogModel", name := "ages", desc := "()V" } : Jvm.MethodName) prog_14_method_37_code (2 : Nat) (Option.none : Option Jvm.ClassFile.FieldType)) ∈ lw_all := lw_g (lw_at lw_m6 235 rfl) rfl
theorem q1516 : (Jvm.Cond.methodLink "TableCatalogModel" (310 : Nat) ({ cls := "TableCatalogModel", name := "agesBehind", desc := "(I)V" } : Jvm.MethodName)) ∈ lw_all := lw_g (lw_at lw_m6 236 rfl) rfl
theorem q1517 : (Jvm.Cond.privateMethod ({ cls := "TableCatalogModel", name := "agesBehind", desc := "(I)V" } : Jvm.MethodName)) ∈ lw_tbl := lw_at lw_m6 237 rfl
theorem q1518 : (Jvm.Cond.instanceMethod ({ cls := "TableCatalogModel", name := "agesBehind", desc := "(I)V" } : Jvm.MethodName)) ∈ lw_all := lw_g (lw_at lw_m6 238 rfl) rfl
theorem q1519 : (Jvm.Cond.code ({ cls := "TableCatalogModel", name := "agesBehind", desc := "(I)V" } : Jvm.MethodName) prog_14_method_38_code (4 : Nat) (Option.none : Option Jvm.ClassFile.FieldType)) ∈ lw_all := lw_g (lw_at lw_m6 239 rfl) rfl
theorem q1520 : (Jvm.Cond.methodLink "TableCatalogModel" (316 : Nat) ({ cls := "TableCatalogModel", name := "ownerOf", desc := "(I)I" } : Jvm.MethodName)) ∈ lw_all := lw_g (lw_at lw_m7 0 rfl) rfl
theorem q1521 : (Jvm.Cond.privateMethod ({ cls := "TableCatalogModel", name := "ownerOf", desc := "(I)I" } : Jvm.MethodName)) ∈ lw_tbl := lw_at lw_m7 1 rfl
theorem q1522 : (Jvm.Cond.instanceMethod ({ cls := "TableCatalogModel", name := "ownerOf", desc := "(I)I" } : Jvm.MethodName)) ∈ lw_all := lw_g (lw_at lw_m7 2 rfl) rfl
theorem q1523 : (Jvm.Cond.code ({ cls := "TableCatalogModel", name := "ownerOf", desc := "(I)I" } : Jvm.MethodName) prog_14_method_39_code (3 : Nat) (Option.some Jvm.ClassFile.FieldType.int)) ∈ lw_all := lw_g (lw_at lw_m7 3 rfl) rfl
theorem q1525 : (Jvm.Cond.instanceMethod ({ cls := "TableCatalogModel", name := "type", desc := "(II)I" } : Jvm.MethodName)) ∈ lw_all := lw_g (lw_at lw_m7 5 rfl) rfl
theorem q1526 : (Jvm.Cond.selects "TableCatalogModel" ({ cls := "TableCatalogModel", name := "type", desc := "(II)I" } : Jvm.MethodName) ({ cls := "TableCatalogModel", name := "type", desc := "(II)I" } : Jvm.MethodName)) ∈ lw_all := lw_g (lw_at lw_m7 6 rfl) rfl
theorem q1527 : (Jvm.Cond.code ({ cls := "TableCatalogModel", name := "type", desc := "(II)I" } : Jvm.MethodName) prog_14_method_41_code (3 : Nat) (Option.some Jvm.ClassFile.FieldType.int)) ∈ lw_all := lw_g (lw_at lw_m7 7 rfl) rfl
theorem q1528 : (Jvm.Cond.methodLink "TableCatalogModel" (320 : Nat) ({ cls := "TableCatalogModel", name := "isColumn", desc := "(II)Z" } : Jvm.MethodName)) ∈ lw_all := lw_g (lw_at lw_m7 8 rfl) rfl
theorem q1529 : (Jvm.Cond.privateMethod ({ cls := "TableCatalogModel", name := "isColumn", desc := "(II)Z" } : Jvm.MethodName)) ∈ lw_tbl := lw_at lw_m7 9 rfl
theorem q1530 : (Jvm.Cond.instanceMethod ({ cls := "TableCatalogModel", name := "isColumn", desc := "(II)Z" } : Jvm.MethodName)) ∈ lw_all := lw_g (lw_at lw_m7 10 rfl) rfl
theorem q1531 : (Jvm.Cond.code ({ cls := "TableCatalogModel", name := "isColumn", desc := "(II)Z" } : Jvm.MethodName) prog_14_method_3_code (3 : Nat) (Option.some Jvm.ClassFile.FieldType.boolean)) ∈ lw_all := lw_g (lw_at lw_m7 11 rfl) rfl
theorem q1533 : (Jvm.Cond.instanceMethod ({ cls := "TableCatalogModel", name := "found", desc := "(I)I" } : Jvm.MethodName)) ∈ lw_all := lw_g (lw_at lw_m7 13 rfl) rfl
theorem q1534 : (Jvm.Cond.selects "TableCatalogModel" ({ cls := "TableCatalogModel", name := "found", desc := "(I)I" } : Jvm.MethodName) ({ cls := "TableCatalogModel", name := "found", desc := "(I)I" } : Jvm.MethodName)) ∈ lw_all := lw_g (lw_at lw_m7 14 rfl) rfl
theorem q1535 : (Jvm.Cond.code ({ cls := "TableCatalogModel", name := "found", desc := "(I)I" } : Jvm.MethodName) prog_14_method_42_code (2 : Nat) (Option.some Jvm.ClassFile.FieldType.int)) ∈ lw_all := lw_g (lw_at lw_m7 15 rfl) rfl
theorem q1537 : (Jvm.Cond.instanceMethod ({ cls := "TableCatalogModel", name := "from", desc := "(III)I" } : Jvm.MethodName)) ∈ lw_all := lw_g (lw_at lw_m7 17 rfl) rfl
theorem q1538 : (Jvm.Cond.selects "TableCatalogModel" ({ cls := "TableCatalogModel", name := "from", desc := "(III)I" } : Jvm.MethodName) ({ cls := "TableCatalogModel", name := "from", desc := "(III)I" } : Jvm.MethodName)) ∈ lw_all := lw_g (lw_at lw_m7 18 rfl) rfl
theorem q1539 : (Jvm.Cond.code ({ cls := "TableCatalogModel", name := "from", desc := "(III)I" } : Jvm.MethodName) prog_14_method_49_code (6 : Nat) (Option.some Jvm.ClassFile.FieldType.int)) ∈ lw_all := lw_g (lw_at lw_m7 19 rfl) rfl
theorem q1540 : (Jvm.Cond.methodLink "TableCatalogModel" (333 : Nat) ({ cls := "TableCatalogModel", name := "clears", desc := "()V" } : Jvm.MethodName)) ∈ lw_all := lw_g (lw_at lw_m7 20 rfl) rfl
theorem q1541 : (Jvm.Cond.privateMethod ({ cls := "TableCatalogModel", name := "clears", desc := "()V" } : Jvm.MethodName)) ∈ lw_tbl := lw_at lw_m7 21 rfl
theorem q1542 : (Jvm.Cond.instanceMethod ({ cls := "TableCatalogModel", name := "clears", desc := "()V" } : Jvm.MethodName)) ∈ lw_all := lw_g (lw_at lw_m7 22 rfl) rfl
theorem q1543 : (Jvm.Cond.code ({ cls := "TableCatalogModel", name := "clears", desc := "()V" } : Jvm.MethodName) prog_14_method_48_code (2 : Nat) (Option.none : Option Jvm.ClassFile.FieldType)) ∈ lw_all := lw_g (lw_at lw_m7 23 rfl) rfl
theorem q1544 : (Jvm.Cond.methodLink "TableCatalogModel" (336 : Nat) ({ cls := "TableCatalogModel", name := "marksUsed", desc := "(II)V" } : Jvm.MethodName)) ∈ lw_all := lw_g (lw_at lw_m7 24 rfl) rfl
theorem q1545 : (Jvm.Cond.privateMethod ({ cls := "TableCatalogModel", name := "marksUsed", desc := "(II)V" } : Jvm.MethodName)) ∈ lw_tbl := lw_at lw_m7 25 rfl
theorem q1546 : (Jvm.Cond.instanceMethod ({ cls := "TableCatalogModel", name := "marksUsed", desc := "(II)V" } : Jvm.MethodName)) ∈ lw_all := lw_g (lw_at lw_m7 26 rfl) rfl
theorem q1547 : (Jvm.Cond.code ({ cls := "TableCatalogModel", name := "marksUsed", desc := "(II)V" } : Jvm.MethodName) prog_14_method_47_code (4 : Nat) (Option.none : Option Jvm.ClassFile.FieldType)) ∈ lw_all := lw_g (lw_at lw_m7 27 rfl) rfl
theorem q1548 : (Jvm.Cond.methodLink "TableCatalogModel" (327 : Nat) ({ cls := "TableCatalogModel", name := "isNameAt", desc := "(II)Z" } : Jvm.MethodName)) ∈ lw_all := lw_g (lw_at lw_m7 28 rfl) rfl
theorem q1549 : (Jvm.Cond.privateMethod ({ cls := "TableCatalogModel", name := "isNameAt", desc := "(II)Z" } : Jvm.MethodName)) ∈ lw_tbl := lw_at lw_m7 29 rfl
theorem q1550 : (Jvm.Cond.instanceMethod ({ cls := "TableCatalogModel", name := "isNameAt", desc := "(II)Z" } : Jvm.MethodName)) ∈ lw_all := lw_g (lw_at lw_m7 30 rfl) rfl
theorem q1551 : (Jvm.Cond.code ({ cls := "TableCatalogModel", name := "isNameAt", desc := "(II)Z" } : Jvm.MethodName) prog_14_method_45_code (3 : Nat) (Option.some Jvm.ClassFile.FieldType.boolean)) ∈ lw_all := lw_g (lw_at lw_m7 31 rfl) rfl
theorem q1552 : (Jvm.Cond.methodLink "TableCatalogModel" (330 : Nat) ({ cls := "TableCatalogModel", name := "usedAt", desc := "(II)I" } : Jvm.MethodName)) ∈ lw_all := lw_g (lw_at lw_m7 32 rfl) rfl
theorem q1553 : (Jvm.Cond.privateMethod ({ cls := "TableCatalogModel", name := "usedAt", desc := "(II)I" } : Jvm.MethodName)) ∈ lw_tbl := lw_at lw_m7 33 rfl
theorem q1554 : (Jvm.Cond.instanceMethod ({ cls := "TableCatalogModel", name := "usedAt", desc := "(II)I" } : Jvm.MethodName)) ∈ lw_all := lw_g (lw_at lw_m7 34 rfl) rfl
theorem q1555 : (Jvm.Cond.code ({ cls := "TableCatalogModel", name := "usedAt", desc := "(II)I" } : Jvm.MethodName) prog_14_method_44_code (4 : Nat) (Option.some Jvm.ClassFile.FieldType.int)) ∈ lw_all := lw_g (lw_at lw_m7 35 rfl) rfl
theorem q1556 : (Jvm.Cond.methodLink "TableCatalogModel" (339 : Nat) ({ cls := "TableCatalogModel", name := "finds", desc := "(I)V" } : Jvm.MethodName)) ∈ lw_all := lw_g (lw_at lw_m7 36 rfl) rfl
theorem q1557 : (Jvm.Cond.privateMethod ({ cls := "TableCatalogModel", name := "finds", desc := "(I)V" } : Jvm.MethodName)) ∈ lw_tbl := lw_at lw_m7 37 rfl
theorem q1558 : (Jvm.Cond.instanceMethod ({ cls := "TableCatalogModel", name := "finds", desc := "(I)V" } : Jvm.MethodName)) ∈ lw_all := lw_g (lw_at lw_m7 38 rfl) rfl
theorem q1559 : (Jvm.Cond.code ({ cls := "TableCatalogModel", name := "finds", desc := "(I)V" } : Jvm.MethodName) prog_14_method_43_code (2 : Nat) (Option.none : Option Jvm.ClassFile.FieldType)) ∈ lw_all := lw_g (lw_at lw_m7 39 rfl) rfl
theorem q1561 : (Jvm.Cond.instanceMethod ({ cls := "TableCatalogModel", name := "touch", desc := "(II)I" } : Jvm.MethodName)) ∈ lw_all := lw_g (lw_at lw_m7 41 rfl) rfl
theorem q1562 : (Jvm.Cond.selects "TableCatalogModel" ({ cls := "TableCatalogModel", name := "touch", desc := "(II)I" } : Jvm.MethodName) ({ cls := "TableCatalogModel", name := "touch", desc := "(II)I" } : Jvm.MethodName)) ∈ lw_all := lw_g (lw_at lw_m7 42 rfl) rfl
theorem q1563 : (Jvm.Cond.code ({ cls := "TableCatalogModel", name := "touch", desc := "(II)I" } : Jvm.MethodName) prog_14_method_51_code (4 : Nat) (Option.some Jvm.ClassFile.FieldType.int)) ∈ lw_all := lw_g (lw_at lw_m7 43 rfl) rfl
theorem q1564 : (Jvm.Cond.methodLink "TableCatalogModel" (345 : Nat) ({ cls := "TableCatalogModel", name := "touches", desc := "(II)V" } : Jvm.MethodName)) ∈ lw_all := lw_g (lw_at lw_m7 44 rfl) rfl
theorem q1565 : (Jvm.Cond.privateMethod ({ cls := "TableCatalogModel", name := "touches", desc := "(II)V" } : Jvm.MethodName)) ∈ lw_tbl := lw_at lw_m7 45 rfl
theorem q1566 : (Jvm.Cond.instanceMethod ({ cls := "TableCatalogModel", name := "touches", desc := "(II)V" } : Jvm.MethodName)) ∈ lw_all := lw_g (lw_at lw_m7 46 rfl) rfl
theorem q1567 : (Jvm.Cond.code ({ cls := "TableCatalogModel", name := "touches", desc := "(II)V" } : Jvm.MethodName) prog_14_method_50_code (6 : Nat) (Option.none : Option Jvm.ClassFile.FieldType)) ∈ lw_all := lw_g (lw_at lw_m7 47 rfl) rfl
theorem q1568 : (Jvm.Cond.methodLink "TableCatalogModel" (342 : Nat) ({ cls := "TableCatalogModel", name := "usesMarked", desc := "(II)Z" } : Jvm.MethodName)) ∈ lw_all := lw_g (lw_at lw_m7 48 rfl) rfl
theorem q1569 : (Jvm.Cond.privateMethod ({ cls := "TableCatalogModel", name := "usesMarked", desc := "(II)Z" } : Jvm.MethodName)) ∈ lw_tbl := lw_at lw_m7 49 rfl
theorem q1570 : (Jvm.Cond.instanceMethod ({ cls := "TableCatalogModel", name := "usesMarked", desc := "(II)Z" } : Jvm.MethodName)) ∈ lw_all := lw_g (lw_at lw_m7 50 rfl) rfl
theorem q1571 : (Jvm.Cond.code ({ cls := "TableCatalogModel", name := "usesMarked", desc := "(II)Z" } : Jvm.MethodName) prog_14_method_46_code (4 : Nat) (Option.some Jvm.ClassFile.FieldType.boolean)) ∈ lw_all := lw_g (lw_at lw_m7 51 rfl) rfl
theorem q1573 : (Jvm.Cond.instanceMethod ({ cls := "TableCatalogModel", name := "asked", desc := "(II)I" } : Jvm.MethodName)) ∈ lw_all := lw_g (lw_at lw_m7 53 rfl) rfl
theorem q1574 : (Jvm.Cond.selects "TableCatalogModel" ({ cls := "TableCatalogModel", name := "asked", desc := "(II)I" } : Jvm.MethodName) ({ cls := "TableCatalogModel", name := "asked", desc := "(II)I" } : Jvm.MethodName)) ∈ lw_all := lw_g (lw_at lw_m7 54 rfl) rfl
theorem q1575 : (Jvm.Cond.code ({ cls := "TableCatalogModel", name := "asked", desc := "(II)I" } : Jvm.MethodName) prog_14_method_52_code (6 : Nat) (Option.some Jvm.ClassFile.FieldType.int)) ∈ lw_all := lw_g (lw_at lw_m7 55 rfl) rfl
theorem q1577 : (Jvm.Cond.instanceMethod ({ cls := "TableCatalogModel", name := "ask", desc := "(III)I" } : Jvm.MethodName)) ∈ lw_all := lw_g (lw_at lw_m7 57 rfl) rfl
theorem q1578 : (Jvm.Cond.selects "TableCatalogModel" ({ cls := "TableCatalogModel", name := "ask", desc := "(III)I" } : Jvm.MethodName) ({ cls := "TableCatalogModel", name := "ask", desc := "(III)I" } : Jvm.MethodName)) ∈ lw_all := lw_g (lw_at lw_m7 58 rfl) rfl
theorem q1579 : (Jvm.Cond.code ({ cls := "TableCatalogModel", name := "ask", desc := "(III)I" } : Jvm.MethodName) prog_14_method_53_code (4 : Nat) (Option.some Jvm.ClassFile.FieldType.int)) ∈ lw_all := lw_g (lw_at lw_m7 59 rfl) rfl
theorem q1581 : (Jvm.Cond.instanceMethod ({ cls := "TableCatalogModel", name := "retype", desc := "(III)I" } : Jvm.MethodName)) ∈ lw_all := lw_g (lw_at lw_m7 61 rfl) rfl
theorem q1582 : (Jvm.Cond.selects "TableCatalogModel" ({ cls := "TableCatalogModel", name := "retype", desc := "(III)I" } : Jvm.MethodName) ({ cls := "TableCatalogModel", name := "retype", desc := "(III)I" } : Jvm.MethodName)) ∈ lw_all := lw_g (lw_at lw_m7 62 rfl) rfl
theorem q1583 : (Jvm.Cond.code ({ cls := "TableCatalogModel", name := "retype", desc := "(III)I" } : Jvm.MethodName) prog_14_method_54_code (9 : Nat) (Option.some Jvm.ClassFile.FieldType.int)) ∈ lw_all := lw_g (lw_at lw_m7 63 rfl) rfl
theorem q1584 : (Jvm.Cond.methodLink "TableCatalogModel" (354 : Nat) ({ cls := "TableCatalogModel", name := "looks", desc := "(I)V" } : Jvm.MethodName)) ∈ lw_all := lw_g (lw_at lw_m7 64 rfl) rfl
theorem q1585 : (Jvm.Cond.privateMethod ({ cls := "TableCatalogModel", name := "looks", desc := "(I)V" } : Jvm.MethodName)) ∈ lw_tbl := lw_at lw_m7 65 rfl
theorem q1586 : (Jvm.Cond.instanceMethod ({ cls := "TableCatalogModel", name := "looks", desc := "(I)V" } : Jvm.MethodName)) ∈ lw_all := lw_g (lw_at lw_m7 66 rfl) rfl
theorem q1587 : (Jvm.Cond.code ({ cls := "TableCatalogModel", name := "looks", desc := "(I)V" } : Jvm.MethodName) prog_14_method_55_code (2 : Nat) (Option.none : Option Jvm.ClassFile.FieldType)) ∈ lw_all := lw_g (lw_at lw_m7 67 rfl) rfl
theorem q1589 : (Jvm.Cond.instanceMethod ({ cls := "TableCatalogModel", name := "drop", desc := "(I)I" } : Jvm.MethodName)) ∈ lw_all := lw_g (lw_at lw_m7 69 rfl) rfl
theorem q1590 : (Jvm.Cond.selects "TableCatalogModel" ({ cls := "TableCatalogModel", name := "drop", desc := "(I)I" } : Jvm.MethodName) ({ cls := "TableCatalogModel", name := "drop", desc := "(I)I" } : Jvm.MethodName)) ∈ lw_all := lw_g (lw_at lw_m7 70 rfl) rfl
theorem q1591 : (Jvm.Cond.code ({ cls := "TableCatalogModel", name := "drop", desc := "(I)I" } : Jvm.MethodName) prog_14_method_57_code (4 : Nat) (Option.some Jvm.ClassFile.FieldType.int)) ∈ lw_all := lw_g (lw_at lw_m7 71 rfl) rfl
theorem q1592 : (Jvm.Cond.methodLink "TableCatalogModel" (360 : Nat) ({ cls := "TableCatalogModel", name := "hasBehind", desc := "(II)Z" } : Jvm.MethodName)) ∈ lw_all := lw_g (lw_at lw_m7 72 rfl) rfl
theorem q1593 : (Jvm.Cond.privateMethod ({ cls := "TableCatalogModel", name := "hasBehind", desc := "(II)Z" } : Jvm.MethodName)) ∈ lw_tbl := lw_at lw_m7 73 rfl
theorem q1594 : (Jvm.Cond.instanceMethod ({ cls := "TableCatalogModel", name := "hasBehind", desc := "(II)Z" } : Jvm.MethodName)) ∈ lw_all := lw_g (lw_at lw_m7 74 rfl) rfl
theorem q1595 : (Jvm.Cond.code ({ cls := "TableCatalogModel", name := "hasBehind", desc := "(II)Z" } : Jvm.MethodName) prog_14_method_56_code (4 : Nat) (Option.some Jvm.ClassFile.FieldType.boolean)) ∈ lw_all := lw_g (lw_at lw_m7 75 rfl) rfl
theorem q1597 : (Jvm.Cond.instanceMethod ({ cls := "TableCatalogModel", name := "freeze", desc := "(I)Z" } : Jvm.MethodName)) ∈ lw_all := lw_g (lw_at lw_m7 77 rfl) rfl
theorem q1598 : (Jvm.Cond.selects "TableCatalogModel" ({ cls := "TableCatalogModel", name := "freeze", desc := "(I)Z" } : Jvm.MethodName) ({ cls := "TableCatalogModel", name := "freeze", desc := "(I)Z" } : Jvm.MethodName)) ∈ lw_all := lw_g (lw_at lw_m7 78 rfl) rfl
theorem q1599 : (Jvm.Cond.code ({ cls := "TableCatalogModel", name := "freeze", desc := "(I)Z" } : Jvm.MethodName) prog_14_method_58_code (2 : Nat) (Option.some Jvm.ClassFile.FieldType.boolean)) ∈ lw_all := lw_g (lw_at lw_m7 79 rfl) rfl
theorem q1601 : (Jvm.Cond.instanceMethod ({ cls := "TableCatalogModel", name := "today", desc := "(I)Z" } : Jvm.MethodName)) ∈ lw_all := lw_g (lw_at lw_m7 81 rfl) rfl
theorem q1602 : (Jvm.Cond.selects "TableCatalogModel" ({ cls := "TableCatalogModel", name := "today", desc := "(I)Z" } : Jvm.MethodName) ({ cls := "TableCatalogModel", name := "today", desc := "(I)Z" } : Jvm.MethodName)) ∈ lw_all := lw_g (lw_at lw_m7 82 rfl) rfl
theorem q1603 : (Jvm.Cond.code ({ cls := "TableCatalogModel", name := "today", desc := "(I)Z" } : Jvm.MethodName) prog_14_method_59_code (2 : Nat) (Option.some Jvm.ClassFile.FieldType.boolean)) ∈ lw_all := lw_g (lw_at lw_m7 83 rfl) rfl
theorem q1605 : (Jvm.Cond.instanceMethod ({ cls := "TableCatalogModel", name := "fed", desc := "(III)Z" } : Jvm.MethodName)) ∈ lw_all := lw_g (lw_at lw_m7 85 rfl) rfl
theorem q1606 : (Jvm.Cond.selects "TableCatalogModel" ({ cls := "TableCatalogModel", name := "fed", desc := "(III)Z" } : Jvm.MethodName) ({ cls := "TableCatalogModel", name := "fed", desc := "(III)Z" } : Jvm.MethodName)) ∈ lw_all := lw_g (lw_at lw_m7 86 rfl) rfl
theorem q1607 : (Jvm.Cond.code ({ cls := "TableCatalogModel", name := "fed", desc := "(III)Z" } : Jvm.MethodName) prog_14_method_60_code (4 : Nat) (Option.some Jvm.ClassFile.FieldType.boolean)) ∈ lw_all := lw_g (lw_at lw_m7 87 rfl) rfl
theorem q1609 : (Jvm.Cond.instanceMethod ({ cls := "TableCatalogModel", name := "run", desc := "(I)Z" } : Jvm.MethodName)) ∈ lw_all := lw_g (lw_at lw_m7 89 rfl) rfl
theorem q1610 : (Jvm.Cond.selects "TableCatalogModel" ({ cls := "TableCatalogModel", name := "run", desc := "(I)Z" } : Jvm.MethodName) ({ cls := "TableCatalogModel", name := "run", desc := "(I)Z" } : Jvm.MethodName)) ∈ lw_all := lw_g (lw_at lw_m7 90 rfl) rfl
theorem q1611 : (Jvm.Cond.code ({ cls := "TableCatalogModel", name := "run", desc := "(I)Z" } : Jvm.MethodName) prog_14_method_61_code (2 : Nat) (Option.some Jvm.ClassFile.FieldType.boolean)) ∈ lw_all := lw_g (lw_at lw_m7 91 rfl) rfl
theorem q1613 : (Jvm.Cond.instanceMethod ({ cls := "TableCatalogModel", name := "promise", desc := "(II)Z" } : Jvm.MethodName)) ∈ lw_all := lw_g (lw_at lw_m7 93 rfl) rfl
theorem q1614 : (Jvm.Cond.selects "TableCatalogModel" ({ cls := "TableCatalogModel", name := "promise", desc := "(II)Z" } : Jvm.MethodName) ({ cls := "TableCatalogModel", name := "promise", desc := "(II)Z" } : Jvm.MethodName)) ∈ lw_all := lw_g (lw_at lw_m7 94 rfl) rfl
theorem q1615 : (Jvm.Cond.code ({ cls := "TableCatalogModel", name := "promise", desc := "(II)Z" } : Jvm.MethodName) prog_14_method_62_code (3 : Nat) (Option.some Jvm.ClassFile.FieldType.boolean)) ∈ lw_all := lw_g (lw_at lw_m7 95 rfl) rfl
theorem q1617 : (Jvm.Cond.instanceMethod ({ cls := "TableCatalogModel", name := "broken", desc := "()I" } : Jvm.MethodName)) ∈ lw_all := lw_g (lw_at lw_m7 97 rfl) rfl
theorem q1618 : (Jvm.Cond.selects "TableCatalogModel" ({ cls := "TableCatalogModel", name := "broken", desc := "()I" } : Jvm.MethodName) ({ cls := "TableCatalogModel", name := "broken", desc := "()I" } : Jvm.MethodName)) ∈ lw_all := lw_g (lw_at lw_m7 98 rfl) rfl
theorem q1619 : (Jvm.Cond.code ({ cls := "TableCatalogModel", name := "broken", desc := "()I" } : Jvm.MethodName) prog_14_method_64_code (2 : Nat) (Option.some Jvm.ClassFile.FieldType.int)) ∈ lw_all := lw_g (lw_at lw_m7 99 rfl) rfl
theorem q1620 : (Jvm.Cond.methodLink "TableCatalogModel" (363 : Nat) ({ cls := "TableCatalogModel", name := "isBroken", desc := "(I)Z" } : Jvm.MethodName)) ∈ lw_all := lw_g (lw_at lw_m7 100 rfl) rfl
theorem q1621 : (Jvm.Cond.privateMethod ({ cls := "TableCatalogModel", name := "isBroken", desc := "(I)Z" } : Jvm.MethodName)) ∈ lw_tbl := lw_at lw_m7 101 rfl
theorem q1622 : (Jvm.Cond.instanceMethod ({ cls := "TableCatalogModel", name := "isBroken", desc := "(I)Z" } : Jvm.MethodName)) ∈ lw_all := lw_g (lw_at lw_m7 102 rfl) rfl
theorem q1623 : (Jvm.Cond.code ({ cls := "TableCatalogModel", name := "isBroken", desc := "(I)Z" } : Jvm.MethodName) prog_14_method_63_code (2 : Nat) (Option.some Jvm.ClassFile.FieldType.boolean)) ∈ lw_all := lw_g (lw_at lw_m7 103 rfl) rfl
theorem q1625 : (Jvm.Cond.instanceMethod ({ cls := "TableCatalogModel", name := "late", desc := "(I)I" } : Jvm.MethodName)) ∈ lw_all := lw_g (lw_at lw_m7 105 rfl) rfl
theorem q1626 : (Jvm.Cond.selects "TableCatalogModel" ({ cls := "TableCatalogModel", name := "late", desc := "(I)I" } : Jvm.MethodName) ({ cls := "TableCatalogModel", name := "late", desc := "(I)I" } : Jvm.MethodName)) ∈ lw_all := lw_g (lw_at lw_m7 106 rfl) rfl
theorem q1627 : (Jvm.Cond.code ({ cls := "TableCatalogModel", name := "late", desc := "(I)I" } : Jvm.MethodName) prog_14_method_65_code (6 : Nat) (Option.some Jvm.ClassFile.FieldType.int)) ∈ lw_all := lw_g (lw_at lw_m7 107 rfl) rfl
theorem q1629 : (Jvm.Cond.instanceMethod ({ cls := "TableCatalogModel", name := "own", desc := "(II)Z" } : Jvm.MethodName)) ∈ lw_all := lw_g (lw_at lw_m7 109 rfl) rfl
theorem q1630 : (Jvm.Cond.selects "TableCatalogModel" ({ cls := "TableCatalogModel", name := "own", desc := "(II)Z" } : Jvm.MethodName) ({ cls := "TableCatalogModel", name := "own", desc := "(II)Z" } : Jvm.MethodName)) ∈ lw_all := lw_g (lw_at lw_m7 110 rfl) rfl
theorem q1631 : (Jvm.Cond.code ({ cls := "TableCatalogModel", name := "own", desc := "(II)Z" } : Jvm.MethodName) prog_14_method_66_code (3 : Nat) (Option.some Jvm.ClassFile.FieldType.boolean)) ∈ lw_all := lw_g (lw_at lw_m7 111 rfl) rfl
theorem q1633 : (Jvm.Cond.instanceMethod ({ cls := "TableCatalogModel", name := "unused", desc := "(I)I" } : Jvm.MethodName)) ∈ lw_all := lw_g (lw_at lw_m7 113 rfl) rfl
theorem q1634 : (Jvm.Cond.selects "TableCatalogModel" ({ cls := "TableCatalogModel", name := "unused", desc := "(I)I" } : Jvm.MethodName) ({ cls := "TableCatalogModel", name := "unused", desc := "(I)I" } : Jvm.MethodName)) ∈ lw_all := lw_g (lw_at lw_m7 114 rfl) rfl
theorem q1635 : (Jvm.Cond.code ({ cls := "TableCatalogModel", name := "unused", desc := "(I)I" } : Jvm.MethodName) prog_14_method_67_code (4 : Nat) (Option.some Jvm.ClassFile.FieldType.int)) ∈ lw_all := lw_g (lw_at lw_m7 115 rfl) rfl
theorem q1637 : (Jvm.Cond.instanceMethod ({ cls := "TableCatalogModel", name := "alike", desc := "(II)I" } : Jvm.MethodName)) ∈ lw_all := lw_g (lw_at lw_m7 117 rfl) rfl
theorem q1638 : (Jvm.Cond.selects "TableCatalogModel" ({ cls := "TableCatalogModel", name := "alike", desc := "(II)I" } : Jvm.MethodName) ({ cls := "TableCatalogModel", name := "alike", desc := "(II)I" } : Jvm.MethodName)) ∈ lw_all := lw_g (lw_at lw_m7 118 rfl) rfl
theorem q1639 : (Jvm.Cond.code ({ cls := "TableCatalogModel", name := "alike", desc := "(II)I" } : Jvm.MethodName) prog_14_method_69_code (8 : Nat) (Option.some Jvm.ClassFile.FieldType.int)) ∈ lw_all := lw_g (lw_at lw_m7 119 rfl) rfl
theorem q1640 : (Jvm.Cond.methodLink "TableCatalogModel" (366 : Nat) ({ cls := "TableCatalogModel", name := "isSelect", desc := "(I)Z" } : Jvm.MethodName)) ∈ lw_all := lw_g (lw_at lw_m7 120 rfl) rfl
theorem q1641 : (Jvm.Cond.privateMethod ({ cls := "TableCatalogModel", name := "isSelect", desc := "(I)Z" } : Jvm.MethodName)) ∈ lw_tbl := lw_at lw_m7 121 rfl
theorem q1642 : (Jvm.Cond.instanceMethod ({ cls := "TableCatalogModel", name := "isSelect", desc := "(I)Z" } : Jvm.MethodName)) ∈ lw_all := lw_g (lw_at lw_m7 122 rfl) rfl
theorem q1643 : (Jvm.Cond.code ({ cls := "TableCatalogModel", name := "isSelect", desc := "(I)Z" } : Jvm.MethodName) prog_14_method_68_code (2 : Nat) (Option.some Jvm.ClassFile.FieldType.boolean)) ∈ lw_all := lw_g (lw_at lw_m7 123 rfl) rfl
theorem q1654 : (Jvm.Cond.castable "TableCatalogModel" "java/lang/Object") ∈ lw_tbl := lw_at lw_m7 134 rfl
theorem in_X3 : ∀ w ∈ wsX30, w ∈ lw_all := lw_in wsX30 [1240, 1242, 1244, 1246, 1248, 1250, 1252, 1254, 1256, 1258, 1260, 1262, 1264, 1266, 1268, 1270, 1272, 1274, 1276, 1278, 1280, 1282, 1284, 1286, 1288, 1290, 1292, 1294, 1296, 1298, 1300, 1302, 1304, 1306, 1308, 1310, 1312, 1314, 1316, 1318, 1320, 1322, 1324, 1326, 1328, 1330, 1332, 1334, 1336, 1338, 1340, 1342, 1344, 1346, 1348, 1350, 1352, 1354, 1356, 1358, 1360, 1362, 1364, 1366, 1368, 1370, 1372] (by decide +kernel) (by decide +kernel)
