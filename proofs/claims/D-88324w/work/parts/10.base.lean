/-! the classes, the abstract heap, its readers and writers (printed by gen/mkbase.py) -/
set_option maxRecDepth 100000
def vw_0 : vw_C := (RX0, TX0, 15)
abbrev vwCl : List vw_C := [vw_0, (RX0, TX0, 15), (RX1, TX1, 15), (RX3, TX3, 67), (RX4, TX4, 15), (RX5, TX5, 3), (RX7, TX7, 2), (RX8, TX8, 4), (RX9, TX9, 5), (RX10, TX10, 3), (RX12, TX12, 2), (RX2, TX2, 8), (RJ5, TJ5, 3), (RJ6, TJ6, 4)]
/-- the fields of a class by their places: kind (0 int, 1 long, 2 reference) and number -/
def layX0 : Nat → Nat × Nat := fun k => match k with
  | 0 => (2, 1)
  | 1 => (0, 2)
  | 2 => (0, 3)
  | 3 => (0, 4)
  | 4 => (0, 5)
  | 5 => (0, 6)
  | 6 => (0, 7)
  | 7 => (0, 8)
  | 8 => (2, 9)
  | 9 => (2, 10)
  | 10 => (2, 11)
  | 11 => (2, 12)
  | 12 => (2, 13)
  | 13 => (2, 14)
  | _ => (2, 15)
def layX1 : Nat → Nat × Nat := fun k => match k with
  | 0 => (2, 16)
  | 1 => (2, 17)
  | 2 => (0, 18)
  | 3 => (0, 19)
  | 4 => (0, 20)
  | 5 => (0, 21)
  | 6 => (2, 22)
  | 7 => (2, 23)
  | 8 => (2, 24)
  | 9 => (2, 25)
  | 10 => (2, 26)
  | 11 => (0, 27)
  | 12 => (2, 28)
  | 13 => (0, 29)
  | _ => (2, 30)
def layX3 : Nat → Nat × Nat := fun k => match k with
  | 0 => (0, 31)
  | 1 => (2, 32)
  | 2 => (2, 33)
  | 3 => (2, 34)
  | 4 => (2, 35)
  | 5 => (2, 36)
  | 6 => (2, 37)
  | 7 => (2, 38)
  | 8 => (2, 39)
  | 9 => (2, 40)
  | 10 => (2, 41)
  | 11 => (2, 42)
  | 12 => (2, 43)
  | 13 => (2, 44)
  | 14 => (2, 45)
  | 15 => (2, 46)
  | 16 => (2, 47)
  | 17 => (2, 48)
  | 18 => (2, 49)
  | 19 => (2, 50)
  | 20 => (2, 51)
  | 21 => (2, 52)
  | 22 => (0, 53)
  | 23 => (0, 54)
  | 24 => (0, 55)
  | 25 => (0, 56)
  | 26 => (0, 57)
  | 27 => (0, 58)
  | 28 => (0, 59)
  | 29 => (0, 60)
  | 30 => (0, 61)
  | 31 => (0, 62)
  | 32 => (1, 63)
  | 33 => (1, 64)
  | 34 => (1, 65)
  | 35 => (1, 66)
  | 36 => (1, 67)
  | 37 => (1, 68)
  | 38 => (1, 69)
  | 39 => (1, 70)
  | 40 => (2, 71)
  | 41 => (0, 72)
  | 42 => (0, 73)
  | 43 => (2, 74)
  | 44 => (2, 75)
  | 45 => (2, 76)
  | 46 => (2, 77)
  | 47 => (2, 78)
  | 48 => (2, 79)
  | 49 => (2, 80)
  | 50 => (0, 81)
  | 51 => (0, 82)
  | 52 => (0, 83)
  | 53 => (2, 84)
  | 54 => (2, 85)
  | 55 => (2, 86)
  | 56 => (2, 87)
  | 57 => (0, 88)
  | 58 => (2, 89)
  | 59 => (0, 90)
  | 60 => (2, 91)
  | 61 => (2, 92)
  | 62 => (2, 93)
  | 63 => (2, 94)
  | 64 => (0, 95)
  | 65 => (0, 96)
  | _ => (2, 97)
def layX4 : Nat → Nat × Nat := fun k => match k with
  | 0 => (2, 98)
  | 1 => (0, 99)
  | 2 => (2, 100)
  | 3 => (2, 101)
  | 4 => (2, 102)
  | 5 => (2, 103)
  | 6 => (0, 104)
  | 7 => (2, 105)
  | 8 => (2, 106)
  | 9 => (0, 107)
  | 10 => (2, 108)
  | 11 => (0, 109)
  | 12 => (0, 110)
  | 13 => (0, 111)
  | _ => (0, 112)
def layX5 : Nat → Nat × Nat := fun k => match k with
  | 0 => (2, 113)
  | 1 => (2, 114)
  | _ => (2, 115)
def layX7 : Nat → Nat × Nat := fun k => match k with
  | 0 => (0, 116)
  | _ => (0, 117)
def layX8 : Nat → Nat × Nat := fun k => match k with
  | 0 => (0, 116)
  | 1 => (0, 118)
  | 2 => (0, 119)
  | _ => (2, 120)
def layX9 : Nat → Nat × Nat := fun k => match k with
  | 0 => (0, 116)
  | 1 => (2, 121)
  | 2 => (2, 122)
  | 3 => (0, 123)
  | _ => (0, 124)
def layX10 : Nat → Nat × Nat := fun k => match k with
  | 0 => (0, 125)
  | 1 => (0, 126)
  | _ => (2, 127)
def layX12 : Nat → Nat × Nat := fun k => match k with
  | 0 => (0, 128)
  | _ => (2, 129)
def layX2 : Nat → Nat × Nat := fun k => match k with
  | 0 => (2, 130)
  | 1 => (2, 131)
  | 2 => (2, 132)
  | 3 => (2, 133)
  | 4 => (2, 134)
  | 5 => (0, 135)
  | 6 => (0, 136)
  | _ => (0, 137)
def layJ5 : Nat → Nat × Nat := fun k => match k with
  | 0 => (0, 138)
  | 1 => (2, 139)
  | _ => (0, 140)
def layJ6 : Nat → Nat × Nat := fun k => match k with
  | 0 => (2, 141)
  | 1 => (0, 142)
  | 2 => (0, 143)
  | _ => (0, 144)
def lay : Nat → Nat → Nat × Nat := fun c => match c with
  | 1 => layX0
  | 2 => layX1
  | 3 => layX3
  | 4 => layX4
  | 5 => layX5
  | 6 => layX7
  | 7 => layX8
  | 8 => layX9
  | 9 => layX10
  | 10 => layX12
  | 11 => layX2
  | 12 => layJ5
  | _ => layJ6
def aty : Nat → FieldType := fun t => match t with
  | 31 => .int
  | 32 => .byte
  | 33 => .char
  | 34 => .boolean
  | 35 => .object "java/lang/Object"
  | 36 => .object "TableCatalog$Table"
  | 37 => .array .int
  | _ => .long
def aki : Nat → Nat := fun t => match t with
  | 35 => 2
  | 36 => 2
  | 37 => 2
  | 38 => 1
  | _ => 0
abbrev HS : Type := (Nat → Nat → Int32) × (Nat → Nat → Int64) × (Nat → Nat → Option Nat) × (Nat → Nat → Int32) × (Nat → Nat → Int64) × (Nat → Nat → Option Nat) × (Nat → Nat) × (Nat → Nat) × (Nat → Bool) × (Nat) × (Nat) × (Nat → Nat) × (Nat → Option Nat)
def h_fI (S : HS) : Nat → Nat → Int32 := S.1
def h_fJ (S : HS) : Nat → Nat → Int64 := S.2.1
def h_fR (S : HS) : Nat → Nat → Option Nat := S.2.2.1
def h_aI (S : HS) : Nat → Nat → Int32 := S.2.2.2.1
def h_aJ (S : HS) : Nat → Nat → Int64 := S.2.2.2.2.1
def h_aR (S : HS) : Nat → Nat → Option Nat := S.2.2.2.2.2.1
def h_cl (S : HS) : Nat → Nat := S.2.2.2.2.2.2.1
def h_ln (S : HS) : Nat → Nat := S.2.2.2.2.2.2.2.1
def h_wr (S : HS) : Nat → Bool := S.2.2.2.2.2.2.2.2.1
def h_nx (S : HS) : Nat := S.2.2.2.2.2.2.2.2.2.1
def h_sl (S : HS) : Nat := S.2.2.2.2.2.2.2.2.2.2.1
def h_ks (S : HS) : Nat → Nat := S.2.2.2.2.2.2.2.2.2.2.2.1
def h_kr (S : HS) : Nat → Option Nat := S.2.2.2.2.2.2.2.2.2.2.2.2
def h_st {α : Type} (f : Nat → Nat → α) (k a : Nat) (x : α) : Nat → Nat → α := fun k' a' => if k' = k ∧ a' = a then x else f k' a'
theorem h_st_eq {α : Type} (f : Nat → Nat → α) (k a : Nat) (x : α) : h_st f k a x k a = x := by simp [h_st]
theorem h_st_ne {α : Type} (f : Nat → Nat → α) {k a k' a' : Nat} (x : α) (h : ¬ (k' = k ∧ a' = a)) : h_st f k a x k' a' = f k' a' := by simp [h_st, h]
def h_up {α : Type} (f : Nat → α) (k : Nat) (x : α) : Nat → α := fun j => if j = k then x else f j
def s_fI (S : HS) (k a : Nat) (x : Int32) : HS := (h_st (h_fI S) k a x, h_fJ S, h_fR S, h_aI S, h_aJ S, h_aR S, h_cl S, h_ln S, h_wr S, h_nx S, h_sl S, h_ks S, h_kr S)
def s_fJ (S : HS) (k a : Nat) (x : Int64) : HS := (h_fI S, h_st (h_fJ S) k a x, h_fR S, h_aI S, h_aJ S, h_aR S, h_cl S, h_ln S, h_wr S, h_nx S, h_sl S, h_ks S, h_kr S)
def s_fR (S : HS) (k a : Nat) (x : Option Nat) : HS := (h_fI S, h_fJ S, h_st (h_fR S) k a x, h_aI S, h_aJ S, h_aR S, h_cl S, h_ln S, h_wr S, h_nx S, h_sl S, h_ks S, h_kr S)
def s_aI (S : HS) (k a : Nat) (x : Int32) : HS := (h_fI S, h_fJ S, h_fR S, h_st (h_aI S) k a x, h_aJ S, h_aR S, h_cl S, h_ln S, h_wr S, h_nx S, h_sl S, h_ks S, h_kr S)
def s_aJ (S : HS) (k a : Nat) (x : Int64) : HS := (h_fI S, h_fJ S, h_fR S, h_aI S, h_st (h_aJ S) k a x, h_aR S, h_cl S, h_ln S, h_wr S, h_nx S, h_sl S, h_ks S, h_kr S)
def s_aR (S : HS) (k a : Nat) (x : Option Nat) : HS := (h_fI S, h_fJ S, h_fR S, h_aI S, h_aJ S, h_st (h_aR S) k a x, h_cl S, h_ln S, h_wr S, h_nx S, h_sl S, h_ks S, h_kr S)
/-- a new cell of class or kind c, of n slots -/
def s_new (S : HS) (c n : Nat) : HS := (h_fI S, h_fJ S, h_fR S, h_aI S, h_aJ S, h_aR S, h_up (h_cl S) (h_nx S) c, h_up (h_ln S) (h_nx S) n, h_up (h_wr S) (h_nx S) true, h_nx S + 1, h_sl S + n, h_ks S, h_kr S)
theorem r_fI_fI (S : HS) (k a : Nat) (x : Int32) : h_fI (s_fI S k a x) = h_st (h_fI S) k a x := rfl
theorem r_fI_fJ (S : HS) (k a : Nat) (x : Int64) : h_fI (s_fJ S k a x) = h_fI S := rfl
theorem r_fI_fR (S : HS) (k a : Nat) (x : Option Nat) : h_fI (s_fR S k a x) = h_fI S := rfl
theorem r_fI_aI (S : HS) (k a : Nat) (x : Int32) : h_fI (s_aI S k a x) = h_fI S := rfl
theorem r_fI_aJ (S : HS) (k a : Nat) (x : Int64) : h_fI (s_aJ S k a x) = h_fI S := rfl
theorem r_fI_aR (S : HS) (k a : Nat) (x : Option Nat) : h_fI (s_aR S k a x) = h_fI S := rfl
theorem r_fI_new (S : HS) (c n : Nat) : h_fI (s_new S c n) = h_fI S := rfl
theorem r_fJ_fI (S : HS) (k a : Nat) (x : Int32) : h_fJ (s_fI S k a x) = h_fJ S := rfl
theorem r_fJ_fJ (S : HS) (k a : Nat) (x : Int64) : h_fJ (s_fJ S k a x) = h_st (h_fJ S) k a x := rfl
theorem r_fJ_fR (S : HS) (k a : Nat) (x : Option Nat) : h_fJ (s_fR S k a x) = h_fJ S := rfl
theorem r_fJ_aI (S : HS) (k a : Nat) (x : Int32) : h_fJ (s_aI S k a x) = h_fJ S := rfl
theorem r_fJ_aJ (S : HS) (k a : Nat) (x : Int64) : h_fJ (s_aJ S k a x) = h_fJ S := rfl
theorem r_fJ_aR (S : HS) (k a : Nat) (x : Option Nat) : h_fJ (s_aR S k a x) = h_fJ S := rfl
theorem r_fJ_new (S : HS) (c n : Nat) : h_fJ (s_new S c n) = h_fJ S := rfl
theorem r_fR_fI (S : HS) (k a : Nat) (x : Int32) : h_fR (s_fI S k a x) = h_fR S := rfl
theorem r_fR_fJ (S : HS) (k a : Nat) (x : Int64) : h_fR (s_fJ S k a x) = h_fR S := rfl
theorem r_fR_fR (S : HS) (k a : Nat) (x : Option Nat) : h_fR (s_fR S k a x) = h_st (h_fR S) k a x := rfl
theorem r_fR_aI (S : HS) (k a : Nat) (x : Int32) : h_fR (s_aI S k a x) = h_fR S := rfl
theorem r_fR_aJ (S : HS) (k a : Nat) (x : Int64) : h_fR (s_aJ S k a x) = h_fR S := rfl
theorem r_fR_aR (S : HS) (k a : Nat) (x : Option Nat) : h_fR (s_aR S k a x) = h_fR S := rfl
theorem r_fR_new (S : HS) (c n : Nat) : h_fR (s_new S c n) = h_fR S := rfl
theorem r_aI_fI (S : HS) (k a : Nat) (x : Int32) : h_aI (s_fI S k a x) = h_aI S := rfl
theorem r_aI_fJ (S : HS) (k a : Nat) (x : Int64) : h_aI (s_fJ S k a x) = h_aI S := rfl
theorem r_aI_fR (S : HS) (k a : Nat) (x : Option Nat) : h_aI (s_fR S k a x) = h_aI S := rfl
theorem r_aI_aI (S : HS) (k a : Nat) (x : Int32) : h_aI (s_aI S k a x) = h_st (h_aI S) k a x := rfl
theorem r_aI_aJ (S : HS) (k a : Nat) (x : Int64) : h_aI (s_aJ S k a x) = h_aI S := rfl
theorem r_aI_aR (S : HS) (k a : Nat) (x : Option Nat) : h_aI (s_aR S k a x) = h_aI S := rfl
theorem r_aI_new (S : HS) (c n : Nat) : h_aI (s_new S c n) = h_aI S := rfl
theorem r_aJ_fI (S : HS) (k a : Nat) (x : Int32) : h_aJ (s_fI S k a x) = h_aJ S := rfl
theorem r_aJ_fJ (S : HS) (k a : Nat) (x : Int64) : h_aJ (s_fJ S k a x) = h_aJ S := rfl
theorem r_aJ_fR (S : HS) (k a : Nat) (x : Option Nat) : h_aJ (s_fR S k a x) = h_aJ S := rfl
theorem r_aJ_aI (S : HS) (k a : Nat) (x : Int32) : h_aJ (s_aI S k a x) = h_aJ S := rfl
theorem r_aJ_aJ (S : HS) (k a : Nat) (x : Int64) : h_aJ (s_aJ S k a x) = h_st (h_aJ S) k a x := rfl
theorem r_aJ_aR (S : HS) (k a : Nat) (x : Option Nat) : h_aJ (s_aR S k a x) = h_aJ S := rfl
theorem r_aJ_new (S : HS) (c n : Nat) : h_aJ (s_new S c n) = h_aJ S := rfl
theorem r_aR_fI (S : HS) (k a : Nat) (x : Int32) : h_aR (s_fI S k a x) = h_aR S := rfl
theorem r_aR_fJ (S : HS) (k a : Nat) (x : Int64) : h_aR (s_fJ S k a x) = h_aR S := rfl
theorem r_aR_fR (S : HS) (k a : Nat) (x : Option Nat) : h_aR (s_fR S k a x) = h_aR S := rfl
theorem r_aR_aI (S : HS) (k a : Nat) (x : Int32) : h_aR (s_aI S k a x) = h_aR S := rfl
theorem r_aR_aJ (S : HS) (k a : Nat) (x : Int64) : h_aR (s_aJ S k a x) = h_aR S := rfl
theorem r_aR_aR (S : HS) (k a : Nat) (x : Option Nat) : h_aR (s_aR S k a x) = h_st (h_aR S) k a x := rfl
theorem r_aR_new (S : HS) (c n : Nat) : h_aR (s_new S c n) = h_aR S := rfl
theorem r_cl_fI (S : HS) (k a : Nat) (x : Int32) : h_cl (s_fI S k a x) = h_cl S := rfl
theorem r_cl_fJ (S : HS) (k a : Nat) (x : Int64) : h_cl (s_fJ S k a x) = h_cl S := rfl
theorem r_cl_fR (S : HS) (k a : Nat) (x : Option Nat) : h_cl (s_fR S k a x) = h_cl S := rfl
theorem r_cl_aI (S : HS) (k a : Nat) (x : Int32) : h_cl (s_aI S k a x) = h_cl S := rfl
theorem r_cl_aJ (S : HS) (k a : Nat) (x : Int64) : h_cl (s_aJ S k a x) = h_cl S := rfl
theorem r_cl_aR (S : HS) (k a : Nat) (x : Option Nat) : h_cl (s_aR S k a x) = h_cl S := rfl
theorem r_cl_new (S : HS) (c n : Nat) : h_cl (s_new S c n) = h_up (h_cl S) (h_nx S) c := rfl
theorem r_ln_fI (S : HS) (k a : Nat) (x : Int32) : h_ln (s_fI S k a x) = h_ln S := rfl
theorem r_ln_fJ (S : HS) (k a : Nat) (x : Int64) : h_ln (s_fJ S k a x) = h_ln S := rfl
theorem r_ln_fR (S : HS) (k a : Nat) (x : Option Nat) : h_ln (s_fR S k a x) = h_ln S := rfl
theorem r_ln_aI (S : HS) (k a : Nat) (x : Int32) : h_ln (s_aI S k a x) = h_ln S := rfl
theorem r_ln_aJ (S : HS) (k a : Nat) (x : Int64) : h_ln (s_aJ S k a x) = h_ln S := rfl
theorem r_ln_aR (S : HS) (k a : Nat) (x : Option Nat) : h_ln (s_aR S k a x) = h_ln S := rfl
theorem r_ln_new (S : HS) (c n : Nat) : h_ln (s_new S c n) = h_up (h_ln S) (h_nx S) n := rfl
theorem r_wr_fI (S : HS) (k a : Nat) (x : Int32) : h_wr (s_fI S k a x) = h_wr S := rfl
theorem r_wr_fJ (S : HS) (k a : Nat) (x : Int64) : h_wr (s_fJ S k a x) = h_wr S := rfl
theorem r_wr_fR (S : HS) (k a : Nat) (x : Option Nat) : h_wr (s_fR S k a x) = h_wr S := rfl
theorem r_wr_aI (S : HS) (k a : Nat) (x : Int32) : h_wr (s_aI S k a x) = h_wr S := rfl
theorem r_wr_aJ (S : HS) (k a : Nat) (x : Int64) : h_wr (s_aJ S k a x) = h_wr S := rfl
theorem r_wr_aR (S : HS) (k a : Nat) (x : Option Nat) : h_wr (s_aR S k a x) = h_wr S := rfl
theorem r_wr_new (S : HS) (c n : Nat) : h_wr (s_new S c n) = h_up (h_wr S) (h_nx S) true := rfl
theorem r_nx_fI (S : HS) (k a : Nat) (x : Int32) : h_nx (s_fI S k a x) = h_nx S := rfl
theorem r_nx_fJ (S : HS) (k a : Nat) (x : Int64) : h_nx (s_fJ S k a x) = h_nx S := rfl
theorem r_nx_fR (S : HS) (k a : Nat) (x : Option Nat) : h_nx (s_fR S k a x) = h_nx S := rfl
theorem r_nx_aI (S : HS) (k a : Nat) (x : Int32) : h_nx (s_aI S k a x) = h_nx S := rfl
theorem r_nx_aJ (S : HS) (k a : Nat) (x : Int64) : h_nx (s_aJ S k a x) = h_nx S := rfl
theorem r_nx_aR (S : HS) (k a : Nat) (x : Option Nat) : h_nx (s_aR S k a x) = h_nx S := rfl
theorem r_nx_new (S : HS) (c n : Nat) : h_nx (s_new S c n) = h_nx S + 1 := rfl
theorem r_sl_fI (S : HS) (k a : Nat) (x : Int32) : h_sl (s_fI S k a x) = h_sl S := rfl
theorem r_sl_fJ (S : HS) (k a : Nat) (x : Int64) : h_sl (s_fJ S k a x) = h_sl S := rfl
theorem r_sl_fR (S : HS) (k a : Nat) (x : Option Nat) : h_sl (s_fR S k a x) = h_sl S := rfl
theorem r_sl_aI (S : HS) (k a : Nat) (x : Int32) : h_sl (s_aI S k a x) = h_sl S := rfl
theorem r_sl_aJ (S : HS) (k a : Nat) (x : Int64) : h_sl (s_aJ S k a x) = h_sl S := rfl
theorem r_sl_aR (S : HS) (k a : Nat) (x : Option Nat) : h_sl (s_aR S k a x) = h_sl S := rfl
theorem r_sl_new (S : HS) (c n : Nat) : h_sl (s_new S c n) = h_sl S + n := rfl
theorem r_ks_fI (S : HS) (k a : Nat) (x : Int32) : h_ks (s_fI S k a x) = h_ks S := rfl
theorem r_ks_fJ (S : HS) (k a : Nat) (x : Int64) : h_ks (s_fJ S k a x) = h_ks S := rfl
theorem r_ks_fR (S : HS) (k a : Nat) (x : Option Nat) : h_ks (s_fR S k a x) = h_ks S := rfl
theorem r_ks_aI (S : HS) (k a : Nat) (x : Int32) : h_ks (s_aI S k a x) = h_ks S := rfl
theorem r_ks_aJ (S : HS) (k a : Nat) (x : Int64) : h_ks (s_aJ S k a x) = h_ks S := rfl
theorem r_ks_aR (S : HS) (k a : Nat) (x : Option Nat) : h_ks (s_aR S k a x) = h_ks S := rfl
theorem r_ks_new (S : HS) (c n : Nat) : h_ks (s_new S c n) = h_ks S := rfl
theorem r_kr_fI (S : HS) (k a : Nat) (x : Int32) : h_kr (s_fI S k a x) = h_kr S := rfl
theorem r_kr_fJ (S : HS) (k a : Nat) (x : Int64) : h_kr (s_fJ S k a x) = h_kr S := rfl
theorem r_kr_fR (S : HS) (k a : Nat) (x : Option Nat) : h_kr (s_fR S k a x) = h_kr S := rfl
theorem r_kr_aI (S : HS) (k a : Nat) (x : Int32) : h_kr (s_aI S k a x) = h_kr S := rfl
theorem r_kr_aJ (S : HS) (k a : Nat) (x : Int64) : h_kr (s_aJ S k a x) = h_kr S := rfl
theorem r_kr_aR (S : HS) (k a : Nat) (x : Option Nat) : h_kr (s_aR S k a x) = h_kr S := rfl
theorem r_kr_new (S : HS) (c n : Nat) : h_kr (s_new S c n) = h_kr S := rfl
def g_fI (S : HS) (c k a : Nat) : Option (Int32) := if h_cl S a = c then some (h_fI S k a) else none
def p_fI (S : HS) (c k a : Nat) (x : Int32) : Option HS := if h_cl S a = c ∧ h_wr S a = true then some (s_fI S k a x) else none
def g_fJ (S : HS) (c k a : Nat) : Option (Int64) := if h_cl S a = c then some (h_fJ S k a) else none
def p_fJ (S : HS) (c k a : Nat) (x : Int64) : Option HS := if h_cl S a = c ∧ h_wr S a = true then some (s_fJ S k a x) else none
def g_fR (S : HS) (c k a : Nat) : Option (Option Nat) := if h_cl S a = c then some (h_fR S k a) else none
def p_fR (S : HS) (c k a : Nat) (x : Option Nat) : Option HS := if h_cl S a = c ∧ h_wr S a = true then some (s_fR S k a x) else none
def g_aI (S : HS) (c a : Nat) (i : Int32) : Option (Int32) := if h_cl S a = c ∧ ¬ i < 0 ∧ i.toNatClampNeg < h_ln S a then some (h_aI S a i.toNatClampNeg) else none
def p_aI (S : HS) (c a : Nat) (i : Int32) (x : Int32) : Option HS := if (h_cl S a = c ∧ h_wr S a = true) ∧ ¬ i < 0 ∧ i.toNatClampNeg < h_ln S a then some (s_aI S a i.toNatClampNeg x) else none
def g_aJ (S : HS) (c a : Nat) (i : Int32) : Option (Int64) := if h_cl S a = c ∧ ¬ i < 0 ∧ i.toNatClampNeg < h_ln S a then some (h_aJ S a i.toNatClampNeg) else none
def p_aJ (S : HS) (c a : Nat) (i : Int32) (x : Int64) : Option HS := if (h_cl S a = c ∧ h_wr S a = true) ∧ ¬ i < 0 ∧ i.toNatClampNeg < h_ln S a then some (s_aJ S a i.toNatClampNeg x) else none
def g_aR (S : HS) (c a : Nat) (i : Int32) : Option (Option Nat) := if h_cl S a = c ∧ ¬ i < 0 ∧ i.toNatClampNeg < h_ln S a then some (h_aR S a i.toNatClampNeg) else none
def p_aR (S : HS) (c a : Nat) (i : Int32) (x : Option Nat) : Option HS := if (h_cl S a = c ∧ h_wr S a = true) ∧ ¬ i < 0 ∧ i.toNatClampNeg < h_ln S a then some (s_aR S a i.toNatClampNeg x) else none
/-- a narrow field takes a value that fits -/
def p_fN (ty : FieldType) (S : HS) (c k a : Nat) (x : Int32) : Option HS := if vp_nar ty x = x ∧ fits ty (.int x) = true then p_fI S c k a x else none
def g_len (S : HS) (c a : Nat) : Option Int32 := if h_cl S a = c then some (Int32.ofNat (h_ln S a)) else none
def n_arr (S : HS) (c : Nat) (n : Int32) : Option HS := if ¬ n < 0 ∧ n.toNatClampNeg ≤ 65536 then some (s_new S c n.toNatClampNeg) else none
def n_obj (S : HS) (c n : Nat) : Option HS := if h_nx S < h_nx S + 1 then some (s_new S c n) else none
theorem n_obj_eq (S : HS) (c n : Nat) : n_obj S c n = some (s_new S c n) := by rw [n_obj, if_pos (Nat.lt_succ_self _)]
/-- the reference model: its scalars and arrays by their field places -/
abbrev MS : Type := (Nat → Int32) × (Nat → Int64) × (Nat → Nat → Int32) × (Nat → Nat → Int64)
def m_I (M : MS) : Nat → Int32 := M.1
def m_J (M : MS) : Nat → Int64 := M.2.1
def m_A (M : MS) : Nat → Nat → Int32 := M.2.2.1
def m_B (M : MS) : Nat → Nat → Int64 := M.2.2.2
def m_sI (M : MS) (k : Nat) (x : Int32) : MS := (h_up (m_I M) k x, m_J M, m_A M, m_B M)
def m_sJ (M : MS) (k : Nat) (x : Int64) : MS := (m_I M, h_up (m_J M) k x, m_A M, m_B M)
def m_sA (M : MS) (k i : Nat) (x : Int32) : MS := (m_I M, m_J M, h_st (m_A M) k i x, m_B M)
def m_sB (M : MS) (k i : Nat) (x : Int64) : MS := (m_I M, m_J M, m_A M, h_st (m_B M) k i x)
theorem r_mI_sI (M : MS) (k : Nat) (x : Int32) : m_I (m_sI M k x) = h_up (m_I M) k x := rfl
theorem r_mI_sJ (M : MS) (k : Nat) (x : Int64) : m_I (m_sJ M k x) = m_I M := rfl
theorem r_mI_sA (M : MS) (k i : Nat) (x : Int32) : m_I (m_sA M k i x) = m_I M := rfl
theorem r_mI_sB (M : MS) (k i : Nat) (x : Int64) : m_I (m_sB M k i x) = m_I M := rfl
theorem r_mJ_sI (M : MS) (k : Nat) (x : Int32) : m_J (m_sI M k x) = m_J M := rfl
theorem r_mJ_sJ (M : MS) (k : Nat) (x : Int64) : m_J (m_sJ M k x) = h_up (m_J M) k x := rfl
theorem r_mJ_sA (M : MS) (k i : Nat) (x : Int32) : m_J (m_sA M k i x) = m_J M := rfl
theorem r_mJ_sB (M : MS) (k i : Nat) (x : Int64) : m_J (m_sB M k i x) = m_J M := rfl
theorem r_mA_sI (M : MS) (k : Nat) (x : Int32) : m_A (m_sI M k x) = m_A M := rfl
theorem r_mA_sJ (M : MS) (k : Nat) (x : Int64) : m_A (m_sJ M k x) = m_A M := rfl
theorem r_mA_sA (M : MS) (k i : Nat) (x : Int32) : m_A (m_sA M k i x) = h_st (m_A M) k i x := rfl
theorem r_mA_sB (M : MS) (k i : Nat) (x : Int64) : m_A (m_sB M k i x) = m_A M := rfl
theorem r_mB_sI (M : MS) (k : Nat) (x : Int32) : m_B (m_sI M k x) = m_B M := rfl
theorem r_mB_sJ (M : MS) (k : Nat) (x : Int64) : m_B (m_sJ M k x) = m_B M := rfl
theorem r_mB_sA (M : MS) (k i : Nat) (x : Int32) : m_B (m_sA M k i x) = m_B M := rfl
theorem r_mB_sB (M : MS) (k i : Nat) (x : Int64) : m_B (m_sB M k i x) = h_st (m_B M) k i x := rfl
/-- 0 int, 1 long, 2 int array, 3 long array, 4 boolean array -/
def m_ki : Nat → Nat := fun k => match k with
  | 0 => 0
  | 1 => 4
  | 2 => 3
  | 3 => 2
  | 4 => 2
  | 5 => 3
  | 6 => 2
  | 7 => 2
  | 8 => 2
  | 9 => 2
  | 10 => 2
  | 11 => 2
  | 12 => 2
  | 13 => 2
  | 14 => 2
  | 15 => 2
  | 16 => 2
  | 17 => 2
  | 18 => 2
  | 19 => 2
  | 20 => 2
  | 21 => 2
  | 22 => 0
  | 23 => 0
  | 24 => 0
  | 25 => 0
  | 26 => 0
  | 27 => 0
  | 28 => 0
  | 29 => 0
  | 30 => 0
  | 31 => 0
  | 32 => 1
  | 33 => 1
  | 34 => 1
  | 35 => 1
  | 36 => 1
  | 37 => 1
  | 38 => 1
  | 39 => 1
  | 40 => 2
  | 41 => 0
  | 42 => 0
  | 43 => 3
  | 44 => 2
  | 45 => 2
  | 46 => 2
  | 47 => 2
  | 48 => 2
  | 49 => 2
  | 50 => 0
  | 51 => 0
  | 52 => 0
  | 53 => 2
  | 54 => 2
  | 55 => 2
  | 56 => 4
  | 57 => 0
  | 58 => 2
  | 59 => 0
  | 60 => 2
  | 61 => 2
  | 62 => 2
  | 63 => 2
  | 64 => 0
  | 65 => 0
  | _ => 2
/-- an array's place behind the object, and its length -/
def m_po : Nat → Nat := fun k => match k with
  | 1 => 1
  | 2 => 2
  | 3 => 3
  | 4 => 4
  | 5 => 5
  | 6 => 6
  | 7 => 7
  | 8 => 8
  | 9 => 9
  | 10 => 10
  | 11 => 11
  | 12 => 12
  | 13 => 13
  | 14 => 14
  | 15 => 15
  | 16 => 16
  | 17 => 17
  | 18 => 18
  | 19 => 19
  | 20 => 20
  | 21 => 21
  | 40 => 22
  | 43 => 23
  | 44 => 24
  | 45 => 25
  | 46 => 26
  | 47 => 27
  | 48 => 28
  | 49 => 29
  | 53 => 30
  | 54 => 31
  | 55 => 32
  | 56 => 33
  | 58 => 34
  | 60 => 35
  | 61 => 36
  | 62 => 37
  | 63 => 38
  | 66 => 39
  | _ => 0
def m_le : Nat → Nat := fun k => match k with
  | 1 => 17
  | 2 => 17
  | 3 => 17
  | 4 => 17
  | 5 => 136
  | 6 => 136
  | 7 => 17
  | 8 => 51
  | 9 => 17
  | 10 => 17
  | 11 => 17
  | 12 => 17
  | 13 => 17
  | 14 => 6800
  | 15 => 6800
  | 16 => 6800
  | 17 => 6800
  | 18 => 136
  | 19 => 136
  | 20 => 17
  | 21 => 400
  | 40 => 4
  | 43 => 3
  | 44 => 3
  | 45 => 4
  | 46 => 4
  | 47 => 4
  | 48 => 4
  | 49 => 4
  | 53 => 136
  | 54 => 17
  | 55 => 17
  | 56 => 136
  | 58 => 140
  | 60 => 40
  | 61 => 40
  | 62 => 40
  | 63 => 40
  | 66 => 136
  | _ => 0
def g_mA (M : MS) (k : Nat) (i : Int32) : Option Int32 := if ¬ i < 0 ∧ i.toNatClampNeg < m_le k then some (m_A M k i.toNatClampNeg) else none
def g_mB (M : MS) (k : Nat) (i : Int32) : Option Int64 := if ¬ i < 0 ∧ i.toNatClampNeg < m_le k then some (m_B M k i.toNatClampNeg) else none
def p_mA (M : MS) (k : Nat) (i x : Int32) : Option MS := if ¬ i < 0 ∧ i.toNatClampNeg < m_le k then some (m_sA M k i.toNatClampNeg x) else none
def p_mB (M : MS) (k : Nat) (i : Int32) (x : Int64) : Option MS := if ¬ i < 0 ∧ i.toNatClampNeg < m_le k then some (m_sB M k i.toNatClampNeg x) else none
theorem ob_i {α β : Type} {o : Option α} {f : α → Option β} {x : β} (h : o.bind f = some x) : ∃ a, o = some a ∧ f a = some x := Option.bind_eq_some_iff.mp h
theorem ci_X0 : vwCl[1]? = some (RX0, TX0, 15) := rfl
theorem ci_X1 : vwCl[2]? = some (RX1, TX1, 15) := rfl
theorem ci_X3 : vwCl[3]? = some (RX3, TX3, 67) := rfl
theorem ci_X4 : vwCl[4]? = some (RX4, TX4, 15) := rfl
theorem ci_X5 : vwCl[5]? = some (RX5, TX5, 3) := rfl
theorem ci_X7 : vwCl[6]? = some (RX7, TX7, 2) := rfl
theorem ci_X8 : vwCl[7]? = some (RX8, TX8, 4) := rfl
theorem ci_X9 : vwCl[8]? = some (RX9, TX9, 5) := rfl
theorem ci_X10 : vwCl[9]? = some (RX10, TX10, 3) := rfl
theorem ci_X12 : vwCl[10]? = some (RX12, TX12, 2) := rfl
theorem ci_X2 : vwCl[11]? = some (RX2, TX2, 8) := rfl
theorem ci_J5 : vwCl[12]? = some (RJ5, TJ5, 3) := rfl
theorem ci_J6 : vwCl[13]? = some (RJ6, TJ6, 4) := rfl
def strTab : List (String × Nat × String) := [("TableCatalog", 9, "view"), ("TableCatalog", 15, "copy"), ("TableCatalog", 17, "table"), ("TableCatalog", 19, "from"), ("TableCatalog", 21, "where"), ("TableCatalog", 23, "len"), ("TableCatalog", 25, "str"), ("TableCatalog$Reader", 106, "table"), ("TableCatalog$Reader", 111, "view"), ("TableCatalog$Reader", 113, "copy"), ("TableCatalog$Reader", 162, ""), ("TableCatalog$Reader", 164, "n"), ("TableCatalog$Reader", 166, "t"), ("TableCatalog$Reader", 168, "d"), ("TableCatalog$Reader", 240, "len"), ("TableCatalog$Reader", 258, ")"), ("TableCatalog$Reader", 246, "str"), ("TableCatalog$Reader", 224, "+"), ("TableCatalog$Reader", 226, "-"), ("TableCatalog$Reader", 228, "&"), ("TableCatalog$Reader", 190, "from"), ("TableCatalog$Reader", 192, "where"), ("TableCatalog$Reader", 201, "<"), ("TableCatalog$Reader", 203, "="), ("java/lang/String", 7, ""), ("TableCatalog$Table", 31, "")]
