/-! rows for simp: literals as i_ n, comparisons decided by omega, the reference's arrays by their lengths (printed by gen/mkauto.py) -/
theorem l_0 : (0 : Int32) = i_ 0 := id rfl
theorem l_1 : (1 : Int32) = i_ 1 := id rfl
theorem l_2 : (2 : Int32) = i_ 2 := id rfl
theorem l_3 : (3 : Int32) = i_ 3 := id rfl
theorem l_4 : (4 : Int32) = i_ 4 := id rfl
theorem l_5 : (5 : Int32) = i_ 5 := id rfl
theorem l_6 : (6 : Int32) = i_ 6 := id rfl
theorem l_7 : (7 : Int32) = i_ 7 := id rfl
theorem l_8 : (8 : Int32) = i_ 8 := id rfl
theorem l_9 : (9 : Int32) = i_ 9 := id rfl
theorem l_10 : (10 : Int32) = i_ 10 := id rfl
theorem l_11 : (11 : Int32) = i_ 11 := id rfl
theorem l_12 : (12 : Int32) = i_ 12 := id rfl
theorem l_13 : (13 : Int32) = i_ 13 := id rfl
theorem l_14 : (14 : Int32) = i_ 14 := id rfl
theorem l_15 : (15 : Int32) = i_ 15 := id rfl
theorem l_16 : (16 : Int32) = i_ 16 := id rfl
theorem l_17 : (17 : Int32) = i_ 17 := id rfl
theorem l_18 : (18 : Int32) = i_ 18 := id rfl
theorem l_19 : (19 : Int32) = i_ 19 := id rfl
theorem l_20 : (20 : Int32) = i_ 20 := id rfl
theorem l_21 : (21 : Int32) = i_ 21 := id rfl
theorem l_22 : (22 : Int32) = i_ 22 := id rfl
theorem l_23 : (23 : Int32) = i_ 23 := id rfl
theorem l_24 : (24 : Int32) = i_ 24 := id rfl
theorem l_25 : (25 : Int32) = i_ 25 := id rfl
theorem l_26 : (26 : Int32) = i_ 26 := id rfl
theorem l_27 : (27 : Int32) = i_ 27 := id rfl
theorem l_28 : (28 : Int32) = i_ 28 := id rfl
theorem l_29 : (29 : Int32) = i_ 29 := id rfl
theorem l_30 : (30 : Int32) = i_ 30 := id rfl
theorem l_31 : (31 : Int32) = i_ 31 := id rfl
theorem l_32 : (32 : Int32) = i_ 32 := id rfl
theorem l_33 : (33 : Int32) = i_ 33 := id rfl
theorem l_34 : (34 : Int32) = i_ 34 := id rfl
theorem l_35 : (35 : Int32) = i_ 35 := id rfl
theorem l_36 : (36 : Int32) = i_ 36 := id rfl
theorem l_37 : (37 : Int32) = i_ 37 := id rfl
theorem l_38 : (38 : Int32) = i_ 38 := id rfl
theorem l_39 : (39 : Int32) = i_ 39 := id rfl
theorem l_40 : (40 : Int32) = i_ 40 := id rfl
theorem l_41 : (41 : Int32) = i_ 41 := id rfl
theorem l_42 : (42 : Int32) = i_ 42 := id rfl
theorem l_43 : (43 : Int32) = i_ 43 := id rfl
theorem l_44 : (44 : Int32) = i_ 44 := id rfl
theorem l_45 : (45 : Int32) = i_ 45 := id rfl
theorem l_46 : (46 : Int32) = i_ 46 := id rfl
theorem l_47 : (47 : Int32) = i_ 47 := id rfl
theorem l_48 : (48 : Int32) = i_ 48 := id rfl
theorem l_49 : (49 : Int32) = i_ 49 := id rfl
theorem l_50 : (50 : Int32) = i_ 50 := id rfl
theorem l_51 : (51 : Int32) = i_ 51 := id rfl
theorem l_52 : (52 : Int32) = i_ 52 := id rfl
theorem l_53 : (53 : Int32) = i_ 53 := id rfl
theorem l_54 : (54 : Int32) = i_ 54 := id rfl
theorem l_55 : (55 : Int32) = i_ 55 := id rfl
theorem l_56 : (56 : Int32) = i_ 56 := id rfl
theorem l_57 : (57 : Int32) = i_ 57 := id rfl
theorem l_58 : (58 : Int32) = i_ 58 := id rfl
theorem l_59 : (59 : Int32) = i_ 59 := id rfl
theorem l_60 : (60 : Int32) = i_ 60 := id rfl
theorem l_61 : (61 : Int32) = i_ 61 := id rfl
theorem l_62 : (62 : Int32) = i_ 62 := id rfl
theorem l_63 : (63 : Int32) = i_ 63 := id rfl
theorem l_64 : (64 : Int32) = i_ 64 := id rfl
theorem l_97 : (97 : Int32) = i_ 97 := id rfl
theorem l_100 : (100 : Int32) = i_ 100 := id rfl
theorem l_110 : (110 : Int32) = i_ 110 := id rfl
theorem l_115 : (115 : Int32) = i_ 115 := id rfl
theorem l_116 : (116 : Int32) = i_ 116 := id rfl
theorem l_120 : (120 : Int32) = i_ 120 := id rfl
theorem l_122 : (122 : Int32) = i_ 122 := id rfl
theorem l_127 : (127 : Int32) = i_ 127 := id rfl
theorem l_128 : (128 : Int32) = i_ 128 := id rfl
theorem l_136 : (136 : Int32) = i_ 136 := id rfl
theorem l_140 : (140 : Int32) = i_ 140 := id rfl
theorem l_200 : (200 : Int32) = i_ 200 := id rfl
theorem l_255 : (255 : Int32) = i_ 255 := id rfl
theorem l_256 : (256 : Int32) = i_ 256 := id rfl
theorem l_400 : (400 : Int32) = i_ 400 := id rfl
theorem l_1000 : (1000 : Int32) = i_ 1000 := id rfl
theorem l_30000 : (30000 : Int32) = i_ 30000 := id rfl
theorem l_1200 : (1200 : Int32) = i_ 1200 := id rfl
theorem l_65536 : (65536 : Int32) = i_ 65536 := id rfl
theorem l_2147483639 : (2147483639 : Int32) = i_ 2147483639 := id rfl
theorem l_2147483647 : (2147483647 : Int32) = i_ 2147483647 := id rfl
def i_m : Int32 := -1
def i_m2 : Int32 := -2
theorem l_m1 : -(i_ 1) = i_m := rfl
theorem l_m2 : -(i_ 2) = i_m2 := rfl
theorem l_m1' : (-1 : Int32) = i_m := rfl
theorem l_m2' : (-2 : Int32) = i_m2 := rfl
theorem im_ne {a : Nat} (h : a < 2147483648) : (i_ a = i_m) = False := eq_false (i_neg1 h)
theorem im_ne' {a : Nat} (h : a < 2147483648) : (i_m = i_ a) = False := eq_false (fun e => i_neg1 h e.symm)
theorem im_lt {a : Nat} (h : a < 2147483648) : (i_m < i_ a) = True := eq_true (by
  rw [Int32.lt_iff_toInt_lt, i_toInt h]
  have e : (i_m).toInt = -1 := by decide
  omega)
theorem im_le {a : Nat} (h : a < 2147483648) : (i_m ≤ i_ a) = True := eq_true (by
  rw [Int32.le_iff_toInt_le, i_toInt h]
  have e : (i_m).toInt = -1 := by decide
  omega)
theorem im_lt' {a : Nat} (h : a < 2147483648) : (i_ a < i_m) = False := eq_false (by
  rw [Int32.lt_iff_toInt_lt, i_toInt h]
  have e : (i_m).toInt = -1 := by decide
  omega)
theorem im_le' {a : Nat} (h : a < 2147483648) : (i_ a ≤ i_m) = False := eq_false (by
  rw [Int32.le_iff_toInt_le, i_toInt h]
  have e : (i_m).toInt = -1 := by decide
  omega)
theorem i_dec {a : Nat} (h : 1 ≤ a) : i_ a + i_m = i_ (a - 1) := by
  have e : i_ a = i_ (a - 1) + i_ 1 := by rw [i_add, Nat.sub_add_cancel h]
  rw [e, Int32.add_assoc, show i_ 1 + i_m = 0 from by decide]
  exact Int32.add_zero _
theorem i_dec0 : i_ 0 + i_m = i_m := by decide
theorem q_lt_t {a b : Nat} (ha : a < 2147483648) (hb : b < 2147483648) (h : a < b) : (i_ a < i_ b) = True := eq_true ((i_lt ha hb).mpr h)
theorem q_lt_f {a b : Nat} (ha : a < 2147483648) (hb : b < 2147483648) (h : ¬ a < b) : (i_ a < i_ b) = False := eq_false (fun k => h ((i_lt ha hb).mp k))
theorem q_le_t {a b : Nat} (ha : a < 2147483648) (hb : b < 2147483648) (h : a ≤ b) : (i_ a ≤ i_ b) = True := eq_true ((i_le ha hb).mpr h)
theorem q_le_f {a b : Nat} (ha : a < 2147483648) (hb : b < 2147483648) (h : ¬ a ≤ b) : (i_ a ≤ i_ b) = False := eq_false (fun k => h ((i_le ha hb).mp k))
theorem q_eq_t {a b : Nat} (h : a = b) : (i_ a = i_ b) = True := eq_true (congrArg i_ h)
theorem q_eq_f {a b : Nat} (ha : a < 2147483648) (hb : b < 2147483648) (h : ¬ a = b) : (i_ a = i_ b) = False := eq_false (fun k => h ((i_inj ha hb).mp k))
theorem ob_some {α β : Type} (a : α) (f : α → Option β) : (some a).bind f = f a := id rfl
theorem obd_some {α β γ : Type} (a : α) (b : β) (f : α → β → Option γ) : o_bd (some (a, b)) f = f a b := id rfl
theorem nar_b0 : vp_nar .boolean (i_ 0) = i_ 0 := rfl
theorem nar_b1 : vp_nar .boolean (i_ 1) = i_ 1 := rfl
theorem b2i_t : b2i true = i_ 1 := rfl
theorem b2i_f : b2i false = i_ 0 := rfl
theorem b2i_0 (b : Bool) : (b2i b = i_ 0) = (b = false) := by
  cases b
  · simp [b2i_f]
  · exact propext ⟨fun h => absurd h (by decide), fun h => by cases h⟩
theorem gA1 {M : MS} {n : Nat} (h : n < 17) : g_mA M 1 (i_ n) = some (m_A M 1 n) := g_mA_i h (Nat.lt_trans h (by decide))
theorem pA1 {M : MS} {n : Nat} {x : Int32} (h : n < 17) : p_mA M 1 (i_ n) x = some (m_sA M 1 n x) := p_mA_i h (Nat.lt_trans h (by decide))
theorem gB2 {M : MS} {n : Nat} (h : n < 17) : g_mB M 2 (i_ n) = some (m_B M 2 n) := g_mB_i h (Nat.lt_trans h (by decide))
theorem pB2 {M : MS} {n : Nat} {x : Int64} (h : n < 17) : p_mB M 2 (i_ n) x = some (m_sB M 2 n x) := p_mB_i h (Nat.lt_trans h (by decide))
theorem gA3 {M : MS} {n : Nat} (h : n < 17) : g_mA M 3 (i_ n) = some (m_A M 3 n) := g_mA_i h (Nat.lt_trans h (by decide))
theorem pA3 {M : MS} {n : Nat} {x : Int32} (h : n < 17) : p_mA M 3 (i_ n) x = some (m_sA M 3 n x) := p_mA_i h (Nat.lt_trans h (by decide))
theorem gA4 {M : MS} {n : Nat} (h : n < 17) : g_mA M 4 (i_ n) = some (m_A M 4 n) := g_mA_i h (Nat.lt_trans h (by decide))
theorem pA4 {M : MS} {n : Nat} {x : Int32} (h : n < 17) : p_mA M 4 (i_ n) x = some (m_sA M 4 n x) := p_mA_i h (Nat.lt_trans h (by decide))
theorem gB5 {M : MS} {n : Nat} (h : n < 136) : g_mB M 5 (i_ n) = some (m_B M 5 n) := g_mB_i h (Nat.lt_trans h (by decide))
theorem pB5 {M : MS} {n : Nat} {x : Int64} (h : n < 136) : p_mB M 5 (i_ n) x = some (m_sB M 5 n x) := p_mB_i h (Nat.lt_trans h (by decide))
theorem gA6 {M : MS} {n : Nat} (h : n < 136) : g_mA M 6 (i_ n) = some (m_A M 6 n) := g_mA_i h (Nat.lt_trans h (by decide))
theorem pA6 {M : MS} {n : Nat} {x : Int32} (h : n < 136) : p_mA M 6 (i_ n) x = some (m_sA M 6 n x) := p_mA_i h (Nat.lt_trans h (by decide))
theorem gA7 {M : MS} {n : Nat} (h : n < 17) : g_mA M 7 (i_ n) = some (m_A M 7 n) := g_mA_i h (Nat.lt_trans h (by decide))
theorem pA7 {M : MS} {n : Nat} {x : Int32} (h : n < 17) : p_mA M 7 (i_ n) x = some (m_sA M 7 n x) := p_mA_i h (Nat.lt_trans h (by decide))
theorem gA8 {M : MS} {n : Nat} (h : n < 51) : g_mA M 8 (i_ n) = some (m_A M 8 n) := g_mA_i h (Nat.lt_trans h (by decide))
theorem pA8 {M : MS} {n : Nat} {x : Int32} (h : n < 51) : p_mA M 8 (i_ n) x = some (m_sA M 8 n x) := p_mA_i h (Nat.lt_trans h (by decide))
theorem gA9 {M : MS} {n : Nat} (h : n < 17) : g_mA M 9 (i_ n) = some (m_A M 9 n) := g_mA_i h (Nat.lt_trans h (by decide))
theorem pA9 {M : MS} {n : Nat} {x : Int32} (h : n < 17) : p_mA M 9 (i_ n) x = some (m_sA M 9 n x) := p_mA_i h (Nat.lt_trans h (by decide))
theorem gA10 {M : MS} {n : Nat} (h : n < 17) : g_mA M 10 (i_ n) = some (m_A M 10 n) := g_mA_i h (Nat.lt_trans h (by decide))
theorem pA10 {M : MS} {n : Nat} {x : Int32} (h : n < 17) : p_mA M 10 (i_ n) x = some (m_sA M 10 n x) := p_mA_i h (Nat.lt_trans h (by decide))
theorem gA11 {M : MS} {n : Nat} (h : n < 17) : g_mA M 11 (i_ n) = some (m_A M 11 n) := g_mA_i h (Nat.lt_trans h (by decide))
theorem pA11 {M : MS} {n : Nat} {x : Int32} (h : n < 17) : p_mA M 11 (i_ n) x = some (m_sA M 11 n x) := p_mA_i h (Nat.lt_trans h (by decide))
theorem gA12 {M : MS} {n : Nat} (h : n < 17) : g_mA M 12 (i_ n) = some (m_A M 12 n) := g_mA_i h (Nat.lt_trans h (by decide))
theorem pA12 {M : MS} {n : Nat} {x : Int32} (h : n < 17) : p_mA M 12 (i_ n) x = some (m_sA M 12 n x) := p_mA_i h (Nat.lt_trans h (by decide))
theorem gA13 {M : MS} {n : Nat} (h : n < 17) : g_mA M 13 (i_ n) = some (m_A M 13 n) := g_mA_i h (Nat.lt_trans h (by decide))
theorem pA13 {M : MS} {n : Nat} {x : Int32} (h : n < 17) : p_mA M 13 (i_ n) x = some (m_sA M 13 n x) := p_mA_i h (Nat.lt_trans h (by decide))
theorem gA14 {M : MS} {n : Nat} (h : n < 6800) : g_mA M 14 (i_ n) = some (m_A M 14 n) := g_mA_i h (Nat.lt_trans h (by decide))
theorem pA14 {M : MS} {n : Nat} {x : Int32} (h : n < 6800) : p_mA M 14 (i_ n) x = some (m_sA M 14 n x) := p_mA_i h (Nat.lt_trans h (by decide))
theorem gA15 {M : MS} {n : Nat} (h : n < 6800) : g_mA M 15 (i_ n) = some (m_A M 15 n) := g_mA_i h (Nat.lt_trans h (by decide))
theorem pA15 {M : MS} {n : Nat} {x : Int32} (h : n < 6800) : p_mA M 15 (i_ n) x = some (m_sA M 15 n x) := p_mA_i h (Nat.lt_trans h (by decide))
theorem gA16 {M : MS} {n : Nat} (h : n < 6800) : g_mA M 16 (i_ n) = some (m_A M 16 n) := g_mA_i h (Nat.lt_trans h (by decide))
theorem pA16 {M : MS} {n : Nat} {x : Int32} (h : n < 6800) : p_mA M 16 (i_ n) x = some (m_sA M 16 n x) := p_mA_i h (Nat.lt_trans h (by decide))
theorem gA17 {M : MS} {n : Nat} (h : n < 6800) : g_mA M 17 (i_ n) = some (m_A M 17 n) := g_mA_i h (Nat.lt_trans h (by decide))
theorem pA17 {M : MS} {n : Nat} {x : Int32} (h : n < 6800) : p_mA M 17 (i_ n) x = some (m_sA M 17 n x) := p_mA_i h (Nat.lt_trans h (by decide))
theorem gA18 {M : MS} {n : Nat} (h : n < 136) : g_mA M 18 (i_ n) = some (m_A M 18 n) := g_mA_i h (Nat.lt_trans h (by decide))
theorem pA18 {M : MS} {n : Nat} {x : Int32} (h : n < 136) : p_mA M 18 (i_ n) x = some (m_sA M 18 n x) := p_mA_i h (Nat.lt_trans h (by decide))
theorem gA19 {M : MS} {n : Nat} (h : n < 136) : g_mA M 19 (i_ n) = some (m_A M 19 n) := g_mA_i h (Nat.lt_trans h (by decide))
theorem pA19 {M : MS} {n : Nat} {x : Int32} (h : n < 136) : p_mA M 19 (i_ n) x = some (m_sA M 19 n x) := p_mA_i h (Nat.lt_trans h (by decide))
theorem gA20 {M : MS} {n : Nat} (h : n < 17) : g_mA M 20 (i_ n) = some (m_A M 20 n) := g_mA_i h (Nat.lt_trans h (by decide))
theorem pA20 {M : MS} {n : Nat} {x : Int32} (h : n < 17) : p_mA M 20 (i_ n) x = some (m_sA M 20 n x) := p_mA_i h (Nat.lt_trans h (by decide))
theorem gA21 {M : MS} {n : Nat} (h : n < 400) : g_mA M 21 (i_ n) = some (m_A M 21 n) := g_mA_i h (Nat.lt_trans h (by decide))
theorem pA21 {M : MS} {n : Nat} {x : Int32} (h : n < 400) : p_mA M 21 (i_ n) x = some (m_sA M 21 n x) := p_mA_i h (Nat.lt_trans h (by decide))
theorem gA40 {M : MS} {n : Nat} (h : n < 4) : g_mA M 40 (i_ n) = some (m_A M 40 n) := g_mA_i h (Nat.lt_trans h (by decide))
theorem pA40 {M : MS} {n : Nat} {x : Int32} (h : n < 4) : p_mA M 40 (i_ n) x = some (m_sA M 40 n x) := p_mA_i h (Nat.lt_trans h (by decide))
theorem gB43 {M : MS} {n : Nat} (h : n < 3) : g_mB M 43 (i_ n) = some (m_B M 43 n) := g_mB_i h (Nat.lt_trans h (by decide))
theorem pB43 {M : MS} {n : Nat} {x : Int64} (h : n < 3) : p_mB M 43 (i_ n) x = some (m_sB M 43 n x) := p_mB_i h (Nat.lt_trans h (by decide))
theorem gA44 {M : MS} {n : Nat} (h : n < 3) : g_mA M 44 (i_ n) = some (m_A M 44 n) := g_mA_i h (Nat.lt_trans h (by decide))
theorem pA44 {M : MS} {n : Nat} {x : Int32} (h : n < 3) : p_mA M 44 (i_ n) x = some (m_sA M 44 n x) := p_mA_i h (Nat.lt_trans h (by decide))
theorem gA45 {M : MS} {n : Nat} (h : n < 4) : g_mA M 45 (i_ n) = some (m_A M 45 n) := g_mA_i h (Nat.lt_trans h (by decide))
theorem pA45 {M : MS} {n : Nat} {x : Int32} (h : n < 4) : p_mA M 45 (i_ n) x = some (m_sA M 45 n x) := p_mA_i h (Nat.lt_trans h (by decide))
theorem gA46 {M : MS} {n : Nat} (h : n < 4) : g_mA M 46 (i_ n) = some (m_A M 46 n) := g_mA_i h (Nat.lt_trans h (by decide))
theorem pA46 {M : MS} {n : Nat} {x : Int32} (h : n < 4) : p_mA M 46 (i_ n) x = some (m_sA M 46 n x) := p_mA_i h (Nat.lt_trans h (by decide))
theorem gA47 {M : MS} {n : Nat} (h : n < 4) : g_mA M 47 (i_ n) = some (m_A M 47 n) := g_mA_i h (Nat.lt_trans h (by decide))
theorem pA47 {M : MS} {n : Nat} {x : Int32} (h : n < 4) : p_mA M 47 (i_ n) x = some (m_sA M 47 n x) := p_mA_i h (Nat.lt_trans h (by decide))
theorem gA48 {M : MS} {n : Nat} (h : n < 4) : g_mA M 48 (i_ n) = some (m_A M 48 n) := g_mA_i h (Nat.lt_trans h (by decide))
theorem pA48 {M : MS} {n : Nat} {x : Int32} (h : n < 4) : p_mA M 48 (i_ n) x = some (m_sA M 48 n x) := p_mA_i h (Nat.lt_trans h (by decide))
theorem gA49 {M : MS} {n : Nat} (h : n < 4) : g_mA M 49 (i_ n) = some (m_A M 49 n) := g_mA_i h (Nat.lt_trans h (by decide))
theorem pA49 {M : MS} {n : Nat} {x : Int32} (h : n < 4) : p_mA M 49 (i_ n) x = some (m_sA M 49 n x) := p_mA_i h (Nat.lt_trans h (by decide))
theorem gA53 {M : MS} {n : Nat} (h : n < 136) : g_mA M 53 (i_ n) = some (m_A M 53 n) := g_mA_i h (Nat.lt_trans h (by decide))
theorem pA53 {M : MS} {n : Nat} {x : Int32} (h : n < 136) : p_mA M 53 (i_ n) x = some (m_sA M 53 n x) := p_mA_i h (Nat.lt_trans h (by decide))
theorem gA54 {M : MS} {n : Nat} (h : n < 17) : g_mA M 54 (i_ n) = some (m_A M 54 n) := g_mA_i h (Nat.lt_trans h (by decide))
theorem pA54 {M : MS} {n : Nat} {x : Int32} (h : n < 17) : p_mA M 54 (i_ n) x = some (m_sA M 54 n x) := p_mA_i h (Nat.lt_trans h (by decide))
theorem gA55 {M : MS} {n : Nat} (h : n < 17) : g_mA M 55 (i_ n) = some (m_A M 55 n) := g_mA_i h (Nat.lt_trans h (by decide))
theorem pA55 {M : MS} {n : Nat} {x : Int32} (h : n < 17) : p_mA M 55 (i_ n) x = some (m_sA M 55 n x) := p_mA_i h (Nat.lt_trans h (by decide))
theorem gA56 {M : MS} {n : Nat} (h : n < 136) : g_mA M 56 (i_ n) = some (m_A M 56 n) := g_mA_i h (Nat.lt_trans h (by decide))
theorem pA56 {M : MS} {n : Nat} {x : Int32} (h : n < 136) : p_mA M 56 (i_ n) x = some (m_sA M 56 n x) := p_mA_i h (Nat.lt_trans h (by decide))
theorem gA58 {M : MS} {n : Nat} (h : n < 140) : g_mA M 58 (i_ n) = some (m_A M 58 n) := g_mA_i h (Nat.lt_trans h (by decide))
theorem pA58 {M : MS} {n : Nat} {x : Int32} (h : n < 140) : p_mA M 58 (i_ n) x = some (m_sA M 58 n x) := p_mA_i h (Nat.lt_trans h (by decide))
theorem gA60 {M : MS} {n : Nat} (h : n < 40) : g_mA M 60 (i_ n) = some (m_A M 60 n) := g_mA_i h (Nat.lt_trans h (by decide))
theorem pA60 {M : MS} {n : Nat} {x : Int32} (h : n < 40) : p_mA M 60 (i_ n) x = some (m_sA M 60 n x) := p_mA_i h (Nat.lt_trans h (by decide))
theorem gA61 {M : MS} {n : Nat} (h : n < 40) : g_mA M 61 (i_ n) = some (m_A M 61 n) := g_mA_i h (Nat.lt_trans h (by decide))
theorem pA61 {M : MS} {n : Nat} {x : Int32} (h : n < 40) : p_mA M 61 (i_ n) x = some (m_sA M 61 n x) := p_mA_i h (Nat.lt_trans h (by decide))
theorem gA62 {M : MS} {n : Nat} (h : n < 40) : g_mA M 62 (i_ n) = some (m_A M 62 n) := g_mA_i h (Nat.lt_trans h (by decide))
theorem pA62 {M : MS} {n : Nat} {x : Int32} (h : n < 40) : p_mA M 62 (i_ n) x = some (m_sA M 62 n x) := p_mA_i h (Nat.lt_trans h (by decide))
theorem gA63 {M : MS} {n : Nat} (h : n < 40) : g_mA M 63 (i_ n) = some (m_A M 63 n) := g_mA_i h (Nat.lt_trans h (by decide))
theorem pA63 {M : MS} {n : Nat} {x : Int32} (h : n < 40) : p_mA M 63 (i_ n) x = some (m_sA M 63 n x) := p_mA_i h (Nat.lt_trans h (by decide))
theorem gA66 {M : MS} {n : Nat} (h : n < 136) : g_mA M 66 (i_ n) = some (m_A M 66 n) := g_mA_i h (Nat.lt_trans h (by decide))
theorem pA66 {M : MS} {n : Nat} {x : Int32} (h : n < 136) : p_mA M 66 (i_ n) x = some (m_sA M 66 n x) := p_mA_i h (Nat.lt_trans h (by decide))
/-- a row of the reference's arrays replaced -/
def m_row (M : MS) (k : Nat) (f : Nat → Int32) : MS := (m_I M, m_J M, (fun j => if j = k then f else m_A M j), m_B M)
theorem row_I (M : MS) (k : Nat) (f : Nat → Int32) : m_I (m_row M k f) = m_I M := rfl
theorem row_J (M : MS) (k : Nat) (f : Nat → Int32) : m_J (m_row M k f) = m_J M := rfl
theorem row_B (M : MS) (k : Nat) (f : Nat → Int32) : m_B (m_row M k f) = m_B M := rfl
theorem row_on (M : MS) (k : Nat) (f : Nat → Int32) : m_A (m_row M k f) k = f := by
  show (if k = k then f else m_A M k) = f
  rw [if_pos rfl]
theorem row_off {M : MS} {k j : Nat} {f : Nat → Int32} (h : j ≠ k) : m_A (m_row M k f) j = m_A M j := by
  show (if j = k then f else m_A M j) = _
  rw [if_neg h]
theorem ms_ext {M N : MS} (a : m_I M = m_I N) (b : m_J M = m_J N) (c : ∀ k, m_A M k = m_A N k) (d : m_B M = m_B N) : M = N := by
  obtain ⟨m1, m2, m3, m4⟩ := M
  obtain ⟨n1, n2, n3, n4⟩ := N
  have a' : m1 = n1 := a
  have b' : m2 = n2 := b
  have c' : m3 = n3 := funext c
  have d' : m4 = n4 := d
  rw [a', b', c', d']
theorem row_set (M : MS) (k i : Nat) (x : Int32) (f : Nat → Int32) : m_sA (m_row M k f) k i x = m_row M k (h_up f i x) := by
  refine ms_ext rfl rfl (fun j => ?_) rfl
  funext i'
  show h_st (fun j => if j = k then f else m_A M j) k i x j i' = (if j = k then h_up f i x else m_A M j) i'
  unfold h_st h_up
  by_cases h : j = k
  · subst h
    simp
  · simp [h]
theorem row_self (M : MS) (k : Nat) : m_row M k (m_A M k) = M := by
  refine ms_ext rfl rfl (fun j => ?_) rfl
  show (if j = k then m_A M k else m_A M j) = m_A M j
  by_cases h : j = k
  · rw [if_pos h, h]
  · rw [if_neg h]
theorem row_row (M : MS) (k : Nat) (f g : Nat → Int32) : m_row (m_row M k f) k g = m_row M k g := by
  refine ms_ext rfl rfl (fun j => ?_) rfl
  show (if j = k then g else if j = k then f else m_A M j) = (if j = k then g else m_A M j)
  by_cases h : j = k
  · rw [if_pos h, if_pos h]
  · rw [if_neg h, if_neg h, if_neg h]
/-- what was found: the list l -/
def m_fd (M : MS) (l : List Nat) : MS := m_sI (m_row M 58 (fun i => if i < l.length then i_ (l.getD i 0) else m_A M 58 i)) 57 (i_ l.length)
theorem fd_A {M : MS} {l : List Nat} {k : Nat} (h : k ≠ 58) : m_A (m_fd M l) k = m_A M k := row_off h
theorem fd_B (M : MS) (l : List Nat) : m_B (m_fd M l) = m_B M := rfl
theorem fd_J (M : MS) (l : List Nat) : m_J (m_fd M l) = m_J M := rfl
theorem fd_I {M : MS} {l : List Nat} {k : Nat} (h : k ≠ 57) : m_I (m_fd M l) k = m_I M k := mI_off h
theorem fd_57 (M : MS) (l : List Nat) : m_I (m_fd M l) 57 = i_ l.length := mI_on
theorem fd_nil (M : MS) : m_fd M [] = m_sI M 57 (i_ 0) := by
  unfold m_fd
  rw [show (fun i => if i < ([] : List Nat).length then i_ (([] : List Nat).getD i 0) else m_A M 58 i) = m_A M 58 from funext fun i => if_neg (Nat.not_lt_zero i), row_self]
  rfl
theorem getD_snoc (l : List Nat) (v i : Nat) : (l ++ [v]).getD i 0 = if i < l.length then l.getD i 0 else if i = l.length then v else 0 := by
  simp only [List.getD_eq_getElem?_getD, List.getElem?_append]
  by_cases h : i < l.length
  · simp [h]
  · by_cases e : i = l.length
    · simp [e]
    · have : i - l.length ≠ 0 := by omega
      simp [h, e, this]
theorem M_finds {M : MS} {l : List Nat} {v : Nat} (h : l.length < 140) : f_X3_finds (i_ v) (m_fd M l) = some (m_fd M (l ++ [v])) := by
  unfold f_X3_finds
  rw [fd_57, pA58 h]
  simp only [ob_some]
  have e : m_I (m_sA (m_fd M l) 58 l.length (i_ v)) 57 = i_ l.length := fd_57 M l
  rw [e, l_1, i_add]
  have e1 : m_sA (m_fd M l) 58 l.length (i_ v) = m_sI (m_sA (m_row M 58 (fun i => if i < l.length then i_ (l.getD i 0) else m_A M 58 i)) 58 l.length (i_ v)) 57 (i_ l.length) := rfl
  rw [e1, row_set]
  unfold m_fd
  have e2 : h_up (fun i => if i < l.length then i_ (l.getD i 0) else m_A M 58 i) l.length (i_ v) = (fun i => if i < (l ++ [v]).length then i_ ((l ++ [v]).getD i 0) else m_A M 58 i) := by
    funext i
    rw [List.length_append, getD_snoc]
    show (if i = l.length then i_ v else if i < l.length then i_ (l.getD i 0) else m_A M 58 i) = if i < l.length + 1 then i_ (if i < l.length then l.getD i 0 else if i = l.length then v else 0) else m_A M 58 i
    by_cases a : i < l.length
    · rw [if_neg (by omega), if_pos a, if_pos (by omega), if_pos a]
    · by_cases b : i = l.length
      · rw [if_pos b, if_pos (by omega), if_neg a, if_pos b]
      · rw [if_neg b, if_neg a, if_neg (by omega)]
  rw [e2]
  show some (m_sI (m_sI _ 57 (i_ l.length)) 57 (i_ (l.length + 1))) = _
  have e3 : ∀ (N : MS) (x y : Int32), m_sI (m_sI N 57 x) 57 y = m_sI N 57 y := fun N x y => by
    unfold m_sI
    congr 1
    funext j
    show h_up (h_up (m_I N) 57 x) 57 y j = h_up (m_I N) 57 y j
    unfold h_up
    by_cases a : j = 57
    · rw [if_pos a, if_pos a]
    · rw [if_neg a, if_neg a, if_neg a]
  rw [e3]
  simp
theorem RMo_fd {M : MS} {s : SP} {l : List Nat} (h : l.length ≤ 128) (h2 : ∀ x ∈ l, x < 136) : RMo (m_fd M l) (u_fd s l) := by
  refine ⟨fd_57 M l, h, fun k hk => ⟨?_, ?_⟩⟩
  · show m_A (m_row M 58 _) 58 k = _
    rw [row_on]
    exact if_pos hk
  · show l.getD k 0 < 136
    have hk' : k < l.length := hk
    rw [List.getD_eq_getElem?_getD, List.getElem?_eq_getElem hk']
    exact h2 _ (List.getElem_mem hk')
