/-! the reference's reader: the token that is looked at *-/
theorem R_mI_sJ (M : MS) (k : Nat) (x : Int64) : m_I (m_sJ M k x) = m_I M := id rfl
theorem R_mI_sA (M : MS) (k i : Nat) (x : Int32) : m_I (m_sA M k i x) = m_I M := id rfl
theorem R_mI_sB (M : MS) (k i : Nat) (x : Int64) : m_I (m_sB M k i x) = m_I M := id rfl
theorem R_mJ_sI (M : MS) (k : Nat) (x : Int32) : m_J (m_sI M k x) = m_J M := id rfl
theorem R_mJ_sA (M : MS) (k i : Nat) (x : Int32) : m_J (m_sA M k i x) = m_J M := id rfl
theorem R_mJ_sB (M : MS) (k i : Nat) (x : Int64) : m_J (m_sB M k i x) = m_J M := id rfl
theorem R_mA_sI (M : MS) (k : Nat) (x : Int32) : m_A (m_sI M k x) = m_A M := id rfl
theorem R_mA_sJ (M : MS) (k : Nat) (x : Int64) : m_A (m_sJ M k x) = m_A M := id rfl
theorem R_mA_sB (M : MS) (k i : Nat) (x : Int64) : m_A (m_sB M k i x) = m_A M := id rfl
theorem R_mB_sI (M : MS) (k : Nat) (x : Int32) : m_B (m_sI M k x) = m_B M := id rfl
theorem R_mB_sJ (M : MS) (k : Nat) (x : Int64) : m_B (m_sJ M k x) = m_B M := id rfl
theorem R_mB_sA (M : MS) (k i : Nat) (x : Int32) : m_B (m_sA M k i x) = m_B M := id rfl
theorem mJ_on {M : MS} {k : Nat} {x : Int64} : m_J (m_sJ M k x) k = x := up_on
theorem mJ_off {M : MS} {k j : Nat} {x : Int64} (h : j ≠ k) : m_J (m_sJ M k x) j = m_J M j := up_off h
theorem mB_same {M : MS} {k i k' : Nat} {x : Int64} (h : k' ≠ k) : m_B (m_sB M k i x) k' = m_B M k' := by
  funext j
  rw [r_mB_sB]
  exact h_st_ne _ _ (fun q => h q.1)
theorem mB_off {M : MS} {k i j : Nat} {x : Int64} (h : j ≠ i) : m_B (m_sB M k i x) k j = m_B M k j := by
  rw [r_mB_sB]
  exact h_st_ne _ _ (fun q => h q.2)
theorem mB_on {M : MS} {k i : Nat} {x : Int64} : m_B (m_sB M k i x) k i = x := by
  rw [r_mB_sB]
  exact h_st_eq _ _ _ _
theorem M_isLetter {x : Nat} (h : x < 256) : f_X3_isLetter (i_ x) = some (b2i (isLb x)) := by
  unfold f_X3_isLetter isLb
  by_cases h1 : x < 97
  · simp (disch := omega) only [l_m1, l_m2, l_0, l_1, l_2, l_3, l_4, l_5, l_6, l_7, l_8, l_9, l_10, l_11, l_12, l_13, l_14, l_15, l_16, l_17, l_18, l_19, l_20, l_21, l_22, l_23, l_24, l_25, l_26, l_27, l_28, l_29, l_30, l_31, l_32, l_33, l_34, l_35, l_36, l_37, l_38, l_39, l_40, l_41, l_42, l_43, l_44, l_45, l_46, l_47, l_48, l_49, l_50, l_51, l_52, l_53, l_54, l_55, l_56, l_57, l_58, l_59, l_60, l_61, l_62, l_63, l_64, l_97, l_100, l_110, l_115, l_116, l_120, l_122, l_127, l_128, l_136, l_140, l_200, l_255, l_256, l_400, l_1000, l_30000, l_1200, l_65536, l_2147483639, l_2147483647, ob_some, obd_some, q_lt_t, q_lt_f, q_le_t, q_le_f, q_eq_t, q_eq_f, im_ne, im_ne', im_lt, im_le, im_lt', im_le', i_add, i_mul, i_dec, i_dec0, i_sub, i_and, i_shr, i_div, nar_b0, nar_b1, b2i_t, b2i_f, gA1, pA1, gB2, pB2, gA3, pA3, gA4, pA4, gB5, pB5, gA6, pA6, gA7, pA7, gA8, pA8, gA9, pA9, gA10, pA10, gA11, pA11, gA12, pA12, gA13, pA13, gA14, pA14, gA15, pA15, gA16, pA16, gA17, pA17, gA18, pA18, gA19, pA19, gA20, pA20, gA21, pA21, gA40, pA40, gB43, pB43, gA44, pA44, gA45, pA45, gA46, pA46, gA47, pA47, gA48, pA48, gA49, pA49, gA53, pA53, gA54, pA54, gA55, pA55, gA56, pA56, gA58, pA58, gA60, pA60, gA61, pA61, gA62, pA62, gA63, pA63, gA66, pA66, ↓reduceIte, if_true, if_false]
    rw [decide_eq_false (by omega)]
    rfl
  · by_cases h2 : 122 < x
    · simp (disch := omega) only [l_m1, l_m2, l_0, l_1, l_2, l_3, l_4, l_5, l_6, l_7, l_8, l_9, l_10, l_11, l_12, l_13, l_14, l_15, l_16, l_17, l_18, l_19, l_20, l_21, l_22, l_23, l_24, l_25, l_26, l_27, l_28, l_29, l_30, l_31, l_32, l_33, l_34, l_35, l_36, l_37, l_38, l_39, l_40, l_41, l_42, l_43, l_44, l_45, l_46, l_47, l_48, l_49, l_50, l_51, l_52, l_53, l_54, l_55, l_56, l_57, l_58, l_59, l_60, l_61, l_62, l_63, l_64, l_97, l_100, l_110, l_115, l_116, l_120, l_122, l_127, l_128, l_136, l_140, l_200, l_255, l_256, l_400, l_1000, l_30000, l_1200, l_65536, l_2147483639, l_2147483647, ob_some, obd_some, q_lt_t, q_lt_f, q_le_t, q_le_f, q_eq_t, q_eq_f, im_ne, im_ne', im_lt, im_le, im_lt', im_le', i_add, i_mul, i_dec, i_dec0, i_sub, i_and, i_shr, i_div, nar_b0, nar_b1, b2i_t, b2i_f, gA1, pA1, gB2, pB2, gA3, pA3, gA4, pA4, gB5, pB5, gA6, pA6, gA7, pA7, gA8, pA8, gA9, pA9, gA10, pA10, gA11, pA11, gA12, pA12, gA13, pA13, gA14, pA14, gA15, pA15, gA16, pA16, gA17, pA17, gA18, pA18, gA19, pA19, gA20, pA20, gA21, pA21, gA40, pA40, gB43, pB43, gA44, pA44, gA45, pA45, gA46, pA46, gA47, pA47, gA48, pA48, gA49, pA49, gA53, pA53, gA54, pA54, gA55, pA55, gA56, pA56, gA58, pA58, gA60, pA60, gA61, pA61, gA62, pA62, gA63, pA63, gA66, pA66, ↓reduceIte, if_true, if_false]
      rw [decide_eq_false (by omega)]
      rfl
    · simp (disch := omega) only [l_m1, l_m2, l_0, l_1, l_2, l_3, l_4, l_5, l_6, l_7, l_8, l_9, l_10, l_11, l_12, l_13, l_14, l_15, l_16, l_17, l_18, l_19, l_20, l_21, l_22, l_23, l_24, l_25, l_26, l_27, l_28, l_29, l_30, l_31, l_32, l_33, l_34, l_35, l_36, l_37, l_38, l_39, l_40, l_41, l_42, l_43, l_44, l_45, l_46, l_47, l_48, l_49, l_50, l_51, l_52, l_53, l_54, l_55, l_56, l_57, l_58, l_59, l_60, l_61, l_62, l_63, l_64, l_97, l_100, l_110, l_115, l_116, l_120, l_122, l_127, l_128, l_136, l_140, l_200, l_255, l_256, l_400, l_1000, l_30000, l_1200, l_65536, l_2147483639, l_2147483647, ob_some, obd_some, q_lt_t, q_lt_f, q_le_t, q_le_f, q_eq_t, q_eq_f, im_ne, im_ne', im_lt, im_le, im_lt', im_le', i_add, i_mul, i_dec, i_dec0, i_sub, i_and, i_shr, i_div, nar_b0, nar_b1, b2i_t, b2i_f, gA1, pA1, gB2, pB2, gA3, pA3, gA4, pA4, gB5, pB5, gA6, pA6, gA7, pA7, gA8, pA8, gA9, pA9, gA10, pA10, gA11, pA11, gA12, pA12, gA13, pA13, gA14, pA14, gA15, pA15, gA16, pA16, gA17, pA17, gA18, pA18, gA19, pA19, gA20, pA20, gA21, pA21, gA40, pA40, gB43, pB43, gA44, pA44, gA45, pA45, gA46, pA46, gA47, pA47, gA48, pA48, gA49, pA49, gA53, pA53, gA54, pA54, gA55, pA55, gA56, pA56, gA58, pA58, gA60, pA60, gA61, pA61, gA62, pA62, gA63, pA63, gA66, pA66, ↓reduceIte, if_true, if_false]
      rw [decide_eq_true (by omega)]
      rfl
theorem M_isDigit {x : Nat} (h : x < 256) : f_X3_isDigit (i_ x) = some (b2i (isDb x)) := by
  unfold f_X3_isDigit isDb
  by_cases h1 : x < 48
  · simp (disch := omega) only [l_m1, l_m2, l_0, l_1, l_2, l_3, l_4, l_5, l_6, l_7, l_8, l_9, l_10, l_11, l_12, l_13, l_14, l_15, l_16, l_17, l_18, l_19, l_20, l_21, l_22, l_23, l_24, l_25, l_26, l_27, l_28, l_29, l_30, l_31, l_32, l_33, l_34, l_35, l_36, l_37, l_38, l_39, l_40, l_41, l_42, l_43, l_44, l_45, l_46, l_47, l_48, l_49, l_50, l_51, l_52, l_53, l_54, l_55, l_56, l_57, l_58, l_59, l_60, l_61, l_62, l_63, l_64, l_97, l_100, l_110, l_115, l_116, l_120, l_122, l_127, l_128, l_136, l_140, l_200, l_255, l_256, l_400, l_1000, l_30000, l_1200, l_65536, l_2147483639, l_2147483647, ob_some, obd_some, q_lt_t, q_lt_f, q_le_t, q_le_f, q_eq_t, q_eq_f, im_ne, im_ne', im_lt, im_le, im_lt', im_le', i_add, i_mul, i_dec, i_dec0, i_sub, i_and, i_shr, i_div, nar_b0, nar_b1, b2i_t, b2i_f, gA1, pA1, gB2, pB2, gA3, pA3, gA4, pA4, gB5, pB5, gA6, pA6, gA7, pA7, gA8, pA8, gA9, pA9, gA10, pA10, gA11, pA11, gA12, pA12, gA13, pA13, gA14, pA14, gA15, pA15, gA16, pA16, gA17, pA17, gA18, pA18, gA19, pA19, gA20, pA20, gA21, pA21, gA40, pA40, gB43, pB43, gA44, pA44, gA45, pA45, gA46, pA46, gA47, pA47, gA48, pA48, gA49, pA49, gA53, pA53, gA54, pA54, gA55, pA55, gA56, pA56, gA58, pA58, gA60, pA60, gA61, pA61, gA62, pA62, gA63, pA63, gA66, pA66, ↓reduceIte, if_true, if_false]
    rw [decide_eq_false (by omega)]
    rfl
  · by_cases h2 : 57 < x
    · simp (disch := omega) only [l_m1, l_m2, l_0, l_1, l_2, l_3, l_4, l_5, l_6, l_7, l_8, l_9, l_10, l_11, l_12, l_13, l_14, l_15, l_16, l_17, l_18, l_19, l_20, l_21, l_22, l_23, l_24, l_25, l_26, l_27, l_28, l_29, l_30, l_31, l_32, l_33, l_34, l_35, l_36, l_37, l_38, l_39, l_40, l_41, l_42, l_43, l_44, l_45, l_46, l_47, l_48, l_49, l_50, l_51, l_52, l_53, l_54, l_55, l_56, l_57, l_58, l_59, l_60, l_61, l_62, l_63, l_64, l_97, l_100, l_110, l_115, l_116, l_120, l_122, l_127, l_128, l_136, l_140, l_200, l_255, l_256, l_400, l_1000, l_30000, l_1200, l_65536, l_2147483639, l_2147483647, ob_some, obd_some, q_lt_t, q_lt_f, q_le_t, q_le_f, q_eq_t, q_eq_f, im_ne, im_ne', im_lt, im_le, im_lt', im_le', i_add, i_mul, i_dec, i_dec0, i_sub, i_and, i_shr, i_div, nar_b0, nar_b1, b2i_t, b2i_f, gA1, pA1, gB2, pB2, gA3, pA3, gA4, pA4, gB5, pB5, gA6, pA6, gA7, pA7, gA8, pA8, gA9, pA9, gA10, pA10, gA11, pA11, gA12, pA12, gA13, pA13, gA14, pA14, gA15, pA15, gA16, pA16, gA17, pA17, gA18, pA18, gA19, pA19, gA20, pA20, gA21, pA21, gA40, pA40, gB43, pB43, gA44, pA44, gA45, pA45, gA46, pA46, gA47, pA47, gA48, pA48, gA49, pA49, gA53, pA53, gA54, pA54, gA55, pA55, gA56, pA56, gA58, pA58, gA60, pA60, gA61, pA61, gA62, pA62, gA63, pA63, gA66, pA66, ↓reduceIte, if_true, if_false]
      rw [decide_eq_false (by omega)]
      rfl
    · simp (disch := omega) only [l_m1, l_m2, l_0, l_1, l_2, l_3, l_4, l_5, l_6, l_7, l_8, l_9, l_10, l_11, l_12, l_13, l_14, l_15, l_16, l_17, l_18, l_19, l_20, l_21, l_22, l_23, l_24, l_25, l_26, l_27, l_28, l_29, l_30, l_31, l_32, l_33, l_34, l_35, l_36, l_37, l_38, l_39, l_40, l_41, l_42, l_43, l_44, l_45, l_46, l_47, l_48, l_49, l_50, l_51, l_52, l_53, l_54, l_55, l_56, l_57, l_58, l_59, l_60, l_61, l_62, l_63, l_64, l_97, l_100, l_110, l_115, l_116, l_120, l_122, l_127, l_128, l_136, l_140, l_200, l_255, l_256, l_400, l_1000, l_30000, l_1200, l_65536, l_2147483639, l_2147483647, ob_some, obd_some, q_lt_t, q_lt_f, q_le_t, q_le_f, q_eq_t, q_eq_f, im_ne, im_ne', im_lt, im_le, im_lt', im_le', i_add, i_mul, i_dec, i_dec0, i_sub, i_and, i_shr, i_div, nar_b0, nar_b1, b2i_t, b2i_f, gA1, pA1, gB2, pB2, gA3, pA3, gA4, pA4, gB5, pB5, gA6, pA6, gA7, pA7, gA8, pA8, gA9, pA9, gA10, pA10, gA11, pA11, gA12, pA12, gA13, pA13, gA14, pA14, gA15, pA15, gA16, pA16, gA17, pA17, gA18, pA18, gA19, pA19, gA20, pA20, gA21, pA21, gA40, pA40, gB43, pB43, gA44, pA44, gA45, pA45, gA46, pA46, gA47, pA47, gA48, pA48, gA49, pA49, gA53, pA53, gA54, pA54, gA55, pA55, gA56, pA56, gA58, pA58, gA60, pA60, gA61, pA61, gA62, pA62, gA63, pA63, gA66, pA66, ↓reduceIte, if_true, if_false]
      rw [decide_eq_true (by omega)]
      rfl
theorem M_isBlank {x : Nat} (h : x < 256) : f_X3_isBlank (i_ x) = some (b2i (isBb x)) := by
  unfold f_X3_isBlank isBb
  by_cases h1 : x = 10
  · simp (disch := omega) only [l_m1, l_m2, l_0, l_1, l_2, l_3, l_4, l_5, l_6, l_7, l_8, l_9, l_10, l_11, l_12, l_13, l_14, l_15, l_16, l_17, l_18, l_19, l_20, l_21, l_22, l_23, l_24, l_25, l_26, l_27, l_28, l_29, l_30, l_31, l_32, l_33, l_34, l_35, l_36, l_37, l_38, l_39, l_40, l_41, l_42, l_43, l_44, l_45, l_46, l_47, l_48, l_49, l_50, l_51, l_52, l_53, l_54, l_55, l_56, l_57, l_58, l_59, l_60, l_61, l_62, l_63, l_64, l_97, l_100, l_110, l_115, l_116, l_120, l_122, l_127, l_128, l_136, l_140, l_200, l_255, l_256, l_400, l_1000, l_30000, l_1200, l_65536, l_2147483639, l_2147483647, ob_some, obd_some, q_lt_t, q_lt_f, q_le_t, q_le_f, q_eq_t, q_eq_f, im_ne, im_ne', im_lt, im_le, im_lt', im_le', i_add, i_mul, i_dec, i_dec0, i_sub, i_and, i_shr, i_div, nar_b0, nar_b1, b2i_t, b2i_f, gA1, pA1, gB2, pB2, gA3, pA3, gA4, pA4, gB5, pB5, gA6, pA6, gA7, pA7, gA8, pA8, gA9, pA9, gA10, pA10, gA11, pA11, gA12, pA12, gA13, pA13, gA14, pA14, gA15, pA15, gA16, pA16, gA17, pA17, gA18, pA18, gA19, pA19, gA20, pA20, gA21, pA21, gA40, pA40, gB43, pB43, gA44, pA44, gA45, pA45, gA46, pA46, gA47, pA47, gA48, pA48, gA49, pA49, gA53, pA53, gA54, pA54, gA55, pA55, gA56, pA56, gA58, pA58, gA60, pA60, gA61, pA61, gA62, pA62, gA63, pA63, gA66, pA66, ↓reduceIte, if_true, if_false]
    rw [decide_eq_true (by omega)]
    rfl
  · by_cases h2 : x = 32
    · simp (disch := omega) only [l_m1, l_m2, l_0, l_1, l_2, l_3, l_4, l_5, l_6, l_7, l_8, l_9, l_10, l_11, l_12, l_13, l_14, l_15, l_16, l_17, l_18, l_19, l_20, l_21, l_22, l_23, l_24, l_25, l_26, l_27, l_28, l_29, l_30, l_31, l_32, l_33, l_34, l_35, l_36, l_37, l_38, l_39, l_40, l_41, l_42, l_43, l_44, l_45, l_46, l_47, l_48, l_49, l_50, l_51, l_52, l_53, l_54, l_55, l_56, l_57, l_58, l_59, l_60, l_61, l_62, l_63, l_64, l_97, l_100, l_110, l_115, l_116, l_120, l_122, l_127, l_128, l_136, l_140, l_200, l_255, l_256, l_400, l_1000, l_30000, l_1200, l_65536, l_2147483639, l_2147483647, ob_some, obd_some, q_lt_t, q_lt_f, q_le_t, q_le_f, q_eq_t, q_eq_f, im_ne, im_ne', im_lt, im_le, im_lt', im_le', i_add, i_mul, i_dec, i_dec0, i_sub, i_and, i_shr, i_div, nar_b0, nar_b1, b2i_t, b2i_f, gA1, pA1, gB2, pB2, gA3, pA3, gA4, pA4, gB5, pB5, gA6, pA6, gA7, pA7, gA8, pA8, gA9, pA9, gA10, pA10, gA11, pA11, gA12, pA12, gA13, pA13, gA14, pA14, gA15, pA15, gA16, pA16, gA17, pA17, gA18, pA18, gA19, pA19, gA20, pA20, gA21, pA21, gA40, pA40, gB43, pB43, gA44, pA44, gA45, pA45, gA46, pA46, gA47, pA47, gA48, pA48, gA49, pA49, gA53, pA53, gA54, pA54, gA55, pA55, gA56, pA56, gA58, pA58, gA60, pA60, gA61, pA61, gA62, pA62, gA63, pA63, gA66, pA66, ↓reduceIte, if_true, if_false]
      rw [decide_eq_true (by omega)]
      rfl
    · simp (disch := omega) only [l_m1, l_m2, l_0, l_1, l_2, l_3, l_4, l_5, l_6, l_7, l_8, l_9, l_10, l_11, l_12, l_13, l_14, l_15, l_16, l_17, l_18, l_19, l_20, l_21, l_22, l_23, l_24, l_25, l_26, l_27, l_28, l_29, l_30, l_31, l_32, l_33, l_34, l_35, l_36, l_37, l_38, l_39, l_40, l_41, l_42, l_43, l_44, l_45, l_46, l_47, l_48, l_49, l_50, l_51, l_52, l_53, l_54, l_55, l_56, l_57, l_58, l_59, l_60, l_61, l_62, l_63, l_64, l_97, l_100, l_110, l_115, l_116, l_120, l_122, l_127, l_128, l_136, l_140, l_200, l_255, l_256, l_400, l_1000, l_30000, l_1200, l_65536, l_2147483639, l_2147483647, ob_some, obd_some, q_lt_t, q_lt_f, q_le_t, q_le_f, q_eq_t, q_eq_f, im_ne, im_ne', im_lt, im_le, im_lt', im_le', i_add, i_mul, i_dec, i_dec0, i_sub, i_and, i_shr, i_div, nar_b0, nar_b1, b2i_t, b2i_f, gA1, pA1, gB2, pB2, gA3, pA3, gA4, pA4, gB5, pB5, gA6, pA6, gA7, pA7, gA8, pA8, gA9, pA9, gA10, pA10, gA11, pA11, gA12, pA12, gA13, pA13, gA14, pA14, gA15, pA15, gA16, pA16, gA17, pA17, gA18, pA18, gA19, pA19, gA20, pA20, gA21, pA21, gA40, pA40, gB43, pB43, gA44, pA44, gA45, pA45, gA46, pA46, gA47, pA47, gA48, pA48, gA49, pA49, gA53, pA53, gA54, pA54, gA55, pA55, gA56, pA56, gA58, pA58, gA60, pA60, gA61, pA61, gA62, pA62, gA63, pA63, gA66, pA66, ↓reduceIte, if_true, if_false]
      rw [decide_eq_false (by omega)]
      rfl
/-- which rows of an array a reading leaves as they are -/
def lmA (t : Nat) : Nat → Nat := fun k => match k with
  | 1 => t
  | 3 => t
  | 4 => t
  | 6 => 8 * t
  | 7 => t
  | 8 => 3 * t
  | 9 => t
  | 10 => t
  | 11 => t
  | 12 => t
  | 13 => t
  | 14 => 400 * t
  | 15 => 400 * t
  | 16 => 400 * t
  | 17 => 400 * t
  | 18 => 8 * t
  | 19 => 8 * t
  | 20 => t
  | _ => 0
def lmB (t : Nat) : Nat → Nat := fun k => match k with
  | 2 => t
  | 5 => 8 * t
  | _ => 0
def Gr (ka kb ki : List Nat) (t : Nat) (M N : MS) : Prop := (∀ k, k ∉ ka → m_A N k = m_A M k) ∧ (∀ k i, i < lmA t k → m_A N k i = m_A M k i) ∧ (∀ k, k ∉ kb → m_B N k = m_B M k) ∧ (∀ k i, i < lmB t k → m_B N k i = m_B M k i) ∧ (∀ k, k ∉ ki → m_I N k = m_I M k) ∧ ∀ k, k ≠ 32 → m_J N k = m_J M k
theorem Gr.rf (ka kb ki : List Nat) (t : Nat) (M : MS) : Gr ka kb ki t M M := ⟨fun _ _ => rfl, fun _ _ _ => rfl, fun _ _ => rfl, fun _ _ _ => rfl, fun _ _ => rfl, fun _ _ => rfl⟩
theorem Gr.tr {ka kb ki : List Nat} {t : Nat} {M N K : MS} (h : Gr ka kb ki t M N) (k : Gr ka kb ki t N K) : Gr ka kb ki t M K := by
  obtain ⟨h1, h2, h3, h4, h5, h6⟩ := h
  obtain ⟨k1, k2, k3, k4, k5, k6⟩ := k
  exact ⟨fun j q => (k1 j q).trans (h1 j q), fun j i q => (k2 j i q).trans (h2 j i q), fun j q => (k3 j q).trans (h3 j q), fun j i q => (k4 j i q).trans (h4 j i q), fun j q => (k5 j q).trans (h5 j q), fun j q => (k6 j q).trans (h6 j q)⟩
theorem Gr.mono {ka kb ki ka' kb' ki' : List Nat} {t : Nat} {M N : MS} (h : Gr ka kb ki t M N) (a : ∀ k ∈ ka, k ∈ ka') (b : ∀ k ∈ kb, k ∈ kb') (c : ∀ k ∈ ki, k ∈ ki') : Gr ka' kb' ki' t M N := by
  obtain ⟨h1, h2, h3, h4, h5, h6⟩ := h
  exact ⟨fun j q => h1 j (fun z => q (a j z)), h2, fun j q => h3 j (fun z => q (b j z)), h4, fun j q => h5 j (fun z => q (c j z)), h6⟩
theorem Gr.sI {ka kb ki : List Nat} {t : Nat} {M : MS} {k : Nat} {x : Int32} (h : k ∈ ki) : Gr ka kb ki t M (m_sI M k x) :=
  ⟨fun _ _ => rfl, fun _ _ _ => rfl, fun _ _ => rfl, fun _ _ _ => rfl, fun j q => mI_off (fun e => q (e ▸ h)), fun _ _ => rfl⟩
theorem Gr.sJ {ka kb ki : List Nat} {t : Nat} {M : MS} {x : Int64} : Gr ka kb ki t M (m_sJ M 32 x) :=
  ⟨fun _ _ => rfl, fun _ _ _ => rfl, fun _ _ => rfl, fun _ _ _ => rfl, fun _ _ => rfl, fun j q => mJ_off q⟩
theorem Gr.sA {ka kb ki : List Nat} {t : Nat} {M : MS} {k i : Nat} {x : Int32} (h : k ∈ ka) (hi : lmA t k ≤ i) : Gr ka kb ki t M (m_sA M k i x) :=
  ⟨fun j q => mA_same (fun e => q (e ▸ h)), fun j y q => by
    by_cases e : j = k
    · subst e
      exact mA_off (by omega)
    · exact congrFun (mA_same e) y, fun _ _ => rfl, fun _ _ _ => rfl, fun _ _ => rfl, fun _ _ => rfl⟩
theorem Gr.sB {ka kb ki : List Nat} {t : Nat} {M : MS} {k i : Nat} {x : Int64} (h : k ∈ kb) (hi : lmB t k ≤ i) : Gr ka kb ki t M (m_sB M k i x) :=
  ⟨fun _ _ => rfl, fun _ _ _ => rfl, fun j q => mB_same (fun e => q (e ▸ h)), fun j y q => by
    by_cases e : j = k
    · subst e
      exact mB_off (by omega)
    · exact congrFun (mB_same e) y, fun _ _ => rfl, fun _ _ => rfl⟩
/-- the tape, the size, the words of the language -/
def PM (t n : Nat) (T : Nat → Nat) (M : MS) : Prop := (m_I M 0 = i_ t ∧ t ≤ 16 ∧ n ≤ 400 ∧ m_I M 24 = i_ n) ∧ (∀ k, k < n → m_A M 21 k = i_ (T k) ∧ T k < 256) ∧ RMw M
theorem PM.gr {t n : Nat} {T : Nat → Nat} {M N : MS} {ka kb ki : List Nat} (h : PM t n T M) (g : Gr ka kb ki t M N) (a : 21 ∉ ka) (b : 0 ∉ ki ∧ 24 ∉ ki ∧ 52 ∉ ki ∧ 65 ∉ ki) : PM t n T N := by
  obtain ⟨⟨h1, h2, h3, h4⟩, h5, h6, h7, h8⟩ := h
  obtain ⟨g1, -, -, -, g5, g6⟩ := g
  refine ⟨⟨by rw [g5 0 b.1]; exact h1, h2, h3, by rw [g5 24 b.2.1]; exact h4⟩, by rw [g1 21 a]; exact h5, by rw [g5 65 b.2.2.2]; exact h6, by rw [g5 52 b.2.2.1]; exact h7, ?_⟩
  rw [g6 33 (by decide), g6 34 (by decide), g6 35 (by decide), g6 36 (by decide), g6 37 (by decide), g6 38 (by decide), g6 39 (by decide)]
  exact h8
def knd (T : Nat → Nat) (n q : Nat) : Int32 := if q < n then (if isLb (T q) = true then i_ 1 else if isDb (T q) = true then i_ 2 else if T q = 39 then i_ 3 else if T q < 32 then i_m else i_ (T q)) else i_ 0
def tnx (T : Nat → Nat) (n q : Nat) : Nat := if q < n then (if isLb (T q) = true then lw T n q else if isDb (T q) = true then dg T n q else q + 1) else q
def tov (T : Nat → Nat) (n q : Nat) : Int32 := if isLb (chp T n q) = true then (if lw T n q ≤ q + 8 then i_m else i_ (q + 8)) else if isDb (chp T n q) = true then (if dg T n q ≤ q + 4 then i_m else i_ (q + 4)) else i_m
def twd (T : Nat → Nat) (n q : Nat) : Int64 := if isLb (chp T n q) = true ∧ lw T n q ≤ q + 8 then enc (sl T q (lw T n q)) else 0
/-- the token at a place is looked at -/
def LA (T : Nat → Nat) (n : Nat) (M : MS) (p : Nat) : Prop := m_I M 29 = knd T n (sk T n p) ∧ m_I M 30 = i_ (sk T n p) ∧ m_I M 23 = i_ (tnx T n (sk T n p)) ∧ m_I M 31 = tov T n (sk T n p) ∧ m_J M 32 = twd T n (sk T n p)
abbrev kiT : List Nat := [23, 29, 30, 31]
def NX (t : Nat) (M N : MS) : Prop := Gr [] [] kiT t M N
theorem M_wordFrom_l {t n : Nat} {T : Nat → Nat} {M : MS} (hP : PM t n T M) {q e : Nat} (he : e ≤ n) (h8 : e ≤ q + 8) : ∀ (r k f : Nat), k + r = e → q ≤ k → r < f → f_X3_wordFrom_n5 f (i_ q) (i_ e) (enc (sl T q k)) (i_ k) M = some (enc (sl T q e), M) := by
  obtain ⟨⟨h1, h2, h3, h4⟩, h5, -⟩ := hP
  intro r
  induction r with
  | zero =>
    intro k f hk hq hf
    obtain ⟨f, rfl⟩ : ∃ m, f = m + 1 := ⟨f - 1, by omega⟩
    unfold f_X3_wordFrom_n5
    have : k = e := by omega
    subst this
    simp (disch := omega) only [l_m1, l_m2, l_0, l_1, l_2, l_3, l_4, l_5, l_6, l_7, l_8, l_9, l_10, l_11, l_12, l_13, l_14, l_15, l_16, l_17, l_18, l_19, l_20, l_21, l_22, l_23, l_24, l_25, l_26, l_27, l_28, l_29, l_30, l_31, l_32, l_33, l_34, l_35, l_36, l_37, l_38, l_39, l_40, l_41, l_42, l_43, l_44, l_45, l_46, l_47, l_48, l_49, l_50, l_51, l_52, l_53, l_54, l_55, l_56, l_57, l_58, l_59, l_60, l_61, l_62, l_63, l_64, l_97, l_100, l_110, l_115, l_116, l_120, l_122, l_127, l_128, l_136, l_140, l_200, l_255, l_256, l_400, l_1000, l_30000, l_1200, l_65536, l_2147483639, l_2147483647, ob_some, obd_some, q_lt_t, q_lt_f, q_le_t, q_le_f, q_eq_t, q_eq_f, im_ne, im_ne', im_lt, im_le, im_lt', im_le', i_add, i_mul, i_dec, i_dec0, i_sub, i_and, i_shr, i_div, nar_b0, nar_b1, b2i_t, b2i_f, gA1, pA1, gB2, pB2, gA3, pA3, gA4, pA4, gB5, pB5, gA6, pA6, gA7, pA7, gA8, pA8, gA9, pA9, gA10, pA10, gA11, pA11, gA12, pA12, gA13, pA13, gA14, pA14, gA15, pA15, gA16, pA16, gA17, pA17, gA18, pA18, gA19, pA19, gA20, pA20, gA21, pA21, gA40, pA40, gB43, pB43, gA44, pA44, gA45, pA45, gA46, pA46, gA47, pA47, gA48, pA48, gA49, pA49, gA53, pA53, gA54, pA54, gA55, pA55, gA56, pA56, gA58, pA58, gA60, pA60, gA61, pA61, gA62, pA62, gA63, pA63, gA66, pA66, ↓reduceIte, if_true, if_false]
  | succ r ih =>
    intro k f hk hq hf
    obtain ⟨f, rfl⟩ : ∃ m, f = m + 1 := ⟨f - 1, by omega⟩
    unfold f_X3_wordFrom_n5
    obtain ⟨e1, e2⟩ := h5 k (by omega)
    simp (disch := omega) only [l_m1, l_m2, l_0, l_1, l_2, l_3, l_4, l_5, l_6, l_7, l_8, l_9, l_10, l_11, l_12, l_13, l_14, l_15, l_16, l_17, l_18, l_19, l_20, l_21, l_22, l_23, l_24, l_25, l_26, l_27, l_28, l_29, l_30, l_31, l_32, l_33, l_34, l_35, l_36, l_37, l_38, l_39, l_40, l_41, l_42, l_43, l_44, l_45, l_46, l_47, l_48, l_49, l_50, l_51, l_52, l_53, l_54, l_55, l_56, l_57, l_58, l_59, l_60, l_61, l_62, l_63, l_64, l_97, l_100, l_110, l_115, l_116, l_120, l_122, l_127, l_128, l_136, l_140, l_200, l_255, l_256, l_400, l_1000, l_30000, l_1200, l_65536, l_2147483639, l_2147483647, ob_some, obd_some, q_lt_t, q_lt_f, q_le_t, q_le_f, q_eq_t, q_eq_f, im_ne, im_ne', im_lt, im_le, im_lt', im_le', i_add, i_mul, i_dec, i_dec0, i_sub, i_and, i_shr, i_div, nar_b0, nar_b1, b2i_t, b2i_f, gA1, pA1, gB2, pB2, gA3, pA3, gA4, pA4, gB5, pB5, gA6, pA6, gA7, pA7, gA8, pA8, gA9, pA9, gA10, pA10, gA11, pA11, gA12, pA12, gA13, pA13, gA14, pA14, gA15, pA15, gA16, pA16, gA17, pA17, gA18, pA18, gA19, pA19, gA20, pA20, gA21, pA21, gA40, pA40, gB43, pB43, gA44, pA44, gA45, pA45, gA46, pA46, gA47, pA47, gA48, pA48, gA49, pA49, gA53, pA53, gA54, pA54, gA55, pA55, gA56, pA56, gA58, pA58, gA60, pA60, gA61, pA61, gA62, pA62, gA63, pA63, gA66, pA66, ↓reduceIte, if_true, if_false, e1]
    rw [i64_of (by omega)]
    have ih' := ih (k + 1) f (by omega) (by omega) (by omega)
    rw [sl_snoc hq, enc_snoc] at ih'
    exact ih'
theorem M_wordFrom {t n : Nat} {T : Nat → Nat} {M : MS} (hP : PM t n T M) {q e : Nat} (hq : q ≤ e) (he : e ≤ n) (h8 : e ≤ q + 8) : f_X3_wordFrom (i_ q) (i_ e) M = some (enc (sl T q e), M) := by
  have h3 := hP.1.2.2.1
  unfold f_X3_wordFrom
  have h := M_wordFrom_l hP (q := q) he h8 (e - q) q fu_ (by omega) (Nat.le_refl _) (by rw [fu_eq]; omega)
  rw [show sl T q q = [] by unfold sl; rw [Nat.sub_self]; rfl] at h
  exact h
/-- letters that follow -/
theorem M_next_L {t n : Nat} {T : Nat → Nat} {q : Nat} : ∀ (r p f : Nat) (M : MS), PM t n T M → q ≤ p → p + r = n → r < f → m_I M 23 = i_ p → m_I M 30 = i_ q → m_I M 31 = i_m → m_J M 32 = 0 → ∃ N, f_X3_next_n96 f M = some N ∧ Gr [] [] [23, 31] t M N ∧ m_I N 23 = i_ (lw T n p) ∧ m_I N 31 = (if lw T n p ≤ q + 8 then i_m else i_ (q + 8)) ∧ m_J N 32 = if lw T n p ≤ q + 8 then enc (sl T q (lw T n p)) else 0 := by
  have stop : ∀ (p : Nat) (M : MS), PM t n T M → q ≤ p → p ≤ n → m_I M 23 = i_ p → m_I M 30 = i_ q → m_I M 31 = i_m → m_J M 32 = 0 → lw T n p = p → ∃ N, f_X3_next_n135 M = some N ∧ Gr [] [] [23, 31] t M N ∧ m_I N 23 = i_ (lw T n p) ∧ m_I N 31 = (if lw T n p ≤ q + 8 then i_m else i_ (q + 8)) ∧ m_J N 32 = if lw T n p ≤ q + 8 then enc (sl T q (lw T n p)) else 0 := by
    intro p M hP hq hp h23 h30 h31 h32 hl
    have hn := hP.1.2.2.1
    rw [hl]
    unfold f_X3_next_n135
    by_cases h8 : p ≤ q + 8
    · have hw := M_wordFrom hP hq hp h8
      rw [if_pos h8, if_pos h8]
      refine ⟨m_sJ M 32 (enc (sl T q p)), ?_, Gr.sJ, h23, h31, mJ_on⟩
      simp (disch := omega) only [l_m1, l_m2, l_0, l_1, l_2, l_3, l_4, l_5, l_6, l_7, l_8, l_9, l_10, l_11, l_12, l_13, l_14, l_15, l_16, l_17, l_18, l_19, l_20, l_21, l_22, l_23, l_24, l_25, l_26, l_27, l_28, l_29, l_30, l_31, l_32, l_33, l_34, l_35, l_36, l_37, l_38, l_39, l_40, l_41, l_42, l_43, l_44, l_45, l_46, l_47, l_48, l_49, l_50, l_51, l_52, l_53, l_54, l_55, l_56, l_57, l_58, l_59, l_60, l_61, l_62, l_63, l_64, l_97, l_100, l_110, l_115, l_116, l_120, l_122, l_127, l_128, l_136, l_140, l_200, l_255, l_256, l_400, l_1000, l_30000, l_1200, l_65536, l_2147483639, l_2147483647, ob_some, obd_some, q_lt_t, q_lt_f, q_le_t, q_le_f, q_eq_t, q_eq_f, im_ne, im_ne', im_lt, im_le, im_lt', im_le', i_add, i_mul, i_dec, i_dec0, i_sub, i_and, i_shr, i_div, nar_b0, nar_b1, b2i_t, b2i_f, gA1, pA1, gB2, pB2, gA3, pA3, gA4, pA4, gB5, pB5, gA6, pA6, gA7, pA7, gA8, pA8, gA9, pA9, gA10, pA10, gA11, pA11, gA12, pA12, gA13, pA13, gA14, pA14, gA15, pA15, gA16, pA16, gA17, pA17, gA18, pA18, gA19, pA19, gA20, pA20, gA21, pA21, gA40, pA40, gB43, pB43, gA44, pA44, gA45, pA45, gA46, pA46, gA47, pA47, gA48, pA48, gA49, pA49, gA53, pA53, gA54, pA54, gA55, pA55, gA56, pA56, gA58, pA58, gA60, pA60, gA61, pA61, gA62, pA62, gA63, pA63, gA66, pA66, ↓reduceIte, if_true, if_false, R_mI_sJ, R_mI_sA, R_mI_sB, R_mJ_sI, R_mJ_sA, R_mJ_sB, R_mA_sI, R_mA_sJ, R_mA_sB, R_mB_sI, R_mB_sJ, R_mB_sA, mI_on, mI_off, mJ_on, mJ_off, mA_on, mA_same, mA_off, mB_on, mB_same, mB_off, up_on, up_off, h23, h30, hw]
    · rw [if_neg h8, if_neg h8]
      refine ⟨m_sI M 31 (i_ (q + 8)), ?_, Gr.sI (by decide), by rw [mI_off (by decide)]; exact h23, mI_on, h32⟩
      simp (disch := omega) only [l_m1, l_m2, l_0, l_1, l_2, l_3, l_4, l_5, l_6, l_7, l_8, l_9, l_10, l_11, l_12, l_13, l_14, l_15, l_16, l_17, l_18, l_19, l_20, l_21, l_22, l_23, l_24, l_25, l_26, l_27, l_28, l_29, l_30, l_31, l_32, l_33, l_34, l_35, l_36, l_37, l_38, l_39, l_40, l_41, l_42, l_43, l_44, l_45, l_46, l_47, l_48, l_49, l_50, l_51, l_52, l_53, l_54, l_55, l_56, l_57, l_58, l_59, l_60, l_61, l_62, l_63, l_64, l_97, l_100, l_110, l_115, l_116, l_120, l_122, l_127, l_128, l_136, l_140, l_200, l_255, l_256, l_400, l_1000, l_30000, l_1200, l_65536, l_2147483639, l_2147483647, ob_some, obd_some, q_lt_t, q_lt_f, q_le_t, q_le_f, q_eq_t, q_eq_f, im_ne, im_ne', im_lt, im_le, im_lt', im_le', i_add, i_mul, i_dec, i_dec0, i_sub, i_and, i_shr, i_div, nar_b0, nar_b1, b2i_t, b2i_f, gA1, pA1, gB2, pB2, gA3, pA3, gA4, pA4, gB5, pB5, gA6, pA6, gA7, pA7, gA8, pA8, gA9, pA9, gA10, pA10, gA11, pA11, gA12, pA12, gA13, pA13, gA14, pA14, gA15, pA15, gA16, pA16, gA17, pA17, gA18, pA18, gA19, pA19, gA20, pA20, gA21, pA21, gA40, pA40, gB43, pB43, gA44, pA44, gA45, pA45, gA46, pA46, gA47, pA47, gA48, pA48, gA49, pA49, gA53, pA53, gA54, pA54, gA55, pA55, gA56, pA56, gA58, pA58, gA60, pA60, gA61, pA61, gA62, pA62, gA63, pA63, gA66, pA66, ↓reduceIte, if_true, if_false, R_mI_sJ, R_mI_sA, R_mI_sB, R_mJ_sI, R_mJ_sA, R_mJ_sB, R_mA_sI, R_mA_sJ, R_mA_sB, R_mB_sI, R_mB_sJ, R_mB_sA, mI_on, mI_off, mJ_on, mJ_off, mA_on, mA_same, mA_off, mB_on, mB_same, mB_off, up_on, up_off, h23, h30]
  intro r
  induction r with
  | zero =>
    intro p f M hP hq hp hf h23 h30 h31 h32
    obtain ⟨f, rfl⟩ : ∃ m, f = m + 1 := ⟨f - 1, by omega⟩
    have hn := hP.1.2.2
    have hl : lw T n p = p := rn_stop (fun k => by have := k.1; omega)
    obtain ⟨N, e1, e2⟩ := stop p M hP hq (by omega) h23 h30 h31 h32 hl
    refine ⟨N, ?_, e2⟩
    unfold f_X3_next_n96
    simp (disch := omega) only [l_m1, l_m2, l_0, l_1, l_2, l_3, l_4, l_5, l_6, l_7, l_8, l_9, l_10, l_11, l_12, l_13, l_14, l_15, l_16, l_17, l_18, l_19, l_20, l_21, l_22, l_23, l_24, l_25, l_26, l_27, l_28, l_29, l_30, l_31, l_32, l_33, l_34, l_35, l_36, l_37, l_38, l_39, l_40, l_41, l_42, l_43, l_44, l_45, l_46, l_47, l_48, l_49, l_50, l_51, l_52, l_53, l_54, l_55, l_56, l_57, l_58, l_59, l_60, l_61, l_62, l_63, l_64, l_97, l_100, l_110, l_115, l_116, l_120, l_122, l_127, l_128, l_136, l_140, l_200, l_255, l_256, l_400, l_1000, l_30000, l_1200, l_65536, l_2147483639, l_2147483647, ob_some, obd_some, q_lt_t, q_lt_f, q_le_t, q_le_f, q_eq_t, q_eq_f, im_ne, im_ne', im_lt, im_le, im_lt', im_le', i_add, i_mul, i_dec, i_dec0, i_sub, i_and, i_shr, i_div, nar_b0, nar_b1, b2i_t, b2i_f, gA1, pA1, gB2, pB2, gA3, pA3, gA4, pA4, gB5, pB5, gA6, pA6, gA7, pA7, gA8, pA8, gA9, pA9, gA10, pA10, gA11, pA11, gA12, pA12, gA13, pA13, gA14, pA14, gA15, pA15, gA16, pA16, gA17, pA17, gA18, pA18, gA19, pA19, gA20, pA20, gA21, pA21, gA40, pA40, gB43, pB43, gA44, pA44, gA45, pA45, gA46, pA46, gA47, pA47, gA48, pA48, gA49, pA49, gA53, pA53, gA54, pA54, gA55, pA55, gA56, pA56, gA58, pA58, gA60, pA60, gA61, pA61, gA62, pA62, gA63, pA63, gA66, pA66, ↓reduceIte, if_true, if_false, R_mI_sJ, R_mI_sA, R_mI_sB, R_mJ_sI, R_mJ_sA, R_mJ_sB, R_mA_sI, R_mA_sJ, R_mA_sB, R_mB_sI, R_mB_sJ, R_mB_sA, mI_on, mI_off, mJ_on, mJ_off, mA_on, mA_same, mA_off, mB_on, mB_same, mB_off, up_on, up_off, h23, hn.2, e1]
  | succ r ih =>
    intro p f M hP hq hp hf h23 h30 h31 h32
    obtain ⟨f, rfl⟩ : ∃ m, f = m + 1 := ⟨f - 1, by omega⟩
    have hn := hP.1.2.2
    obtain ⟨t1, t2⟩ := hP.2.1 p (by omega)
    have hL := M_isLetter t2
    unfold f_X3_next_n96
    cases hb : isLb (T p) with
    | false =>
      rw [hb] at hL
      have hl : lw T n p = p := rn_stop (fun k => by rw [hb] at k; cases k.2)
      obtain ⟨N, e1, e2⟩ := stop p M hP hq (by omega) h23 h30 h31 h32 hl
      refine ⟨N, ?_, e2⟩
      simp (disch := omega) only [l_m1, l_m2, l_0, l_1, l_2, l_3, l_4, l_5, l_6, l_7, l_8, l_9, l_10, l_11, l_12, l_13, l_14, l_15, l_16, l_17, l_18, l_19, l_20, l_21, l_22, l_23, l_24, l_25, l_26, l_27, l_28, l_29, l_30, l_31, l_32, l_33, l_34, l_35, l_36, l_37, l_38, l_39, l_40, l_41, l_42, l_43, l_44, l_45, l_46, l_47, l_48, l_49, l_50, l_51, l_52, l_53, l_54, l_55, l_56, l_57, l_58, l_59, l_60, l_61, l_62, l_63, l_64, l_97, l_100, l_110, l_115, l_116, l_120, l_122, l_127, l_128, l_136, l_140, l_200, l_255, l_256, l_400, l_1000, l_30000, l_1200, l_65536, l_2147483639, l_2147483647, ob_some, obd_some, q_lt_t, q_lt_f, q_le_t, q_le_f, q_eq_t, q_eq_f, im_ne, im_ne', im_lt, im_le, im_lt', im_le', i_add, i_mul, i_dec, i_dec0, i_sub, i_and, i_shr, i_div, nar_b0, nar_b1, b2i_t, b2i_f, gA1, pA1, gB2, pB2, gA3, pA3, gA4, pA4, gB5, pB5, gA6, pA6, gA7, pA7, gA8, pA8, gA9, pA9, gA10, pA10, gA11, pA11, gA12, pA12, gA13, pA13, gA14, pA14, gA15, pA15, gA16, pA16, gA17, pA17, gA18, pA18, gA19, pA19, gA20, pA20, gA21, pA21, gA40, pA40, gB43, pB43, gA44, pA44, gA45, pA45, gA46, pA46, gA47, pA47, gA48, pA48, gA49, pA49, gA53, pA53, gA54, pA54, gA55, pA55, gA56, pA56, gA58, pA58, gA60, pA60, gA61, pA61, gA62, pA62, gA63, pA63, gA66, pA66, ↓reduceIte, if_true, if_false, R_mI_sJ, R_mI_sA, R_mI_sB, R_mJ_sI, R_mJ_sA, R_mJ_sB, R_mA_sI, R_mA_sJ, R_mA_sB, R_mB_sI, R_mB_sJ, R_mB_sA, mI_on, mI_off, mJ_on, mJ_off, mA_on, mA_same, mA_off, mB_on, mB_same, mB_off, up_on, up_off, h23, hn.2, t1, hL, e1]
    | true =>
      rw [hb] at hL
      have hl : lw T n p = lw T n (p + 1) := rn_go (by omega) hb
      obtain ⟨N, e1, e2, e3, e4, e5⟩ := ih (p + 1) f (m_sI M 23 (i_ (p + 1))) (hP.gr (Gr.sI (ka := []) (kb := []) (ki := [23]) (by decide)) (by decide) (by decide)) (by omega) (by omega) (by omega) mI_on (by rw [mI_off (by decide)]; exact h30) (by rw [mI_off (by decide)]; exact h31) h32
      rw [hl]
      refine ⟨N, ?_, (Gr.sI (by decide)).tr e2, e3, e4, e5⟩
      simp (disch := omega) only [l_m1, l_m2, l_0, l_1, l_2, l_3, l_4, l_5, l_6, l_7, l_8, l_9, l_10, l_11, l_12, l_13, l_14, l_15, l_16, l_17, l_18, l_19, l_20, l_21, l_22, l_23, l_24, l_25, l_26, l_27, l_28, l_29, l_30, l_31, l_32, l_33, l_34, l_35, l_36, l_37, l_38, l_39, l_40, l_41, l_42, l_43, l_44, l_45, l_46, l_47, l_48, l_49, l_50, l_51, l_52, l_53, l_54, l_55, l_56, l_57, l_58, l_59, l_60, l_61, l_62, l_63, l_64, l_97, l_100, l_110, l_115, l_116, l_120, l_122, l_127, l_128, l_136, l_140, l_200, l_255, l_256, l_400, l_1000, l_30000, l_1200, l_65536, l_2147483639, l_2147483647, ob_some, obd_some, q_lt_t, q_lt_f, q_le_t, q_le_f, q_eq_t, q_eq_f, im_ne, im_ne', im_lt, im_le, im_lt', im_le', i_add, i_mul, i_dec, i_dec0, i_sub, i_and, i_shr, i_div, nar_b0, nar_b1, b2i_t, b2i_f, gA1, pA1, gB2, pB2, gA3, pA3, gA4, pA4, gB5, pB5, gA6, pA6, gA7, pA7, gA8, pA8, gA9, pA9, gA10, pA10, gA11, pA11, gA12, pA12, gA13, pA13, gA14, pA14, gA15, pA15, gA16, pA16, gA17, pA17, gA18, pA18, gA19, pA19, gA20, pA20, gA21, pA21, gA40, pA40, gB43, pB43, gA44, pA44, gA45, pA45, gA46, pA46, gA47, pA47, gA48, pA48, gA49, pA49, gA53, pA53, gA54, pA54, gA55, pA55, gA56, pA56, gA58, pA58, gA60, pA60, gA61, pA61, gA62, pA62, gA63, pA63, gA66, pA66, ↓reduceIte, if_true, if_false, R_mI_sJ, R_mI_sA, R_mI_sB, R_mJ_sI, R_mJ_sA, R_mJ_sB, R_mA_sI, R_mA_sJ, R_mA_sB, R_mB_sI, R_mB_sJ, R_mB_sA, mI_on, mI_off, mJ_on, mJ_off, mA_on, mA_same, mA_off, mB_on, mB_same, mB_off, up_on, up_off, h23, hn.2, t1, hL]
      exact e1
theorem M_next_D {t n : Nat} {T : Nat → Nat} {q : Nat} : ∀ (r p f : Nat) (M : MS), PM t n T M → q ≤ p → p + r = n → r < f → m_I M 23 = i_ p → m_I M 30 = i_ q → m_I M 31 = i_m → ∃ N, f_X3_next_n202 f M = some N ∧ Gr [] [] [23, 31] t M N ∧ m_I N 23 = i_ (dg T n p) ∧ m_I N 31 = (if dg T n p ≤ q + 4 then i_m else i_ (q + 4)) ∧ m_J N = m_J M := by
  have stop : ∀ (p : Nat) (M : MS), PM t n T M → q ≤ p → p ≤ n → m_I M 23 = i_ p → m_I M 30 = i_ q → m_I M 31 = i_m → dg T n p = p → ∃ N, f_X3_next_n241 M = some N ∧ Gr [] [] [23, 31] t M N ∧ m_I N 23 = i_ (dg T n p) ∧ m_I N 31 = (if dg T n p ≤ q + 4 then i_m else i_ (q + 4)) ∧ m_J N = m_J M := by
    intro p M hP hq hp h23 h30 h31 hl
    have hn := hP.1.2.2.1
    rw [hl]
    unfold f_X3_next_n241
    by_cases h8 : p ≤ q + 4
    · rw [if_pos h8]
      refine ⟨M, ?_, Gr.rf _ _ _ _ _, h23, h31, rfl⟩
      simp (disch := omega) only [l_m1, l_m2, l_0, l_1, l_2, l_3, l_4, l_5, l_6, l_7, l_8, l_9, l_10, l_11, l_12, l_13, l_14, l_15, l_16, l_17, l_18, l_19, l_20, l_21, l_22, l_23, l_24, l_25, l_26, l_27, l_28, l_29, l_30, l_31, l_32, l_33, l_34, l_35, l_36, l_37, l_38, l_39, l_40, l_41, l_42, l_43, l_44, l_45, l_46, l_47, l_48, l_49, l_50, l_51, l_52, l_53, l_54, l_55, l_56, l_57, l_58, l_59, l_60, l_61, l_62, l_63, l_64, l_97, l_100, l_110, l_115, l_116, l_120, l_122, l_127, l_128, l_136, l_140, l_200, l_255, l_256, l_400, l_1000, l_30000, l_1200, l_65536, l_2147483639, l_2147483647, ob_some, obd_some, q_lt_t, q_lt_f, q_le_t, q_le_f, q_eq_t, q_eq_f, im_ne, im_ne', im_lt, im_le, im_lt', im_le', i_add, i_mul, i_dec, i_dec0, i_sub, i_and, i_shr, i_div, nar_b0, nar_b1, b2i_t, b2i_f, gA1, pA1, gB2, pB2, gA3, pA3, gA4, pA4, gB5, pB5, gA6, pA6, gA7, pA7, gA8, pA8, gA9, pA9, gA10, pA10, gA11, pA11, gA12, pA12, gA13, pA13, gA14, pA14, gA15, pA15, gA16, pA16, gA17, pA17, gA18, pA18, gA19, pA19, gA20, pA20, gA21, pA21, gA40, pA40, gB43, pB43, gA44, pA44, gA45, pA45, gA46, pA46, gA47, pA47, gA48, pA48, gA49, pA49, gA53, pA53, gA54, pA54, gA55, pA55, gA56, pA56, gA58, pA58, gA60, pA60, gA61, pA61, gA62, pA62, gA63, pA63, gA66, pA66, ↓reduceIte, if_true, if_false, R_mI_sJ, R_mI_sA, R_mI_sB, R_mJ_sI, R_mJ_sA, R_mJ_sB, R_mA_sI, R_mA_sJ, R_mA_sB, R_mB_sI, R_mB_sJ, R_mB_sA, mI_on, mI_off, mJ_on, mJ_off, mA_on, mA_same, mA_off, mB_on, mB_same, mB_off, up_on, up_off, h23, h30]
    · rw [if_neg h8]
      refine ⟨m_sI M 31 (i_ (q + 4)), ?_, Gr.sI (by decide), by rw [mI_off (by decide)]; exact h23, mI_on, rfl⟩
      simp (disch := omega) only [l_m1, l_m2, l_0, l_1, l_2, l_3, l_4, l_5, l_6, l_7, l_8, l_9, l_10, l_11, l_12, l_13, l_14, l_15, l_16, l_17, l_18, l_19, l_20, l_21, l_22, l_23, l_24, l_25, l_26, l_27, l_28, l_29, l_30, l_31, l_32, l_33, l_34, l_35, l_36, l_37, l_38, l_39, l_40, l_41, l_42, l_43, l_44, l_45, l_46, l_47, l_48, l_49, l_50, l_51, l_52, l_53, l_54, l_55, l_56, l_57, l_58, l_59, l_60, l_61, l_62, l_63, l_64, l_97, l_100, l_110, l_115, l_116, l_120, l_122, l_127, l_128, l_136, l_140, l_200, l_255, l_256, l_400, l_1000, l_30000, l_1200, l_65536, l_2147483639, l_2147483647, ob_some, obd_some, q_lt_t, q_lt_f, q_le_t, q_le_f, q_eq_t, q_eq_f, im_ne, im_ne', im_lt, im_le, im_lt', im_le', i_add, i_mul, i_dec, i_dec0, i_sub, i_and, i_shr, i_div, nar_b0, nar_b1, b2i_t, b2i_f, gA1, pA1, gB2, pB2, gA3, pA3, gA4, pA4, gB5, pB5, gA6, pA6, gA7, pA7, gA8, pA8, gA9, pA9, gA10, pA10, gA11, pA11, gA12, pA12, gA13, pA13, gA14, pA14, gA15, pA15, gA16, pA16, gA17, pA17, gA18, pA18, gA19, pA19, gA20, pA20, gA21, pA21, gA40, pA40, gB43, pB43, gA44, pA44, gA45, pA45, gA46, pA46, gA47, pA47, gA48, pA48, gA49, pA49, gA53, pA53, gA54, pA54, gA55, pA55, gA56, pA56, gA58, pA58, gA60, pA60, gA61, pA61, gA62, pA62, gA63, pA63, gA66, pA66, ↓reduceIte, if_true, if_false, R_mI_sJ, R_mI_sA, R_mI_sB, R_mJ_sI, R_mJ_sA, R_mJ_sB, R_mA_sI, R_mA_sJ, R_mA_sB, R_mB_sI, R_mB_sJ, R_mB_sA, mI_on, mI_off, mJ_on, mJ_off, mA_on, mA_same, mA_off, mB_on, mB_same, mB_off, up_on, up_off, h23, h30]
  intro r
  induction r with
  | zero =>
    intro p f M hP hq hp hf h23 h30 h31
    obtain ⟨f, rfl⟩ : ∃ m, f = m + 1 := ⟨f - 1, by omega⟩
    have hn := hP.1.2.2
    have hl : dg T n p = p := rn_stop (fun k => by have := k.1; omega)
    obtain ⟨N, e1, e2⟩ := stop p M hP hq (by omega) h23 h30 h31 hl
    refine ⟨N, ?_, e2⟩
    unfold f_X3_next_n202
    simp (disch := omega) only [l_m1, l_m2, l_0, l_1, l_2, l_3, l_4, l_5, l_6, l_7, l_8, l_9, l_10, l_11, l_12, l_13, l_14, l_15, l_16, l_17, l_18, l_19, l_20, l_21, l_22, l_23, l_24, l_25, l_26, l_27, l_28, l_29, l_30, l_31, l_32, l_33, l_34, l_35, l_36, l_37, l_38, l_39, l_40, l_41, l_42, l_43, l_44, l_45, l_46, l_47, l_48, l_49, l_50, l_51, l_52, l_53, l_54, l_55, l_56, l_57, l_58, l_59, l_60, l_61, l_62, l_63, l_64, l_97, l_100, l_110, l_115, l_116, l_120, l_122, l_127, l_128, l_136, l_140, l_200, l_255, l_256, l_400, l_1000, l_30000, l_1200, l_65536, l_2147483639, l_2147483647, ob_some, obd_some, q_lt_t, q_lt_f, q_le_t, q_le_f, q_eq_t, q_eq_f, im_ne, im_ne', im_lt, im_le, im_lt', im_le', i_add, i_mul, i_dec, i_dec0, i_sub, i_and, i_shr, i_div, nar_b0, nar_b1, b2i_t, b2i_f, gA1, pA1, gB2, pB2, gA3, pA3, gA4, pA4, gB5, pB5, gA6, pA6, gA7, pA7, gA8, pA8, gA9, pA9, gA10, pA10, gA11, pA11, gA12, pA12, gA13, pA13, gA14, pA14, gA15, pA15, gA16, pA16, gA17, pA17, gA18, pA18, gA19, pA19, gA20, pA20, gA21, pA21, gA40, pA40, gB43, pB43, gA44, pA44, gA45, pA45, gA46, pA46, gA47, pA47, gA48, pA48, gA49, pA49, gA53, pA53, gA54, pA54, gA55, pA55, gA56, pA56, gA58, pA58, gA60, pA60, gA61, pA61, gA62, pA62, gA63, pA63, gA66, pA66, ↓reduceIte, if_true, if_false, R_mI_sJ, R_mI_sA, R_mI_sB, R_mJ_sI, R_mJ_sA, R_mJ_sB, R_mA_sI, R_mA_sJ, R_mA_sB, R_mB_sI, R_mB_sJ, R_mB_sA, mI_on, mI_off, mJ_on, mJ_off, mA_on, mA_same, mA_off, mB_on, mB_same, mB_off, up_on, up_off, h23, hn.2, e1]
  | succ r ih =>
    intro p f M hP hq hp hf h23 h30 h31
    obtain ⟨f, rfl⟩ : ∃ m, f = m + 1 := ⟨f - 1, by omega⟩
    have hn := hP.1.2.2
    obtain ⟨t1, t2⟩ := hP.2.1 p (by omega)
    have hL := M_isDigit t2
    unfold f_X3_next_n202
    cases hb : isDb (T p) with
    | false =>
      rw [hb] at hL
      have hl : dg T n p = p := rn_stop (fun k => by rw [hb] at k; cases k.2)
      obtain ⟨N, e1, e2⟩ := stop p M hP hq (by omega) h23 h30 h31 hl
      refine ⟨N, ?_, e2⟩
      simp (disch := omega) only [l_m1, l_m2, l_0, l_1, l_2, l_3, l_4, l_5, l_6, l_7, l_8, l_9, l_10, l_11, l_12, l_13, l_14, l_15, l_16, l_17, l_18, l_19, l_20, l_21, l_22, l_23, l_24, l_25, l_26, l_27, l_28, l_29, l_30, l_31, l_32, l_33, l_34, l_35, l_36, l_37, l_38, l_39, l_40, l_41, l_42, l_43, l_44, l_45, l_46, l_47, l_48, l_49, l_50, l_51, l_52, l_53, l_54, l_55, l_56, l_57, l_58, l_59, l_60, l_61, l_62, l_63, l_64, l_97, l_100, l_110, l_115, l_116, l_120, l_122, l_127, l_128, l_136, l_140, l_200, l_255, l_256, l_400, l_1000, l_30000, l_1200, l_65536, l_2147483639, l_2147483647, ob_some, obd_some, q_lt_t, q_lt_f, q_le_t, q_le_f, q_eq_t, q_eq_f, im_ne, im_ne', im_lt, im_le, im_lt', im_le', i_add, i_mul, i_dec, i_dec0, i_sub, i_and, i_shr, i_div, nar_b0, nar_b1, b2i_t, b2i_f, gA1, pA1, gB2, pB2, gA3, pA3, gA4, pA4, gB5, pB5, gA6, pA6, gA7, pA7, gA8, pA8, gA9, pA9, gA10, pA10, gA11, pA11, gA12, pA12, gA13, pA13, gA14, pA14, gA15, pA15, gA16, pA16, gA17, pA17, gA18, pA18, gA19, pA19, gA20, pA20, gA21, pA21, gA40, pA40, gB43, pB43, gA44, pA44, gA45, pA45, gA46, pA46, gA47, pA47, gA48, pA48, gA49, pA49, gA53, pA53, gA54, pA54, gA55, pA55, gA56, pA56, gA58, pA58, gA60, pA60, gA61, pA61, gA62, pA62, gA63, pA63, gA66, pA66, ↓reduceIte, if_true, if_false, R_mI_sJ, R_mI_sA, R_mI_sB, R_mJ_sI, R_mJ_sA, R_mJ_sB, R_mA_sI, R_mA_sJ, R_mA_sB, R_mB_sI, R_mB_sJ, R_mB_sA, mI_on, mI_off, mJ_on, mJ_off, mA_on, mA_same, mA_off, mB_on, mB_same, mB_off, up_on, up_off, h23, hn.2, t1, hL, e1]
    | true =>
      rw [hb] at hL
      have hl : dg T n p = dg T n (p + 1) := rn_go (by omega) hb
      obtain ⟨N, e1, e2, e3, e4, e5⟩ := ih (p + 1) f (m_sI M 23 (i_ (p + 1))) (hP.gr (Gr.sI (ka := []) (kb := []) (ki := [23]) (by decide)) (by decide) (by decide)) (by omega) (by omega) (by omega) mI_on (by rw [mI_off (by decide)]; exact h30) (by rw [mI_off (by decide)]; exact h31)
      rw [hl]
      refine ⟨N, ?_, (Gr.sI (by decide)).tr e2, e3, e4, e5⟩
      simp (disch := omega) only [l_m1, l_m2, l_0, l_1, l_2, l_3, l_4, l_5, l_6, l_7, l_8, l_9, l_10, l_11, l_12, l_13, l_14, l_15, l_16, l_17, l_18, l_19, l_20, l_21, l_22, l_23, l_24, l_25, l_26, l_27, l_28, l_29, l_30, l_31, l_32, l_33, l_34, l_35, l_36, l_37, l_38, l_39, l_40, l_41, l_42, l_43, l_44, l_45, l_46, l_47, l_48, l_49, l_50, l_51, l_52, l_53, l_54, l_55, l_56, l_57, l_58, l_59, l_60, l_61, l_62, l_63, l_64, l_97, l_100, l_110, l_115, l_116, l_120, l_122, l_127, l_128, l_136, l_140, l_200, l_255, l_256, l_400, l_1000, l_30000, l_1200, l_65536, l_2147483639, l_2147483647, ob_some, obd_some, q_lt_t, q_lt_f, q_le_t, q_le_f, q_eq_t, q_eq_f, im_ne, im_ne', im_lt, im_le, im_lt', im_le', i_add, i_mul, i_dec, i_dec0, i_sub, i_and, i_shr, i_div, nar_b0, nar_b1, b2i_t, b2i_f, gA1, pA1, gB2, pB2, gA3, pA3, gA4, pA4, gB5, pB5, gA6, pA6, gA7, pA7, gA8, pA8, gA9, pA9, gA10, pA10, gA11, pA11, gA12, pA12, gA13, pA13, gA14, pA14, gA15, pA15, gA16, pA16, gA17, pA17, gA18, pA18, gA19, pA19, gA20, pA20, gA21, pA21, gA40, pA40, gB43, pB43, gA44, pA44, gA45, pA45, gA46, pA46, gA47, pA47, gA48, pA48, gA49, pA49, gA53, pA53, gA54, pA54, gA55, pA55, gA56, pA56, gA58, pA58, gA60, pA60, gA61, pA61, gA62, pA62, gA63, pA63, gA66, pA66, ↓reduceIte, if_true, if_false, R_mI_sJ, R_mI_sA, R_mI_sB, R_mJ_sI, R_mJ_sA, R_mJ_sB, R_mA_sI, R_mA_sJ, R_mA_sB, R_mB_sI, R_mB_sJ, R_mB_sA, mI_on, mI_off, mJ_on, mJ_off, mA_on, mA_same, mA_off, mB_on, mB_same, mB_off, up_on, up_off, h23, hn.2, t1, hL]
      exact e1
/-- the token at a place that is no blank -/
theorem M_next_T {t n : Nat} {T : Nat → Nat} {M : MS} (hP : PM t n T M) {q : Nat} (hq : q ≤ n) (h23 : m_I M 23 = i_ q) : ∃ N, f_X3_next_n39 M = some N ∧ NX t M N ∧ m_I N 29 = knd T n q ∧ m_I N 30 = i_ q ∧ m_I N 23 = i_ (tnx T n q) ∧ m_I N 31 = tov T n q ∧ m_J N 32 = twd T n q := by
  have hn := hP.1.2.2
  have e3 : f_X3_next_n39 M = (let N3 := m_sJ (m_sI (m_sI M 30 (m_I M 23)) 31 (-1)) 32 0; f_X3_next_n39 M) := rfl
  let N3 := m_sJ (m_sI (m_sI M 30 (i_ q)) 31 i_m) 32 0
  have g3 : Gr [] [] kiT t M N3 := ((Gr.sI (by decide)).tr (Gr.sI (by decide))).tr Gr.sJ
  have hP3 : PM t n T N3 := hP.gr g3 (by decide) (by decide)
  have a23 : m_I N3 23 = i_ q := by
    show m_I (m_sI (m_sI M 30 (i_ q)) 31 i_m) 23 = _
    rw [mI_off (by decide), mI_off (by decide)]
    exact h23
  have a30 : m_I N3 30 = i_ q := by
    show m_I (m_sI (m_sI M 30 (i_ q)) 31 i_m) 30 = _
    rw [mI_off (by decide), mI_on]
  have a31 : m_I N3 31 = i_m := by
    show m_I (m_sI (m_sI M 30 (i_ q)) 31 i_m) 31 = _
    rw [mI_on]
  have a32 : m_J N3 32 = 0 := mJ_on
  have a24 : m_I N3 24 = i_ n := hP3.1.2.2.2
  have hu : f_X3_next_n39 M = (if (m_I N3 23) = (m_I N3 24) then
    (some (m_sI N3 29 (0))).bind fun N13 =>
    some N13
  else
    (g_mA N3 21 (m_I N3 23)).bind fun v4 =>
    (f_X3_isLetter v4).bind fun v5 =>
    if v5 = 0 then
      (g_mA N3 21 (m_I N3 23)).bind fun v6 =>
      (f_X3_isDigit v6).bind fun v7 =>
      if v7 = 0 then
        (g_mA N3 21 (m_I N3 23)).bind fun v8 =>
        if v8 = (39) then
          f_X3_next_n313 (3) N3
        else
          (g_mA N3 21 (m_I N3 23)).bind fun v9 =>
          if (32) ≤ v9 then
            (g_mA N3 21 (m_I N3 23)).bind fun v10 =>
            f_X3_next_n313 v10 N3
          else
            f_X3_next_n313 (-1) N3
      else
        (some (m_sI N3 29 (2))).bind fun N11 =>
        f_X3_next_n202 fu_ N11
    else
      (some (m_sI N3 29 (1))).bind fun N12 =>
      f_X3_next_n96 fu_ N12) := by
    unfold f_X3_next_n39
    rw [h23]
    rfl
  rw [hu]
  generalize N3 = N at g3 hP3 a23 a30 a31 a32 a24
  unfold knd tnx tov twd
  by_cases e : q = n
  · have hb : chp T n q = 256 := if_neg (by omega)
    rw [if_neg (show ¬ q < n by omega), if_neg (show ¬ q < n by omega), hb]
    rw [if_neg (show ¬ isLb 256 = true by decide), if_neg (show ¬ isDb 256 = true by decide), if_neg (show ¬ (isLb 256 = true ∧ lw T n q ≤ q + 8) from fun k => absurd k.1 (by decide))]
    refine ⟨m_sI N 29 (i_ 0), ?_, g3.tr (Gr.sI (by decide)), mI_on, by rw [mI_off (by decide)]; exact a30, by rw [mI_off (by decide)]; exact a23, by rw [mI_off (by decide)]; exact a31, a32⟩
    simp (disch := omega) only [l_m1, l_m2, l_0, l_1, l_2, l_3, l_4, l_5, l_6, l_7, l_8, l_9, l_10, l_11, l_12, l_13, l_14, l_15, l_16, l_17, l_18, l_19, l_20, l_21, l_22, l_23, l_24, l_25, l_26, l_27, l_28, l_29, l_30, l_31, l_32, l_33, l_34, l_35, l_36, l_37, l_38, l_39, l_40, l_41, l_42, l_43, l_44, l_45, l_46, l_47, l_48, l_49, l_50, l_51, l_52, l_53, l_54, l_55, l_56, l_57, l_58, l_59, l_60, l_61, l_62, l_63, l_64, l_97, l_100, l_110, l_115, l_116, l_120, l_122, l_127, l_128, l_136, l_140, l_200, l_255, l_256, l_400, l_1000, l_30000, l_1200, l_65536, l_2147483639, l_2147483647, ob_some, obd_some, q_lt_t, q_lt_f, q_le_t, q_le_f, q_eq_t, q_eq_f, im_ne, im_ne', im_lt, im_le, im_lt', im_le', i_add, i_mul, i_dec, i_dec0, i_sub, i_and, i_shr, i_div, nar_b0, nar_b1, b2i_t, b2i_f, gA1, pA1, gB2, pB2, gA3, pA3, gA4, pA4, gB5, pB5, gA6, pA6, gA7, pA7, gA8, pA8, gA9, pA9, gA10, pA10, gA11, pA11, gA12, pA12, gA13, pA13, gA14, pA14, gA15, pA15, gA16, pA16, gA17, pA17, gA18, pA18, gA19, pA19, gA20, pA20, gA21, pA21, gA40, pA40, gB43, pB43, gA44, pA44, gA45, pA45, gA46, pA46, gA47, pA47, gA48, pA48, gA49, pA49, gA53, pA53, gA54, pA54, gA55, pA55, gA56, pA56, gA58, pA58, gA60, pA60, gA61, pA61, gA62, pA62, gA63, pA63, gA66, pA66, ↓reduceIte, if_true, if_false, R_mI_sJ, R_mI_sA, R_mI_sB, R_mJ_sI, R_mJ_sA, R_mJ_sB, R_mA_sI, R_mA_sJ, R_mA_sB, R_mB_sI, R_mB_sJ, R_mB_sA, mI_on, mI_off, mJ_on, mJ_off, mA_on, mA_same, mA_off, mB_on, mB_same, mB_off, up_on, up_off, a23, a24]
  · have hqn : q < n := by omega
    have hc : chp T n q = T q := chp_T hqn
    obtain ⟨t1, t2⟩ := hP3.2.1 q hqn
    have hL := M_isLetter t2
    have hD := M_isDigit t2
    have hn4 := hn.1
    rw [if_pos hqn, if_pos hqn, hc]
    cases hb : isLb (T q) with
    | true =>
      rw [hb] at hL
      rw [if_pos rfl, if_pos rfl, if_pos rfl]
      obtain ⟨K, e1, e2, e3, e4, e5⟩ := M_next_L (q := q) (n - q) q fu_ (m_sI N 29 (i_ 1)) (hP3.gr (Gr.sI (ka := []) (kb := []) (ki := [29]) (by decide)) (by decide) (by decide)) (Nat.le_refl _) (by omega) (by rw [fu_eq]; omega) (by rw [mI_off (by decide)]; exact a23) (by rw [mI_off (by decide)]; exact a30) (by rw [mI_off (by decide)]; exact a31) a32
      refine ⟨K, ?_, g3.tr ((Gr.sI (by decide)).tr (e2.mono (by decide) (by decide) (by decide))), ?_, ?_, e3, e4, ?_⟩
      · simp (disch := omega) only [l_m1, l_m2, l_0, l_1, l_2, l_3, l_4, l_5, l_6, l_7, l_8, l_9, l_10, l_11, l_12, l_13, l_14, l_15, l_16, l_17, l_18, l_19, l_20, l_21, l_22, l_23, l_24, l_25, l_26, l_27, l_28, l_29, l_30, l_31, l_32, l_33, l_34, l_35, l_36, l_37, l_38, l_39, l_40, l_41, l_42, l_43, l_44, l_45, l_46, l_47, l_48, l_49, l_50, l_51, l_52, l_53, l_54, l_55, l_56, l_57, l_58, l_59, l_60, l_61, l_62, l_63, l_64, l_97, l_100, l_110, l_115, l_116, l_120, l_122, l_127, l_128, l_136, l_140, l_200, l_255, l_256, l_400, l_1000, l_30000, l_1200, l_65536, l_2147483639, l_2147483647, ob_some, obd_some, q_lt_t, q_lt_f, q_le_t, q_le_f, q_eq_t, q_eq_f, im_ne, im_ne', im_lt, im_le, im_lt', im_le', i_add, i_mul, i_dec, i_dec0, i_sub, i_and, i_shr, i_div, nar_b0, nar_b1, b2i_t, b2i_f, gA1, pA1, gB2, pB2, gA3, pA3, gA4, pA4, gB5, pB5, gA6, pA6, gA7, pA7, gA8, pA8, gA9, pA9, gA10, pA10, gA11, pA11, gA12, pA12, gA13, pA13, gA14, pA14, gA15, pA15, gA16, pA16, gA17, pA17, gA18, pA18, gA19, pA19, gA20, pA20, gA21, pA21, gA40, pA40, gB43, pB43, gA44, pA44, gA45, pA45, gA46, pA46, gA47, pA47, gA48, pA48, gA49, pA49, gA53, pA53, gA54, pA54, gA55, pA55, gA56, pA56, gA58, pA58, gA60, pA60, gA61, pA61, gA62, pA62, gA63, pA63, gA66, pA66, ↓reduceIte, if_true, if_false, R_mI_sJ, R_mI_sA, R_mI_sB, R_mJ_sI, R_mJ_sA, R_mJ_sB, R_mA_sI, R_mA_sJ, R_mA_sB, R_mB_sI, R_mB_sJ, R_mB_sA, mI_on, mI_off, mJ_on, mJ_off, mA_on, mA_same, mA_off, mB_on, mB_same, mB_off, up_on, up_off, a23, a24, t1, hL]
        exact e1
      · rw [e2.2.2.2.2.1 29 (by decide), mI_on]
      · rw [e2.2.2.2.2.1 30 (by decide), mI_off (by decide)]
        exact a30
      · rw [e5]
        by_cases h8 : lw T n q ≤ q + 8
        · rw [if_pos h8, if_pos ⟨rfl, h8⟩]
        · rw [if_neg h8, if_neg (fun k => h8 k.2)]
    | false =>
      rw [hb] at hL
      have hf : ¬ false = true := by decide
      rw [if_neg hf, if_neg hf, if_neg hf, if_neg (show ¬ (false = true ∧ lw T n q ≤ q + 8) from fun k => by cases k.1)]
      cases hd : isDb (T q) with
      | true =>
        rw [hd] at hD
        rw [if_pos rfl, if_pos rfl, if_pos rfl]
        obtain ⟨K, e1, e2, e3, e4, e5⟩ := M_next_D (q := q) (n - q) q fu_ (m_sI N 29 (i_ 2)) (hP3.gr (Gr.sI (ka := []) (kb := []) (ki := [29]) (by decide)) (by decide) (by decide)) (Nat.le_refl _) (by omega) (by rw [fu_eq]; omega) (by rw [mI_off (by decide)]; exact a23) (by rw [mI_off (by decide)]; exact a30) (by rw [mI_off (by decide)]; exact a31)
        refine ⟨K, ?_, g3.tr ((Gr.sI (by decide)).tr (e2.mono (by decide) (by decide) (by decide))), ?_, ?_, e3, e4, ?_⟩
        · simp (disch := omega) only [l_m1, l_m2, l_0, l_1, l_2, l_3, l_4, l_5, l_6, l_7, l_8, l_9, l_10, l_11, l_12, l_13, l_14, l_15, l_16, l_17, l_18, l_19, l_20, l_21, l_22, l_23, l_24, l_25, l_26, l_27, l_28, l_29, l_30, l_31, l_32, l_33, l_34, l_35, l_36, l_37, l_38, l_39, l_40, l_41, l_42, l_43, l_44, l_45, l_46, l_47, l_48, l_49, l_50, l_51, l_52, l_53, l_54, l_55, l_56, l_57, l_58, l_59, l_60, l_61, l_62, l_63, l_64, l_97, l_100, l_110, l_115, l_116, l_120, l_122, l_127, l_128, l_136, l_140, l_200, l_255, l_256, l_400, l_1000, l_30000, l_1200, l_65536, l_2147483639, l_2147483647, ob_some, obd_some, q_lt_t, q_lt_f, q_le_t, q_le_f, q_eq_t, q_eq_f, im_ne, im_ne', im_lt, im_le, im_lt', im_le', i_add, i_mul, i_dec, i_dec0, i_sub, i_and, i_shr, i_div, nar_b0, nar_b1, b2i_t, b2i_f, gA1, pA1, gB2, pB2, gA3, pA3, gA4, pA4, gB5, pB5, gA6, pA6, gA7, pA7, gA8, pA8, gA9, pA9, gA10, pA10, gA11, pA11, gA12, pA12, gA13, pA13, gA14, pA14, gA15, pA15, gA16, pA16, gA17, pA17, gA18, pA18, gA19, pA19, gA20, pA20, gA21, pA21, gA40, pA40, gB43, pB43, gA44, pA44, gA45, pA45, gA46, pA46, gA47, pA47, gA48, pA48, gA49, pA49, gA53, pA53, gA54, pA54, gA55, pA55, gA56, pA56, gA58, pA58, gA60, pA60, gA61, pA61, gA62, pA62, gA63, pA63, gA66, pA66, ↓reduceIte, if_true, if_false, R_mI_sJ, R_mI_sA, R_mI_sB, R_mJ_sI, R_mJ_sA, R_mJ_sB, R_mA_sI, R_mA_sJ, R_mA_sB, R_mB_sI, R_mB_sJ, R_mB_sA, mI_on, mI_off, mJ_on, mJ_off, mA_on, mA_same, mA_off, mB_on, mB_same, mB_off, up_on, up_off, a23, a24, t1, hL, hD]
          exact e1
        · rw [e2.2.2.2.2.1 29 (by decide), mI_on]
        · rw [e2.2.2.2.2.1 30 (by decide), mI_off (by decide)]
          exact a30
        · rw [e5]
          exact a32
      | false =>
        rw [hd] at hD
        rw [if_neg hf, if_neg hf, if_neg hf]
        have fin : ∀ x, ∃ K, f_X3_next_n313 x N = some K ∧ NX t M K ∧ m_I K 29 = x ∧ m_I K 30 = i_ q ∧ m_I K 23 = i_ (q + 1) ∧ m_I K 31 = i_m ∧ m_J K 32 = 0 := by
          intro x
          refine ⟨m_sI (m_sI N 29 x) 23 (i_ (q + 1)), ?_, (g3.tr (Gr.sI (by decide))).tr (Gr.sI (by decide)), by rw [mI_off (by decide), mI_on], by rw [mI_off (by decide), mI_off (by decide)]; exact a30, mI_on, by rw [mI_off (by decide), mI_off (by decide)]; exact a31, a32⟩
          unfold f_X3_next_n313
          simp (disch := omega) only [l_m1, l_m2, l_0, l_1, l_2, l_3, l_4, l_5, l_6, l_7, l_8, l_9, l_10, l_11, l_12, l_13, l_14, l_15, l_16, l_17, l_18, l_19, l_20, l_21, l_22, l_23, l_24, l_25, l_26, l_27, l_28, l_29, l_30, l_31, l_32, l_33, l_34, l_35, l_36, l_37, l_38, l_39, l_40, l_41, l_42, l_43, l_44, l_45, l_46, l_47, l_48, l_49, l_50, l_51, l_52, l_53, l_54, l_55, l_56, l_57, l_58, l_59, l_60, l_61, l_62, l_63, l_64, l_97, l_100, l_110, l_115, l_116, l_120, l_122, l_127, l_128, l_136, l_140, l_200, l_255, l_256, l_400, l_1000, l_30000, l_1200, l_65536, l_2147483639, l_2147483647, ob_some, obd_some, q_lt_t, q_lt_f, q_le_t, q_le_f, q_eq_t, q_eq_f, im_ne, im_ne', im_lt, im_le, im_lt', im_le', i_add, i_mul, i_dec, i_dec0, i_sub, i_and, i_shr, i_div, nar_b0, nar_b1, b2i_t, b2i_f, gA1, pA1, gB2, pB2, gA3, pA3, gA4, pA4, gB5, pB5, gA6, pA6, gA7, pA7, gA8, pA8, gA9, pA9, gA10, pA10, gA11, pA11, gA12, pA12, gA13, pA13, gA14, pA14, gA15, pA15, gA16, pA16, gA17, pA17, gA18, pA18, gA19, pA19, gA20, pA20, gA21, pA21, gA40, pA40, gB43, pB43, gA44, pA44, gA45, pA45, gA46, pA46, gA47, pA47, gA48, pA48, gA49, pA49, gA53, pA53, gA54, pA54, gA55, pA55, gA56, pA56, gA58, pA58, gA60, pA60, gA61, pA61, gA62, pA62, gA63, pA63, gA66, pA66, ↓reduceIte, if_true, if_false, R_mI_sJ, R_mI_sA, R_mI_sB, R_mJ_sI, R_mJ_sA, R_mJ_sB, R_mA_sI, R_mA_sJ, R_mA_sB, R_mB_sI, R_mB_sJ, R_mB_sA, mI_on, mI_off, mJ_on, mJ_off, mA_on, mA_same, mA_off, mB_on, mB_same, mB_off, up_on, up_off, a23]
        by_cases h39 : T q = 39
        · obtain ⟨K, e1, e2⟩ := fin (i_ 3)
          refine ⟨K, ?_, by rw [if_pos h39]; exact e2⟩
          simp (disch := omega) only [l_m1, l_m2, l_0, l_1, l_2, l_3, l_4, l_5, l_6, l_7, l_8, l_9, l_10, l_11, l_12, l_13, l_14, l_15, l_16, l_17, l_18, l_19, l_20, l_21, l_22, l_23, l_24, l_25, l_26, l_27, l_28, l_29, l_30, l_31, l_32, l_33, l_34, l_35, l_36, l_37, l_38, l_39, l_40, l_41, l_42, l_43, l_44, l_45, l_46, l_47, l_48, l_49, l_50, l_51, l_52, l_53, l_54, l_55, l_56, l_57, l_58, l_59, l_60, l_61, l_62, l_63, l_64, l_97, l_100, l_110, l_115, l_116, l_120, l_122, l_127, l_128, l_136, l_140, l_200, l_255, l_256, l_400, l_1000, l_30000, l_1200, l_65536, l_2147483639, l_2147483647, ob_some, obd_some, q_lt_t, q_lt_f, q_le_t, q_le_f, q_eq_t, q_eq_f, im_ne, im_ne', im_lt, im_le, im_lt', im_le', i_add, i_mul, i_dec, i_dec0, i_sub, i_and, i_shr, i_div, nar_b0, nar_b1, b2i_t, b2i_f, gA1, pA1, gB2, pB2, gA3, pA3, gA4, pA4, gB5, pB5, gA6, pA6, gA7, pA7, gA8, pA8, gA9, pA9, gA10, pA10, gA11, pA11, gA12, pA12, gA13, pA13, gA14, pA14, gA15, pA15, gA16, pA16, gA17, pA17, gA18, pA18, gA19, pA19, gA20, pA20, gA21, pA21, gA40, pA40, gB43, pB43, gA44, pA44, gA45, pA45, gA46, pA46, gA47, pA47, gA48, pA48, gA49, pA49, gA53, pA53, gA54, pA54, gA55, pA55, gA56, pA56, gA58, pA58, gA60, pA60, gA61, pA61, gA62, pA62, gA63, pA63, gA66, pA66, ↓reduceIte, if_true, if_false, R_mI_sJ, R_mI_sA, R_mI_sB, R_mJ_sI, R_mJ_sA, R_mJ_sB, R_mA_sI, R_mA_sJ, R_mA_sB, R_mB_sI, R_mB_sJ, R_mB_sA, mI_on, mI_off, mJ_on, mJ_off, mA_on, mA_same, mA_off, mB_on, mB_same, mB_off, up_on, up_off, a23, a24, t1, hL, hD]
          exact e1
        · rw [if_neg h39]
          by_cases h32 : T q < 32
          · obtain ⟨K, e1, e2⟩ := fin i_m
            refine ⟨K, ?_, by rw [if_pos h32]; exact e2⟩
            simp (disch := omega) only [l_m1, l_m2, l_0, l_1, l_2, l_3, l_4, l_5, l_6, l_7, l_8, l_9, l_10, l_11, l_12, l_13, l_14, l_15, l_16, l_17, l_18, l_19, l_20, l_21, l_22, l_23, l_24, l_25, l_26, l_27, l_28, l_29, l_30, l_31, l_32, l_33, l_34, l_35, l_36, l_37, l_38, l_39, l_40, l_41, l_42, l_43, l_44, l_45, l_46, l_47, l_48, l_49, l_50, l_51, l_52, l_53, l_54, l_55, l_56, l_57, l_58, l_59, l_60, l_61, l_62, l_63, l_64, l_97, l_100, l_110, l_115, l_116, l_120, l_122, l_127, l_128, l_136, l_140, l_200, l_255, l_256, l_400, l_1000, l_30000, l_1200, l_65536, l_2147483639, l_2147483647, ob_some, obd_some, q_lt_t, q_lt_f, q_le_t, q_le_f, q_eq_t, q_eq_f, im_ne, im_ne', im_lt, im_le, im_lt', im_le', i_add, i_mul, i_dec, i_dec0, i_sub, i_and, i_shr, i_div, nar_b0, nar_b1, b2i_t, b2i_f, gA1, pA1, gB2, pB2, gA3, pA3, gA4, pA4, gB5, pB5, gA6, pA6, gA7, pA7, gA8, pA8, gA9, pA9, gA10, pA10, gA11, pA11, gA12, pA12, gA13, pA13, gA14, pA14, gA15, pA15, gA16, pA16, gA17, pA17, gA18, pA18, gA19, pA19, gA20, pA20, gA21, pA21, gA40, pA40, gB43, pB43, gA44, pA44, gA45, pA45, gA46, pA46, gA47, pA47, gA48, pA48, gA49, pA49, gA53, pA53, gA54, pA54, gA55, pA55, gA56, pA56, gA58, pA58, gA60, pA60, gA61, pA61, gA62, pA62, gA63, pA63, gA66, pA66, ↓reduceIte, if_true, if_false, R_mI_sJ, R_mI_sA, R_mI_sB, R_mJ_sI, R_mJ_sA, R_mJ_sB, R_mA_sI, R_mA_sJ, R_mA_sB, R_mB_sI, R_mB_sJ, R_mB_sA, mI_on, mI_off, mJ_on, mJ_off, mA_on, mA_same, mA_off, mB_on, mB_same, mB_off, up_on, up_off, a23, a24, t1, hL, hD]
            exact e1
          · obtain ⟨K, e1, e2⟩ := fin (i_ (T q))
            refine ⟨K, ?_, by rw [if_neg h32]; exact e2⟩
            simp (disch := omega) only [l_m1, l_m2, l_0, l_1, l_2, l_3, l_4, l_5, l_6, l_7, l_8, l_9, l_10, l_11, l_12, l_13, l_14, l_15, l_16, l_17, l_18, l_19, l_20, l_21, l_22, l_23, l_24, l_25, l_26, l_27, l_28, l_29, l_30, l_31, l_32, l_33, l_34, l_35, l_36, l_37, l_38, l_39, l_40, l_41, l_42, l_43, l_44, l_45, l_46, l_47, l_48, l_49, l_50, l_51, l_52, l_53, l_54, l_55, l_56, l_57, l_58, l_59, l_60, l_61, l_62, l_63, l_64, l_97, l_100, l_110, l_115, l_116, l_120, l_122, l_127, l_128, l_136, l_140, l_200, l_255, l_256, l_400, l_1000, l_30000, l_1200, l_65536, l_2147483639, l_2147483647, ob_some, obd_some, q_lt_t, q_lt_f, q_le_t, q_le_f, q_eq_t, q_eq_f, im_ne, im_ne', im_lt, im_le, im_lt', im_le', i_add, i_mul, i_dec, i_dec0, i_sub, i_and, i_shr, i_div, nar_b0, nar_b1, b2i_t, b2i_f, gA1, pA1, gB2, pB2, gA3, pA3, gA4, pA4, gB5, pB5, gA6, pA6, gA7, pA7, gA8, pA8, gA9, pA9, gA10, pA10, gA11, pA11, gA12, pA12, gA13, pA13, gA14, pA14, gA15, pA15, gA16, pA16, gA17, pA17, gA18, pA18, gA19, pA19, gA20, pA20, gA21, pA21, gA40, pA40, gB43, pB43, gA44, pA44, gA45, pA45, gA46, pA46, gA47, pA47, gA48, pA48, gA49, pA49, gA53, pA53, gA54, pA54, gA55, pA55, gA56, pA56, gA58, pA58, gA60, pA60, gA61, pA61, gA62, pA62, gA63, pA63, gA66, pA66, ↓reduceIte, if_true, if_false, R_mI_sJ, R_mI_sA, R_mI_sB, R_mJ_sI, R_mJ_sA, R_mJ_sB, R_mA_sI, R_mA_sJ, R_mA_sB, R_mB_sI, R_mB_sJ, R_mB_sA, mI_on, mI_off, mJ_on, mJ_off, mA_on, mA_same, mA_off, mB_on, mB_same, mB_off, up_on, up_off, a23, a24, t1, hL, hD]
            exact e1
theorem M_next_l {t n : Nat} {T : Nat → Nat} : ∀ (r p f : Nat) (M : MS), PM t n T M → p + r = n → r < f → m_I M 23 = i_ p → ∃ N, f_X3_next_n0 f M = some N ∧ NX t M N ∧ LA T n N p := by
  intro r
  induction r with
  | zero =>
    intro p f M hP hp hf h23
    obtain ⟨f, rfl⟩ : ∃ m, f = m + 1 := ⟨f - 1, by omega⟩
    have hn := hP.1.2.2
    have hl : sk T n p = p := rn_stop (fun k => by have := k.1; omega)
    obtain ⟨N, e1, e2, e3⟩ := M_next_T hP (q := p) (by omega) h23
    refine ⟨N, ?_, e2, by unfold LA; rw [hl]; exact e3⟩
    unfold f_X3_next_n0
    simp (disch := omega) only [l_m1, l_m2, l_0, l_1, l_2, l_3, l_4, l_5, l_6, l_7, l_8, l_9, l_10, l_11, l_12, l_13, l_14, l_15, l_16, l_17, l_18, l_19, l_20, l_21, l_22, l_23, l_24, l_25, l_26, l_27, l_28, l_29, l_30, l_31, l_32, l_33, l_34, l_35, l_36, l_37, l_38, l_39, l_40, l_41, l_42, l_43, l_44, l_45, l_46, l_47, l_48, l_49, l_50, l_51, l_52, l_53, l_54, l_55, l_56, l_57, l_58, l_59, l_60, l_61, l_62, l_63, l_64, l_97, l_100, l_110, l_115, l_116, l_120, l_122, l_127, l_128, l_136, l_140, l_200, l_255, l_256, l_400, l_1000, l_30000, l_1200, l_65536, l_2147483639, l_2147483647, ob_some, obd_some, q_lt_t, q_lt_f, q_le_t, q_le_f, q_eq_t, q_eq_f, im_ne, im_ne', im_lt, im_le, im_lt', im_le', i_add, i_mul, i_dec, i_dec0, i_sub, i_and, i_shr, i_div, nar_b0, nar_b1, b2i_t, b2i_f, gA1, pA1, gB2, pB2, gA3, pA3, gA4, pA4, gB5, pB5, gA6, pA6, gA7, pA7, gA8, pA8, gA9, pA9, gA10, pA10, gA11, pA11, gA12, pA12, gA13, pA13, gA14, pA14, gA15, pA15, gA16, pA16, gA17, pA17, gA18, pA18, gA19, pA19, gA20, pA20, gA21, pA21, gA40, pA40, gB43, pB43, gA44, pA44, gA45, pA45, gA46, pA46, gA47, pA47, gA48, pA48, gA49, pA49, gA53, pA53, gA54, pA54, gA55, pA55, gA56, pA56, gA58, pA58, gA60, pA60, gA61, pA61, gA62, pA62, gA63, pA63, gA66, pA66, ↓reduceIte, if_true, if_false, R_mI_sJ, R_mI_sA, R_mI_sB, R_mJ_sI, R_mJ_sA, R_mJ_sB, R_mA_sI, R_mA_sJ, R_mA_sB, R_mB_sI, R_mB_sJ, R_mB_sA, mI_on, mI_off, mJ_on, mJ_off, mA_on, mA_same, mA_off, mB_on, mB_same, mB_off, up_on, up_off, h23, hn.2, e1]
  | succ r ih =>
    intro p f M hP hp hf h23
    obtain ⟨f, rfl⟩ : ∃ m, f = m + 1 := ⟨f - 1, by omega⟩
    have hn := hP.1.2.2
    obtain ⟨t1, t2⟩ := hP.2.1 p (by omega)
    have hL := M_isBlank t2
    unfold f_X3_next_n0
    cases hb : isBb (T p) with
    | false =>
      rw [hb] at hL
      have hl : sk T n p = p := rn_stop (fun k => by rw [hb] at k; cases k.2)
      obtain ⟨N, e1, e2, e3⟩ := M_next_T hP (q := p) (by omega) h23
      refine ⟨N, ?_, e2, by unfold LA; rw [hl]; exact e3⟩
      simp (disch := omega) only [l_m1, l_m2, l_0, l_1, l_2, l_3, l_4, l_5, l_6, l_7, l_8, l_9, l_10, l_11, l_12, l_13, l_14, l_15, l_16, l_17, l_18, l_19, l_20, l_21, l_22, l_23, l_24, l_25, l_26, l_27, l_28, l_29, l_30, l_31, l_32, l_33, l_34, l_35, l_36, l_37, l_38, l_39, l_40, l_41, l_42, l_43, l_44, l_45, l_46, l_47, l_48, l_49, l_50, l_51, l_52, l_53, l_54, l_55, l_56, l_57, l_58, l_59, l_60, l_61, l_62, l_63, l_64, l_97, l_100, l_110, l_115, l_116, l_120, l_122, l_127, l_128, l_136, l_140, l_200, l_255, l_256, l_400, l_1000, l_30000, l_1200, l_65536, l_2147483639, l_2147483647, ob_some, obd_some, q_lt_t, q_lt_f, q_le_t, q_le_f, q_eq_t, q_eq_f, im_ne, im_ne', im_lt, im_le, im_lt', im_le', i_add, i_mul, i_dec, i_dec0, i_sub, i_and, i_shr, i_div, nar_b0, nar_b1, b2i_t, b2i_f, gA1, pA1, gB2, pB2, gA3, pA3, gA4, pA4, gB5, pB5, gA6, pA6, gA7, pA7, gA8, pA8, gA9, pA9, gA10, pA10, gA11, pA11, gA12, pA12, gA13, pA13, gA14, pA14, gA15, pA15, gA16, pA16, gA17, pA17, gA18, pA18, gA19, pA19, gA20, pA20, gA21, pA21, gA40, pA40, gB43, pB43, gA44, pA44, gA45, pA45, gA46, pA46, gA47, pA47, gA48, pA48, gA49, pA49, gA53, pA53, gA54, pA54, gA55, pA55, gA56, pA56, gA58, pA58, gA60, pA60, gA61, pA61, gA62, pA62, gA63, pA63, gA66, pA66, ↓reduceIte, if_true, if_false, R_mI_sJ, R_mI_sA, R_mI_sB, R_mJ_sI, R_mJ_sA, R_mJ_sB, R_mA_sI, R_mA_sJ, R_mA_sB, R_mB_sI, R_mB_sJ, R_mB_sA, mI_on, mI_off, mJ_on, mJ_off, mA_on, mA_same, mA_off, mB_on, mB_same, mB_off, up_on, up_off, h23, hn.2, t1, hL, e1]
    | true =>
      rw [hb] at hL
      have hl : sk T n p = sk T n (p + 1) := rn_go (by omega) hb
      obtain ⟨N, e1, e2, e3⟩ := ih (p + 1) f (m_sI M 23 (i_ (p + 1))) (hP.gr (Gr.sI (ka := []) (kb := []) (ki := [23]) (by decide)) (by decide) (by decide)) (by omega) (by omega) mI_on
      refine ⟨N, ?_, Gr.tr (Gr.sI (by decide)) e2, by unfold LA; rw [hl]; exact e3⟩
      simp (disch := omega) only [l_m1, l_m2, l_0, l_1, l_2, l_3, l_4, l_5, l_6, l_7, l_8, l_9, l_10, l_11, l_12, l_13, l_14, l_15, l_16, l_17, l_18, l_19, l_20, l_21, l_22, l_23, l_24, l_25, l_26, l_27, l_28, l_29, l_30, l_31, l_32, l_33, l_34, l_35, l_36, l_37, l_38, l_39, l_40, l_41, l_42, l_43, l_44, l_45, l_46, l_47, l_48, l_49, l_50, l_51, l_52, l_53, l_54, l_55, l_56, l_57, l_58, l_59, l_60, l_61, l_62, l_63, l_64, l_97, l_100, l_110, l_115, l_116, l_120, l_122, l_127, l_128, l_136, l_140, l_200, l_255, l_256, l_400, l_1000, l_30000, l_1200, l_65536, l_2147483639, l_2147483647, ob_some, obd_some, q_lt_t, q_lt_f, q_le_t, q_le_f, q_eq_t, q_eq_f, im_ne, im_ne', im_lt, im_le, im_lt', im_le', i_add, i_mul, i_dec, i_dec0, i_sub, i_and, i_shr, i_div, nar_b0, nar_b1, b2i_t, b2i_f, gA1, pA1, gB2, pB2, gA3, pA3, gA4, pA4, gB5, pB5, gA6, pA6, gA7, pA7, gA8, pA8, gA9, pA9, gA10, pA10, gA11, pA11, gA12, pA12, gA13, pA13, gA14, pA14, gA15, pA15, gA16, pA16, gA17, pA17, gA18, pA18, gA19, pA19, gA20, pA20, gA21, pA21, gA40, pA40, gB43, pB43, gA44, pA44, gA45, pA45, gA46, pA46, gA47, pA47, gA48, pA48, gA49, pA49, gA53, pA53, gA54, pA54, gA55, pA55, gA56, pA56, gA58, pA58, gA60, pA60, gA61, pA61, gA62, pA62, gA63, pA63, gA66, pA66, ↓reduceIte, if_true, if_false, R_mI_sJ, R_mI_sA, R_mI_sB, R_mJ_sI, R_mJ_sA, R_mJ_sB, R_mA_sI, R_mA_sJ, R_mA_sB, R_mB_sI, R_mB_sJ, R_mB_sA, mI_on, mI_off, mJ_on, mJ_off, mA_on, mA_same, mA_off, mB_on, mB_same, mB_off, up_on, up_off, h23, hn.2, t1, hL]
      exact e1
theorem M_next {t n : Nat} {T : Nat → Nat} {M : MS} (hP : PM t n T M) {p : Nat} (hp : p ≤ n) (h23 : m_I M 23 = i_ p) : ∃ N, f_X3_next M = some N ∧ NX t M N ∧ LA T n N p :=
  M_next_l (n - p) p fu_ M hP (by omega) (by have := hP.1.2.2.1; rw [fu_eq]; omega) h23
