/-! the reference's reader: formulas, with their pile of brackets *-/
theorem isSn_l (c : Nat) (h : c ∈ [40, 41, 43, 45, 38, 44, 46, 58, 59, 60, 61]) : isSn c := by
  unfold isSn
  simp only [List.mem_cons, List.not_mem_nil, or_false] at h
  rcases h with rfl | rfl | rfl | rfl | rfl | rfl | rfl | rfl | rfl | rfl | rfl <;> decide
theorem M_isMore {t n : Nat} {T : Nat → Nat} {M : MS} {p : Nat} (hP : PM t n T M) (hL : LA T n M p) : f_X3_isMore M = some (b2i (isSg (chp T n (sk T n p))), M) := by
  have l1 := hL.1
  have hT256 : ∀ k, k < n → T k < 256 := fun k hk => (hP.2.1 k hk).2
  have h1 := knd_sn (q := sk T n p) hT256 (isSn_l 43 (by decide))
  have h2 := knd_sn (q := sk T n p) hT256 (isSn_l 45 (by decide))
  have h3 := knd_sn (q := sk T n p) hT256 (isSn_l 38 (by decide))
  unfold f_X3_isMore isSg
  by_cases e1 : chp T n (sk T n p) = 43
  · rw [decide_eq_true (Or.inl e1)]
    have h1' := h1.trans (eq_true e1)
    simp (disch := omega) only [l_m1, l_m2, l_0, l_1, l_2, l_3, l_4, l_5, l_6, l_7, l_8, l_9, l_10, l_11, l_12, l_13, l_14, l_15, l_16, l_17, l_18, l_19, l_20, l_21, l_22, l_23, l_24, l_25, l_26, l_27, l_28, l_29, l_30, l_31, l_32, l_33, l_34, l_35, l_36, l_37, l_38, l_39, l_40, l_41, l_42, l_43, l_44, l_45, l_46, l_47, l_48, l_49, l_50, l_51, l_52, l_53, l_54, l_55, l_56, l_57, l_58, l_59, l_60, l_61, l_62, l_63, l_64, l_97, l_100, l_110, l_115, l_116, l_120, l_122, l_127, l_128, l_136, l_140, l_200, l_255, l_256, l_400, l_1000, l_30000, l_1200, l_65536, l_2147483639, l_2147483647, ob_some, obd_some, q_lt_t, q_lt_f, q_le_t, q_le_f, q_eq_t, q_eq_f, im_ne, im_ne', im_lt, im_le, im_lt', im_le', i_add, i_mul, i_dec, i_dec0, i_sub, i_and, i_shr, i_div, nar_b0, nar_b1, b2i_t, b2i_f, gA1, pA1, gB2, pB2, gA3, pA3, gA4, pA4, gB5, pB5, gA6, pA6, gA7, pA7, gA8, pA8, gA9, pA9, gA10, pA10, gA11, pA11, gA12, pA12, gA13, pA13, gA14, pA14, gA15, pA15, gA16, pA16, gA17, pA17, gA18, pA18, gA19, pA19, gA20, pA20, gA21, pA21, gA40, pA40, gB43, pB43, gA44, pA44, gA45, pA45, gA46, pA46, gA47, pA47, gA48, pA48, gA49, pA49, gA53, pA53, gA54, pA54, gA55, pA55, gA56, pA56, gA58, pA58, gA60, pA60, gA61, pA61, gA62, pA62, gA63, pA63, gA66, pA66, ↓reduceIte, if_true, if_false, R_mI_sJ, R_mI_sA, R_mI_sB, R_mJ_sI, R_mJ_sA, R_mJ_sB, R_mA_sI, R_mA_sJ, R_mA_sB, R_mB_sI, R_mB_sJ, R_mB_sA, mI_on, mI_off, mJ_on, mJ_off, mA_on, mA_same, mA_off, mB_on, mB_same, mB_off, up_on, up_off, l1, h1']
  · have h1' := h1.trans (eq_false e1)
    by_cases e2 : chp T n (sk T n p) = 45
    · rw [decide_eq_true (Or.inr (Or.inl e2))]
      have h2' := h2.trans (eq_true e2)
      simp (disch := omega) only [l_m1, l_m2, l_0, l_1, l_2, l_3, l_4, l_5, l_6, l_7, l_8, l_9, l_10, l_11, l_12, l_13, l_14, l_15, l_16, l_17, l_18, l_19, l_20, l_21, l_22, l_23, l_24, l_25, l_26, l_27, l_28, l_29, l_30, l_31, l_32, l_33, l_34, l_35, l_36, l_37, l_38, l_39, l_40, l_41, l_42, l_43, l_44, l_45, l_46, l_47, l_48, l_49, l_50, l_51, l_52, l_53, l_54, l_55, l_56, l_57, l_58, l_59, l_60, l_61, l_62, l_63, l_64, l_97, l_100, l_110, l_115, l_116, l_120, l_122, l_127, l_128, l_136, l_140, l_200, l_255, l_256, l_400, l_1000, l_30000, l_1200, l_65536, l_2147483639, l_2147483647, ob_some, obd_some, q_lt_t, q_lt_f, q_le_t, q_le_f, q_eq_t, q_eq_f, im_ne, im_ne', im_lt, im_le, im_lt', im_le', i_add, i_mul, i_dec, i_dec0, i_sub, i_and, i_shr, i_div, nar_b0, nar_b1, b2i_t, b2i_f, gA1, pA1, gB2, pB2, gA3, pA3, gA4, pA4, gB5, pB5, gA6, pA6, gA7, pA7, gA8, pA8, gA9, pA9, gA10, pA10, gA11, pA11, gA12, pA12, gA13, pA13, gA14, pA14, gA15, pA15, gA16, pA16, gA17, pA17, gA18, pA18, gA19, pA19, gA20, pA20, gA21, pA21, gA40, pA40, gB43, pB43, gA44, pA44, gA45, pA45, gA46, pA46, gA47, pA47, gA48, pA48, gA49, pA49, gA53, pA53, gA54, pA54, gA55, pA55, gA56, pA56, gA58, pA58, gA60, pA60, gA61, pA61, gA62, pA62, gA63, pA63, gA66, pA66, ↓reduceIte, if_true, if_false, R_mI_sJ, R_mI_sA, R_mI_sB, R_mJ_sI, R_mJ_sA, R_mJ_sB, R_mA_sI, R_mA_sJ, R_mA_sB, R_mB_sI, R_mB_sJ, R_mB_sA, mI_on, mI_off, mJ_on, mJ_off, mA_on, mA_same, mA_off, mB_on, mB_same, mB_off, up_on, up_off, l1, h1', h2']
    · have h2' := h2.trans (eq_false e2)
      by_cases e3 : chp T n (sk T n p) = 38
      · rw [decide_eq_true (Or.inr (Or.inr e3))]
        have h3' := h3.trans (eq_true e3)
        simp (disch := omega) only [l_m1, l_m2, l_0, l_1, l_2, l_3, l_4, l_5, l_6, l_7, l_8, l_9, l_10, l_11, l_12, l_13, l_14, l_15, l_16, l_17, l_18, l_19, l_20, l_21, l_22, l_23, l_24, l_25, l_26, l_27, l_28, l_29, l_30, l_31, l_32, l_33, l_34, l_35, l_36, l_37, l_38, l_39, l_40, l_41, l_42, l_43, l_44, l_45, l_46, l_47, l_48, l_49, l_50, l_51, l_52, l_53, l_54, l_55, l_56, l_57, l_58, l_59, l_60, l_61, l_62, l_63, l_64, l_97, l_100, l_110, l_115, l_116, l_120, l_122, l_127, l_128, l_136, l_140, l_200, l_255, l_256, l_400, l_1000, l_30000, l_1200, l_65536, l_2147483639, l_2147483647, ob_some, obd_some, q_lt_t, q_lt_f, q_le_t, q_le_f, q_eq_t, q_eq_f, im_ne, im_ne', im_lt, im_le, im_lt', im_le', i_add, i_mul, i_dec, i_dec0, i_sub, i_and, i_shr, i_div, nar_b0, nar_b1, b2i_t, b2i_f, gA1, pA1, gB2, pB2, gA3, pA3, gA4, pA4, gB5, pB5, gA6, pA6, gA7, pA7, gA8, pA8, gA9, pA9, gA10, pA10, gA11, pA11, gA12, pA12, gA13, pA13, gA14, pA14, gA15, pA15, gA16, pA16, gA17, pA17, gA18, pA18, gA19, pA19, gA20, pA20, gA21, pA21, gA40, pA40, gB43, pB43, gA44, pA44, gA45, pA45, gA46, pA46, gA47, pA47, gA48, pA48, gA49, pA49, gA53, pA53, gA54, pA54, gA55, pA55, gA56, pA56, gA58, pA58, gA60, pA60, gA61, pA61, gA62, pA62, gA63, pA63, gA66, pA66, ↓reduceIte, if_true, if_false, R_mI_sJ, R_mI_sA, R_mI_sB, R_mJ_sI, R_mJ_sA, R_mJ_sB, R_mA_sI, R_mA_sJ, R_mA_sB, R_mB_sI, R_mB_sJ, R_mB_sA, mI_on, mI_off, mJ_on, mJ_off, mA_on, mA_same, mA_off, mB_on, mB_same, mB_off, up_on, up_off, l1, h1', h2', h3']
      · rw [decide_eq_false (by omega)]
        have h3' := h3.trans (eq_false e3)
        simp (disch := omega) only [l_m1, l_m2, l_0, l_1, l_2, l_3, l_4, l_5, l_6, l_7, l_8, l_9, l_10, l_11, l_12, l_13, l_14, l_15, l_16, l_17, l_18, l_19, l_20, l_21, l_22, l_23, l_24, l_25, l_26, l_27, l_28, l_29, l_30, l_31, l_32, l_33, l_34, l_35, l_36, l_37, l_38, l_39, l_40, l_41, l_42, l_43, l_44, l_45, l_46, l_47, l_48, l_49, l_50, l_51, l_52, l_53, l_54, l_55, l_56, l_57, l_58, l_59, l_60, l_61, l_62, l_63, l_64, l_97, l_100, l_110, l_115, l_116, l_120, l_122, l_127, l_128, l_136, l_140, l_200, l_255, l_256, l_400, l_1000, l_30000, l_1200, l_65536, l_2147483639, l_2147483647, ob_some, obd_some, q_lt_t, q_lt_f, q_le_t, q_le_f, q_eq_t, q_eq_f, im_ne, im_ne', im_lt, im_le, im_lt', im_le', i_add, i_mul, i_dec, i_dec0, i_sub, i_and, i_shr, i_div, nar_b0, nar_b1, b2i_t, b2i_f, gA1, pA1, gB2, pB2, gA3, pA3, gA4, pA4, gB5, pB5, gA6, pA6, gA7, pA7, gA8, pA8, gA9, pA9, gA10, pA10, gA11, pA11, gA12, pA12, gA13, pA13, gA14, pA14, gA15, pA15, gA16, pA16, gA17, pA17, gA18, pA18, gA19, pA19, gA20, pA20, gA21, pA21, gA40, pA40, gB43, pB43, gA44, pA44, gA45, pA45, gA46, pA46, gA47, pA47, gA48, pA48, gA49, pA49, gA53, pA53, gA54, pA54, gA55, pA55, gA56, pA56, gA58, pA58, gA60, pA60, gA61, pA61, gA62, pA62, gA63, pA63, gA66, pA66, ↓reduceIte, if_true, if_false, R_mI_sJ, R_mI_sA, R_mI_sB, R_mJ_sI, R_mJ_sA, R_mJ_sB, R_mA_sI, R_mA_sJ, R_mA_sB, R_mB_sI, R_mB_sJ, R_mB_sA, mI_on, mI_off, mJ_on, mJ_off, mA_on, mA_same, mA_off, mB_on, mB_same, mB_off, up_on, up_off, l1, h1', h2', h3']
def Fl (f fu o w : Nat) (M : MS) : Option MS := f_X3_formula_n34 fu (i_ f) (i_ o) (i_ w) M
def Fk (f fu : Nat) : Int32 → Int32 → Int32 → MS → Option MS := fun x1 x2 x3 M => f_X3_formula_n34 fu x1 x2 x3 M
theorem Fl_1 {f fu o : Nat} {M : MS} (h25 : m_I M 25 = i_ 0) : Fl f (fu + 1) o 1 M = f_X3_formula_n56 (Fk f fu) (i_ f) (i_ o) (i_ 1) M := by
  unfold Fl
  conv => lhs; unfold f_X3_formula_n34
  simp (disch := omega) only [l_m1, l_m2, l_0, l_1, l_2, l_3, l_4, l_5, l_6, l_7, l_8, l_9, l_10, l_11, l_12, l_13, l_14, l_15, l_16, l_17, l_18, l_19, l_20, l_21, l_22, l_23, l_24, l_25, l_26, l_27, l_28, l_29, l_30, l_31, l_32, l_33, l_34, l_35, l_36, l_37, l_38, l_39, l_40, l_41, l_42, l_43, l_44, l_45, l_46, l_47, l_48, l_49, l_50, l_51, l_52, l_53, l_54, l_55, l_56, l_57, l_58, l_59, l_60, l_61, l_62, l_63, l_64, l_97, l_100, l_110, l_115, l_116, l_120, l_122, l_127, l_128, l_136, l_140, l_200, l_255, l_256, l_400, l_1000, l_30000, l_1200, l_65536, l_2147483639, l_2147483647, ob_some, obd_some, q_lt_t, q_lt_f, q_le_t, q_le_f, q_eq_t, q_eq_f, im_ne, im_ne', im_lt, im_le, im_lt', im_le', i_add, i_mul, i_dec, i_dec0, i_sub, i_and, i_shr, i_div, nar_b0, nar_b1, b2i_t, b2i_f, gA1, pA1, gB2, pB2, gA3, pA3, gA4, pA4, gB5, pB5, gA6, pA6, gA7, pA7, gA8, pA8, gA9, pA9, gA10, pA10, gA11, pA11, gA12, pA12, gA13, pA13, gA14, pA14, gA15, pA15, gA16, pA16, gA17, pA17, gA18, pA18, gA19, pA19, gA20, pA20, gA21, pA21, gA40, pA40, gB43, pB43, gA44, pA44, gA45, pA45, gA46, pA46, gA47, pA47, gA48, pA48, gA49, pA49, gA53, pA53, gA54, pA54, gA55, pA55, gA56, pA56, gA58, pA58, gA60, pA60, gA61, pA61, gA62, pA62, gA63, pA63, gA66, pA66, ↓reduceIte, if_true, if_false, R_mI_sJ, R_mI_sA, R_mI_sB, R_mJ_sI, R_mJ_sA, R_mJ_sB, R_mA_sI, R_mA_sJ, R_mA_sB, R_mB_sI, R_mB_sJ, R_mB_sA, mI_on, mI_off, mJ_on, mJ_off, mA_on, mA_same, mA_off, mB_on, mB_same, mB_off, up_on, up_off, h25]
  rfl
theorem Fl_0 {f fu o : Nat} {M : MS} (h25 : m_I M 25 = i_ 0) (ho : 0 < o) (ho2 : o < 10) : Fl f (fu + 1) o 0 M = f_X3_formula_n56 (Fk f fu) (i_ f) (i_ o) (i_ 0) M := by
  unfold Fl
  conv => lhs; unfold f_X3_formula_n34
  simp (disch := omega) only [l_m1, l_m2, l_0, l_1, l_2, l_3, l_4, l_5, l_6, l_7, l_8, l_9, l_10, l_11, l_12, l_13, l_14, l_15, l_16, l_17, l_18, l_19, l_20, l_21, l_22, l_23, l_24, l_25, l_26, l_27, l_28, l_29, l_30, l_31, l_32, l_33, l_34, l_35, l_36, l_37, l_38, l_39, l_40, l_41, l_42, l_43, l_44, l_45, l_46, l_47, l_48, l_49, l_50, l_51, l_52, l_53, l_54, l_55, l_56, l_57, l_58, l_59, l_60, l_61, l_62, l_63, l_64, l_97, l_100, l_110, l_115, l_116, l_120, l_122, l_127, l_128, l_136, l_140, l_200, l_255, l_256, l_400, l_1000, l_30000, l_1200, l_65536, l_2147483639, l_2147483647, ob_some, obd_some, q_lt_t, q_lt_f, q_le_t, q_le_f, q_eq_t, q_eq_f, im_ne, im_ne', im_lt, im_le, im_lt', im_le', i_add, i_mul, i_dec, i_dec0, i_sub, i_and, i_shr, i_div, nar_b0, nar_b1, b2i_t, b2i_f, gA1, pA1, gB2, pB2, gA3, pA3, gA4, pA4, gB5, pB5, gA6, pA6, gA7, pA7, gA8, pA8, gA9, pA9, gA10, pA10, gA11, pA11, gA12, pA12, gA13, pA13, gA14, pA14, gA15, pA15, gA16, pA16, gA17, pA17, gA18, pA18, gA19, pA19, gA20, pA20, gA21, pA21, gA40, pA40, gB43, pB43, gA44, pA44, gA45, pA45, gA46, pA46, gA47, pA47, gA48, pA48, gA49, pA49, gA53, pA53, gA54, pA54, gA55, pA55, gA56, pA56, gA58, pA58, gA60, pA60, gA61, pA61, gA62, pA62, gA63, pA63, gA66, pA66, ↓reduceIte, if_true, if_false, R_mI_sJ, R_mI_sA, R_mI_sB, R_mJ_sI, R_mJ_sA, R_mJ_sB, R_mA_sI, R_mA_sJ, R_mA_sB, R_mB_sI, R_mB_sJ, R_mB_sA, mI_on, mI_off, mJ_on, mJ_off, mA_on, mA_same, mA_off, mB_on, mB_same, mB_off, up_on, up_off, h25]
  rfl
theorem Fl_0m {f fu o : Nat} {M : MS} (h25 : m_I M 25 = i_ 0) (ho2 : o < 10) (hm : f_X3_isMore M = some (i_ 1, M)) : Fl f (fu + 1) o 0 M = f_X3_formula_n56 (Fk f fu) (i_ f) (i_ o) (i_ 0) M := by
  by_cases e : o = 0
  · subst e
    unfold Fl
    conv => lhs; unfold f_X3_formula_n34
    simp (disch := omega) only [l_m1, l_m2, l_0, l_1, l_2, l_3, l_4, l_5, l_6, l_7, l_8, l_9, l_10, l_11, l_12, l_13, l_14, l_15, l_16, l_17, l_18, l_19, l_20, l_21, l_22, l_23, l_24, l_25, l_26, l_27, l_28, l_29, l_30, l_31, l_32, l_33, l_34, l_35, l_36, l_37, l_38, l_39, l_40, l_41, l_42, l_43, l_44, l_45, l_46, l_47, l_48, l_49, l_50, l_51, l_52, l_53, l_54, l_55, l_56, l_57, l_58, l_59, l_60, l_61, l_62, l_63, l_64, l_97, l_100, l_110, l_115, l_116, l_120, l_122, l_127, l_128, l_136, l_140, l_200, l_255, l_256, l_400, l_1000, l_30000, l_1200, l_65536, l_2147483639, l_2147483647, ob_some, obd_some, q_lt_t, q_lt_f, q_le_t, q_le_f, q_eq_t, q_eq_f, im_ne, im_ne', im_lt, im_le, im_lt', im_le', i_add, i_mul, i_dec, i_dec0, i_sub, i_and, i_shr, i_div, nar_b0, nar_b1, b2i_t, b2i_f, gA1, pA1, gB2, pB2, gA3, pA3, gA4, pA4, gB5, pB5, gA6, pA6, gA7, pA7, gA8, pA8, gA9, pA9, gA10, pA10, gA11, pA11, gA12, pA12, gA13, pA13, gA14, pA14, gA15, pA15, gA16, pA16, gA17, pA17, gA18, pA18, gA19, pA19, gA20, pA20, gA21, pA21, gA40, pA40, gB43, pB43, gA44, pA44, gA45, pA45, gA46, pA46, gA47, pA47, gA48, pA48, gA49, pA49, gA53, pA53, gA54, pA54, gA55, pA55, gA56, pA56, gA58, pA58, gA60, pA60, gA61, pA61, gA62, pA62, gA63, pA63, gA66, pA66, ↓reduceIte, if_true, if_false, R_mI_sJ, R_mI_sA, R_mI_sB, R_mJ_sI, R_mJ_sA, R_mJ_sB, R_mA_sI, R_mA_sJ, R_mA_sB, R_mB_sI, R_mB_sJ, R_mB_sA, mI_on, mI_off, mJ_on, mJ_off, mA_on, mA_same, mA_off, mB_on, mB_same, mB_off, up_on, up_off, h25, hm]
    rfl
  · exact Fl_0 h25 (by omega) ho2
abbrev kaF : List Nat := [13, 14, 15, 16, 40]
abbrev kaE : List Nat := [13, 14, 15, 16, 19, 40]
/-- something bad: the loop ends *-/
theorem Fl_bad {t n : Nat} {T : Nat → Nat} {M : MS} {e f : Nat} (hP : PM t n T M) (hb : BD M e) (hf : f < 8) (fu : Nat) (x2 x3 : Int32) : ∃ N, f_X3_formula_n34 (fu + 1) (i_ f) x2 x3 M = some N ∧ Gr [19] [] [] t M N ∧ BD N e := by
  have hn := hP.1
  have ht := hn.2.1
  have b1 : m_I M 25 = i_ 1 := hb.1
  refine ⟨m_sA M 19 (8 * t + f) (m_A M 13 t), ?_, Gr.sA (by decide) (show 8 * t ≤ _ by omega), hb⟩
  unfold f_X3_formula_n34 f_X3_formula_n252
  simp (disch := omega) only [l_m1, l_m2, l_0, l_1, l_2, l_3, l_4, l_5, l_6, l_7, l_8, l_9, l_10, l_11, l_12, l_13, l_14, l_15, l_16, l_17, l_18, l_19, l_20, l_21, l_22, l_23, l_24, l_25, l_26, l_27, l_28, l_29, l_30, l_31, l_32, l_33, l_34, l_35, l_36, l_37, l_38, l_39, l_40, l_41, l_42, l_43, l_44, l_45, l_46, l_47, l_48, l_49, l_50, l_51, l_52, l_53, l_54, l_55, l_56, l_57, l_58, l_59, l_60, l_61, l_62, l_63, l_64, l_97, l_100, l_110, l_115, l_116, l_120, l_122, l_127, l_128, l_136, l_140, l_200, l_255, l_256, l_400, l_1000, l_30000, l_1200, l_65536, l_2147483639, l_2147483647, ob_some, obd_some, q_lt_t, q_lt_f, q_le_t, q_le_f, q_eq_t, q_eq_f, im_ne, im_ne', im_lt, im_le, im_lt', im_le', i_add, i_mul, i_dec, i_dec0, i_sub, i_and, i_shr, i_div, nar_b0, nar_b1, b2i_t, b2i_f, gA1, pA1, gB2, pB2, gA3, pA3, gA4, pA4, gB5, pB5, gA6, pA6, gA7, pA7, gA8, pA8, gA9, pA9, gA10, pA10, gA11, pA11, gA12, pA12, gA13, pA13, gA14, pA14, gA15, pA15, gA16, pA16, gA17, pA17, gA18, pA18, gA19, pA19, gA20, pA20, gA21, pA21, gA40, pA40, gB43, pB43, gA44, pA44, gA45, pA45, gA46, pA46, gA47, pA47, gA48, pA48, gA49, pA49, gA53, pA53, gA54, pA54, gA55, pA55, gA56, pA56, gA58, pA58, gA60, pA60, gA61, pA61, gA62, pA62, gA63, pA63, gA66, pA66, ↓reduceIte, if_true, if_false, R_mI_sJ, R_mI_sA, R_mI_sB, R_mJ_sI, R_mJ_sA, R_mJ_sB, R_mA_sI, R_mA_sJ, R_mA_sB, R_mB_sI, R_mB_sJ, R_mB_sA, mI_on, mI_off, mJ_on, mJ_off, mA_on, mA_same, mA_off, mB_on, mB_same, mB_off, up_on, up_off, b1, hn.1]
/-- the loop comes to a term's end, or ends with something bad *-/
def SimS (t n : Nat) (T : Nat → Nat) (ks : List Rk) (f o w p b : Nat) (M : MS) (a : List Rk × List Nk × Nat) : Prop :=
  ∃ N c, c ≤ a.2.2 - p ∧ Gr kaF [] kiP t M N ∧ PS t n T (ks ++ a.1) N a.2.2 ∧ (∀ j, j < b → m_A N 40 j = m_A M 40 j) ∧ ∀ fu, Fl f (fu + c) o w M = Fl f fu o 0 N
def SimE (t n f o w p : Nat) (M : MS) (e : Nat) : Prop := ∃ N c, (1 ≤ c ∧ c ≤ n + 3 - p) ∧ Gr kaE [] kiP t M N ∧ BD N e ∧ ∀ fu, Fl f (fu + c) o w M = some N
def SimR (t n : Nat) (T : Nat → Nat) (ks : List Rk) (f o w p b : Nat) (M : MS) (r : PF) : Prop := match r with
  | .inl e => SimE t n f o w p M e
  | .inr a => SimS t n T ks f o w p b M a ∧ p ≤ a.2.2
/-- a run of the loop ahead of what is known *-/
theorem SimE.pre {t n f o w p o' w' p' e c : Nat} {M N : MS} (h : SimE t n f o' w' p' N e) (g : Gr kaF [] kiP t M N) (hs : ∀ fu, Fl f (fu + c) o w M = Fl f fu o' w' N) (hc : c + (n + 3 - p') ≤ n + 3 - p) : SimE t n f o w p M e := by
  obtain ⟨K, d, ⟨h1, h2⟩, h3, h4, h5⟩ := h
  refine ⟨K, d + c, ⟨by omega, by omega⟩, (g.mono (by decide) (by decide) (by decide)).tr h3, h4, fun fu => ?_⟩
  rw [← Nat.add_assoc, hs, h5]
/-- a fail in the loop's body *-/
theorem SimE.one {t n f o w p e : Nat} {T : Nat → Nat} {M N : MS} (hP : PM t n T N) (g : Gr kaF [] kiP t M N) (hb : BD N e) (hf : f < 8) (x2 x3 : Int32) (hs : ∀ fu, Fl f (fu + 1) o w M = f_X3_formula_n34 fu (i_ f) x2 x3 N) (hp : p ≤ n) : SimE t n f o w p M e := by
  obtain ⟨K, h1, h2, h3⟩ := Fl_bad hP hb hf 0 x2 x3
  refine ⟨K, 2, ⟨by omega, by omega⟩, (g.mono (by decide) (by decide) (by decide)).tr (h2.mono (by decide) (by decide) (by decide)), h3, fun fu => ?_⟩
  rw [show fu + 2 = (fu + 1) + 1 from rfl, hs]
  obtain ⟨K', k1, k2, k3⟩ := Fl_bad hP hb hf fu x2 x3
  have hn := hP.1
  have ht := hn.2.1
  have b1 : m_I N 25 = i_ 1 := hb.1
  have e1 : f_X3_formula_n34 (fu + 1) (i_ f) x2 x3 N = f_X3_formula_n252 (i_ f) N := by
    unfold f_X3_formula_n34
    simp (disch := omega) only [l_m1, l_m2, l_0, l_1, l_2, l_3, l_4, l_5, l_6, l_7, l_8, l_9, l_10, l_11, l_12, l_13, l_14, l_15, l_16, l_17, l_18, l_19, l_20, l_21, l_22, l_23, l_24, l_25, l_26, l_27, l_28, l_29, l_30, l_31, l_32, l_33, l_34, l_35, l_36, l_37, l_38, l_39, l_40, l_41, l_42, l_43, l_44, l_45, l_46, l_47, l_48, l_49, l_50, l_51, l_52, l_53, l_54, l_55, l_56, l_57, l_58, l_59, l_60, l_61, l_62, l_63, l_64, l_97, l_100, l_110, l_115, l_116, l_120, l_122, l_127, l_128, l_136, l_140, l_200, l_255, l_256, l_400, l_1000, l_30000, l_1200, l_65536, l_2147483639, l_2147483647, ob_some, obd_some, q_lt_t, q_lt_f, q_le_t, q_le_f, q_eq_t, q_eq_f, im_ne, im_ne', im_lt, im_le, im_lt', im_le', i_add, i_mul, i_dec, i_dec0, i_sub, i_and, i_shr, i_div, nar_b0, nar_b1, b2i_t, b2i_f, gA1, pA1, gB2, pB2, gA3, pA3, gA4, pA4, gB5, pB5, gA6, pA6, gA7, pA7, gA8, pA8, gA9, pA9, gA10, pA10, gA11, pA11, gA12, pA12, gA13, pA13, gA14, pA14, gA15, pA15, gA16, pA16, gA17, pA17, gA18, pA18, gA19, pA19, gA20, pA20, gA21, pA21, gA40, pA40, gB43, pB43, gA44, pA44, gA45, pA45, gA46, pA46, gA47, pA47, gA48, pA48, gA49, pA49, gA53, pA53, gA54, pA54, gA55, pA55, gA56, pA56, gA58, pA58, gA60, pA60, gA61, pA61, gA62, pA62, gA63, pA63, gA66, pA66, ↓reduceIte, if_true, if_false, R_mI_sJ, R_mI_sA, R_mI_sB, R_mJ_sI, R_mJ_sA, R_mJ_sB, R_mA_sI, R_mA_sJ, R_mA_sB, R_mB_sI, R_mB_sJ, R_mB_sA, mI_on, mI_off, mJ_on, mJ_off, mA_on, mA_same, mA_off, mB_on, mB_same, mB_off, up_on, up_off, b1]
  have e2 : f_X3_formula_n34 (0 + 1) (i_ f) x2 x3 N = f_X3_formula_n252 (i_ f) N := by
    unfold f_X3_formula_n34
    simp (disch := omega) only [l_m1, l_m2, l_0, l_1, l_2, l_3, l_4, l_5, l_6, l_7, l_8, l_9, l_10, l_11, l_12, l_13, l_14, l_15, l_16, l_17, l_18, l_19, l_20, l_21, l_22, l_23, l_24, l_25, l_26, l_27, l_28, l_29, l_30, l_31, l_32, l_33, l_34, l_35, l_36, l_37, l_38, l_39, l_40, l_41, l_42, l_43, l_44, l_45, l_46, l_47, l_48, l_49, l_50, l_51, l_52, l_53, l_54, l_55, l_56, l_57, l_58, l_59, l_60, l_61, l_62, l_63, l_64, l_97, l_100, l_110, l_115, l_116, l_120, l_122, l_127, l_128, l_136, l_140, l_200, l_255, l_256, l_400, l_1000, l_30000, l_1200, l_65536, l_2147483639, l_2147483647, ob_some, obd_some, q_lt_t, q_lt_f, q_le_t, q_le_f, q_eq_t, q_eq_f, im_ne, im_ne', im_lt, im_le, im_lt', im_le', i_add, i_mul, i_dec, i_dec0, i_sub, i_and, i_shr, i_div, nar_b0, nar_b1, b2i_t, b2i_f, gA1, pA1, gB2, pB2, gA3, pA3, gA4, pA4, gB5, pB5, gA6, pA6, gA7, pA7, gA8, pA8, gA9, pA9, gA10, pA10, gA11, pA11, gA12, pA12, gA13, pA13, gA14, pA14, gA15, pA15, gA16, pA16, gA17, pA17, gA18, pA18, gA19, pA19, gA20, pA20, gA21, pA21, gA40, pA40, gB43, pB43, gA44, pA44, gA45, pA45, gA46, pA46, gA47, pA47, gA48, pA48, gA49, pA49, gA53, pA53, gA54, pA54, gA55, pA55, gA56, pA56, gA58, pA58, gA60, pA60, gA61, pA61, gA62, pA62, gA63, pA63, gA66, pA66, ↓reduceIte, if_true, if_false, R_mI_sJ, R_mI_sA, R_mI_sB, R_mJ_sI, R_mJ_sA, R_mJ_sB, R_mA_sI, R_mA_sJ, R_mA_sB, R_mB_sI, R_mB_sJ, R_mB_sA, mI_on, mI_off, mJ_on, mJ_off, mA_on, mA_same, mA_off, mB_on, mB_same, mB_off, up_on, up_off, b1]
  rw [e1, ← e2, h1]
/-- a return in the loop's body *-/
theorem SimE.ret {t n f o w p e : Nat} {M N : MS} (g : Gr kaF [] kiP t M N) (hb : BD N e) (hs : ∀ fu, Fl f (fu + 1) o w M = some N) (hp : p ≤ n) : SimE t n f o w p M e :=
  ⟨N, 1, ⟨by omega, by omega⟩, g.mono (by decide) (by decide) (by decide), hb, hs⟩
theorem Gr.kF {t : Nat} {M N : MS} (g : Gr kaK [] kiP t M N) : Gr kaF [] kiP t M N := g.mono (by decide) (by decide) (by decide)
theorem PS.x40 {t n : Nat} {T : Nat → Nat} {ks : List Rk} {M : MS} {p : Nat} (h : PS t n T ks M p) (j : Nat) (x : Int32) : PS t n T ks (m_sA M 40 j x) p := by
  obtain ⟨h1, h2, h3, h4, h5⟩ := h
  have g : Gr [40] [] [] t M (m_sA M 40 j x) := Gr.sA (by decide) (Nat.zero_le _)
  exact ⟨h1.gr g (by decide) (by decide), h2, h3.gr g (by decide), h4, h5⟩
theorem ptm0_lt {T : Nat → Nat} {n p : Nat} {k : List Rk} {l : List Nk} {p' : Nat} (h : ptm0 T n p = .inr (k, l, p')) : p < p' := by
  have k0 := sk_ge T n p
  unfold ptm0 at h
  by_cases d1 : isDb (chp T n (sk T n p)) = true
  · rw [if_pos d1] at h
    unfold pnum at h
    split at h
    · cases h
      have := (isDb_lt d1).2.2.1
      omega
    · cases h
  · rw [if_neg d1] at h
    by_cases d2 : chp T n (sk T n p) = 39
    · rw [if_pos d2] at h
      unfold plet at h
      split at h
      · cases h
        have : sk T n p + 1 ≤ lq T n (sk T n p + 1) := rn_1 _ _ _ _
        omega
      · cases h
    · rw [if_neg d2] at h
      unfold pnm at h
      obtain ⟨⟨w1, q1, e1⟩, h1, h⟩ := pb_r h
      obtain ⟨b, h2, h⟩ := pb_r h
      obtain ⟨h4, rfl⟩ := psg_r h2
      obtain ⟨⟨w2, q2, e2⟩, h3, h⟩ := pb_r h
      cases h
      obtain ⟨-, a1, a2, a3⟩ := pname_At h1
      obtain ⟨-, b1, b2, b3⟩ := pname_At h3
      have b1' : sk T n e1 + 1 ≤ q2 := b1
      have := sk_ge T n e1
      show p < e2
      omega
theorem M_trm {t n : Nat} {T : Nat → Nat} {f o : Nat} (hf : f < 8) (ho : o ≤ 3) (full : Bool) (hfull : full = decide (o = 3)) (pf : Nat → PF)
    (hF : o < 3 → ∀ ks M p, PS t n T ks M p → m_A M 40 (o + 1) = i_ 0 → SimR t n T ks f (o + 1) 1 p (o + 1) M (pf p) ∧ ∀ a, pf p = .inr a → isSg (chp T n (sk T n a.2.2)) = false) {ks : List Rk} {M : MS} {p : Nat} (h : PS t n T ks M p) :
    SimR t n T ks f o 1 p (o + 1) M (ptm full pf T n p) := by
  have hP := h.1
  have hp := h.2.2.2.2.2.1
  have h25 := h.2.2.2.1
  have k0 := sk_ge T n p
  have w1 := M_isWord hP h.2.1 (k := [108, 101, 110]) (by decide)
  have w2 := M_isWord hP h.2.1 (k := [115, 116, 114]) (by decide)
  have j38 : m_J M 38 = enc [108, 101, 110] := hP.2.2.2.2.2.2.2.2.2.1
  have j39 : m_J M 39 = enc [115, 116, 114] := hP.2.2.2.2.2.2.2.2.2.2
  have hcl : ∀ kx w, pwd w T n p = true → (∀ fu, Fl f (fu + 1) o 1 M = f_X3_formula_n82 (Fk f fu) (i_ f) (i_ o) (i_ 1) M) → SimR t n T ks f o 1 p (o + 1) M (pcl full pf T n kx (sk T n p)) := by
    intro kx w hpw hs
    obtain ⟨v1, v2⟩ := pwd_t hpw
    obtain ⟨q1, q2, q3, q4⟩ := isLb_lt v1
    have hx : tnx T n (sk T n p) = lw T n (sk T n p) := by
      unfold tnx
      rw [if_pos q1, if_pos q2]
    have hk1 := knd_L (q := sk T n p) (fun k hk => (hP.2.1 k hk).2)
    obtain ⟨N1, a1, a2, a3⟩ := h.keep (c := 1) (by rw [hk1.trans (eq_true v1)]; trivial) q1
    rw [hx] at a3
    have z1 := a3.2.2.2.1
    have l1 := a3.2.1.1
    have l2 := a3.2.1.2.1
    have hk40 := knd_sn (q := sk T n (lw T n (sk T n p))) (fun k hk => (hP.2.1 k hk).2) (isSn_l 40 (by decide))
    unfold pcl
    by_cases e40 : chp T n (sk T n (lw T n (sk T n p))) = 40
    · have hk40' := hk40.trans (eq_true e40)
      by_cases e3 : o = 3
      · rw [if_neg (show ¬ (chp T n (sk T n (lw T n (sk T n p))) = 40 ∧ full = false) from fun k => by rw [hfull, decide_eq_true e3] at k; cases k.2)]
        obtain ⟨N2, b1, b2, b3⟩ := a3.fail (sk T n (lw T n (sk T n p)))
        have z2 : m_I N2 25 = i_ 1 := b3.1
        refine SimE.ret (a2.kF.tr b2.kF) b3 (fun fu => ?_) hp
        rw [hs]
        subst e3
        unfold f_X3_formula_n82 f_X3_formula_n87 f_X3_formula_n121 f_X3_formula_n134
        simp (disch := omega) only [l_m1, l_m2, l_0, l_1, l_2, l_3, l_4, l_5, l_6, l_7, l_8, l_9, l_10, l_11, l_12, l_13, l_14, l_15, l_16, l_17, l_18, l_19, l_20, l_21, l_22, l_23, l_24, l_25, l_26, l_27, l_28, l_29, l_30, l_31, l_32, l_33, l_34, l_35, l_36, l_37, l_38, l_39, l_40, l_41, l_42, l_43, l_44, l_45, l_46, l_47, l_48, l_49, l_50, l_51, l_52, l_53, l_54, l_55, l_56, l_57, l_58, l_59, l_60, l_61, l_62, l_63, l_64, l_97, l_100, l_110, l_115, l_116, l_120, l_122, l_127, l_128, l_136, l_140, l_200, l_255, l_256, l_400, l_1000, l_30000, l_1200, l_65536, l_2147483639, l_2147483647, ob_some, obd_some, q_lt_t, q_lt_f, q_le_t, q_le_f, q_eq_t, q_eq_f, im_ne, im_ne', im_lt, im_le, im_lt', im_le', i_add, i_mul, i_dec, i_dec0, i_sub, i_and, i_shr, i_div, nar_b0, nar_b1, b2i_t, b2i_f, gA1, pA1, gB2, pB2, gA3, pA3, gA4, pA4, gB5, pB5, gA6, pA6, gA7, pA7, gA8, pA8, gA9, pA9, gA10, pA10, gA11, pA11, gA12, pA12, gA13, pA13, gA14, pA14, gA15, pA15, gA16, pA16, gA17, pA17, gA18, pA18, gA19, pA19, gA20, pA20, gA21, pA21, gA40, pA40, gB43, pB43, gA44, pA44, gA45, pA45, gA46, pA46, gA47, pA47, gA48, pA48, gA49, pA49, gA53, pA53, gA54, pA54, gA55, pA55, gA56, pA56, gA58, pA58, gA60, pA60, gA61, pA61, gA62, pA62, gA63, pA63, gA66, pA66, ↓reduceIte, if_true, if_false, R_mI_sJ, R_mI_sA, R_mI_sB, R_mJ_sI, R_mJ_sA, R_mJ_sB, R_mA_sI, R_mA_sJ, R_mA_sB, R_mB_sI, R_mB_sJ, R_mB_sA, mI_on, mI_off, mJ_on, mJ_off, mA_on, mA_same, mA_off, mB_on, mB_same, mB_off, up_on, up_off, a1, l1, l2, hk40', b1, z2]
      · have hfl : full = false := by rw [hfull]; exact decide_eq_false e3
        rw [if_pos ⟨e40, hfl⟩]
        obtain ⟨N2, b1, b2, b3⟩ := M_sign a3 40 (isSn_l 40 (by decide))
        have hsg : psg 40 T n (lw T n (sk T n p)) = .inr ((40, sk T n (lw T n (sk T n p)), [40]), sk T n (lw T n (sk T n p)) + 1) := if_pos e40
        rw [hsg] at b3
        have b3' : PS t n T (ks ++ [(1, sk T n p, sl T (sk T n p) (lw T n (sk T n p)))] ++ [(40, sk T n (lw T n (sk T n p)), [40])]) N2 (sk T n (lw T n (sk T n p)) + 1) := b3
        have z2 := b3'.2.2.2.1
        have c3 := b3'.x40 (o + 1) (i_ 0)
        have gN : Gr kaF [] kiP t M (m_sA N2 40 (o + 1) (i_ 0)) := (a2.kF.tr b2.kF).tr (Gr.sA (by decide) (Nat.zero_le _))
        have r40 : ∀ j, j < o + 1 → m_A (m_sA N2 40 (o + 1) (i_ 0)) 40 j = m_A M 40 j := fun j hj => by
          rw [mA_off (by omega), b2.1 40 (by decide), a2.1 40 (by decide)]
        have s1 : ∀ fu, Fl f (fu + 1) o 1 M = Fl f fu (o + 1) 1 (m_sA N2 40 (o + 1) (i_ 0)) := fun fu => by
          rw [hs]
          unfold f_X3_formula_n82 f_X3_formula_n87 f_X3_formula_n121 f_X3_formula_n134
          simp (disch := omega) only [l_m1, l_m2, l_0, l_1, l_2, l_3, l_4, l_5, l_6, l_7, l_8, l_9, l_10, l_11, l_12, l_13, l_14, l_15, l_16, l_17, l_18, l_19, l_20, l_21, l_22, l_23, l_24, l_25, l_26, l_27, l_28, l_29, l_30, l_31, l_32, l_33, l_34, l_35, l_36, l_37, l_38, l_39, l_40, l_41, l_42, l_43, l_44, l_45, l_46, l_47, l_48, l_49, l_50, l_51, l_52, l_53, l_54, l_55, l_56, l_57, l_58, l_59, l_60, l_61, l_62, l_63, l_64, l_97, l_100, l_110, l_115, l_116, l_120, l_122, l_127, l_128, l_136, l_140, l_200, l_255, l_256, l_400, l_1000, l_30000, l_1200, l_65536, l_2147483639, l_2147483647, ob_some, obd_some, q_lt_t, q_lt_f, q_le_t, q_le_f, q_eq_t, q_eq_f, im_ne, im_ne', im_lt, im_le, im_lt', im_le', i_add, i_mul, i_dec, i_dec0, i_sub, i_and, i_shr, i_div, nar_b0, nar_b1, b2i_t, b2i_f, gA1, pA1, gB2, pB2, gA3, pA3, gA4, pA4, gB5, pB5, gA6, pA6, gA7, pA7, gA8, pA8, gA9, pA9, gA10, pA10, gA11, pA11, gA12, pA12, gA13, pA13, gA14, pA14, gA15, pA15, gA16, pA16, gA17, pA17, gA18, pA18, gA19, pA19, gA20, pA20, gA21, pA21, gA40, pA40, gB43, pB43, gA44, pA44, gA45, pA45, gA46, pA46, gA47, pA47, gA48, pA48, gA49, pA49, gA53, pA53, gA54, pA54, gA55, pA55, gA56, pA56, gA58, pA58, gA60, pA60, gA61, pA61, gA62, pA62, gA63, pA63, gA66, pA66, ↓reduceIte, if_true, if_false, R_mI_sJ, R_mI_sA, R_mI_sB, R_mJ_sI, R_mJ_sA, R_mJ_sB, R_mA_sI, R_mA_sJ, R_mA_sB, R_mB_sI, R_mB_sJ, R_mB_sA, mI_on, mI_off, mJ_on, mJ_off, mA_on, mA_same, mA_off, mB_on, mB_same, mB_off, up_on, up_off, a1, l1, hk40', z1, b1, z2]
          rfl
        obtain ⟨hR, hM⟩ := hF (by omega) _ _ _ c3 mA_on
        have k1 := sk_ge T n (lw T n (sk T n p))
        cases hpf : pf (sk T n (lw T n (sk T n p)) + 1) with
        | inl e =>
          rw [hpf] at hR
          rw [pb_inl]
          have hR' : SimE t n f (o + 1) 1 (sk T n (lw T n (sk T n p)) + 1) (m_sA N2 40 (o + 1) (i_ 0)) e := hR
          have hq5 := c3.2.2.2.2.2.1
          exact hR'.pre gN s1 (by omega)
        | inr a =>
          rw [hpf] at hR
          rw [pb_inr]
          obtain ⟨⟨N3, c, hc, g3, p3, r3, s3⟩, hle⟩ : SimS t n T (ks ++ [(1, sk T n p, sl T (sk T n p) (lw T n (sk T n p)))] ++ [(40, sk T n (lw T n (sk T n p)), [40])]) f (o + 1) 1 (sk T n (lw T n (sk T n p)) + 1) (o + 1) (m_sA N2 40 (o + 1) (i_ 0)) a ∧ sk T n (lw T n (sk T n p)) + 1 ≤ a.2.2 := hR
          have hm := M_isMore p3.1 p3.2.1
          rw [hM a hpf] at hm
          have y25 := p3.2.2.2.1
          have y1 := p3.2.1.1
          have y2 := p3.2.1.2.1
          have y0 := p3.2.2.2.2.2.1
          have hk41 := knd_sn (q := sk T n a.2.2) (fun k hk => (hP.2.1 k hk).2) (isSn_l 41 (by decide))
          have g03 : Gr kaF [] kiP t M N3 := gN.tr g3
          have s03 : ∀ fu, Fl f (fu + (c + 1)) o 1 M = Fl f fu (o + 1) 0 N3 := fun fu => by
            rw [← Nat.add_assoc, s1, s3]
          have k2 := sk_ge T n a.2.2
          by_cases e41 : chp T n (sk T n a.2.2) = 41
          · have hk41' := hk41.trans (eq_true e41)
            rw [show psg 41 T n a.2.2 = .inr ((41, sk T n a.2.2, [41]), sk T n a.2.2 + 1) from if_pos e41, pb_inr]
            obtain ⟨N4, d1, d2, d3⟩ := p3.ksg (isSn_l 41 (by decide)) e41
            have s4 : ∀ fu, Fl f (fu + 1) (o + 1) 0 N3 = Fl f fu o 0 N4 := fun fu => by
              rw [Fl_0 y25 (by omega) (by omega)]
              unfold f_X3_formula_n56 f_X3_formula_n235
              simp (disch := omega) only [l_m1, l_m2, l_0, l_1, l_2, l_3, l_4, l_5, l_6, l_7, l_8, l_9, l_10, l_11, l_12, l_13, l_14, l_15, l_16, l_17, l_18, l_19, l_20, l_21, l_22, l_23, l_24, l_25, l_26, l_27, l_28, l_29, l_30, l_31, l_32, l_33, l_34, l_35, l_36, l_37, l_38, l_39, l_40, l_41, l_42, l_43, l_44, l_45, l_46, l_47, l_48, l_49, l_50, l_51, l_52, l_53, l_54, l_55, l_56, l_57, l_58, l_59, l_60, l_61, l_62, l_63, l_64, l_97, l_100, l_110, l_115, l_116, l_120, l_122, l_127, l_128, l_136, l_140, l_200, l_255, l_256, l_400, l_1000, l_30000, l_1200, l_65536, l_2147483639, l_2147483647, ob_some, obd_some, q_lt_t, q_lt_f, q_le_t, q_le_f, q_eq_t, q_eq_f, im_ne, im_ne', im_lt, im_le, im_lt', im_le', i_add, i_mul, i_dec, i_dec0, i_sub, i_and, i_shr, i_div, nar_b0, nar_b1, b2i_t, b2i_f, gA1, pA1, gB2, pB2, gA3, pA3, gA4, pA4, gB5, pB5, gA6, pA6, gA7, pA7, gA8, pA8, gA9, pA9, gA10, pA10, gA11, pA11, gA12, pA12, gA13, pA13, gA14, pA14, gA15, pA15, gA16, pA16, gA17, pA17, gA18, pA18, gA19, pA19, gA20, pA20, gA21, pA21, gA40, pA40, gB43, pB43, gA44, pA44, gA45, pA45, gA46, pA46, gA47, pA47, gA48, pA48, gA49, pA49, gA53, pA53, gA54, pA54, gA55, pA55, gA56, pA56, gA58, pA58, gA60, pA60, gA61, pA61, gA62, pA62, gA63, pA63, gA66, pA66, ↓reduceIte, if_true, if_false, R_mI_sJ, R_mI_sA, R_mI_sB, R_mJ_sI, R_mJ_sA, R_mJ_sB, R_mA_sI, R_mA_sJ, R_mA_sB, R_mB_sI, R_mB_sJ, R_mB_sA, mI_on, mI_off, mJ_on, mJ_off, mA_on, mA_same, mA_off, mB_on, mB_same, mB_off, up_on, up_off, hm, y1, hk41', y25, d1]
              rfl
            refine ⟨⟨N4, c + 1 + 1, ?_, g03.tr d2.kF, ?_, fun j hj => ?_, fun fu => ?_⟩, ?_⟩
            · show c + 1 + 1 ≤ sk T n a.2.2 + 1 - p
              omega
            · simp only [List.append_assoc, List.cons_append, List.nil_append] at d3 ⊢
              exact d3
            · rw [d2.1 40 (by decide), r3 j hj, r40 j hj]
            · rw [show fu + (c + 1 + 1) = fu + 1 + (c + 1) by omega, s03, s4]
            · show p ≤ sk T n a.2.2 + 1
              omega
          · have hk41' := hk41.trans (eq_false e41)
            rw [show psg 41 T n a.2.2 = .inl (sk T n a.2.2) from if_neg e41, pb_inl]
            obtain ⟨N4, d1, d2, d3⟩ := p3.fail (sk T n a.2.2)
            have z4 : m_I N4 25 = i_ 1 := d3.1
            have hE : SimE t n f (o + 1) 0 a.2.2 N3 (sk T n a.2.2) := SimE.one (p3.1.gr d2 (by decide) (by decide)) d2.kF d3 hf (i_ o) (i_ 0) (fun fu => by
              rw [Fl_0 y25 (by omega) (by omega)]
              unfold f_X3_formula_n56 f_X3_formula_n235
              simp (disch := omega) only [l_m1, l_m2, l_0, l_1, l_2, l_3, l_4, l_5, l_6, l_7, l_8, l_9, l_10, l_11, l_12, l_13, l_14, l_15, l_16, l_17, l_18, l_19, l_20, l_21, l_22, l_23, l_24, l_25, l_26, l_27, l_28, l_29, l_30, l_31, l_32, l_33, l_34, l_35, l_36, l_37, l_38, l_39, l_40, l_41, l_42, l_43, l_44, l_45, l_46, l_47, l_48, l_49, l_50, l_51, l_52, l_53, l_54, l_55, l_56, l_57, l_58, l_59, l_60, l_61, l_62, l_63, l_64, l_97, l_100, l_110, l_115, l_116, l_120, l_122, l_127, l_128, l_136, l_140, l_200, l_255, l_256, l_400, l_1000, l_30000, l_1200, l_65536, l_2147483639, l_2147483647, ob_some, obd_some, q_lt_t, q_lt_f, q_le_t, q_le_f, q_eq_t, q_eq_f, im_ne, im_ne', im_lt, im_le, im_lt', im_le', i_add, i_mul, i_dec, i_dec0, i_sub, i_and, i_shr, i_div, nar_b0, nar_b1, b2i_t, b2i_f, gA1, pA1, gB2, pB2, gA3, pA3, gA4, pA4, gB5, pB5, gA6, pA6, gA7, pA7, gA8, pA8, gA9, pA9, gA10, pA10, gA11, pA11, gA12, pA12, gA13, pA13, gA14, pA14, gA15, pA15, gA16, pA16, gA17, pA17, gA18, pA18, gA19, pA19, gA20, pA20, gA21, pA21, gA40, pA40, gB43, pB43, gA44, pA44, gA45, pA45, gA46, pA46, gA47, pA47, gA48, pA48, gA49, pA49, gA53, pA53, gA54, pA54, gA55, pA55, gA56, pA56, gA58, pA58, gA60, pA60, gA61, pA61, gA62, pA62, gA63, pA63, gA66, pA66, ↓reduceIte, if_true, if_false, R_mI_sJ, R_mI_sA, R_mI_sB, R_mJ_sI, R_mJ_sA, R_mJ_sB, R_mA_sI, R_mA_sJ, R_mA_sB, R_mB_sI, R_mB_sJ, R_mB_sA, mI_on, mI_off, mJ_on, mJ_off, mA_on, mA_same, mA_off, mB_on, mB_same, mB_off, up_on, up_off, hm, y1, y2, hk41', d1, z4]
              rfl) y0
            exact hE.pre g03 s03 (by omega)
    · have hk40' := hk40.trans (eq_false e40)
      rw [if_neg (show ¬ (chp T n (sk T n (lw T n (sk T n p))) = 40 ∧ full = false) from fun k => e40 k.1)]
      obtain ⟨N2, b1, b2, b3⟩ := M_sign a3 40 (isSn_l 40 (by decide))
      rw [show psg 40 T n (lw T n (sk T n p)) = .inl (sk T n (lw T n (sk T n p))) from if_neg e40] at b3
      have b3' : BD N2 (sk T n (lw T n (sk T n p))) := b3
      have z2 : m_I N2 25 = i_ 1 := b3'.1
      refine SimE.ret (a2.kF.tr b2.kF) b3' (fun fu => ?_) hp
      rw [hs]
      unfold f_X3_formula_n82 f_X3_formula_n87 f_X3_formula_n121 f_X3_formula_n134
      simp (disch := omega) only [l_m1, l_m2, l_0, l_1, l_2, l_3, l_4, l_5, l_6, l_7, l_8, l_9, l_10, l_11, l_12, l_13, l_14, l_15, l_16, l_17, l_18, l_19, l_20, l_21, l_22, l_23, l_24, l_25, l_26, l_27, l_28, l_29, l_30, l_31, l_32, l_33, l_34, l_35, l_36, l_37, l_38, l_39, l_40, l_41, l_42, l_43, l_44, l_45, l_46, l_47, l_48, l_49, l_50, l_51, l_52, l_53, l_54, l_55, l_56, l_57, l_58, l_59, l_60, l_61, l_62, l_63, l_64, l_97, l_100, l_110, l_115, l_116, l_120, l_122, l_127, l_128, l_136, l_140, l_200, l_255, l_256, l_400, l_1000, l_30000, l_1200, l_65536, l_2147483639, l_2147483647, ob_some, obd_some, q_lt_t, q_lt_f, q_le_t, q_le_f, q_eq_t, q_eq_f, im_ne, im_ne', im_lt, im_le, im_lt', im_le', i_add, i_mul, i_dec, i_dec0, i_sub, i_and, i_shr, i_div, nar_b0, nar_b1, b2i_t, b2i_f, gA1, pA1, gB2, pB2, gA3, pA3, gA4, pA4, gB5, pB5, gA6, pA6, gA7, pA7, gA8, pA8, gA9, pA9, gA10, pA10, gA11, pA11, gA12, pA12, gA13, pA13, gA14, pA14, gA15, pA15, gA16, pA16, gA17, pA17, gA18, pA18, gA19, pA19, gA20, pA20, gA21, pA21, gA40, pA40, gB43, pB43, gA44, pA44, gA45, pA45, gA46, pA46, gA47, pA47, gA48, pA48, gA49, pA49, gA53, pA53, gA54, pA54, gA55, pA55, gA56, pA56, gA58, pA58, gA60, pA60, gA61, pA61, gA62, pA62, gA63, pA63, gA66, pA66, ↓reduceIte, if_true, if_false, R_mI_sJ, R_mI_sA, R_mI_sB, R_mJ_sI, R_mJ_sA, R_mJ_sB, R_mA_sI, R_mA_sJ, R_mA_sB, R_mB_sI, R_mB_sJ, R_mB_sA, mI_on, mI_off, mJ_on, mJ_off, mA_on, mA_same, mA_off, mB_on, mB_same, mB_off, up_on, up_off, a1, l1, hk40', z1, b1, z2]
  have hnc : pwd [108, 101, 110] T n p = false → pwd [115, 116, 114] T n p = false → SimR t n T ks f o 1 p (o + 1) M (ptm0 T n p) := by
    intro e1 e2
    rw [e1] at w1
    rw [e2] at w2
    obtain ⟨N, a1, a2, a3⟩ := M_term h
    have hs : ∀ fu, Fl f (fu + 1) o 1 M = Fl f fu o 0 N := fun fu => by
      rw [Fl_1 h25]
      unfold f_X3_formula_n56 f_X3_formula_n87
      simp (disch := omega) only [l_m1, l_m2, l_0, l_1, l_2, l_3, l_4, l_5, l_6, l_7, l_8, l_9, l_10, l_11, l_12, l_13, l_14, l_15, l_16, l_17, l_18, l_19, l_20, l_21, l_22, l_23, l_24, l_25, l_26, l_27, l_28, l_29, l_30, l_31, l_32, l_33, l_34, l_35, l_36, l_37, l_38, l_39, l_40, l_41, l_42, l_43, l_44, l_45, l_46, l_47, l_48, l_49, l_50, l_51, l_52, l_53, l_54, l_55, l_56, l_57, l_58, l_59, l_60, l_61, l_62, l_63, l_64, l_97, l_100, l_110, l_115, l_116, l_120, l_122, l_127, l_128, l_136, l_140, l_200, l_255, l_256, l_400, l_1000, l_30000, l_1200, l_65536, l_2147483639, l_2147483647, ob_some, obd_some, q_lt_t, q_lt_f, q_le_t, q_le_f, q_eq_t, q_eq_f, im_ne, im_ne', im_lt, im_le, im_lt', im_le', i_add, i_mul, i_dec, i_dec0, i_sub, i_and, i_shr, i_div, nar_b0, nar_b1, b2i_t, b2i_f, gA1, pA1, gB2, pB2, gA3, pA3, gA4, pA4, gB5, pB5, gA6, pA6, gA7, pA7, gA8, pA8, gA9, pA9, gA10, pA10, gA11, pA11, gA12, pA12, gA13, pA13, gA14, pA14, gA15, pA15, gA16, pA16, gA17, pA17, gA18, pA18, gA19, pA19, gA20, pA20, gA21, pA21, gA40, pA40, gB43, pB43, gA44, pA44, gA45, pA45, gA46, pA46, gA47, pA47, gA48, pA48, gA49, pA49, gA53, pA53, gA54, pA54, gA55, pA55, gA56, pA56, gA58, pA58, gA60, pA60, gA61, pA61, gA62, pA62, gA63, pA63, gA66, pA66, ↓reduceIte, if_true, if_false, R_mI_sJ, R_mI_sA, R_mI_sB, R_mJ_sI, R_mJ_sA, R_mJ_sB, R_mA_sI, R_mA_sJ, R_mA_sB, R_mB_sI, R_mB_sJ, R_mB_sA, mI_on, mI_off, mJ_on, mJ_off, mA_on, mA_same, mA_off, mB_on, mB_same, mB_off, up_on, up_off, j38, j39, w1, w2, a1]
      rfl
    cases hr : ptm0 T n p with
    | inl e =>
      rw [hr] at a3
      have hP' := hP.gr a2 (by decide) (by decide)
      exact SimE.one hP' a2.kF a3 hf (i_ o) (i_ 0) hs hp
    | inr a =>
      rw [hr] at a3
      have a3' : PS t n T (ks ++ a.1) N a.2.2 := a3
      have hlt := ptm0_lt (k := a.1) (l := a.2.1) (p' := a.2.2) hr
      exact ⟨⟨N, 1, by omega, a2.kF, a3', fun j _ => by rw [a2.1 40 (by decide)], hs⟩, by omega⟩
  unfold ptm
  by_cases d1 : isDb (chp T n (sk T n p)) = true
  · have hb : isLb (chp T n (sk T n p)) = false := by
      unfold isDb at d1
      rw [decide_eq_true_eq] at d1
      exact decide_eq_false (by omega)
    have h0 := hnc (by unfold pwd; rw [hb]; rfl) (by unfold pwd; rw [hb]; rfl)
    unfold ptm0 at h0
    rw [if_pos d1] at h0 ⊢
    exact h0
  · by_cases d2 : chp T n (sk T n p) = 39
    · have hb : isLb (chp T n (sk T n p)) = false := by
        rw [d2]
        rfl
      have h0 := hnc (by unfold pwd; rw [hb]; rfl) (by unfold pwd; rw [hb]; rfl)
      unfold ptm0 at h0
      rw [if_neg d1, if_pos d2] at h0 ⊢
      exact h0
    · rw [if_neg d1, if_neg d2]
      cases e1 : pwd [108, 101, 110] T n p with
      | true =>
        rw [e1] at w1
        rw [if_pos rfl]
        refine hcl 116 _ e1 fun fu => ?_
        rw [Fl_1 h25]
        unfold f_X3_formula_n56
        simp (disch := omega) only [l_m1, l_m2, l_0, l_1, l_2, l_3, l_4, l_5, l_6, l_7, l_8, l_9, l_10, l_11, l_12, l_13, l_14, l_15, l_16, l_17, l_18, l_19, l_20, l_21, l_22, l_23, l_24, l_25, l_26, l_27, l_28, l_29, l_30, l_31, l_32, l_33, l_34, l_35, l_36, l_37, l_38, l_39, l_40, l_41, l_42, l_43, l_44, l_45, l_46, l_47, l_48, l_49, l_50, l_51, l_52, l_53, l_54, l_55, l_56, l_57, l_58, l_59, l_60, l_61, l_62, l_63, l_64, l_97, l_100, l_110, l_115, l_116, l_120, l_122, l_127, l_128, l_136, l_140, l_200, l_255, l_256, l_400, l_1000, l_30000, l_1200, l_65536, l_2147483639, l_2147483647, ob_some, obd_some, q_lt_t, q_lt_f, q_le_t, q_le_f, q_eq_t, q_eq_f, im_ne, im_ne', im_lt, im_le, im_lt', im_le', i_add, i_mul, i_dec, i_dec0, i_sub, i_and, i_shr, i_div, nar_b0, nar_b1, b2i_t, b2i_f, gA1, pA1, gB2, pB2, gA3, pA3, gA4, pA4, gB5, pB5, gA6, pA6, gA7, pA7, gA8, pA8, gA9, pA9, gA10, pA10, gA11, pA11, gA12, pA12, gA13, pA13, gA14, pA14, gA15, pA15, gA16, pA16, gA17, pA17, gA18, pA18, gA19, pA19, gA20, pA20, gA21, pA21, gA40, pA40, gB43, pB43, gA44, pA44, gA45, pA45, gA46, pA46, gA47, pA47, gA48, pA48, gA49, pA49, gA53, pA53, gA54, pA54, gA55, pA55, gA56, pA56, gA58, pA58, gA60, pA60, gA61, pA61, gA62, pA62, gA63, pA63, gA66, pA66, ↓reduceIte, if_true, if_false, R_mI_sJ, R_mI_sA, R_mI_sB, R_mJ_sI, R_mJ_sA, R_mJ_sB, R_mA_sI, R_mA_sJ, R_mA_sB, R_mB_sI, R_mB_sJ, R_mB_sA, mI_on, mI_off, mJ_on, mJ_off, mA_on, mA_same, mA_off, mB_on, mB_same, mB_off, up_on, up_off, j38, j39, w1]
      | false =>
        rw [if_neg (by decide)]
        cases e2 : pwd [115, 116, 114] T n p with
        | true =>
          rw [if_pos rfl]
          rw [e1] at w1
          rw [e2] at w2
          refine hcl 110 _ e2 fun fu => ?_
          rw [Fl_1 h25]
          unfold f_X3_formula_n56
          simp (disch := omega) only [l_m1, l_m2, l_0, l_1, l_2, l_3, l_4, l_5, l_6, l_7, l_8, l_9, l_10, l_11, l_12, l_13, l_14, l_15, l_16, l_17, l_18, l_19, l_20, l_21, l_22, l_23, l_24, l_25, l_26, l_27, l_28, l_29, l_30, l_31, l_32, l_33, l_34, l_35, l_36, l_37, l_38, l_39, l_40, l_41, l_42, l_43, l_44, l_45, l_46, l_47, l_48, l_49, l_50, l_51, l_52, l_53, l_54, l_55, l_56, l_57, l_58, l_59, l_60, l_61, l_62, l_63, l_64, l_97, l_100, l_110, l_115, l_116, l_120, l_122, l_127, l_128, l_136, l_140, l_200, l_255, l_256, l_400, l_1000, l_30000, l_1200, l_65536, l_2147483639, l_2147483647, ob_some, obd_some, q_lt_t, q_lt_f, q_le_t, q_le_f, q_eq_t, q_eq_f, im_ne, im_ne', im_lt, im_le, im_lt', im_le', i_add, i_mul, i_dec, i_dec0, i_sub, i_and, i_shr, i_div, nar_b0, nar_b1, b2i_t, b2i_f, gA1, pA1, gB2, pB2, gA3, pA3, gA4, pA4, gB5, pB5, gA6, pA6, gA7, pA7, gA8, pA8, gA9, pA9, gA10, pA10, gA11, pA11, gA12, pA12, gA13, pA13, gA14, pA14, gA15, pA15, gA16, pA16, gA17, pA17, gA18, pA18, gA19, pA19, gA20, pA20, gA21, pA21, gA40, pA40, gB43, pB43, gA44, pA44, gA45, pA45, gA46, pA46, gA47, pA47, gA48, pA48, gA49, pA49, gA53, pA53, gA54, pA54, gA55, pA55, gA56, pA56, gA58, pA58, gA60, pA60, gA61, pA61, gA62, pA62, gA63, pA63, gA66, pA66, ↓reduceIte, if_true, if_false, R_mI_sJ, R_mI_sA, R_mI_sB, R_mJ_sI, R_mJ_sA, R_mJ_sB, R_mA_sI, R_mA_sJ, R_mA_sB, R_mB_sI, R_mB_sJ, R_mB_sA, mI_on, mI_off, mJ_on, mJ_off, mA_on, mA_same, mA_off, mB_on, mB_same, mB_off, up_on, up_off, j38, j39, w1, w2]
        | false =>
          rw [if_neg (by decide)]
          have h0 := hnc e1 e2
          unfold ptm0 at h0
          rw [if_neg d1, if_neg d2] at h0
          exact h0
theorem M_lp {t n : Nat} {T : Nat → Nat} {f o : Nat} (hf : f < 8) (ho : o ≤ 3) (pt : Nat → PF) (hpt : ∀ p a, pt p = .inr a → p < a.2.2)
    (hT : ∀ ks M p, PS t n T ks M p → SimR t n T ks f o 1 p (o + 1) M (pt p)) : ∀ (r : Nat) (ks : List Rk) (M : MS) (p : Nat), r ≤ 5 → PS t n T ks M p → m_A M 40 o = i_ (5 - r) → SimR t n T ks f o 0 p o M (plp pt T n r p) ∧ ∀ a, plp pt T n r p = .inr a → isSg (chp T n (sk T n a.2.2)) = false := by
  intro r
  induction r with
  | zero =>
    intro ks M p hr h h40
    have hP := h.1
    have hp := h.2.2.2.2.2.1
    have h25 := h.2.2.2.1
    have k0 := sk_ge T n p
    have hm := M_isMore hP h.2.1
    have l2 := h.2.1.2.1
    unfold plp
    cases e : isSg (chp T n (sk T n p)) with
    | true =>
      rw [e] at hm
      rw [if_pos rfl]
      have c2 := h.x40 o (i_ 6)
      obtain ⟨N, a1, a2, a3⟩ := c2.fail (sk T n p)
      have z1 : m_I N 25 = i_ 1 := a3.1
      refine ⟨SimE.one (c2.1.gr a2 (by decide) (by decide)) ((Gr.sA (by decide) (Nat.zero_le _)).tr a2.kF) a3 hf (i_ o) (i_ 1) (fun fu => ?_) hp, fun a ha => by cases ha⟩
      rw [Fl_0m h25 (by omega) hm]
      unfold f_X3_formula_n56 f_X3_formula_n201
      simp (disch := omega) only [l_m1, l_m2, l_0, l_1, l_2, l_3, l_4, l_5, l_6, l_7, l_8, l_9, l_10, l_11, l_12, l_13, l_14, l_15, l_16, l_17, l_18, l_19, l_20, l_21, l_22, l_23, l_24, l_25, l_26, l_27, l_28, l_29, l_30, l_31, l_32, l_33, l_34, l_35, l_36, l_37, l_38, l_39, l_40, l_41, l_42, l_43, l_44, l_45, l_46, l_47, l_48, l_49, l_50, l_51, l_52, l_53, l_54, l_55, l_56, l_57, l_58, l_59, l_60, l_61, l_62, l_63, l_64, l_97, l_100, l_110, l_115, l_116, l_120, l_122, l_127, l_128, l_136, l_140, l_200, l_255, l_256, l_400, l_1000, l_30000, l_1200, l_65536, l_2147483639, l_2147483647, ob_some, obd_some, q_lt_t, q_lt_f, q_le_t, q_le_f, q_eq_t, q_eq_f, im_ne, im_ne', im_lt, im_le, im_lt', im_le', i_add, i_mul, i_dec, i_dec0, i_sub, i_and, i_shr, i_div, nar_b0, nar_b1, b2i_t, b2i_f, gA1, pA1, gB2, pB2, gA3, pA3, gA4, pA4, gB5, pB5, gA6, pA6, gA7, pA7, gA8, pA8, gA9, pA9, gA10, pA10, gA11, pA11, gA12, pA12, gA13, pA13, gA14, pA14, gA15, pA15, gA16, pA16, gA17, pA17, gA18, pA18, gA19, pA19, gA20, pA20, gA21, pA21, gA40, pA40, gB43, pB43, gA44, pA44, gA45, pA45, gA46, pA46, gA47, pA47, gA48, pA48, gA49, pA49, gA53, pA53, gA54, pA54, gA55, pA55, gA56, pA56, gA58, pA58, gA60, pA60, gA61, pA61, gA62, pA62, gA63, pA63, gA66, pA66, ↓reduceIte, if_true, if_false, R_mI_sJ, R_mI_sA, R_mI_sB, R_mJ_sI, R_mJ_sA, R_mJ_sB, R_mA_sI, R_mA_sJ, R_mA_sB, R_mB_sI, R_mB_sJ, R_mB_sA, mI_on, mI_off, mJ_on, mJ_off, mA_on, mA_same, mA_off, mB_on, mB_same, mB_off, up_on, up_off, hm, h40, l2, a1, z1]
      rfl
    | false =>
      rw [if_neg (by decide)]
      refine ⟨⟨⟨M, 0, Nat.zero_le _, Gr.rf _ _ _ _ _, ?_, fun _ _ => rfl, fun _ => rfl⟩, k0⟩, fun a ha => ?_⟩
      · show PS t n T (ks ++ []) M (sk T n p)
        rw [List.append_nil]
        obtain ⟨h1, h2, h3, h4, h5, h6⟩ := h
        refine ⟨h1, ?_, h3, h4, by omega, sk_le h6.1, h6.2⟩
        unfold LA
        rw [sk_sk]
        exact h2
      · cases ha
        show isSg (chp T n (sk T n (sk T n p))) = false
        rw [sk_sk]
        exact e
  | succ r ih =>
    intro ks M p hr h h40
    have hP := h.1
    have hp := h.2.2.2.2.2.1
    have h25 := h.2.2.2.1
    have k0 := sk_ge T n p
    have hm := M_isMore hP h.2.1
    unfold plp
    cases e : isSg (chp T n (sk T n p)) with
    | true =>
      rw [e] at hm
      rw [if_pos rfl]
      obtain ⟨c1, c2, c3⟩ := isSg_lt e
      have hsn : isSn (chp T n (sk T n p)) := by
        rcases c3 with c3 | c3 | c3 <;> rw [c3] <;> exact isSn_l _ (by decide)
      obtain ⟨N, a1, a2, a3⟩ := (h.x40 o (i_ (5 - r))).ksg hsn rfl
      have g1 : Gr kaF [] kiP t M N := (Gr.sA (by decide) (Nat.zero_le _)).tr a2.kF
      have s1 : ∀ fu, Fl f (fu + 1) o 0 M = Fl f fu o 1 N := fun fu => by
        rw [Fl_0m h25 (by omega) hm]
        have e5 : 5 - (r + 1) + 1 = 5 - r := by omega
        unfold f_X3_formula_n56 f_X3_formula_n201
        simp (disch := omega) only [l_m1, l_m2, l_0, l_1, l_2, l_3, l_4, l_5, l_6, l_7, l_8, l_9, l_10, l_11, l_12, l_13, l_14, l_15, l_16, l_17, l_18, l_19, l_20, l_21, l_22, l_23, l_24, l_25, l_26, l_27, l_28, l_29, l_30, l_31, l_32, l_33, l_34, l_35, l_36, l_37, l_38, l_39, l_40, l_41, l_42, l_43, l_44, l_45, l_46, l_47, l_48, l_49, l_50, l_51, l_52, l_53, l_54, l_55, l_56, l_57, l_58, l_59, l_60, l_61, l_62, l_63, l_64, l_97, l_100, l_110, l_115, l_116, l_120, l_122, l_127, l_128, l_136, l_140, l_200, l_255, l_256, l_400, l_1000, l_30000, l_1200, l_65536, l_2147483639, l_2147483647, ob_some, obd_some, q_lt_t, q_lt_f, q_le_t, q_le_f, q_eq_t, q_eq_f, im_ne, im_ne', im_lt, im_le, im_lt', im_le', i_add, i_mul, i_dec, i_dec0, i_sub, i_and, i_shr, i_div, nar_b0, nar_b1, b2i_t, b2i_f, gA1, pA1, gB2, pB2, gA3, pA3, gA4, pA4, gB5, pB5, gA6, pA6, gA7, pA7, gA8, pA8, gA9, pA9, gA10, pA10, gA11, pA11, gA12, pA12, gA13, pA13, gA14, pA14, gA15, pA15, gA16, pA16, gA17, pA17, gA18, pA18, gA19, pA19, gA20, pA20, gA21, pA21, gA40, pA40, gB43, pB43, gA44, pA44, gA45, pA45, gA46, pA46, gA47, pA47, gA48, pA48, gA49, pA49, gA53, pA53, gA54, pA54, gA55, pA55, gA56, pA56, gA58, pA58, gA60, pA60, gA61, pA61, gA62, pA62, gA63, pA63, gA66, pA66, ↓reduceIte, if_true, if_false, R_mI_sJ, R_mI_sA, R_mI_sB, R_mJ_sI, R_mJ_sA, R_mJ_sB, R_mA_sI, R_mA_sJ, R_mA_sB, R_mB_sI, R_mB_sJ, R_mB_sA, mI_on, mI_off, mJ_on, mJ_off, mA_on, mA_same, mA_off, mB_on, mB_same, mB_off, up_on, up_off, hm, h40, e5, h25, a1]
        rfl
      have hR := hT _ _ _ a3
      have r40 : ∀ j, j ≤ o → m_A N 40 j = if j = o then i_ (5 - r) else m_A M 40 j := fun j hj => by
        rw [a2.1 40 (by decide)]
        by_cases ej : j = o
        · rw [if_pos ej, ej, mA_on]
        · rw [if_neg ej, mA_off ej]
      cases hp1 : pt (sk T n p + 1) with
      | inl x =>
        rw [hp1] at hR
        rw [pb_inl]
        have hq := a3.2.2.2.2.2.1
        exact ⟨SimE.pre hR g1 s1 (by omega), fun a ha => by cases ha⟩
      | inr a =>
        rw [hp1] at hR
        rw [pb_inr]
        obtain ⟨⟨N2, c, hc, g2, p2, r2, s2⟩, hle⟩ : SimS t n T (ks ++ [(chp T n (sk T n p), sk T n p, [chp T n (sk T n p)])]) f o 1 (sk T n p + 1) (o + 1) N a ∧ sk T n p + 1 ≤ a.2.2 := hR
        have h40' : m_A N2 40 o = i_ (5 - r) := by
          rw [r2 o (by omega), r40 o (Nat.le_refl _), if_pos rfl]
        obtain ⟨hR2, hM2⟩ := ih _ N2 a.2.2 (by omega) p2 h40'
        have s12 : ∀ fu, Fl f (fu + (c + 1)) o 0 M = Fl f fu o 0 N2 := fun fu => by
          rw [← Nat.add_assoc, s1, s2]
        have hq := a3.2.2.2.2.2.1
        have hq2 := p2.2.2.2.2.2.1
        have hlt := hpt _ _ hp1
        cases hp2 : plp pt T n r a.2.2 with
        | inl x =>
          rw [hp2] at hR2
          rw [pb_inl]
          exact ⟨SimE.pre hR2 (g1.tr g2) s12 (by omega), fun a ha => by cases ha⟩
        | inr b =>
          rw [hp2] at hR2
          rw [pb_inr]
          obtain ⟨⟨N3, c', hc', g3, p3, r3, s3⟩, hle2⟩ : SimS t n T ((ks ++ [(chp T n (sk T n p), sk T n p, [chp T n (sk T n p)])]) ++ a.1) f o 0 a.2.2 o N2 b ∧ a.2.2 ≤ b.2.2 := hR2
          refine ⟨⟨⟨N3, c' + (c + 1), ?_, (g1.tr g2).tr g3, ?_, fun j hj => ?_, fun fu => ?_⟩, ?_⟩, fun d hd => ?_⟩
          · show c' + (c + 1) ≤ b.2.2 - p
            omega
          · show PS t n T (ks ++ (chp T n (sk T n p), sk T n p, [chp T n (sk T n p)]) :: (a.1 ++ b.1)) N3 b.2.2
            simp only [List.append_assoc, List.cons_append, List.nil_append] at p3
            exact p3
          · rw [r3 j hj, r2 j (by omega), r40 j (by omega), if_neg (by omega)]
          · rw [← Nat.add_assoc, ← Nat.add_assoc, show fu + c' + c + 1 = fu + c' + (c + 1) by omega, s12, s3]
          · show p ≤ b.2.2
            omega
          · cases hd
            exact hM2 b hp2
    | false =>
      rw [if_neg (by decide)]
      refine ⟨⟨⟨M, 0, Nat.zero_le _, Gr.rf _ _ _ _ _, ?_, fun _ _ => rfl, fun _ => rfl⟩, k0⟩, fun a ha => ?_⟩
      · show PS t n T (ks ++ []) M (sk T n p)
        rw [List.append_nil]
        obtain ⟨h1, h2, h3, h4, h5, h6⟩ := h
        refine ⟨h1, ?_, h3, h4, by omega, sk_le h6.1, h6.2⟩
        unfold LA
        rw [sk_sk]
        exact h2
      · cases ha
        show isSg (chp T n (sk T n (sk T n p))) = false
        rw [sk_sk]
        exact e
theorem M_fl {t n : Nat} {T : Nat → Nat} {f o : Nat} (hf : f < 8) (ho : o ≤ 3) (pt : Nat → PF) (hpt : ∀ p a, pt p = .inr a → p < a.2.2)
    (hT : ∀ ks M p, PS t n T ks M p → SimR t n T ks f o 1 p (o + 1) M (pt p)) {ks : List Rk} {M : MS} {p : Nat} (h : PS t n T ks M p) (h40 : m_A M 40 o = i_ 0) : SimR t n T ks f o 1 p o M (pfl pt T n p) ∧ ∀ a, pfl pt T n p = .inr a → isSg (chp T n (sk T n a.2.2)) = false := by
  have hR := hT _ _ _ h
  have hq := h.2.2.2.2.2.1
  unfold pfl
  cases hp1 : pt p with
  | inl x =>
    rw [hp1] at hR
    rw [pb_inl]
    exact ⟨hR, fun a ha => by cases ha⟩
  | inr a =>
    rw [hp1] at hR
    rw [pb_inr]
    obtain ⟨⟨N2, c, hc, g2, p2, r2, s2⟩, hle⟩ : SimS t n T ks f o 1 p (o + 1) M a ∧ p ≤ a.2.2 := hR
    have h40' : m_A N2 40 o = i_ (5 - 5) := by
      rw [r2 o (by omega), h40]
    obtain ⟨hR2, hM2⟩ := M_lp hf ho pt hpt hT 5 _ N2 a.2.2 (Nat.le_refl _) p2 h40'
    have hlt := hpt _ _ hp1
    have hq2 := p2.2.2.2.2.2.1
    cases hp2 : plp pt T n 5 a.2.2 with
    | inl x =>
      rw [hp2] at hR2
      rw [pb_inl]
      exact ⟨SimE.pre hR2 g2 s2 (by omega), fun a ha => by cases ha⟩
    | inr b =>
      rw [hp2] at hR2
      rw [pb_inr]
      obtain ⟨⟨N3, c', hc', g3, p3, r3, s3⟩, hle2⟩ : SimS t n T (ks ++ a.1) f o 0 a.2.2 o N2 b ∧ a.2.2 ≤ b.2.2 := hR2
      refine ⟨⟨⟨N3, c' + c, ?_, g2.tr g3, ?_, fun j hj => ?_, fun fu => ?_⟩, ?_⟩, fun d hd => ?_⟩
      · show c' + c ≤ b.2.2 - p
        omega
      · show PS t n T (ks ++ (a.1 ++ b.1)) N3 b.2.2
        rw [← List.append_assoc]
        exact p3
      · rw [r3 j hj, r2 j (by omega)]
      · rw [← Nat.add_assoc, s2, s3]
      · show p ≤ b.2.2
        omega
      · cases hd
        exact hM2 b hp2
theorem ptm_lt {T : Nat → Nat} {n : Nat} (full : Bool) (pf : Nat → PF) (hpf : ∀ p a, pf p = .inr a → p < a.2.2) (p : Nat) (a : List Rk × List Nk × Nat) (h : ptm full pf T n p = .inr a) : p < a.2.2 := by
  have k0 := sk_ge T n p
  have hcl : ∀ kx w, pwd w T n p = true → pcl full pf T n kx (sk T n p) = .inr a → p < a.2.2 := by
    intro kx w hw h
    obtain ⟨v1, v2⟩ := pwd_t hw
    have q3 := (isLb_lt v1).2.2.1
    unfold pcl at h
    split at h
    · obtain ⟨b, h1, h⟩ := pb_r h
      obtain ⟨c, h2, h⟩ := pb_r h
      obtain ⟨h4, rfl⟩ := psg_r h2
      cases h
      have := hpf _ _ h1
      have := sk_ge T n (lw T n (sk T n p))
      have := sk_ge T n b.2.2
      show p < sk T n b.2.2 + 1
      omega
    · cases h
  have h0 : ptm0 T n p = .inr a → p < a.2.2 := fun h => ptm0_lt (k := a.1) (l := a.2.1) (p' := a.2.2) h
  unfold ptm at h
  unfold ptm0 at h0
  split at h
  · rename_i e
    rw [if_pos e] at h0
    exact h0 h
  · rename_i e
    rw [if_neg e] at h0
    split at h
    · rename_i e2
      rw [if_pos e2] at h0
      exact h0 h
    · rename_i e2
      rw [if_neg e2] at h0
      split at h
      · rename_i e3
        exact hcl _ _ e3 h
      · split at h
        · rename_i e4
          exact hcl _ _ e4 h
        · exact h0 h
theorem pform_lt {T : Nat → Nat} {n : Nat} (d p : Nat) (a : List Rk × List Nk × Nat) (h : pform T n d p = .inr a) : p < a.2.2 := (pform_KS d p a.1 a.2.1 a.2.2 h).2.1.1
theorem M_pform {t n : Nat} {T : Nat → Nat} {f : Nat} (hf : f < 8) : ∀ (d o : Nat), d + o = 3 → ∀ (ks : List Rk) (M : MS) (p : Nat), PS t n T ks M p → m_A M 40 o = i_ 0 → SimR t n T ks f o 1 p o M (pform T n d p) ∧ ∀ a, pform T n d p = .inr a → isSg (chp T n (sk T n a.2.2)) = false := by
  intro d
  induction d with
  | zero =>
    intro o ho ks M p h h40
    exact M_fl hf (by omega) (ptm true (fun _ => .inl 0) T n) (fun p a => ptm_lt _ _ (fun p a h => by cases h) p a) (fun ks M p h => M_trm hf (by omega) true (decide_eq_true (by omega)).symm _ (fun k => by omega) h) h h40
  | succ d ih =>
    intro o ho ks M p h h40
    exact M_fl hf (by omega) (ptm false (pform T n d) T n) (fun p a => ptm_lt _ _ (fun p a h => pform_lt d p a h) p a) (fun ks M p h => M_trm hf (by omega) false (decide_eq_false (by omega)).symm _ (fun _ ks M p h h40 => ih (o + 1) (by omega) ks M p h h40) h) h h40
/-- a formula, whole: where its tokens lie *-/
theorem M_formula {t n : Nat} {T : Nat → Nat} {f : Nat} (hf : f < 8) {ks : List Rk} {M : MS} {p : Nat} (h : PS t n T ks M p) : ∃ N, f_X3_formula (i_ f) M = some N ∧ Gr [13, 14, 15, 16, 18, 19, 40] [] kiP t M N ∧ (∀ i, i ≠ 8 * t + f → m_A N 18 i = m_A M 18 i) ∧ match pform T n 3 p with
    | .inl e => BD N e
    | .inr a => PS t n T (ks ++ a.1) N a.2.2 ∧ m_A N 18 (8 * t + f) = i_ ks.length ∧ m_A N 19 (8 * t + f) = i_ (ks.length + a.1.length) ∧ ∀ i, i ≠ 8 * t + f → m_A N 19 i = m_A M 19 i := by
  have hP := h.1
  have hn := hP.1
  have ht := hn.2.1
  have h13 := h.2.2.1.1
  have g0 : Gr [18] [] [] t M (m_sA M 18 (8 * t + f) (i_ ks.length)) := Gr.sA (by decide) (show 8 * t ≤ _ by omega)
  have h0 : PS t n T ks (m_sA M 18 (8 * t + f) (i_ ks.length)) p := by
    obtain ⟨h1, h2, h3, h4, h5⟩ := h
    exact ⟨h1.gr g0 (by decide) (by decide), h2, h3.gr g0 (by decide), h4, h5⟩
  have h1 := h0.x40 0 (i_ 0)
  have g1 : Gr [13, 14, 15, 16, 18, 19, 40] [] kiP t M (m_sA (m_sA M 18 (8 * t + f) (i_ ks.length)) 40 0 (i_ 0)) := (g0.mono (by decide) (by decide) (by decide)).tr (Gr.sA (by decide) (Nat.zero_le _))
  have hu : f_X3_formula (i_ f) M = Fl f fu_ 0 1 (m_sA (m_sA M 18 (8 * t + f) (i_ ks.length)) 40 0 (i_ 0)) := by
    unfold f_X3_formula
    simp (disch := omega) only [l_m1, l_m2, l_0, l_1, l_2, l_3, l_4, l_5, l_6, l_7, l_8, l_9, l_10, l_11, l_12, l_13, l_14, l_15, l_16, l_17, l_18, l_19, l_20, l_21, l_22, l_23, l_24, l_25, l_26, l_27, l_28, l_29, l_30, l_31, l_32, l_33, l_34, l_35, l_36, l_37, l_38, l_39, l_40, l_41, l_42, l_43, l_44, l_45, l_46, l_47, l_48, l_49, l_50, l_51, l_52, l_53, l_54, l_55, l_56, l_57, l_58, l_59, l_60, l_61, l_62, l_63, l_64, l_97, l_100, l_110, l_115, l_116, l_120, l_122, l_127, l_128, l_136, l_140, l_200, l_255, l_256, l_400, l_1000, l_30000, l_1200, l_65536, l_2147483639, l_2147483647, ob_some, obd_some, q_lt_t, q_lt_f, q_le_t, q_le_f, q_eq_t, q_eq_f, im_ne, im_ne', im_lt, im_le, im_lt', im_le', i_add, i_mul, i_dec, i_dec0, i_sub, i_and, i_shr, i_div, nar_b0, nar_b1, b2i_t, b2i_f, gA1, pA1, gB2, pB2, gA3, pA3, gA4, pA4, gB5, pB5, gA6, pA6, gA7, pA7, gA8, pA8, gA9, pA9, gA10, pA10, gA11, pA11, gA12, pA12, gA13, pA13, gA14, pA14, gA15, pA15, gA16, pA16, gA17, pA17, gA18, pA18, gA19, pA19, gA20, pA20, gA21, pA21, gA40, pA40, gB43, pB43, gA44, pA44, gA45, pA45, gA46, pA46, gA47, pA47, gA48, pA48, gA49, pA49, gA53, pA53, gA54, pA54, gA55, pA55, gA56, pA56, gA58, pA58, gA60, pA60, gA61, pA61, gA62, pA62, gA63, pA63, gA66, pA66, ↓reduceIte, if_true, if_false, R_mI_sJ, R_mI_sA, R_mI_sB, R_mJ_sI, R_mJ_sA, R_mJ_sB, R_mA_sI, R_mA_sJ, R_mA_sB, R_mB_sI, R_mB_sJ, R_mB_sA, mI_on, mI_off, mJ_on, mJ_off, mA_on, mA_same, mA_off, mB_on, mB_same, mB_off, up_on, up_off, hn.1, h13]
    rfl
  obtain ⟨hR, hM⟩ := M_pform hf 3 0 rfl _ _ _ h1 mA_on
  cases hp : pform T n 3 p with
  | inl e =>
    rw [hp] at hR
    obtain ⟨N, c, ⟨c1, c2⟩, g2, b2, s2⟩ := hR
    have hfu : fu_ = (fu_ - c) + c := by
      have := hn.2.2.1
      have := fu_eq
      omega
    refine ⟨N, ?_, g1.tr (g2.mono (by decide) (by decide) (by decide)), fun i hi => ?_, b2⟩
    · rw [hu, hfu]
      exact s2 _
    · rw [g2.1 18 (by decide), mA_same (by decide), mA_off hi]
  | inr a =>
    rw [hp] at hR
    obtain ⟨⟨N, c, hc, g2, p2, r2, s2⟩, hle⟩ : SimS t n T ks f 0 1 p 0 _ a ∧ p ≤ a.2.2 := hR
    have hm := M_isMore p2.1 p2.2.1
    rw [hM a hp] at hm
    have hfu : fu_ = (fu_ - c - 1 + 1) + c := by
      have := hn.2.2.1
      have := fu_eq
      have := p2.2.2.2.2.2.1
      omega
    have h13' := p2.2.2.1.1
    have h0' := p2.1.1.1
    have h25' := p2.2.2.2.1
    have hlen : ks.length + a.1.length ≤ 400 := by
      have := p2.2.2.2.2.1
      have := p2.2.2.2.2.2.1
      have := hn.2.2.1
      rw [List.length_append] at *
      omega
    rw [List.length_append] at h13'
    have g3 : Gr [13, 14, 15, 16, 18, 19, 40] [] kiP t N (m_sA N 19 (8 * t + f) (i_ (ks.length + a.1.length))) := Gr.sA (by decide) (show 8 * t ≤ _ by omega)
    refine ⟨m_sA N 19 (8 * t + f) (i_ (ks.length + a.1.length)), ?_, (g1.tr (g2.mono (by decide) (by decide) (by decide))).tr g3, fun i hi => ?_, ?_, ?_, mA_on, fun i hi => ?_⟩
    · rw [hu, hfu, s2]
      unfold Fl
      unfold f_X3_formula_n34 f_X3_formula_n252
      simp (disch := omega) only [l_m1, l_m2, l_0, l_1, l_2, l_3, l_4, l_5, l_6, l_7, l_8, l_9, l_10, l_11, l_12, l_13, l_14, l_15, l_16, l_17, l_18, l_19, l_20, l_21, l_22, l_23, l_24, l_25, l_26, l_27, l_28, l_29, l_30, l_31, l_32, l_33, l_34, l_35, l_36, l_37, l_38, l_39, l_40, l_41, l_42, l_43, l_44, l_45, l_46, l_47, l_48, l_49, l_50, l_51, l_52, l_53, l_54, l_55, l_56, l_57, l_58, l_59, l_60, l_61, l_62, l_63, l_64, l_97, l_100, l_110, l_115, l_116, l_120, l_122, l_127, l_128, l_136, l_140, l_200, l_255, l_256, l_400, l_1000, l_30000, l_1200, l_65536, l_2147483639, l_2147483647, ob_some, obd_some, q_lt_t, q_lt_f, q_le_t, q_le_f, q_eq_t, q_eq_f, im_ne, im_ne', im_lt, im_le, im_lt', im_le', i_add, i_mul, i_dec, i_dec0, i_sub, i_and, i_shr, i_div, nar_b0, nar_b1, b2i_t, b2i_f, gA1, pA1, gB2, pB2, gA3, pA3, gA4, pA4, gB5, pB5, gA6, pA6, gA7, pA7, gA8, pA8, gA9, pA9, gA10, pA10, gA11, pA11, gA12, pA12, gA13, pA13, gA14, pA14, gA15, pA15, gA16, pA16, gA17, pA17, gA18, pA18, gA19, pA19, gA20, pA20, gA21, pA21, gA40, pA40, gB43, pB43, gA44, pA44, gA45, pA45, gA46, pA46, gA47, pA47, gA48, pA48, gA49, pA49, gA53, pA53, gA54, pA54, gA55, pA55, gA56, pA56, gA58, pA58, gA60, pA60, gA61, pA61, gA62, pA62, gA63, pA63, gA66, pA66, ↓reduceIte, if_true, if_false, R_mI_sJ, R_mI_sA, R_mI_sB, R_mJ_sI, R_mJ_sA, R_mJ_sB, R_mA_sI, R_mA_sJ, R_mA_sB, R_mB_sI, R_mB_sJ, R_mB_sA, mI_on, mI_off, mJ_on, mJ_off, mA_on, mA_same, mA_off, mB_on, mB_same, mB_off, up_on, up_off, hm, h25', h0', h13']
    · rw [mA_same (by decide), g2.1 18 (by decide), mA_same (by decide), mA_off hi]
    · obtain ⟨q1, q2, q3, q4, q5⟩ := p2
      have g4 : Gr [19] [] [] t N (m_sA N 19 (8 * t + f) (i_ (ks.length + a.1.length))) := Gr.sA (by decide) (show 8 * t ≤ _ by omega)
      exact ⟨q1.gr g4 (by decide) (by decide), q2, q3.gr g4 (by decide), q4, q5⟩
    · rw [mA_same (by decide), g2.1 18 (by decide), mA_same (by decide), mA_on]
    · rw [mA_off hi, g2.1 19 (by decide), mA_same (by decide), mA_same (by decide)]
