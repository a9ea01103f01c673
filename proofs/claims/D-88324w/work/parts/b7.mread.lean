/-! the reference reads a statement *-/
abbrev kaA : List Nat := [1, 3, 4, 6, 7, 8, 9, 10, 11, 12, 13, 14, 15, 16, 17, 18, 19, 20, 40, 44, 45, 46, 47, 48, 49]
abbrev kbA : List Nat := [2, 5, 43]
abbrev kiA : List Nat := [22, 23, 24, 25, 26, 27, 28, 29, 30, 31, 41, 42, 50, 51, 52]
def TXT (M : MS) (t n : Nat) (T : Nat → Nat) : Prop := ∀ k, k < n → m_A M 17 (400 * t + k) = i_ (T k)
def A_next (x1 : Int32) (M : MS) : Option (Int32 × MS) :=
  (f_X3_next M).bind fun N1 =>
      o_bd (f_X3_isWord (m_J N1 35) N1) fun v3 N2 =>
      if v3 = 0 then
        o_bd (f_X3_isWord (m_J N2 33) N2) fun v5 N4 =>
        if v5 = 0 then
          o_bd (f_X3_isWord (m_J N4 34) N4) fun v7 N6 =>
          if v7 = 0 then
            f_X3_act_n181 x1 x1 (-1) N6
          else
            f_X3_act_n181 x1 x1 (2) N6
        else
          f_X3_act_n181 x1 x1 (1) N4
      else
        f_X3_act_n181 x1 x1 (0) N2
/-- the text is kept *-/
theorem M_act_t {t n : Nat} {T : Nat → Nat} : ∀ (r k f : Nat) (M : MS), PM t n T M → k + r = n → r < f → (∀ j, j < k → m_A M 17 (400 * t + j) = i_ (T j)) → ∃ N, f_X3_act_n94 f (i_ t) (i_ k) M = A_next (i_ t) N ∧ Gr [17] [] [] t M N ∧ TXT N t n T := by
  intro r
  induction r with
  | zero =>
    intro k f M hP hk hf h
    obtain ⟨f, rfl⟩ : ∃ m, f = m + 1 := ⟨f - 1, by omega⟩
    have hn := hP.1.2.2
    refine ⟨M, ?_, Gr.rf _ _ _ _ _, fun j hj => h j (by omega)⟩
    conv => lhs; unfold f_X3_act_n94
    have : i_ n ≤ i_ k := (i_le (by omega) (by omega)).mpr (by omega)
    rw [hn.2, if_pos this]
    rfl
  | succ r ih =>
    intro k f M hP hk hf h
    obtain ⟨f, rfl⟩ : ∃ m, f = m + 1 := ⟨f - 1, by omega⟩
    have hn := hP.1.2.2
    have ht := hP.1.2.1
    obtain ⟨t1, t2⟩ := hP.2.1 k (by omega)
    have g1 : Gr [17] [] [] t M (m_sA M 17 (400 * t + k) (i_ (T k))) := Gr.sA (by decide) (show 400 * t ≤ _ by omega)
    obtain ⟨N, e1, e2, e3⟩ := ih (k + 1) f (m_sA M 17 (400 * t + k) (i_ (T k))) (hP.gr g1 (by decide) (by decide)) (by omega) (by omega) (fun j hj => by
      by_cases e : j = k
      · rw [e, mA_on]
      · rw [mA_off (by omega)]
        exact h j (by omega))
    refine ⟨N, ?_, g1.tr e2, e3⟩
    conv => lhs; unfold f_X3_act_n94
    have : ¬ i_ n ≤ i_ k := fun q => by have := (i_le (by omega) (by omega)).mp q; omega
    rw [hn.2, if_neg this, gA21 (by omega), t1]
    simp (disch := omega) only [l_m1, l_m2, l_0, l_1, l_2, l_3, l_4, l_5, l_6, l_7, l_8, l_9, l_10, l_11, l_12, l_13, l_14, l_15, l_16, l_17, l_18, l_19, l_20, l_21, l_22, l_23, l_24, l_25, l_26, l_27, l_28, l_29, l_30, l_31, l_32, l_33, l_34, l_35, l_36, l_37, l_38, l_39, l_40, l_41, l_42, l_43, l_44, l_45, l_46, l_47, l_48, l_49, l_50, l_51, l_52, l_53, l_54, l_55, l_56, l_57, l_58, l_59, l_60, l_61, l_62, l_63, l_64, l_97, l_100, l_110, l_115, l_116, l_120, l_122, l_127, l_128, l_136, l_140, l_200, l_255, l_256, l_400, l_1000, l_30000, l_1200, l_65536, l_2147483639, l_2147483647, ob_some, obd_some, q_lt_t, q_lt_f, q_le_t, q_le_f, q_eq_t, q_eq_f, im_ne, im_ne', im_lt, im_le, im_lt', im_le', i_add, i_mul, i_dec, i_dec0, i_sub, i_and, i_shr, i_div, nar_b0, nar_b1, b2i_t, b2i_f, gA1, pA1, gB2, pB2, gA3, pA3, gA4, pA4, gB5, pB5, gA6, pA6, gA7, pA7, gA8, pA8, gA9, pA9, gA10, pA10, gA11, pA11, gA12, pA12, gA13, pA13, gA14, pA14, gA15, pA15, gA16, pA16, gA17, pA17, gA18, pA18, gA19, pA19, gA20, pA20, gA21, pA21, gA40, pA40, gB43, pB43, gA44, pA44, gA45, pA45, gA46, pA46, gA47, pA47, gA48, pA48, gA49, pA49, gA53, pA53, gA54, pA54, gA55, pA55, gA56, pA56, gA58, pA58, gA60, pA60, gA61, pA61, gA62, pA62, gA63, pA63, gA66, pA66, ↓reduceIte, if_true, if_false, R_mI_sJ, R_mI_sA, R_mI_sB, R_mJ_sI, R_mJ_sA, R_mJ_sB, R_mA_sI, R_mA_sJ, R_mA_sB, R_mB_sI, R_mB_sJ, R_mB_sA, mI_on, mI_off, mJ_on, mJ_off, mA_on, mA_same, mA_off, mB_on, mB_same, mB_off, up_on, up_off]
    exact e1
theorem M_act_f {t n : Nat} {T : Nat → Nat} : ∀ (r k f : Nat) (M : MS), PM t n T M → k + r = 8 → r < f → (∀ j, j < k → m_A M 18 (8 * t + j) = i_ 0 ∧ m_A M 19 (8 * t + j) = i_ 0) → ∃ N, f_X3_act_n56 f (i_ t) (i_ k) M = f_X3_act_n94 fu_ (i_ t) (i_ 0) N ∧ Gr [18, 19] [] [] t M N ∧ ∀ j, j < 8 → m_A N 18 (8 * t + j) = i_ 0 ∧ m_A N 19 (8 * t + j) = i_ 0 := by
  intro r
  induction r with
  | zero =>
    intro k f M hP hk hf h
    obtain ⟨f, rfl⟩ : ∃ m, f = m + 1 := ⟨f - 1, by omega⟩
    refine ⟨M, ?_, Gr.rf _ _ _ _ _, fun j hj => h j (by omega)⟩
    conv => lhs; unfold f_X3_act_n56
    have : (8 : Int32) ≤ i_ k := (i_le (a := 8) (by omega) (by omega)).mpr (by omega)
    rw [if_pos this, l_0]
  | succ r ih =>
    intro k f M hP hk hf h
    obtain ⟨f, rfl⟩ : ∃ m, f = m + 1 := ⟨f - 1, by omega⟩
    have ht := hP.1.2.1
    have g1 : Gr [18, 19] [] [] t M (m_sA (m_sA M 18 (8 * t + k) (i_ 0)) 19 (8 * t + k) (i_ 0)) := Gr.tr (Gr.sA (by decide) (show 8 * t ≤ _ by omega)) (Gr.sA (by decide) (show 8 * t ≤ _ by omega))
    obtain ⟨N, e1, e2, e3⟩ := ih (k + 1) f _ (hP.gr g1 (by decide) (by decide)) (by omega) (by omega) (fun j hj => by
      by_cases e : j = k
      · rw [e, mA_on, mA_same (by decide), mA_on]
        exact ⟨rfl, rfl⟩
      · rw [mA_off (show 8 * t + j ≠ 8 * t + k by omega), mA_same (show 18 ≠ 19 by decide), mA_off (show 8 * t + j ≠ 8 * t + k by omega), mA_same (show 19 ≠ 18 by decide)]
        exact h j (by omega))
    refine ⟨N, ?_, g1.tr e2, e3⟩
    conv => lhs; unfold f_X3_act_n56
    have : ¬ (8 : Int32) ≤ i_ k := fun q => by have := (i_le (a := 8) (by omega) (by omega)).mp q; omega
    rw [if_neg this]
    simp (disch := omega) only [l_m1, l_m2, l_0, l_1, l_2, l_3, l_4, l_5, l_6, l_7, l_8, l_9, l_10, l_11, l_12, l_13, l_14, l_15, l_16, l_17, l_18, l_19, l_20, l_21, l_22, l_23, l_24, l_25, l_26, l_27, l_28, l_29, l_30, l_31, l_32, l_33, l_34, l_35, l_36, l_37, l_38, l_39, l_40, l_41, l_42, l_43, l_44, l_45, l_46, l_47, l_48, l_49, l_50, l_51, l_52, l_53, l_54, l_55, l_56, l_57, l_58, l_59, l_60, l_61, l_62, l_63, l_64, l_97, l_100, l_110, l_115, l_116, l_120, l_122, l_127, l_128, l_136, l_140, l_200, l_255, l_256, l_400, l_1000, l_30000, l_1200, l_65536, l_2147483639, l_2147483647, ob_some, obd_some, q_lt_t, q_lt_f, q_le_t, q_le_f, q_eq_t, q_eq_f, im_ne, im_ne', im_lt, im_le, im_lt', im_le', i_add, i_mul, i_dec, i_dec0, i_sub, i_and, i_shr, i_div, nar_b0, nar_b1, b2i_t, b2i_f, gA1, pA1, gB2, pB2, gA3, pA3, gA4, pA4, gB5, pB5, gA6, pA6, gA7, pA7, gA8, pA8, gA9, pA9, gA10, pA10, gA11, pA11, gA12, pA12, gA13, pA13, gA14, pA14, gA15, pA15, gA16, pA16, gA17, pA17, gA18, pA18, gA19, pA19, gA20, pA20, gA21, pA21, gA40, pA40, gB43, pB43, gA44, pA44, gA45, pA45, gA46, pA46, gA47, pA47, gA48, pA48, gA49, pA49, gA53, pA53, gA54, pA54, gA55, pA55, gA56, pA56, gA58, pA58, gA60, pA60, gA61, pA61, gA62, pA62, gA63, pA63, gA66, pA66, ↓reduceIte, if_true, if_false, R_mI_sJ, R_mI_sA, R_mI_sB, R_mJ_sI, R_mJ_sA, R_mJ_sB, R_mA_sI, R_mA_sJ, R_mA_sB, R_mB_sI, R_mB_sJ, R_mB_sA, mI_on, mI_off, mJ_on, mJ_off, mA_on, mA_same, mA_off, mB_on, mB_same, mB_off, up_on, up_off]
    exact e1
/-- what act starts its reading with *-/
def A0 (t n : Nat) (T : Nat → Nat) (M : MS) : Prop := PM t n T M ∧ (m_I M 22 = i_ 0 ∧ m_I M 23 = i_ 0 ∧ m_I M 25 = i_ 0 ∧ m_I M 26 = i_m) ∧ (m_A M 13 t = i_ 0 ∧ m_A M 4 t = i_ 0 ∧ m_A M 7 t = i_ 0) ∧ (∀ j, j < 8 → m_A M 18 (8 * t + j) = i_ 0 ∧ m_A M 19 (8 * t + j) = i_ 0) ∧ TXT M t n T
theorem M_act_0 {M : MS} {s : SP} (h : RMa M s) (hd : RMd M s) (hw : RMw M) : ∃ N, f_X3_act M = A_next (i_ (z_n s)) N ∧ Gr kaA kbA kiA (z_n s) M N ∧ A0 (z_n s) (z_tl s) (z_tp s) N := by
  obtain ⟨h1, h2, -⟩ := h
  obtain ⟨-, ⟨d1, d2⟩, d3⟩ := hd
  let M5 := m_sI (m_sI (m_sI (m_sI (m_sI M 24 (i_ (z_tl s))) 22 (i_ 0)) 23 (i_ 0)) 25 (i_ 0)) 26 i_m
  let M8 := m_sA (m_sA (m_sA M5 13 (z_n s) (i_ 0)) 4 (z_n s) (i_ 0)) 7 (z_n s) (i_ 0)
  have g5 : Gr kaA kbA kiA (z_n s) M M5 := ((((Gr.sI (by decide)).tr (Gr.sI (by decide))).tr (Gr.sI (by decide))).tr (Gr.sI (by decide))).tr (Gr.sI (by decide))
  have g8 : Gr kaA kbA kiA (z_n s) M M8 := ((g5.tr (Gr.sA (by decide) (Nat.le_refl _))).tr (Gr.sA (by decide) (Nat.le_refl _))).tr (Gr.sA (by decide) (Nat.le_refl _))
  have i5 : ∀ j, m_I M8 j = m_I M5 j := fun _ => rfl
  have a24 : m_I M5 24 = i_ (z_tl s) := by
    show m_I (m_sI (m_sI (m_sI (m_sI (m_sI M 24 (i_ (z_tl s))) 22 (i_ 0)) 23 (i_ 0)) 25 (i_ 0)) 26 i_m) 24 = _
    rw [mI_off (by decide), mI_off (by decide), mI_off (by decide), mI_off (by decide), mI_on]
  have hP8 : PM (z_n s) (z_tl s) (z_tp s) M8 := by
    refine ⟨⟨?_, h2, d2, a24⟩, fun k hk => ?_, ?_, ?_, ?_⟩
    · rw [g8.2.2.2.2.1 0 (by decide)]
      exact h1
    · rw [g8.1 21 (by decide)]
      exact d3 k hk
    · rw [g8.2.2.2.2.1 65 (by decide)]
      exact hw.1
    · show m_I M5 52 = 0
      show m_I (m_sI (m_sI (m_sI (m_sI (m_sI M 24 (i_ (z_tl s))) 22 (i_ 0)) 23 (i_ 0)) 25 (i_ 0)) 26 i_m) 52 = _
      rw [mI_off (by decide), mI_off (by decide), mI_off (by decide), mI_off (by decide), mI_off (by decide)]
      exact hw.2.1
    · rw [g8.2.2.2.2.2 33 (by decide), g8.2.2.2.2.2 34 (by decide), g8.2.2.2.2.2 35 (by decide), g8.2.2.2.2.2 36 (by decide), g8.2.2.2.2.2 37 (by decide), g8.2.2.2.2.2 38 (by decide), g8.2.2.2.2.2 39 (by decide)]
      exact hw.2.2
  obtain ⟨N1, b1, b2, b3⟩ := M_act_f 8 0 fu_ M8 hP8 (by omega) (by rw [fu_eq]; omega) (fun j hj => by omega)
  have hP1 := hP8.gr b2 (by decide) (by decide)
  obtain ⟨N2, c1, c2, c3⟩ := M_act_t (z_tl s) 0 fu_ N1 hP1 (by omega) (by rw [fu_eq]; omega) (fun j hj => by omega)
  have hu : f_X3_act M = f_X3_act_n56 fu_ (i_ (z_n s)) (i_ 0) M8 := by
    unfold f_X3_act
    have hz := h2
    simp (disch := omega) only [l_m1, l_m2, l_0, l_1, l_2, l_3, l_4, l_5, l_6, l_7, l_8, l_9, l_10, l_11, l_12, l_13, l_14, l_15, l_16, l_17, l_18, l_19, l_20, l_21, l_22, l_23, l_24, l_25, l_26, l_27, l_28, l_29, l_30, l_31, l_32, l_33, l_34, l_35, l_36, l_37, l_38, l_39, l_40, l_41, l_42, l_43, l_44, l_45, l_46, l_47, l_48, l_49, l_50, l_51, l_52, l_53, l_54, l_55, l_56, l_57, l_58, l_59, l_60, l_61, l_62, l_63, l_64, l_97, l_100, l_110, l_115, l_116, l_120, l_122, l_127, l_128, l_136, l_140, l_200, l_255, l_256, l_400, l_1000, l_30000, l_1200, l_65536, l_2147483639, l_2147483647, ob_some, obd_some, q_lt_t, q_lt_f, q_le_t, q_le_f, q_eq_t, q_eq_f, im_ne, im_ne', im_lt, im_le, im_lt', im_le', i_add, i_mul, i_dec, i_dec0, i_sub, i_and, i_shr, i_div, nar_b0, nar_b1, b2i_t, b2i_f, gA1, pA1, gB2, pB2, gA3, pA3, gA4, pA4, gB5, pB5, gA6, pA6, gA7, pA7, gA8, pA8, gA9, pA9, gA10, pA10, gA11, pA11, gA12, pA12, gA13, pA13, gA14, pA14, gA15, pA15, gA16, pA16, gA17, pA17, gA18, pA18, gA19, pA19, gA20, pA20, gA21, pA21, gA40, pA40, gB43, pB43, gA44, pA44, gA45, pA45, gA46, pA46, gA47, pA47, gA48, pA48, gA49, pA49, gA53, pA53, gA54, pA54, gA55, pA55, gA56, pA56, gA58, pA58, gA60, pA60, gA61, pA61, gA62, pA62, gA63, pA63, gA66, pA66, ↓reduceIte, if_true, if_false, R_mI_sJ, R_mI_sA, R_mI_sB, R_mJ_sI, R_mJ_sA, R_mJ_sB, R_mA_sI, R_mA_sJ, R_mA_sB, R_mB_sI, R_mB_sJ, R_mB_sA, mI_on, mI_off, mJ_on, mJ_off, mA_on, mA_same, mA_off, mB_on, mB_same, mB_off, up_on, up_off, h1, d1]
    rfl
  have g18 : Gr kaA kbA kiA (z_n s) M8 N2 := (b2.mono (by decide) (by decide) (by decide)).tr (c2.mono (by decide) (by decide) (by decide))
  have eI : ∀ j, m_I N2 j = m_I M5 j := fun j => by
    rw [c2.2.2.2.2.1 j List.not_mem_nil, b2.2.2.2.2.1 j List.not_mem_nil]
    exact i5 j
  refine ⟨N2, by rw [hu, b1, c1], g8.tr g18, hP1.gr c2 (by decide) (by decide), ⟨?_, ?_, ?_, ?_⟩, ⟨?_, ?_, ?_⟩, fun j hj => ?_, c3⟩
  · rw [eI]
    show m_I (m_sI (m_sI (m_sI (m_sI (m_sI M 24 (i_ (z_tl s))) 22 (i_ 0)) 23 (i_ 0)) 25 (i_ 0)) 26 i_m) 22 = _
    rw [mI_off (by decide), mI_off (by decide), mI_off (by decide), mI_on]
  · rw [eI]
    show m_I (m_sI (m_sI (m_sI (m_sI (m_sI M 24 (i_ (z_tl s))) 22 (i_ 0)) 23 (i_ 0)) 25 (i_ 0)) 26 i_m) 23 = _
    rw [mI_off (by decide), mI_off (by decide), mI_on]
  · rw [eI]
    show m_I (m_sI (m_sI (m_sI (m_sI (m_sI M 24 (i_ (z_tl s))) 22 (i_ 0)) 23 (i_ 0)) 25 (i_ 0)) 26 i_m) 25 = _
    rw [mI_off (by decide), mI_on]
  · rw [eI]
    show m_I (m_sI (m_sI (m_sI (m_sI (m_sI M 24 (i_ (z_tl s))) 22 (i_ 0)) 23 (i_ 0)) 25 (i_ 0)) 26 i_m) 26 = _
    rw [mI_on]
  · rw [c2.1 13 (by decide), b2.1 13 (by decide)]
    show m_A (m_sA (m_sA (m_sA M5 13 (z_n s) (i_ 0)) 4 (z_n s) (i_ 0)) 7 (z_n s) (i_ 0)) 13 _ = _
    rw [mA_same (by decide), mA_same (by decide), mA_on]
  · rw [c2.1 4 (by decide), b2.1 4 (by decide)]
    show m_A (m_sA (m_sA (m_sA M5 13 (z_n s) (i_ 0)) 4 (z_n s) (i_ 0)) 7 (z_n s) (i_ 0)) 4 _ = _
    rw [mA_same (by decide), mA_on]
  · rw [c2.1 7 (by decide), b2.1 7 (by decide)]
    exact mA_on
  · rw [c2.1 18 (by decide), c2.1 19 (by decide)]
    exact b3 j hj
theorem act_276 {M : MS} {e : Nat} (hb : BD M e) (x : Int32) : f_X3_act_n276 x M = f_X3_act_n299 x M := by
  have z : m_I M 25 = i_ 1 := hb.1
  unfold f_X3_act_n276
  simp (disch := omega) only [l_m1, l_m2, l_0, l_1, l_2, l_3, l_4, l_5, l_6, l_7, l_8, l_9, l_10, l_11, l_12, l_13, l_14, l_15, l_16, l_17, l_18, l_19, l_20, l_21, l_22, l_23, l_24, l_25, l_26, l_27, l_28, l_29, l_30, l_31, l_32, l_33, l_34, l_35, l_36, l_37, l_38, l_39, l_40, l_41, l_42, l_43, l_44, l_45, l_46, l_47, l_48, l_49, l_50, l_51, l_52, l_53, l_54, l_55, l_56, l_57, l_58, l_59, l_60, l_61, l_62, l_63, l_64, l_97, l_100, l_110, l_115, l_116, l_120, l_122, l_127, l_128, l_136, l_140, l_200, l_255, l_256, l_400, l_1000, l_30000, l_1200, l_65536, l_2147483639, l_2147483647, ob_some, obd_some, q_lt_t, q_lt_f, q_le_t, q_le_f, q_eq_t, q_eq_f, im_ne, im_ne', im_lt, im_le, im_lt', im_le', i_add, i_mul, i_dec, i_dec0, i_sub, i_and, i_shr, i_div, nar_b0, nar_b1, b2i_t, b2i_f, gA1, pA1, gB2, pB2, gA3, pA3, gA4, pA4, gB5, pB5, gA6, pA6, gA7, pA7, gA8, pA8, gA9, pA9, gA10, pA10, gA11, pA11, gA12, pA12, gA13, pA13, gA14, pA14, gA15, pA15, gA16, pA16, gA17, pA17, gA18, pA18, gA19, pA19, gA20, pA20, gA21, pA21, gA40, pA40, gB43, pB43, gA44, pA44, gA45, pA45, gA46, pA46, gA47, pA47, gA48, pA48, gA49, pA49, gA53, pA53, gA54, pA54, gA55, pA55, gA56, pA56, gA58, pA58, gA60, pA60, gA61, pA61, gA62, pA62, gA63, pA63, gA66, pA66, ↓reduceIte, if_true, if_false, R_mI_sJ, R_mI_sA, R_mI_sB, R_mJ_sI, R_mJ_sA, R_mJ_sB, R_mA_sI, R_mA_sJ, R_mA_sB, R_mB_sI, R_mB_sJ, R_mB_sA, mI_on, mI_off, mJ_on, mJ_off, mA_on, mA_same, mA_off, mB_on, mB_same, mB_off, up_on, up_off, z]
theorem act_263 {M : MS} {e : Nat} (hb : BD M e) (x : Int32) : f_X3_act_n263 x M = f_X3_act_n299 x M := by
  have z : m_I M 25 = i_ 1 := hb.1
  unfold f_X3_act_n263
  simp (disch := omega) only [l_m1, l_m2, l_0, l_1, l_2, l_3, l_4, l_5, l_6, l_7, l_8, l_9, l_10, l_11, l_12, l_13, l_14, l_15, l_16, l_17, l_18, l_19, l_20, l_21, l_22, l_23, l_24, l_25, l_26, l_27, l_28, l_29, l_30, l_31, l_32, l_33, l_34, l_35, l_36, l_37, l_38, l_39, l_40, l_41, l_42, l_43, l_44, l_45, l_46, l_47, l_48, l_49, l_50, l_51, l_52, l_53, l_54, l_55, l_56, l_57, l_58, l_59, l_60, l_61, l_62, l_63, l_64, l_97, l_100, l_110, l_115, l_116, l_120, l_122, l_127, l_128, l_136, l_140, l_200, l_255, l_256, l_400, l_1000, l_30000, l_1200, l_65536, l_2147483639, l_2147483647, ob_some, obd_some, q_lt_t, q_lt_f, q_le_t, q_le_f, q_eq_t, q_eq_f, im_ne, im_ne', im_lt, im_le, im_lt', im_le', i_add, i_mul, i_dec, i_dec0, i_sub, i_and, i_shr, i_div, nar_b0, nar_b1, b2i_t, b2i_f, gA1, pA1, gB2, pB2, gA3, pA3, gA4, pA4, gB5, pB5, gA6, pA6, gA7, pA7, gA8, pA8, gA9, pA9, gA10, pA10, gA11, pA11, gA12, pA12, gA13, pA13, gA14, pA14, gA15, pA15, gA16, pA16, gA17, pA17, gA18, pA18, gA19, pA19, gA20, pA20, gA21, pA21, gA40, pA40, gB43, pB43, gA44, pA44, gA45, pA45, gA46, pA46, gA47, pA47, gA48, pA48, gA49, pA49, gA53, pA53, gA54, pA54, gA55, pA55, gA56, pA56, gA58, pA58, gA60, pA60, gA61, pA61, gA62, pA62, gA63, pA63, gA66, pA66, ↓reduceIte, if_true, if_false, R_mI_sJ, R_mI_sA, R_mI_sB, R_mJ_sI, R_mJ_sA, R_mJ_sB, R_mA_sI, R_mA_sJ, R_mA_sB, R_mB_sI, R_mB_sJ, R_mB_sA, mI_on, mI_off, mJ_on, mJ_off, mA_on, mA_same, mA_off, mB_on, mB_same, mB_off, up_on, up_off, z, act_276 hb x]
theorem act_229 {M : MS} {e : Nat} (hb : BD M e) (x : Int32) : f_X3_act_n229 x M = f_X3_act_n299 x M := by
  have z : m_I M 25 = i_ 1 := hb.1
  unfold f_X3_act_n229 f_X3_act_n252
  simp (disch := omega) only [l_m1, l_m2, l_0, l_1, l_2, l_3, l_4, l_5, l_6, l_7, l_8, l_9, l_10, l_11, l_12, l_13, l_14, l_15, l_16, l_17, l_18, l_19, l_20, l_21, l_22, l_23, l_24, l_25, l_26, l_27, l_28, l_29, l_30, l_31, l_32, l_33, l_34, l_35, l_36, l_37, l_38, l_39, l_40, l_41, l_42, l_43, l_44, l_45, l_46, l_47, l_48, l_49, l_50, l_51, l_52, l_53, l_54, l_55, l_56, l_57, l_58, l_59, l_60, l_61, l_62, l_63, l_64, l_97, l_100, l_110, l_115, l_116, l_120, l_122, l_127, l_128, l_136, l_140, l_200, l_255, l_256, l_400, l_1000, l_30000, l_1200, l_65536, l_2147483639, l_2147483647, ob_some, obd_some, q_lt_t, q_lt_f, q_le_t, q_le_f, q_eq_t, q_eq_f, im_ne, im_ne', im_lt, im_le, im_lt', im_le', i_add, i_mul, i_dec, i_dec0, i_sub, i_and, i_shr, i_div, nar_b0, nar_b1, b2i_t, b2i_f, gA1, pA1, gB2, pB2, gA3, pA3, gA4, pA4, gB5, pB5, gA6, pA6, gA7, pA7, gA8, pA8, gA9, pA9, gA10, pA10, gA11, pA11, gA12, pA12, gA13, pA13, gA14, pA14, gA15, pA15, gA16, pA16, gA17, pA17, gA18, pA18, gA19, pA19, gA20, pA20, gA21, pA21, gA40, pA40, gB43, pB43, gA44, pA44, gA45, pA45, gA46, pA46, gA47, pA47, gA48, pA48, gA49, pA49, gA53, pA53, gA54, pA54, gA55, pA55, gA56, pA56, gA58, pA58, gA60, pA60, gA61, pA61, gA62, pA62, gA63, pA63, gA66, pA66, ↓reduceIte, if_true, if_false, R_mI_sJ, R_mI_sA, R_mI_sB, R_mJ_sI, R_mJ_sA, R_mJ_sB, R_mA_sI, R_mA_sJ, R_mA_sB, R_mB_sI, R_mB_sJ, R_mB_sA, mI_on, mI_off, mJ_on, mJ_off, mA_on, mA_same, mA_off, mB_on, mB_same, mB_off, up_on, up_off, z, act_263 hb x]
/-- a statement as it was read *-/
def hdr (T : Nat → Nat) (n : Nat) (st : St) : List Rk := [(1, sk T n 0, sl T (sk T n 0) (lw T n (sk T n 0))), (1, st.1.2.2, st.1.2.1)]
def PRD (t n : Nat) (T : Nat → Nat) (st : St) (M : MS) : Prop := PM t n T M ∧ (m_I M 25 = i_ 0 ∧ m_I M 26 = i_m ∧ m_I M 22 = i_ 0) ∧ TK M t (hdr T n st ++ st.2.2) ∧ (m_B M 2 t = enc st.1.2.1 ∧ m_A M 3 t = i_ st.1.1) ∧ TXT M t n T ∧ (hdr T n st ++ st.2.2).length ≤ n ∧ match st.2.1 with
    | .inl cs => m_A M 4 t = i_ cs.length ∧ m_A M 7 t = i_ 0 ∧ m_A M 19 (8 * t + 7) = i_ 0 ∧ SL M t (hdr T n st ++ st.2.2) 0 3 cs
    | .inr y => SLR M t (hdr T n st ++ st.2.2) 3 y.1 y.2.1 y.2.2 ∧ m_A M 20 t = i_ 2
theorem Gr.kA {t : Nat} {M N : MS} (g : Gr kaK [] kiP t M N) : Gr kaA kbA kiA t M N := g.mono (by decide) (by decide) (by decide)
/-- the end of a statement *-/
theorem M_act_e {t n : Nat} {T : Nat → Nat} {ks : List Rk} {M : MS} {p : Nat} (h : PS t n T ks M p) : ∃ N, f_X3_act_n263 (i_ t) M = f_X3_act_n299 (i_ t) N ∧ Gr kaK [] kiP t M N ∧ match pend T n p with
    | .inl e => BD N e
    | .inr c => PS t n T (ks ++ [c.1]) N c.2 := by
  have h25 := h.2.2.2.1
  obtain ⟨N1, a1, a2, a3⟩ := M_sign h 59 (isSn_l 59 (by decide))
  have s1 : f_X3_act_n263 (i_ t) M = f_X3_act_n276 (i_ t) N1 := by
    unfold f_X3_act_n263
    simp (disch := omega) only [l_m1, l_m2, l_0, l_1, l_2, l_3, l_4, l_5, l_6, l_7, l_8, l_9, l_10, l_11, l_12, l_13, l_14, l_15, l_16, l_17, l_18, l_19, l_20, l_21, l_22, l_23, l_24, l_25, l_26, l_27, l_28, l_29, l_30, l_31, l_32, l_33, l_34, l_35, l_36, l_37, l_38, l_39, l_40, l_41, l_42, l_43, l_44, l_45, l_46, l_47, l_48, l_49, l_50, l_51, l_52, l_53, l_54, l_55, l_56, l_57, l_58, l_59, l_60, l_61, l_62, l_63, l_64, l_97, l_100, l_110, l_115, l_116, l_120, l_122, l_127, l_128, l_136, l_140, l_200, l_255, l_256, l_400, l_1000, l_30000, l_1200, l_65536, l_2147483639, l_2147483647, ob_some, obd_some, q_lt_t, q_lt_f, q_le_t, q_le_f, q_eq_t, q_eq_f, im_ne, im_ne', im_lt, im_le, im_lt', im_le', i_add, i_mul, i_dec, i_dec0, i_sub, i_and, i_shr, i_div, nar_b0, nar_b1, b2i_t, b2i_f, gA1, pA1, gB2, pB2, gA3, pA3, gA4, pA4, gB5, pB5, gA6, pA6, gA7, pA7, gA8, pA8, gA9, pA9, gA10, pA10, gA11, pA11, gA12, pA12, gA13, pA13, gA14, pA14, gA15, pA15, gA16, pA16, gA17, pA17, gA18, pA18, gA19, pA19, gA20, pA20, gA21, pA21, gA40, pA40, gB43, pB43, gA44, pA44, gA45, pA45, gA46, pA46, gA47, pA47, gA48, pA48, gA49, pA49, gA53, pA53, gA54, pA54, gA55, pA55, gA56, pA56, gA58, pA58, gA60, pA60, gA61, pA61, gA62, pA62, gA63, pA63, gA66, pA66, ↓reduceIte, if_true, if_false, R_mI_sJ, R_mI_sA, R_mI_sB, R_mJ_sI, R_mJ_sA, R_mJ_sB, R_mA_sI, R_mA_sJ, R_mA_sB, R_mB_sI, R_mB_sJ, R_mB_sA, mI_on, mI_off, mJ_on, mJ_off, mA_on, mA_same, mA_off, mB_on, mB_same, mB_off, up_on, up_off, h25, a1]
  unfold pend
  cases hp : psg 59 T n p with
  | inl e =>
    rw [hp] at a3
    exact ⟨N1, by rw [s1, act_276 a3], a2, a3⟩
  | inr v =>
    rw [hp] at a3
    have a3' : PS t n T (ks ++ [v.1]) N1 v.2 := a3
    rw [pb_inr]
    have z1 := a3'.2.2.2.1
    have l1 := a3'.2.1.1
    have l2 := a3'.2.1.2.1
    have hT256 : ∀ k, k < n → T k < 256 := fun k hk => (h.1.2.1 k hk).2
    have hk0 : (knd T n (sk T n v.2) = i_ 0) = (chp T n (sk T n v.2) = 256) := by
      unfold knd chp
      by_cases hq : sk T n v.2 < n
      · have ht := hT256 _ hq
        rw [if_pos hq, if_pos hq, eq_false (show ¬ T (sk T n v.2) = 256 by omega)]
        by_cases e1 : isLb (T (sk T n v.2)) = true
        · rw [if_pos e1, q_eq_f (by omega) (by omega) (by omega)]
        · rw [if_neg e1]
          by_cases e2 : isDb (T (sk T n v.2)) = true
          · rw [if_pos e2, q_eq_f (by omega) (by omega) (by omega)]
          · rw [if_neg e2]
            by_cases e3 : T (sk T n v.2) = 39
            · rw [if_pos e3, q_eq_f (by omega) (by omega) (by omega)]
            · rw [if_neg e3]
              by_cases e4 : T (sk T n v.2) < 32
              · rw [if_pos e4, im_ne' (by omega)]
              · rw [if_neg e4, q_eq_f (by omega) (by omega) (by omega)]
      · rw [if_neg hq, if_neg hq]
        exact (eq_true rfl).trans (eq_true rfl).symm
    by_cases e0 : chp T n (sk T n v.2) = 256
    · have hk0' := hk0.trans (eq_true e0)
      rw [if_pos e0]
      refine ⟨N1, ?_, a2, a3'.sk⟩
      rw [s1]
      unfold f_X3_act_n276
      simp (disch := omega) only [l_m1, l_m2, l_0, l_1, l_2, l_3, l_4, l_5, l_6, l_7, l_8, l_9, l_10, l_11, l_12, l_13, l_14, l_15, l_16, l_17, l_18, l_19, l_20, l_21, l_22, l_23, l_24, l_25, l_26, l_27, l_28, l_29, l_30, l_31, l_32, l_33, l_34, l_35, l_36, l_37, l_38, l_39, l_40, l_41, l_42, l_43, l_44, l_45, l_46, l_47, l_48, l_49, l_50, l_51, l_52, l_53, l_54, l_55, l_56, l_57, l_58, l_59, l_60, l_61, l_62, l_63, l_64, l_97, l_100, l_110, l_115, l_116, l_120, l_122, l_127, l_128, l_136, l_140, l_200, l_255, l_256, l_400, l_1000, l_30000, l_1200, l_65536, l_2147483639, l_2147483647, ob_some, obd_some, q_lt_t, q_lt_f, q_le_t, q_le_f, q_eq_t, q_eq_f, im_ne, im_ne', im_lt, im_le, im_lt', im_le', i_add, i_mul, i_dec, i_dec0, i_sub, i_and, i_shr, i_div, nar_b0, nar_b1, b2i_t, b2i_f, gA1, pA1, gB2, pB2, gA3, pA3, gA4, pA4, gB5, pB5, gA6, pA6, gA7, pA7, gA8, pA8, gA9, pA9, gA10, pA10, gA11, pA11, gA12, pA12, gA13, pA13, gA14, pA14, gA15, pA15, gA16, pA16, gA17, pA17, gA18, pA18, gA19, pA19, gA20, pA20, gA21, pA21, gA40, pA40, gB43, pB43, gA44, pA44, gA45, pA45, gA46, pA46, gA47, pA47, gA48, pA48, gA49, pA49, gA53, pA53, gA54, pA54, gA55, pA55, gA56, pA56, gA58, pA58, gA60, pA60, gA61, pA61, gA62, pA62, gA63, pA63, gA66, pA66, ↓reduceIte, if_true, if_false, R_mI_sJ, R_mI_sA, R_mI_sB, R_mJ_sI, R_mJ_sA, R_mJ_sB, R_mA_sI, R_mA_sJ, R_mA_sB, R_mB_sI, R_mB_sJ, R_mB_sA, mI_on, mI_off, mJ_on, mJ_off, mA_on, mA_same, mA_off, mB_on, mB_same, mB_off, up_on, up_off, z1, l1, hk0']
    · have hk0' := hk0.trans (eq_false e0)
      rw [if_neg e0]
      obtain ⟨N2, b1, b2, b3⟩ := a3'.fail (sk T n v.2)
      refine ⟨N2, ?_, a2.tr b2, b3⟩
      rw [s1]
      unfold f_X3_act_n276
      simp (disch := omega) only [l_m1, l_m2, l_0, l_1, l_2, l_3, l_4, l_5, l_6, l_7, l_8, l_9, l_10, l_11, l_12, l_13, l_14, l_15, l_16, l_17, l_18, l_19, l_20, l_21, l_22, l_23, l_24, l_25, l_26, l_27, l_28, l_29, l_30, l_31, l_32, l_33, l_34, l_35, l_36, l_37, l_38, l_39, l_40, l_41, l_42, l_43, l_44, l_45, l_46, l_47, l_48, l_49, l_50, l_51, l_52, l_53, l_54, l_55, l_56, l_57, l_58, l_59, l_60, l_61, l_62, l_63, l_64, l_97, l_100, l_110, l_115, l_116, l_120, l_122, l_127, l_128, l_136, l_140, l_200, l_255, l_256, l_400, l_1000, l_30000, l_1200, l_65536, l_2147483639, l_2147483647, ob_some, obd_some, q_lt_t, q_lt_f, q_le_t, q_le_f, q_eq_t, q_eq_f, im_ne, im_ne', im_lt, im_le, im_lt', im_le', i_add, i_mul, i_dec, i_dec0, i_sub, i_and, i_shr, i_div, nar_b0, nar_b1, b2i_t, b2i_f, gA1, pA1, gB2, pB2, gA3, pA3, gA4, pA4, gB5, pB5, gA6, pA6, gA7, pA7, gA8, pA8, gA9, pA9, gA10, pA10, gA11, pA11, gA12, pA12, gA13, pA13, gA14, pA14, gA15, pA15, gA16, pA16, gA17, pA17, gA18, pA18, gA19, pA19, gA20, pA20, gA21, pA21, gA40, pA40, gB43, pB43, gA44, pA44, gA45, pA45, gA46, pA46, gA47, pA47, gA48, pA48, gA49, pA49, gA53, pA53, gA54, pA54, gA55, pA55, gA56, pA56, gA58, pA58, gA60, pA60, gA61, pA61, gA62, pA62, gA63, pA63, gA66, pA66, ↓reduceIte, if_true, if_false, R_mI_sJ, R_mI_sA, R_mI_sB, R_mJ_sI, R_mJ_sA, R_mJ_sB, R_mA_sI, R_mA_sJ, R_mA_sB, R_mB_sI, R_mB_sJ, R_mB_sA, mI_on, mI_off, mJ_on, mJ_off, mA_on, mA_same, mA_off, mB_on, mB_same, mB_off, up_on, up_off, z1, l1, l2, hk0', b1]
theorem M_act_read {t n : Nat} {T : Nat → Nat} {M : MS} (h : A0 t n T M) : ∃ N, A_next (i_ t) M = f_X3_act_n299 (i_ t) N ∧ Gr kaA kbA kiA t M N ∧ (m_I N 22 = i_ 0 ∧ m_I N 52 = 0) ∧ match pstat T n with
    | .inl e => BD N e
    | .inr st => PRD t n T st N := by
  obtain ⟨hP, ⟨h22, h23, h25, h26⟩, ⟨h13, h4, h7⟩, h18, hX⟩ := h
  have hn := hP.1
  have ht := hn.2.1
  obtain ⟨N1, a1, a2, a3⟩ := M_next hP (Nat.zero_le n) h23
  have hP1 := hP.gr a2 (by decide) (by decide)
  have hPS : PS t n T [] N1 0 := by
    refine ⟨hP1, a3, ⟨?_, fun i hi => absurd hi (Nat.not_lt_zero i)⟩, ?_, Nat.le_refl _, Nat.zero_le _, ?_⟩
    · rw [a2.1 13 List.not_mem_nil]
      exact h13
    · rw [a2.2.2.2.2.1 25 (by decide)]
      exact h25
    · rw [a2.2.2.2.2.1 26 (by decide)]
      exact h26
  have w1 := M_isWord hP1 a3 (k := [116, 97, 98, 108, 101]) (by decide)
  have w2 := M_isWord hP1 a3 (k := [118, 105, 101, 119]) (by decide)
  have w3 := M_isWord hP1 a3 (k := [99, 111, 112, 121]) (by decide)
  have j35 : m_J N1 35 = enc [116, 97, 98, 108, 101] := hP1.2.2.2.2.2.2.1
  have j33 : m_J N1 33 = enc [118, 105, 101, 119] := hP1.2.2.2.2.1
  have j34 : m_J N1 34 = enc [99, 111, 112, 121] := hP1.2.2.2.2.2.1
  have l2 := a3.2.1
  have gN1 : Gr kaA kbA kiA t M N1 := Gr.mono a2 (by decide) (by decide) (by decide)
  have e22 : ∀ {A B : MS} {ka kb ki : List Nat}, Gr ka kb ki t A B → (22 ∉ ki ∧ 52 ∉ ki) → (m_I A 22 = i_ 0 ∧ m_I A 52 = 0) → (m_I B 22 = i_ 0 ∧ m_I B 52 = 0) := fun g hki e => by
    rw [g.2.2.2.2.1 22 hki.1, g.2.2.2.2.1 52 hki.2]
    exact e
  have n22 : m_I N1 22 = i_ 0 ∧ m_I N1 52 = 0 := e22 a2 (by decide) ⟨h22, hP.2.2.2.1⟩
  unfold pstat
  have hbadN : ∀ N, BD N (sk T n 0) → PM t n T N → f_X3_act_n208 (i_ t) N = f_X3_act_n299 (i_ t) (m_sB N 2 t (m_J N 32)) := by
    intro N hb hPN
    have z : m_I N 25 = i_ 1 := hb.1
    have hb' : BD (m_sB N 2 t (m_J N 32)) (sk T n 0) := hb
    have := act_229 hb' (i_ t)
    unfold f_X3_act_n208
    simp (disch := omega) only [l_m1, l_m2, l_0, l_1, l_2, l_3, l_4, l_5, l_6, l_7, l_8, l_9, l_10, l_11, l_12, l_13, l_14, l_15, l_16, l_17, l_18, l_19, l_20, l_21, l_22, l_23, l_24, l_25, l_26, l_27, l_28, l_29, l_30, l_31, l_32, l_33, l_34, l_35, l_36, l_37, l_38, l_39, l_40, l_41, l_42, l_43, l_44, l_45, l_46, l_47, l_48, l_49, l_50, l_51, l_52, l_53, l_54, l_55, l_56, l_57, l_58, l_59, l_60, l_61, l_62, l_63, l_64, l_97, l_100, l_110, l_115, l_116, l_120, l_122, l_127, l_128, l_136, l_140, l_200, l_255, l_256, l_400, l_1000, l_30000, l_1200, l_65536, l_2147483639, l_2147483647, ob_some, obd_some, q_lt_t, q_lt_f, q_le_t, q_le_f, q_eq_t, q_eq_f, im_ne, im_ne', im_lt, im_le, im_lt', im_le', i_add, i_mul, i_dec, i_dec0, i_sub, i_and, i_shr, i_div, nar_b0, nar_b1, b2i_t, b2i_f, gA1, pA1, gB2, pB2, gA3, pA3, gA4, pA4, gB5, pB5, gA6, pA6, gA7, pA7, gA8, pA8, gA9, pA9, gA10, pA10, gA11, pA11, gA12, pA12, gA13, pA13, gA14, pA14, gA15, pA15, gA16, pA16, gA17, pA17, gA18, pA18, gA19, pA19, gA20, pA20, gA21, pA21, gA40, pA40, gB43, pB43, gA44, pA44, gA45, pA45, gA46, pA46, gA47, pA47, gA48, pA48, gA49, pA49, gA53, pA53, gA54, pA54, gA55, pA55, gA56, pA56, gA58, pA58, gA60, pA60, gA61, pA61, gA62, pA62, gA63, pA63, gA66, pA66, ↓reduceIte, if_true, if_false, R_mI_sJ, R_mI_sA, R_mI_sB, R_mJ_sI, R_mJ_sA, R_mJ_sB, R_mA_sI, R_mA_sJ, R_mA_sB, R_mB_sI, R_mB_sJ, R_mB_sA, mI_on, mI_off, mJ_on, mJ_off, mA_on, mA_same, mA_off, mB_on, mB_same, mB_off, up_on, up_off, z, this]
  cases hs : psort T n with
  | none =>
    have q1 : pwd [116, 97, 98, 108, 101] T n 0 = false ∧ pwd [118, 105, 101, 119] T n 0 = false ∧ pwd [99, 111, 112, 121] T n 0 = false := by
      unfold psort at hs
      cases e1 : pwd [116, 97, 98, 108, 101] T n 0 with
      | true => rw [e1, if_pos rfl] at hs; cases hs
      | false =>
        cases e2 : pwd [118, 105, 101, 119] T n 0 with
        | true => rw [e1, e2, if_neg (by decide), if_pos rfl] at hs; cases hs
        | false =>
          cases e3 : pwd [99, 111, 112, 121] T n 0 with
          | true => rw [e1, e2, e3, if_neg (by decide), if_neg (by decide), if_pos rfl] at hs; cases hs
          | false => exact ⟨rfl, rfl, rfl⟩
    rw [q1.1] at w1
    rw [q1.2.1] at w2
    rw [q1.2.2] at w3
    have g2 : Gr kaA kbA kiA t N1 (m_sA N1 3 t i_m) := Gr.sA (by decide) (Nat.le_refl t)
    obtain ⟨N2, b1, b2, b3⟩ := M_fail (t := t) (M := m_sA N1 3 t i_m) hPS.2.2.2.1 (sk T n 0)
    have hP2 : PM t n T N2 := (hP1.gr (Gr.sA (ka := [3]) (kb := []) (ki := []) (by decide) (Nat.le_refl t)) (by decide) (by decide)).gr b2 (by decide) (by decide)
    have hf := hbadN N2 b3 hP2
    refine ⟨m_sB N2 2 t (m_J N2 32), ?_, ((gN1.tr g2).tr (b2.mono (by decide) (by decide) (by decide))).tr (Gr.sB (by decide) (Nat.le_refl t)), (e22 (A := m_sA N1 3 t i_m) (B := N2) b2 (by decide) n22 : m_I N2 22 = i_ 0 ∧ m_I N2 52 = 0), b3⟩
    unfold A_next f_X3_act_n181
    simp (disch := omega) only [l_m1, l_m2, l_0, l_1, l_2, l_3, l_4, l_5, l_6, l_7, l_8, l_9, l_10, l_11, l_12, l_13, l_14, l_15, l_16, l_17, l_18, l_19, l_20, l_21, l_22, l_23, l_24, l_25, l_26, l_27, l_28, l_29, l_30, l_31, l_32, l_33, l_34, l_35, l_36, l_37, l_38, l_39, l_40, l_41, l_42, l_43, l_44, l_45, l_46, l_47, l_48, l_49, l_50, l_51, l_52, l_53, l_54, l_55, l_56, l_57, l_58, l_59, l_60, l_61, l_62, l_63, l_64, l_97, l_100, l_110, l_115, l_116, l_120, l_122, l_127, l_128, l_136, l_140, l_200, l_255, l_256, l_400, l_1000, l_30000, l_1200, l_65536, l_2147483639, l_2147483647, ob_some, obd_some, q_lt_t, q_lt_f, q_le_t, q_le_f, q_eq_t, q_eq_f, im_ne, im_ne', im_lt, im_le, im_lt', im_le', i_add, i_mul, i_dec, i_dec0, i_sub, i_and, i_shr, i_div, nar_b0, nar_b1, b2i_t, b2i_f, gA1, pA1, gB2, pB2, gA3, pA3, gA4, pA4, gB5, pB5, gA6, pA6, gA7, pA7, gA8, pA8, gA9, pA9, gA10, pA10, gA11, pA11, gA12, pA12, gA13, pA13, gA14, pA14, gA15, pA15, gA16, pA16, gA17, pA17, gA18, pA18, gA19, pA19, gA20, pA20, gA21, pA21, gA40, pA40, gB43, pB43, gA44, pA44, gA45, pA45, gA46, pA46, gA47, pA47, gA48, pA48, gA49, pA49, gA53, pA53, gA54, pA54, gA55, pA55, gA56, pA56, gA58, pA58, gA60, pA60, gA61, pA61, gA62, pA62, gA63, pA63, gA66, pA66, ↓reduceIte, if_true, if_false, R_mI_sJ, R_mI_sA, R_mI_sB, R_mJ_sI, R_mJ_sA, R_mJ_sB, R_mA_sI, R_mA_sJ, R_mA_sB, R_mB_sI, R_mB_sJ, R_mB_sA, mI_on, mI_off, mJ_on, mJ_off, mA_on, mA_same, mA_off, mB_on, mB_same, mB_off, up_on, up_off, a1, j35, j33, j34, w1, w2, w3, l2, b1, hf]
  | some k =>
    have hk : k ≤ 2 ∧ A_next (i_ t) M = f_X3_act_n181 (i_ t) (i_ t) (i_ k) N1 := by
      unfold psort at hs
      unfold A_next
      cases e1 : pwd [116, 97, 98, 108, 101] T n 0 with
      | true =>
        rw [e1, if_pos rfl] at hs
        cases hs
        rw [e1] at w1
        refine ⟨Nat.zero_le _, ?_⟩
        simp (disch := omega) only [l_m1, l_m2, l_0, l_1, l_2, l_3, l_4, l_5, l_6, l_7, l_8, l_9, l_10, l_11, l_12, l_13, l_14, l_15, l_16, l_17, l_18, l_19, l_20, l_21, l_22, l_23, l_24, l_25, l_26, l_27, l_28, l_29, l_30, l_31, l_32, l_33, l_34, l_35, l_36, l_37, l_38, l_39, l_40, l_41, l_42, l_43, l_44, l_45, l_46, l_47, l_48, l_49, l_50, l_51, l_52, l_53, l_54, l_55, l_56, l_57, l_58, l_59, l_60, l_61, l_62, l_63, l_64, l_97, l_100, l_110, l_115, l_116, l_120, l_122, l_127, l_128, l_136, l_140, l_200, l_255, l_256, l_400, l_1000, l_30000, l_1200, l_65536, l_2147483639, l_2147483647, ob_some, obd_some, q_lt_t, q_lt_f, q_le_t, q_le_f, q_eq_t, q_eq_f, im_ne, im_ne', im_lt, im_le, im_lt', im_le', i_add, i_mul, i_dec, i_dec0, i_sub, i_and, i_shr, i_div, nar_b0, nar_b1, b2i_t, b2i_f, gA1, pA1, gB2, pB2, gA3, pA3, gA4, pA4, gB5, pB5, gA6, pA6, gA7, pA7, gA8, pA8, gA9, pA9, gA10, pA10, gA11, pA11, gA12, pA12, gA13, pA13, gA14, pA14, gA15, pA15, gA16, pA16, gA17, pA17, gA18, pA18, gA19, pA19, gA20, pA20, gA21, pA21, gA40, pA40, gB43, pB43, gA44, pA44, gA45, pA45, gA46, pA46, gA47, pA47, gA48, pA48, gA49, pA49, gA53, pA53, gA54, pA54, gA55, pA55, gA56, pA56, gA58, pA58, gA60, pA60, gA61, pA61, gA62, pA62, gA63, pA63, gA66, pA66, ↓reduceIte, if_true, if_false, R_mI_sJ, R_mI_sA, R_mI_sB, R_mJ_sI, R_mJ_sA, R_mJ_sB, R_mA_sI, R_mA_sJ, R_mA_sB, R_mB_sI, R_mB_sJ, R_mB_sA, mI_on, mI_off, mJ_on, mJ_off, mA_on, mA_same, mA_off, mB_on, mB_same, mB_off, up_on, up_off, a1, j35, w1]
      | false =>
        rw [e1] at w1
        cases e2 : pwd [118, 105, 101, 119] T n 0 with
        | true =>
          rw [e1, e2, if_neg (by decide), if_pos rfl] at hs
          cases hs
          rw [e2] at w2
          refine ⟨by decide, ?_⟩
          simp (disch := omega) only [l_m1, l_m2, l_0, l_1, l_2, l_3, l_4, l_5, l_6, l_7, l_8, l_9, l_10, l_11, l_12, l_13, l_14, l_15, l_16, l_17, l_18, l_19, l_20, l_21, l_22, l_23, l_24, l_25, l_26, l_27, l_28, l_29, l_30, l_31, l_32, l_33, l_34, l_35, l_36, l_37, l_38, l_39, l_40, l_41, l_42, l_43, l_44, l_45, l_46, l_47, l_48, l_49, l_50, l_51, l_52, l_53, l_54, l_55, l_56, l_57, l_58, l_59, l_60, l_61, l_62, l_63, l_64, l_97, l_100, l_110, l_115, l_116, l_120, l_122, l_127, l_128, l_136, l_140, l_200, l_255, l_256, l_400, l_1000, l_30000, l_1200, l_65536, l_2147483639, l_2147483647, ob_some, obd_some, q_lt_t, q_lt_f, q_le_t, q_le_f, q_eq_t, q_eq_f, im_ne, im_ne', im_lt, im_le, im_lt', im_le', i_add, i_mul, i_dec, i_dec0, i_sub, i_and, i_shr, i_div, nar_b0, nar_b1, b2i_t, b2i_f, gA1, pA1, gB2, pB2, gA3, pA3, gA4, pA4, gB5, pB5, gA6, pA6, gA7, pA7, gA8, pA8, gA9, pA9, gA10, pA10, gA11, pA11, gA12, pA12, gA13, pA13, gA14, pA14, gA15, pA15, gA16, pA16, gA17, pA17, gA18, pA18, gA19, pA19, gA20, pA20, gA21, pA21, gA40, pA40, gB43, pB43, gA44, pA44, gA45, pA45, gA46, pA46, gA47, pA47, gA48, pA48, gA49, pA49, gA53, pA53, gA54, pA54, gA55, pA55, gA56, pA56, gA58, pA58, gA60, pA60, gA61, pA61, gA62, pA62, gA63, pA63, gA66, pA66, ↓reduceIte, if_true, if_false, R_mI_sJ, R_mI_sA, R_mI_sB, R_mJ_sI, R_mJ_sA, R_mJ_sB, R_mA_sI, R_mA_sJ, R_mA_sB, R_mB_sI, R_mB_sJ, R_mB_sA, mI_on, mI_off, mJ_on, mJ_off, mA_on, mA_same, mA_off, mB_on, mB_same, mB_off, up_on, up_off, a1, j35, j33, w1, w2]
        | false =>
          rw [e2] at w2
          cases e3 : pwd [99, 111, 112, 121] T n 0 with
          | true =>
            rw [e1, e2, e3, if_neg (by decide), if_neg (by decide), if_pos rfl] at hs
            cases hs
            rw [e3] at w3
            refine ⟨by decide, ?_⟩
            simp (disch := omega) only [l_m1, l_m2, l_0, l_1, l_2, l_3, l_4, l_5, l_6, l_7, l_8, l_9, l_10, l_11, l_12, l_13, l_14, l_15, l_16, l_17, l_18, l_19, l_20, l_21, l_22, l_23, l_24, l_25, l_26, l_27, l_28, l_29, l_30, l_31, l_32, l_33, l_34, l_35, l_36, l_37, l_38, l_39, l_40, l_41, l_42, l_43, l_44, l_45, l_46, l_47, l_48, l_49, l_50, l_51, l_52, l_53, l_54, l_55, l_56, l_57, l_58, l_59, l_60, l_61, l_62, l_63, l_64, l_97, l_100, l_110, l_115, l_116, l_120, l_122, l_127, l_128, l_136, l_140, l_200, l_255, l_256, l_400, l_1000, l_30000, l_1200, l_65536, l_2147483639, l_2147483647, ob_some, obd_some, q_lt_t, q_lt_f, q_le_t, q_le_f, q_eq_t, q_eq_f, im_ne, im_ne', im_lt, im_le, im_lt', im_le', i_add, i_mul, i_dec, i_dec0, i_sub, i_and, i_shr, i_div, nar_b0, nar_b1, b2i_t, b2i_f, gA1, pA1, gB2, pB2, gA3, pA3, gA4, pA4, gB5, pB5, gA6, pA6, gA7, pA7, gA8, pA8, gA9, pA9, gA10, pA10, gA11, pA11, gA12, pA12, gA13, pA13, gA14, pA14, gA15, pA15, gA16, pA16, gA17, pA17, gA18, pA18, gA19, pA19, gA20, pA20, gA21, pA21, gA40, pA40, gB43, pB43, gA44, pA44, gA45, pA45, gA46, pA46, gA47, pA47, gA48, pA48, gA49, pA49, gA53, pA53, gA54, pA54, gA55, pA55, gA56, pA56, gA58, pA58, gA60, pA60, gA61, pA61, gA62, pA62, gA63, pA63, gA66, pA66, ↓reduceIte, if_true, if_false, R_mI_sJ, R_mI_sA, R_mI_sB, R_mJ_sI, R_mJ_sA, R_mJ_sB, R_mA_sI, R_mA_sJ, R_mA_sB, R_mB_sI, R_mB_sJ, R_mB_sA, mI_on, mI_off, mJ_on, mJ_off, mA_on, mA_same, mA_off, mB_on, mB_same, mB_off, up_on, up_off, a1, j35, j33, j34, w1, w2, w3]
          | false =>
            rw [e1, e2, e3, if_neg (by decide), if_neg (by decide), if_neg (by decide)] at hs
            cases hs
    obtain ⟨hk2, s1⟩ := hk
    obtain ⟨v1, v2, -⟩ := psort_0 hs
    obtain ⟨r1, r2, r3, r4⟩ := isLb_lt v1
    have hx : tnx T n (sk T n 0) = lw T n (sk T n 0) := by
      unfold tnx
      rw [if_pos r1, if_pos r2]
    have hk1 := knd_L (q := sk T n 0) (fun k hk => (hP.2.1 k hk).2)
    have g2 : Gr [3] [] [] t N1 (m_sA N1 3 t (i_ k)) := Gr.sA (by decide) (Nat.le_refl t)
    have hPS2 : PS t n T [] (m_sA N1 3 t (i_ k)) 0 := by
      obtain ⟨x1, x2, x3, x4, x5⟩ := hPS
      exact ⟨x1.gr g2 (by decide) (by decide), x2, x3.gr g2 (by decide), x4, x5⟩
    obtain ⟨N2, b1, b2, b3⟩ := hPS2.keep (c := 1) (by rw [hk1.trans (eq_true v1)]; trivial) r1
    rw [hx, List.nil_append] at b3
    have l5 := b3.2.1.2.2.2.2
    have g3 : Gr [] [2] [] t N2 (m_sB N2 2 t (twd T n (sk T n (lw T n (sk T n 0))))) := Gr.sB (by decide) (Nat.le_refl t)
    have hPS3 : PS t n T [(1, sk T n 0, sl T (sk T n 0) (lw T n (sk T n 0)))] (m_sB N2 2 t (twd T n (sk T n (lw T n (sk T n 0))))) (lw T n (sk T n 0)) := by
      obtain ⟨x1, x2, x3, x4, x5⟩ := b3
      exact ⟨x1.gr g3 (by decide) (by decide), x2, x3.gr g3 (by decide), x4, x5⟩
    obtain ⟨N4, c1, c2, c3⟩ := M_name hPS3
    have z2 := b3.2.2.2.1
    have s2 : A_next (i_ t) M = f_X3_act_n229 (i_ t) N4 := by
      rw [s1]
      unfold f_X3_act_n181 f_X3_act_n208
      simp (disch := omega) only [l_m1, l_m2, l_0, l_1, l_2, l_3, l_4, l_5, l_6, l_7, l_8, l_9, l_10, l_11, l_12, l_13, l_14, l_15, l_16, l_17, l_18, l_19, l_20, l_21, l_22, l_23, l_24, l_25, l_26, l_27, l_28, l_29, l_30, l_31, l_32, l_33, l_34, l_35, l_36, l_37, l_38, l_39, l_40, l_41, l_42, l_43, l_44, l_45, l_46, l_47, l_48, l_49, l_50, l_51, l_52, l_53, l_54, l_55, l_56, l_57, l_58, l_59, l_60, l_61, l_62, l_63, l_64, l_97, l_100, l_110, l_115, l_116, l_120, l_122, l_127, l_128, l_136, l_140, l_200, l_255, l_256, l_400, l_1000, l_30000, l_1200, l_65536, l_2147483639, l_2147483647, ob_some, obd_some, q_lt_t, q_lt_f, q_le_t, q_le_f, q_eq_t, q_eq_f, im_ne, im_ne', im_lt, im_le, im_lt', im_le', i_add, i_mul, i_dec, i_dec0, i_sub, i_and, i_shr, i_div, nar_b0, nar_b1, b2i_t, b2i_f, gA1, pA1, gB2, pB2, gA3, pA3, gA4, pA4, gB5, pB5, gA6, pA6, gA7, pA7, gA8, pA8, gA9, pA9, gA10, pA10, gA11, pA11, gA12, pA12, gA13, pA13, gA14, pA14, gA15, pA15, gA16, pA16, gA17, pA17, gA18, pA18, gA19, pA19, gA20, pA20, gA21, pA21, gA40, pA40, gB43, pB43, gA44, pA44, gA45, pA45, gA46, pA46, gA47, pA47, gA48, pA48, gA49, pA49, gA53, pA53, gA54, pA54, gA55, pA55, gA56, pA56, gA58, pA58, gA60, pA60, gA61, pA61, gA62, pA62, gA63, pA63, gA66, pA66, ↓reduceIte, if_true, if_false, R_mI_sJ, R_mI_sA, R_mI_sB, R_mJ_sI, R_mJ_sA, R_mJ_sB, R_mA_sI, R_mA_sJ, R_mA_sB, R_mB_sI, R_mB_sJ, R_mB_sA, mI_on, mI_off, mJ_on, mJ_off, mA_on, mA_same, mA_off, mB_on, mB_same, mB_off, up_on, up_off, b1, z2, l5, c1]
    have g4 : Gr kaA kbA kiA t M N4 := (((gN1.tr (g2.mono (by decide) (by decide) (by decide))).tr b2.kA).tr (g3.mono (by decide) (by decide) (by decide))).tr c2.kA
    have n22' : m_I N4 22 = i_ 0 ∧ m_I N4 52 = 0 := e22 c2 (by decide) (e22 g3 (by decide) (e22 b2 (by decide) (e22 g2 (by decide) n22)))
    show ∃ N, A_next (i_ t) M = f_X3_act_n299 (i_ t) N ∧ Gr kaA kbA kiA t M N ∧ (m_I N 22 = i_ 0 ∧ m_I N 52 = 0) ∧ match (pb (pname T n (lw T n (sk T n 0))) fun a =>
      if k = 0 then pb (psrc T n a.2.2) fun b => pb (pend T n b.2.2) fun c => .inr ((k, a.1, a.2.1), .inl b.2.1, b.1 ++ [c.1])
      else pb (psel T n a.2.2) fun b => pb (pend T n b.2.2.2.2) fun c => .inr ((k, a.1, a.2.1), .inr (b.2.1, b.2.2.1, b.2.2.2.1), b.1 ++ [c.1]) : Nat ⊕ St) with
        | .inl e => BD N e
        | .inr st => PRD t n T st N
    cases hp1 : pname T n (lw T n (sk T n 0)) with
    | inl e =>
      rw [hp1] at c3
      exact ⟨N4, by rw [s2, act_229 c3], g4, n22', c3⟩
    | inr w =>
      rw [hp1] at c3
      have c3' : PS t n T [(1, sk T n 0, sl T (sk T n 0) (lw T n (sk T n 0))), (1, w.2.1, w.1)] N4 w.2.2 := c3
      rw [pb_inr]
      have z4 := c3'.2.2.2.1
      have x3 : m_A N4 3 t = i_ k := by
        rw [c2.1 3 (by decide), g3.1 3 List.not_mem_nil, b2.1 3 (by decide), mA_on]
      have xB : m_B N4 2 t = enc w.1 := by
        rw [c2.2.2.1 2 List.not_mem_nil, mB_on]
        exact (twd_n hp1).1
      have hsame : ∀ j, j ∉ [3, 13, 14, 15, 16] → m_A N4 j = m_A M j := fun j hj => by
        have hj1 : j ∉ kaK := fun q => hj (List.mem_cons_of_mem _ q)
        have hj2 : j ∉ [3] := fun q => hj (by rw [List.mem_singleton] at q; rw [q]; exact List.mem_cons_self)
        rw [c2.1 j hj1, g3.1 j List.not_mem_nil, b2.1 j hj1, g2.1 j hj2, a2.1 j List.not_mem_nil]
      by_cases e0 : k = 0
      · rw [if_pos e0]
        subst e0
        obtain ⟨N5, d1, d2, d3⟩ := M_source c3' (by rw [hsame 4 (by decide)]; exact h4)
        have s3 : A_next (i_ t) M = f_X3_act_n263 (i_ t) N5 := by
          rw [s2]
          unfold f_X3_act_n229
          simp (disch := omega) only [l_m1, l_m2, l_0, l_1, l_2, l_3, l_4, l_5, l_6, l_7, l_8, l_9, l_10, l_11, l_12, l_13, l_14, l_15, l_16, l_17, l_18, l_19, l_20, l_21, l_22, l_23, l_24, l_25, l_26, l_27, l_28, l_29, l_30, l_31, l_32, l_33, l_34, l_35, l_36, l_37, l_38, l_39, l_40, l_41, l_42, l_43, l_44, l_45, l_46, l_47, l_48, l_49, l_50, l_51, l_52, l_53, l_54, l_55, l_56, l_57, l_58, l_59, l_60, l_61, l_62, l_63, l_64, l_97, l_100, l_110, l_115, l_116, l_120, l_122, l_127, l_128, l_136, l_140, l_200, l_255, l_256, l_400, l_1000, l_30000, l_1200, l_65536, l_2147483639, l_2147483647, ob_some, obd_some, q_lt_t, q_lt_f, q_le_t, q_le_f, q_eq_t, q_eq_f, im_ne, im_ne', im_lt, im_le, im_lt', im_le', i_add, i_mul, i_dec, i_dec0, i_sub, i_and, i_shr, i_div, nar_b0, nar_b1, b2i_t, b2i_f, gA1, pA1, gB2, pB2, gA3, pA3, gA4, pA4, gB5, pB5, gA6, pA6, gA7, pA7, gA8, pA8, gA9, pA9, gA10, pA10, gA11, pA11, gA12, pA12, gA13, pA13, gA14, pA14, gA15, pA15, gA16, pA16, gA17, pA17, gA18, pA18, gA19, pA19, gA20, pA20, gA21, pA21, gA40, pA40, gB43, pB43, gA44, pA44, gA45, pA45, gA46, pA46, gA47, pA47, gA48, pA48, gA49, pA49, gA53, pA53, gA54, pA54, gA55, pA55, gA56, pA56, gA58, pA58, gA60, pA60, gA61, pA61, gA62, pA62, gA63, pA63, gA66, pA66, ↓reduceIte, if_true, if_false, R_mI_sJ, R_mI_sA, R_mI_sB, R_mJ_sI, R_mJ_sA, R_mJ_sB, R_mA_sI, R_mA_sJ, R_mA_sB, R_mB_sI, R_mB_sJ, R_mB_sA, mI_on, mI_off, mJ_on, mJ_off, mA_on, mA_same, mA_off, mB_on, mB_same, mB_off, up_on, up_off, z4, x3, d1]
        have g5 : Gr kaA kbA kiA t M N5 := g4.tr (d2.mono (by decide) (by decide) (by decide))
        have n22'' := e22 d2 (by decide) n22'
        cases hp2 : psrc T n w.2.2 with
        | inl e =>
          rw [hp2] at d3
          exact ⟨N5, by rw [s3, act_263 d3], g5, n22'', d3⟩
        | inr b =>
          rw [hp2] at d3
          obtain ⟨d4, d5, d6⟩ : PS t n T ([(1, sk T n 0, sl T (sk T n 0) (lw T n (sk T n 0))), (1, w.2.1, w.1)] ++ b.1) N5 b.2.2 ∧ m_A N5 4 t = i_ b.2.1.length ∧ SL N5 t ([(1, sk T n 0, sl T (sk T n 0) (lw T n (sk T n 0))), (1, w.2.1, w.1)] ++ b.1) 0 3 b.2.1 := d3
          rw [pb_inr]
          obtain ⟨N6, f1, f2, f3⟩ := M_act_e d4
          refine ⟨N6, by rw [s3, f1], g5.tr f2.kA, e22 f2 (by decide) n22'', ?_⟩
          cases hp3 : pend T n b.2.2 with
          | inl e =>
            rw [hp3] at f3
            exact f3
          | inr c =>
            rw [hp3] at f3
            have f3' : PS t n T ([(1, sk T n 0, sl T (sk T n 0) (lw T n (sk T n 0))), (1, w.2.1, w.1)] ++ b.1 ++ [c.1]) N6 c.2 := f3
            rw [List.append_assoc] at f3'
            rw [pb_inr]
            have hh : hdr T n ((0, w.1, w.2.1), .inl b.2.1, b.1 ++ [c.1]) ++ (b.1 ++ [c.1]) = [(1, sk T n 0, sl T (sk T n 0) (lw T n (sk T n 0))), (1, w.2.1, w.1)] ++ (b.1 ++ [c.1]) := rfl
            have gg : Gr [4, 6, 13, 14, 15, 16] [5] kiP t N4 N6 := d2.tr f2.kR
            refine ⟨f3'.1, ⟨f3'.2.2.2.1, f3'.2.2.2.2.2.2, (e22 f2 (by decide) n22'').1⟩, f3'.2.2.1, ⟨?_, ?_⟩, fun j hj => ?_, Nat.le_trans f3'.2.2.2.2.1 f3'.2.2.2.2.2.1, ?_, ?_, ?_, ?_⟩
            · rw [gg.2.2.1 2 (by decide)]
              exact xB
            · rw [gg.1 3 (by decide)]
              exact x3
            · rw [gg.1 17 (by decide), hsame 17 (by decide)]
              exact hX j hj
            · rw [f2.1 4 (by decide)]
              exact d5
            · rw [gg.1 7 (by decide), hsame 7 (by decide)]
              exact h7
            · rw [gg.1 19 (by decide), hsame 19 (by decide)]
              exact (h18 7 (by decide)).2
            · show SL N6 t (_ ++ (b.1 ++ [c.1])) 0 3 b.2.1
              rw [hh, ← List.append_assoc]
              exact d6.of [c.1] (fun j _ _ => by rw [f2.2.2.1 5 List.not_mem_nil, f2.1 6 (by decide)]; exact ⟨rfl, rfl⟩)
      · rw [if_neg e0]
        obtain ⟨N5, d1, d2, d3⟩ := M_select c3' (by rw [hsame 4 (by decide)]; exact h4) (by rw [hsame 7 (by decide)]; exact h7) (by rw [hsame 19 (by decide)]; exact (h18 7 (by decide)).2)
        have s3 : A_next (i_ t) M = f_X3_act_n263 (i_ t) N5 := by
          rw [s2]
          unfold f_X3_act_n229 f_X3_act_n252
          simp (disch := omega) only [l_m1, l_m2, l_0, l_1, l_2, l_3, l_4, l_5, l_6, l_7, l_8, l_9, l_10, l_11, l_12, l_13, l_14, l_15, l_16, l_17, l_18, l_19, l_20, l_21, l_22, l_23, l_24, l_25, l_26, l_27, l_28, l_29, l_30, l_31, l_32, l_33, l_34, l_35, l_36, l_37, l_38, l_39, l_40, l_41, l_42, l_43, l_44, l_45, l_46, l_47, l_48, l_49, l_50, l_51, l_52, l_53, l_54, l_55, l_56, l_57, l_58, l_59, l_60, l_61, l_62, l_63, l_64, l_97, l_100, l_110, l_115, l_116, l_120, l_122, l_127, l_128, l_136, l_140, l_200, l_255, l_256, l_400, l_1000, l_30000, l_1200, l_65536, l_2147483639, l_2147483647, ob_some, obd_some, q_lt_t, q_lt_f, q_le_t, q_le_f, q_eq_t, q_eq_f, im_ne, im_ne', im_lt, im_le, im_lt', im_le', i_add, i_mul, i_dec, i_dec0, i_sub, i_and, i_shr, i_div, nar_b0, nar_b1, b2i_t, b2i_f, gA1, pA1, gB2, pB2, gA3, pA3, gA4, pA4, gB5, pB5, gA6, pA6, gA7, pA7, gA8, pA8, gA9, pA9, gA10, pA10, gA11, pA11, gA12, pA12, gA13, pA13, gA14, pA14, gA15, pA15, gA16, pA16, gA17, pA17, gA18, pA18, gA19, pA19, gA20, pA20, gA21, pA21, gA40, pA40, gB43, pB43, gA44, pA44, gA45, pA45, gA46, pA46, gA47, pA47, gA48, pA48, gA49, pA49, gA53, pA53, gA54, pA54, gA55, pA55, gA56, pA56, gA58, pA58, gA60, pA60, gA61, pA61, gA62, pA62, gA63, pA63, gA66, pA66, ↓reduceIte, if_true, if_false, R_mI_sJ, R_mI_sA, R_mI_sB, R_mJ_sI, R_mJ_sA, R_mJ_sB, R_mA_sI, R_mA_sJ, R_mA_sB, R_mB_sI, R_mB_sJ, R_mB_sA, mI_on, mI_off, mJ_on, mJ_off, mA_on, mA_same, mA_off, mB_on, mB_same, mB_off, up_on, up_off, z4, x3, d1]
        have g5 : Gr kaA kbA kiA t M N5 := g4.tr (d2.mono (by decide) (by decide) (by decide))
        have n22'' := e22 d2 (by decide) n22'
        cases hp2 : psel T n w.2.2 with
        | inl e =>
          rw [hp2] at d3
          exact ⟨N5, by rw [s3, act_263 d3], g5, n22'', d3⟩
        | inr b =>
          rw [hp2] at d3
          obtain ⟨d4, ⟨d5, d6, d7, d8, d9⟩, d10⟩ : PS t n T ([(1, sk T n 0, sl T (sk T n 0) (lw T n (sk T n 0))), (1, w.2.1, w.1)] ++ b.1) N5 b.2.2.2.2 ∧ SLR N5 t ([(1, sk T n 0, sl T (sk T n 0) (lw T n (sk T n 0))), (1, w.2.1, w.1)] ++ b.1) 3 b.2.1 b.2.2.1 b.2.2.2.1 ∧ m_A N5 20 t = i_ 2 := d3
          rw [pb_inr]
          obtain ⟨N6, f1, f2, f3⟩ := M_act_e d4
          refine ⟨N6, by rw [s3, f1], g5.tr f2.kA, e22 f2 (by decide) n22'', ?_⟩
          cases hp3 : pend T n b.2.2.2.2 with
          | inl e =>
            rw [hp3] at f3
            exact f3
          | inr c =>
            rw [hp3] at f3
            have f3' : PS t n T ([(1, sk T n 0, sl T (sk T n 0) (lw T n (sk T n 0))), (1, w.2.1, w.1)] ++ b.1 ++ [c.1]) N6 c.2 := f3
            rw [List.append_assoc] at f3'
            rw [pb_inr]
            have gg : Gr (20 :: kaS) [5, 43] kiS t N4 N6 := d2.tr (f2.mono (by decide) (by decide) (by decide))
            have hh : [(1, sk T n 0, sl T (sk T n 0) (lw T n (sk T n 0))), (1, w.2.1, w.1)] ++ (b.1 ++ [c.1]) = [(1, sk T n 0, sl T (sk T n 0) (lw T n (sk T n 0))), (1, w.2.1, w.1)] ++ b.1 ++ [c.1] := by rw [List.append_assoc]
            refine ⟨f3'.1, ⟨f3'.2.2.2.1, f3'.2.2.2.2.2.2, (e22 f2 (by decide) n22'').1⟩, f3'.2.2.1, ⟨?_, ?_⟩, fun j hj => ?_, Nat.le_trans f3'.2.2.2.2.1 f3'.2.2.2.2.2.1, ⟨?_, ?_, ?_, fun j hj => ?_, ?_⟩, ?_⟩
            · rw [gg.2.2.1 2 (by decide)]
              exact xB
            · rw [gg.1 3 (by decide)]
              exact x3
            · rw [gg.1 17 (by decide), hsame 17 (by decide)]
              exact hX j hj
            · rw [f2.1 4 (by decide)]
              exact d5
            · show CL N6 t ([(1, sk T n 0, sl T (sk T n 0) (lw T n (sk T n 0))), (1, w.2.1, w.1)] ++ (b.1 ++ [c.1])) 0 3 b.2.1
              rw [hh]
              exact d6.of [c.1] (fun j _ _ => by rw [f2.2.2.1 5 List.not_mem_nil, f2.1 18 (by decide), f2.1 19 (by decide)]; exact ⟨rfl, rfl, rfl⟩)
            · rw [f2.1 7 (by decide)]
              exact d7
            · rw [f2.2.2.1 43 List.not_mem_nil, f2.1 44 (by decide)]
              exact d8 j hj
            · show WR N6 t ([(1, sk T n 0, sl T (sk T n 0) (lw T n (sk T n 0))), (1, w.2.1, w.1)] ++ (b.1 ++ [c.1])) b.2.2.2.1
              rw [hh]
              unfold WR at d9 ⊢
              rw [f2.1 18 (by decide), f2.1 19 (by decide), f2.2.2.2.2.1 42 (by decide)]
              cases hw : b.2.2.2.1 with
              | none =>
                rw [hw] at d9
                exact d9
              | some y =>
                rw [hw] at d9
                obtain ⟨y1, ⟨a6, y2, y3, y4⟩, a7, y5, y6, y7⟩ := d9
                exact ⟨y1, ⟨a6, y2, y3, y4.app _⟩, a7, y5, y6, y7.app _⟩
            · rw [f2.1 20 (by decide)]
              exact d10
