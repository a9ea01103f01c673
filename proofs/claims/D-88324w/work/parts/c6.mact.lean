/-! the reference's act, at last *-/
theorem M_act {M : MS} {s : SP} (h : RM M s) : ∃ M', f_X3_act M = some ((sp_act s).1, M') ∧ RM M' (sp_act s).2 := by
  have hA := h
  obtain ⟨h1, h2, h3, h4, h5, h6, h7, h8⟩ := h
  have hn4 := h4.2.1.2
  have ht := h1.2.1
  obtain ⟨N0, a1, a2, a3⟩ := M_act_0 h1 h4 h5
  obtain ⟨N1, b1, b2, b3, b4⟩ := M_act_read a3
  have g1 := a2.tr b2
  have s1 : f_X3_act M = f_X3_act_n299 (i_ (z_n s)) N1 := by rw [a1, b1]
  have p52 : m_I N0 52 = 0 := a3.1.2.2.2.1
  unfold sp_act
  cases hp : pstat (z_tp s) (z_tl s) with
  | inl e =>
    rw [hp] at b4
    have b4' : BD N1 e := b4
    have g3 : Gr kaA kbA kiA (z_n s) M (m_sI (m_sI N1 27 (i_ 1)) 28 (i_ e)) := g1.tr ((Gr.sI (by decide)).tr (Gr.sI (by decide)))
    refine ⟨m_sI (m_sI N1 27 (i_ 1)) 28 (i_ e), by rw [s1]; exact act_bad b4' _, hA.flt g3 ?_ ?_ mI_on ?_ rfl⟩
    · rw [mI_off (by decide), mI_off (by decide)]
      exact b3.1
    · rw [mI_off (by decide), mI_on]
    · rw [mI_off (by decide), mI_off (by decide)]
      exact b3.2
  | inr st =>
    rw [hp] at b4
    have b4' : PRD (z_n s) (z_tl s) (z_tp s) st N1 := b4
    obtain ⟨N2, c1, c2, c3, c4, c5, c6⟩ := M_meant (h1.gr g1 (by decide)) (h6.gr h1 g1) rfl hn4 b4' hp
    have z1 := b4'.2.1.1
    have g2 : Gr kaA kbA kiA (z_n s) M N2 := g1.tr (c2.mono (by decide) (by decide) (by decide))
    have s2 : f_X3_act M = f_X3_act_n310 (i_ (z_n s)) N2 := by
      rw [s1]
      unfold f_X3_act_n299
      simp (disch := omega) only [l_m1, l_m2, l_0, l_1, l_2, l_3, l_4, l_5, l_6, l_7, l_8, l_9, l_10, l_11, l_12, l_13, l_14, l_15, l_16, l_17, l_18, l_19, l_20, l_21, l_22, l_23, l_24, l_25, l_26, l_27, l_28, l_29, l_30, l_31, l_32, l_33, l_34, l_35, l_36, l_37, l_38, l_39, l_40, l_41, l_42, l_43, l_44, l_45, l_46, l_47, l_48, l_49, l_50, l_51, l_52, l_53, l_54, l_55, l_56, l_57, l_58, l_59, l_60, l_61, l_62, l_63, l_64, l_97, l_100, l_110, l_115, l_116, l_120, l_122, l_127, l_128, l_136, l_140, l_200, l_255, l_256, l_400, l_1000, l_30000, l_1200, l_65536, l_2147483639, l_2147483647, ob_some, obd_some, q_lt_t, q_lt_f, q_le_t, q_le_f, q_eq_t, q_eq_f, im_ne, im_ne', im_lt, im_le, im_lt', im_le', i_add, i_mul, i_dec, i_dec0, i_sub, i_and, i_shr, i_div, nar_b0, nar_b1, b2i_t, b2i_f, gA1, pA1, gB2, pB2, gA3, pA3, gA4, pA4, gB5, pB5, gA6, pA6, gA7, pA7, gA8, pA8, gA9, pA9, gA10, pA10, gA11, pA11, gA12, pA12, gA13, pA13, gA14, pA14, gA15, pA15, gA16, pA16, gA17, pA17, gA18, pA18, gA19, pA19, gA20, pA20, gA21, pA21, gA40, pA40, gB43, pB43, gA44, pA44, gA45, pA45, gA46, pA46, gA47, pA47, gA48, pA48, gA49, pA49, gA53, pA53, gA54, pA54, gA55, pA55, gA56, pA56, gA58, pA58, gA60, pA60, gA61, pA61, gA62, pA62, gA63, pA63, gA66, pA66, ↓reduceIte, if_true, if_false, R_mI_sJ, R_mI_sA, R_mI_sB, R_mJ_sI, R_mJ_sA, R_mJ_sB, R_mA_sI, R_mA_sJ, R_mA_sB, R_mB_sI, R_mB_sJ, R_mB_sA, mI_on, mI_off, mJ_on, mJ_off, mA_on, mA_same, mA_off, mB_on, mB_same, mB_off, up_on, up_off, z1, c1]
    have n22 : m_I N2 22 = i_ 0 := by
      rw [c2.2.2.2.2.1 22 (by decide)]
      exact b3.1
    have n0 : m_I N2 0 = i_ (z_n s) := by
      rw [g2.2.2.2.2.1 0 (by decide)]
      exact h1.1
    show ∃ M', f_X3_act M = some ((match mwl none (evA s st) with
      | some b => (i_m, flt_s s b.1 b.2)
      | none => if z_n s = 16 then (i_m, flt_s s 5 0) else (i_ (z_n s), act_s s st)).1, M') ∧ RM M' (match mwl none (evA s st) with
      | some b => (i_m, flt_s s b.1 b.2)
      | none => if z_n s = 16 then (i_m, flt_s s 5 0) else (i_ (z_n s), act_s s st)).2
    cases hev : mwl none (evA s st) with
    | some b =>
      rw [hev] at c4
      obtain ⟨d1, d2, d3, d4⟩ := c4
      have := act_332b (p := 0) d1 d3 d2 (i_ (z_n s))
      refine ⟨m_sI (m_sI N2 27 (i_ b.1)) 28 (i_ b.2), ?_, hA.flt (g2.tr ((Gr.sI (by decide)).tr (Gr.sI (by decide)))) ?_ ?_ mI_on ?_ rfl⟩
      · rw [s2]
        unfold f_X3_act_n310
        simp (disch := omega) only [l_m1, l_m2, l_0, l_1, l_2, l_3, l_4, l_5, l_6, l_7, l_8, l_9, l_10, l_11, l_12, l_13, l_14, l_15, l_16, l_17, l_18, l_19, l_20, l_21, l_22, l_23, l_24, l_25, l_26, l_27, l_28, l_29, l_30, l_31, l_32, l_33, l_34, l_35, l_36, l_37, l_38, l_39, l_40, l_41, l_42, l_43, l_44, l_45, l_46, l_47, l_48, l_49, l_50, l_51, l_52, l_53, l_54, l_55, l_56, l_57, l_58, l_59, l_60, l_61, l_62, l_63, l_64, l_97, l_100, l_110, l_115, l_116, l_120, l_122, l_127, l_128, l_136, l_140, l_200, l_255, l_256, l_400, l_1000, l_30000, l_1200, l_65536, l_2147483639, l_2147483647, ob_some, obd_some, q_lt_t, q_lt_f, q_le_t, q_le_f, q_eq_t, q_eq_f, im_ne, im_ne', im_lt, im_le, im_lt', im_le', i_add, i_mul, i_dec, i_dec0, i_sub, i_and, i_shr, i_div, nar_b0, nar_b1, b2i_t, b2i_f, gA1, pA1, gB2, pB2, gA3, pA3, gA4, pA4, gB5, pB5, gA6, pA6, gA7, pA7, gA8, pA8, gA9, pA9, gA10, pA10, gA11, pA11, gA12, pA12, gA13, pA13, gA14, pA14, gA15, pA15, gA16, pA16, gA17, pA17, gA18, pA18, gA19, pA19, gA20, pA20, gA21, pA21, gA40, pA40, gB43, pB43, gA44, pA44, gA45, pA45, gA46, pA46, gA47, pA47, gA48, pA48, gA49, pA49, gA53, pA53, gA54, pA54, gA55, pA55, gA56, pA56, gA58, pA58, gA60, pA60, gA61, pA61, gA62, pA62, gA63, pA63, gA66, pA66, ↓reduceIte, if_true, if_false, R_mI_sJ, R_mI_sA, R_mI_sB, R_mJ_sI, R_mJ_sA, R_mJ_sB, R_mA_sI, R_mA_sJ, R_mA_sB, R_mB_sI, R_mB_sJ, R_mB_sA, mI_on, mI_off, mJ_on, mJ_off, mA_on, mA_same, mA_off, mB_on, mB_same, mB_off, up_on, up_off, d1, this]
      · rw [mI_off (by decide), mI_off (by decide)]
        exact n22
      · rw [mI_off (by decide), mI_on]
      · rw [mI_off (by decide), mI_off (by decide)]
        exact c3
    | none =>
      rw [hev] at c4
      obtain ⟨d1, d2⟩ := c4
      by_cases e16 : z_n s = 16
      · rw [show (match (none : Option (Nat × Nat)) with
          | some b => (i_m, flt_s s b.1 b.2)
          | none => if z_n s = 16 then (i_m, flt_s s 5 0) else (i_ (z_n s), act_s s st)) = (i_m, flt_s s 5 0) from if_pos e16]
        have hE : EO N2 none := ⟨d1, d2⟩
        obtain ⟨N3, f1, f2, f3⟩ := M_means' hE (k := 5) (p := 0) (by decide) (by decide) (z_n s)
        obtain ⟨f4, f5, -⟩ : m_I N3 25 = i_ 5 ∧ m_I N3 26 = i_ 0 ∧ _ := f3
        have := act_332b (p := 0) f4 (by decide) f5 (i_ (z_n s))
        rw [e16] at n0 this
        refine ⟨m_sI (m_sI N3 27 (i_ 5)) 28 (i_ 0), ?_, hA.flt ((g2.tr (f2.bad (by decide))).tr ((Gr.sI (by decide)).tr (Gr.sI (by decide)))) ?_ ?_ mI_on ?_ rfl⟩
        · rw [s2, e16]
          unfold f_X3_act_n310
          simp (disch := omega) only [l_m1, l_m2, l_0, l_1, l_2, l_3, l_4, l_5, l_6, l_7, l_8, l_9, l_10, l_11, l_12, l_13, l_14, l_15, l_16, l_17, l_18, l_19, l_20, l_21, l_22, l_23, l_24, l_25, l_26, l_27, l_28, l_29, l_30, l_31, l_32, l_33, l_34, l_35, l_36, l_37, l_38, l_39, l_40, l_41, l_42, l_43, l_44, l_45, l_46, l_47, l_48, l_49, l_50, l_51, l_52, l_53, l_54, l_55, l_56, l_57, l_58, l_59, l_60, l_61, l_62, l_63, l_64, l_97, l_100, l_110, l_115, l_116, l_120, l_122, l_127, l_128, l_136, l_140, l_200, l_255, l_256, l_400, l_1000, l_30000, l_1200, l_65536, l_2147483639, l_2147483647, ob_some, obd_some, q_lt_t, q_lt_f, q_le_t, q_le_f, q_eq_t, q_eq_f, im_ne, im_ne', im_lt, im_le, im_lt', im_le', i_add, i_mul, i_dec, i_dec0, i_sub, i_and, i_shr, i_div, nar_b0, nar_b1, b2i_t, b2i_f, gA1, pA1, gB2, pB2, gA3, pA3, gA4, pA4, gB5, pB5, gA6, pA6, gA7, pA7, gA8, pA8, gA9, pA9, gA10, pA10, gA11, pA11, gA12, pA12, gA13, pA13, gA14, pA14, gA15, pA15, gA16, pA16, gA17, pA17, gA18, pA18, gA19, pA19, gA20, pA20, gA21, pA21, gA40, pA40, gB43, pB43, gA44, pA44, gA45, pA45, gA46, pA46, gA47, pA47, gA48, pA48, gA49, pA49, gA53, pA53, gA54, pA54, gA55, pA55, gA56, pA56, gA58, pA58, gA60, pA60, gA61, pA61, gA62, pA62, gA63, pA63, gA66, pA66, ↓reduceIte, if_true, if_false, R_mI_sJ, R_mI_sA, R_mI_sB, R_mJ_sI, R_mJ_sA, R_mJ_sB, R_mA_sI, R_mA_sJ, R_mA_sB, R_mB_sI, R_mB_sJ, R_mB_sA, mI_on, mI_off, mJ_on, mJ_off, mA_on, mA_same, mA_off, mB_on, mB_same, mB_off, up_on, up_off, d1, n0, f1, this]
        · rw [mI_off (by decide), mI_off (by decide), f2.2.2.2.2.1 22 (by decide)]
          exact n22
        · rw [mI_off (by decide), mI_on]
        · rw [mI_off (by decide), mI_off (by decide), f2.2.2.2.2.1 52 (by decide)]
          exact c3
      · rw [show (match (none : Option (Nat × Nat)) with
          | some b => (i_m, flt_s s b.1 b.2)
          | none => if z_n s = 16 then (i_m, flt_s s 5 0) else (i_ (z_n s), act_s s st)) = (i_ (z_n s), act_s s st) from if_neg e16]
        have := act_332g n0 ht d1 d2
        refine ⟨m_sI (act_m N2 (z_n s)) 0 (i_ (z_n s + 1)), ?_, ?_⟩
        · rw [s2]
          unfold f_X3_act_n310
          simp (disch := omega) only [l_m1, l_m2, l_0, l_1, l_2, l_3, l_4, l_5, l_6, l_7, l_8, l_9, l_10, l_11, l_12, l_13, l_14, l_15, l_16, l_17, l_18, l_19, l_20, l_21, l_22, l_23, l_24, l_25, l_26, l_27, l_28, l_29, l_30, l_31, l_32, l_33, l_34, l_35, l_36, l_37, l_38, l_39, l_40, l_41, l_42, l_43, l_44, l_45, l_46, l_47, l_48, l_49, l_50, l_51, l_52, l_53, l_54, l_55, l_56, l_57, l_58, l_59, l_60, l_61, l_62, l_63, l_64, l_97, l_100, l_110, l_115, l_116, l_120, l_122, l_127, l_128, l_136, l_140, l_200, l_255, l_256, l_400, l_1000, l_30000, l_1200, l_65536, l_2147483639, l_2147483647, ob_some, obd_some, q_lt_t, q_lt_f, q_le_t, q_le_f, q_eq_t, q_eq_f, im_ne, im_ne', im_lt, im_le, im_lt', im_le', i_add, i_mul, i_dec, i_dec0, i_sub, i_and, i_shr, i_div, nar_b0, nar_b1, b2i_t, b2i_f, gA1, pA1, gB2, pB2, gA3, pA3, gA4, pA4, gB5, pB5, gA6, pA6, gA7, pA7, gA8, pA8, gA9, pA9, gA10, pA10, gA11, pA11, gA12, pA12, gA13, pA13, gA14, pA14, gA15, pA15, gA16, pA16, gA17, pA17, gA18, pA18, gA19, pA19, gA20, pA20, gA21, pA21, gA40, pA40, gB43, pB43, gA44, pA44, gA45, pA45, gA46, pA46, gA47, pA47, gA48, pA48, gA49, pA49, gA53, pA53, gA54, pA54, gA55, pA55, gA56, pA56, gA58, pA58, gA60, pA60, gA61, pA61, gA62, pA62, gA63, pA63, gA66, pA66, ↓reduceIte, if_true, if_false, R_mI_sJ, R_mI_sA, R_mI_sB, R_mJ_sI, R_mJ_sA, R_mJ_sB, R_mA_sI, R_mA_sJ, R_mA_sB, R_mB_sI, R_mB_sJ, R_mB_sA, mI_on, mI_off, mJ_on, mJ_off, mA_on, mA_same, mA_off, mB_on, mB_same, mB_off, up_on, up_off, d1, n0, this]
        · obtain ⟨⟨q1, q2, q3, q4, q5⟩, q6, q7⟩ := act_m_r N2 (z_n s)
          have gm := act_m_gr N2 (z_n s)
          generalize act_m N2 (z_n s) = K at q1 q2 q3 q4 q5 q6 q7 gm
          exact hA.act g2 c3 hp (evA_nil hev) (by omega) ⟨N1, b4', c2⟩ hn4 c5 c6 gm q1 q2 q3 q4 q5 q6 q7 (R_mA_sI _ _ _) (R_mB_sI _ _ _) (R_mJ_sI _ _ _) mI_on (fun k hk => mI_off hk)
