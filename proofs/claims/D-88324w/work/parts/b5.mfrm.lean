/-! the reference's reader: from, where, a whole select *-/
def FL (M : MS) (i : Nat) (fs : List (List Nat × Nat)) : Prop := ∀ j, j < fs.length → m_B M 43 (i + j) = enc (fnm fs j) ∧ m_A M 44 (i + j) = i_ (fpl fs j)
abbrev kiS : List Nat := [23, 25, 26, 29, 30, 31, 41, 42]
theorem sel_308 {M : MS} {e : Nat} (hb : BD M e) (K : Int32 → MS → Option MS) : f_X3_select_n308 K M = some M := by
  have z : m_I M 25 = i_ 1 := hb.1
  unfold f_X3_select_n308
  simp (disch := omega) only [l_m1, l_m2, l_0, l_1, l_2, l_3, l_4, l_5, l_6, l_7, l_8, l_9, l_10, l_11, l_12, l_13, l_14, l_15, l_16, l_17, l_18, l_19, l_20, l_21, l_22, l_23, l_24, l_25, l_26, l_27, l_28, l_29, l_30, l_31, l_32, l_33, l_34, l_35, l_36, l_37, l_38, l_39, l_40, l_41, l_42, l_43, l_44, l_45, l_46, l_47, l_48, l_49, l_50, l_51, l_52, l_53, l_54, l_55, l_56, l_57, l_58, l_59, l_60, l_61, l_62, l_63, l_64, l_97, l_100, l_110, l_115, l_116, l_120, l_122, l_127, l_128, l_136, l_140, l_200, l_255, l_256, l_400, l_1000, l_30000, l_1200, l_65536, l_2147483639, l_2147483647, ob_some, obd_some, q_lt_t, q_lt_f, q_le_t, q_le_f, q_eq_t, q_eq_f, im_ne, im_ne', im_lt, im_le, im_lt', im_le', i_add, i_mul, i_dec, i_dec0, i_sub, i_and, i_shr, i_div, nar_b0, nar_b1, b2i_t, b2i_f, gA1, pA1, gB2, pB2, gA3, pA3, gA4, pA4, gB5, pB5, gA6, pA6, gA7, pA7, gA8, pA8, gA9, pA9, gA10, pA10, gA11, pA11, gA12, pA12, gA13, pA13, gA14, pA14, gA15, pA15, gA16, pA16, gA17, pA17, gA18, pA18, gA19, pA19, gA20, pA20, gA21, pA21, gA40, pA40, gB43, pB43, gA44, pA44, gA45, pA45, gA46, pA46, gA47, pA47, gA48, pA48, gA49, pA49, gA53, pA53, gA54, pA54, gA55, pA55, gA56, pA56, gA58, pA58, gA60, pA60, gA61, pA61, gA62, pA62, gA63, pA63, gA66, pA66, ↓reduceIte, if_true, if_false, R_mI_sJ, R_mI_sA, R_mI_sB, R_mJ_sI, R_mJ_sA, R_mJ_sB, R_mA_sI, R_mA_sJ, R_mA_sB, R_mB_sI, R_mB_sJ, R_mB_sA, mI_on, mI_off, mJ_on, mJ_off, mA_on, mA_same, mA_off, mB_on, mB_same, mB_off, up_on, up_off, z]
theorem sel_261 {M : MS} {e : Nat} (hb : BD M e) (K : Int32 → MS → Option MS) : f_X3_select_n261 K M = some M := by
  have z : m_I M 25 = i_ 1 := hb.1
  unfold f_X3_select_n261
  simp (disch := omega) only [l_m1, l_m2, l_0, l_1, l_2, l_3, l_4, l_5, l_6, l_7, l_8, l_9, l_10, l_11, l_12, l_13, l_14, l_15, l_16, l_17, l_18, l_19, l_20, l_21, l_22, l_23, l_24, l_25, l_26, l_27, l_28, l_29, l_30, l_31, l_32, l_33, l_34, l_35, l_36, l_37, l_38, l_39, l_40, l_41, l_42, l_43, l_44, l_45, l_46, l_47, l_48, l_49, l_50, l_51, l_52, l_53, l_54, l_55, l_56, l_57, l_58, l_59, l_60, l_61, l_62, l_63, l_64, l_97, l_100, l_110, l_115, l_116, l_120, l_122, l_127, l_128, l_136, l_140, l_200, l_255, l_256, l_400, l_1000, l_30000, l_1200, l_65536, l_2147483639, l_2147483647, ob_some, obd_some, q_lt_t, q_lt_f, q_le_t, q_le_f, q_eq_t, q_eq_f, im_ne, im_ne', im_lt, im_le, im_lt', im_le', i_add, i_mul, i_dec, i_dec0, i_sub, i_and, i_shr, i_div, nar_b0, nar_b1, b2i_t, b2i_f, gA1, pA1, gB2, pB2, gA3, pA3, gA4, pA4, gB5, pB5, gA6, pA6, gA7, pA7, gA8, pA8, gA9, pA9, gA10, pA10, gA11, pA11, gA12, pA12, gA13, pA13, gA14, pA14, gA15, pA15, gA16, pA16, gA17, pA17, gA18, pA18, gA19, pA19, gA20, pA20, gA21, pA21, gA40, pA40, gB43, pB43, gA44, pA44, gA45, pA45, gA46, pA46, gA47, pA47, gA48, pA48, gA49, pA49, gA53, pA53, gA54, pA54, gA55, pA55, gA56, pA56, gA58, pA58, gA60, pA60, gA61, pA61, gA62, pA62, gA63, pA63, gA66, pA66, ↓reduceIte, if_true, if_false, R_mI_sJ, R_mI_sA, R_mI_sB, R_mJ_sI, R_mJ_sA, R_mJ_sB, R_mA_sI, R_mA_sJ, R_mA_sB, R_mB_sI, R_mB_sJ, R_mB_sA, mI_on, mI_off, mJ_on, mJ_off, mA_on, mA_same, mA_off, mB_on, mB_same, mB_off, up_on, up_off, z, sel_308 hb K]
def Sf (fu w : Nat) (M : MS) : Option MS := f_X3_select_n235 fu (i_ w) M
def Sfk (fu : Nat) : Int32 → MS → Option MS := fun x1 M => f_X3_select_n235 fu x1 M
theorem M_frm {t n : Nat} {T : Nat → Nat} : ∀ (r : Nat) (ks : List Rk) (M : MS) (p : Nat), r ≤ 3 → PS t n T ks M p → m_A M 7 t = i_ (3 - r) → match pfrm T n r p with
    | .inl e => ∃ N c, c ≤ r + 1 ∧ Gr kaS [5, 43] kiP t M N ∧ BD N e ∧ ∀ fu, Sf (fu + c) 1 M = some N
    | .inr a => ∃ N c, c ≤ r + 1 ∧ Gr kaS [5, 43] kiP t M N ∧ PS t n T (ks ++ a.1) N a.2.2 ∧ m_A N 7 t = i_ (3 - r + a.2.1.length) ∧ (m_A N 4 = m_A M 4 ∧ m_A N 18 = m_A M 18 ∧ m_A N 19 = m_A M 19 ∧ m_B N 5 = m_B M 5) ∧ FL N (3 - r) a.2.1 ∧ (∀ j, j < 3 - r → m_B N 43 j = m_B M 43 j ∧ m_A N 44 j = m_A M 44 j) ∧ ∀ fu, Sf (fu + c) 1 M = Sf fu 0 N := by
  intro r
  induction r with
  | zero =>
    intro ks M p hr h h7
    have hn := h.1.1
    have ht := hn.2.1
    have l2 := h.2.1.2.1
    obtain ⟨N, a1, a2, a3⟩ := h.fail (sk T n p)
    have e64 := fun fu => sel_261 a3 (fun x1 M => f_X3_select_n235 fu x1 M)
    refine ⟨N, 1, by omega, a2.kS, a3, fun fu => ?_⟩
    unfold Sf f_X3_select_n235
    simp (disch := omega) only [l_m1, l_m2, l_0, l_1, l_2, l_3, l_4, l_5, l_6, l_7, l_8, l_9, l_10, l_11, l_12, l_13, l_14, l_15, l_16, l_17, l_18, l_19, l_20, l_21, l_22, l_23, l_24, l_25, l_26, l_27, l_28, l_29, l_30, l_31, l_32, l_33, l_34, l_35, l_36, l_37, l_38, l_39, l_40, l_41, l_42, l_43, l_44, l_45, l_46, l_47, l_48, l_49, l_50, l_51, l_52, l_53, l_54, l_55, l_56, l_57, l_58, l_59, l_60, l_61, l_62, l_63, l_64, l_97, l_100, l_110, l_115, l_116, l_120, l_122, l_127, l_128, l_136, l_140, l_200, l_255, l_256, l_400, l_1000, l_30000, l_1200, l_65536, l_2147483639, l_2147483647, ob_some, obd_some, q_lt_t, q_lt_f, q_le_t, q_le_f, q_eq_t, q_eq_f, im_ne, im_ne', im_lt, im_le, im_lt', im_le', i_add, i_mul, i_dec, i_dec0, i_sub, i_and, i_shr, i_div, nar_b0, nar_b1, b2i_t, b2i_f, gA1, pA1, gB2, pB2, gA3, pA3, gA4, pA4, gB5, pB5, gA6, pA6, gA7, pA7, gA8, pA8, gA9, pA9, gA10, pA10, gA11, pA11, gA12, pA12, gA13, pA13, gA14, pA14, gA15, pA15, gA16, pA16, gA17, pA17, gA18, pA18, gA19, pA19, gA20, pA20, gA21, pA21, gA40, pA40, gB43, pB43, gA44, pA44, gA45, pA45, gA46, pA46, gA47, pA47, gA48, pA48, gA49, pA49, gA53, pA53, gA54, pA54, gA55, pA55, gA56, pA56, gA58, pA58, gA60, pA60, gA61, pA61, gA62, pA62, gA63, pA63, gA66, pA66, ↓reduceIte, if_true, if_false, R_mI_sJ, R_mI_sA, R_mI_sB, R_mJ_sI, R_mJ_sA, R_mJ_sB, R_mA_sI, R_mA_sJ, R_mA_sB, R_mB_sI, R_mB_sJ, R_mB_sA, mI_on, mI_off, mJ_on, mJ_off, mA_on, mA_same, mA_off, mB_on, mB_same, mB_off, up_on, up_off, hn.1, h7, l2, a1, e64]
  | succ r ih =>
    intro ks M p hr h h7
    have hn := h.1.1
    have ht := hn.2.1
    have h25 := h.2.2.2.1
    have l5 := h.2.1.2.2.2.2
    have l2 := h.2.1.2.1
    unfold pfrm
    have h1 := (h.xB (k := 43) (by decide) (3 - (r + 1)) (twd T n (sk T n p)) (Nat.zero_le _)).x4 (k := 44) (by decide) (3 - (r + 1)) (i_ (sk T n p)) (Nat.zero_le _)
    have g1 : Gr kaS [5, 43] kiP t M (m_sA (m_sB M 43 (3 - (r + 1)) (twd T n (sk T n p))) 44 (3 - (r + 1)) (i_ (sk T n p))) := Gr.tr (Gr.sB (by decide) (Nat.zero_le _)) (Gr.sA (by decide) (Nat.zero_le _))
    obtain ⟨N1, a1, a2, a3⟩ := M_name h1
    have s1 : ∀ fu, Sf (fu + 1) 1 M = f_X3_select_n308 (Sfk fu) N1 := fun fu => by
      unfold Sf
      conv => lhs; unfold f_X3_select_n235
      unfold f_X3_select_n261
      simp (disch := omega) only [l_m1, l_m2, l_0, l_1, l_2, l_3, l_4, l_5, l_6, l_7, l_8, l_9, l_10, l_11, l_12, l_13, l_14, l_15, l_16, l_17, l_18, l_19, l_20, l_21, l_22, l_23, l_24, l_25, l_26, l_27, l_28, l_29, l_30, l_31, l_32, l_33, l_34, l_35, l_36, l_37, l_38, l_39, l_40, l_41, l_42, l_43, l_44, l_45, l_46, l_47, l_48, l_49, l_50, l_51, l_52, l_53, l_54, l_55, l_56, l_57, l_58, l_59, l_60, l_61, l_62, l_63, l_64, l_97, l_100, l_110, l_115, l_116, l_120, l_122, l_127, l_128, l_136, l_140, l_200, l_255, l_256, l_400, l_1000, l_30000, l_1200, l_65536, l_2147483639, l_2147483647, ob_some, obd_some, q_lt_t, q_lt_f, q_le_t, q_le_f, q_eq_t, q_eq_f, im_ne, im_ne', im_lt, im_le, im_lt', im_le', i_add, i_mul, i_dec, i_dec0, i_sub, i_and, i_shr, i_div, nar_b0, nar_b1, b2i_t, b2i_f, gA1, pA1, gB2, pB2, gA3, pA3, gA4, pA4, gB5, pB5, gA6, pA6, gA7, pA7, gA8, pA8, gA9, pA9, gA10, pA10, gA11, pA11, gA12, pA12, gA13, pA13, gA14, pA14, gA15, pA15, gA16, pA16, gA17, pA17, gA18, pA18, gA19, pA19, gA20, pA20, gA21, pA21, gA40, pA40, gB43, pB43, gA44, pA44, gA45, pA45, gA46, pA46, gA47, pA47, gA48, pA48, gA49, pA49, gA53, pA53, gA54, pA54, gA55, pA55, gA56, pA56, gA58, pA58, gA60, pA60, gA61, pA61, gA62, pA62, gA63, pA63, gA66, pA66, ↓reduceIte, if_true, if_false, R_mI_sJ, R_mI_sA, R_mI_sB, R_mJ_sI, R_mJ_sA, R_mJ_sB, R_mA_sI, R_mA_sJ, R_mA_sB, R_mB_sI, R_mB_sJ, R_mB_sA, mI_on, mI_off, mJ_on, mJ_off, mA_on, mA_same, mA_off, mB_on, mB_same, mB_off, up_on, up_off, hn.1, h7, h25, l5, l2, a1]
      rfl
    have g2 := g1.tr a2.kS
    cases hp1 : pname T n p with
    | inl e =>
      rw [hp1] at a3
      exact ⟨N1, 1, by omega, g2, a3, fun fu => by rw [s1]; exact sel_308 a3 _⟩
    | inr w =>
      rw [hp1] at a3
      have a3' : PS t n T (ks ++ [(1, w.2.1, w.1)]) N1 w.2.2 := a3
      rw [pb_inr]
      have z1 := a3'.2.2.2.1
      have y0 := a3'.1.1.1
      have y1 := a3'.2.1.1
      have y7 : m_A N1 7 t = i_ (3 - (r + 1)) := by
        rw [a2.1 7 (by decide), mA_same (by decide)]
        exact h7
      have hk44 := knd_sn (q := sk T n w.2.2) (fun k hk => (h.1.2.1 k hk).2) (isSn_l 44 (by decide))
      have d1s := a3'.x4 (k := 7) (by decide) t (i_ (3 - (r + 1) + 1)) (Nat.le_refl t)
      have g4 : Gr kaS [5, 43] kiP t M (m_sA N1 7 t (i_ (3 - (r + 1) + 1))) := g2.tr (Gr.sA (by decide) (Nat.le_refl t))
      have hB : m_B N1 43 (3 - (r + 1)) = enc w.1 := by
        rw [a2.2.2.1 43 (by decide)]
        show m_B (m_sB M 43 (3 - (r + 1)) (twd T n (sk T n p))) 43 _ = _
        rw [mB_on]
        exact (twd_n hp1).1
      have hA : m_A N1 44 (3 - (r + 1)) = i_ w.2.1 := by
        rw [a2.1 44 (by decide), mA_on, (twd_n hp1).2]
      have hoff : ∀ j, j < 3 - (r + 1) → m_B N1 43 j = m_B M 43 j ∧ m_A N1 44 j = m_A M 44 j := fun j hj => by
        refine ⟨?_, ?_⟩
        · rw [a2.2.2.1 43 (by decide)]
          show m_B (m_sB M 43 (3 - (r + 1)) (twd T n (sk T n p))) 43 _ = _
          rw [mB_off (by omega)]
        · rw [a2.1 44 (by decide), mA_off (by omega)]
          rfl
      have hsame : m_A N1 4 = m_A M 4 ∧ m_A N1 18 = m_A M 18 ∧ m_A N1 19 = m_A M 19 ∧ m_B N1 5 = m_B M 5 := by
        refine ⟨?_, ?_, ?_, ?_⟩
        · rw [a2.1 4 (by decide), mA_same (by decide)]
          rfl
        · rw [a2.1 18 (by decide), mA_same (by decide)]
          rfl
        · rw [a2.1 19 (by decide), mA_same (by decide)]
          rfl
        · rw [a2.2.2.1 5 (by decide)]
          show m_B (m_sB M 43 (3 - (r + 1)) (twd T n (sk T n p))) 5 = _
          rw [mB_same (by decide)]
      by_cases e44 : chp T n (sk T n w.2.2) = 44
      · rw [if_pos e44]
        have hk44' := hk44.trans (eq_true e44)
        obtain ⟨N4, e1, e2, e3⟩ := d1s.ksg (isSn_l 44 (by decide)) e44
        have s4 : ∀ fu, Sf (fu + 1) 1 M = Sf fu 1 N4 := fun fu => by
          rw [s1]
          unfold f_X3_select_n308 f_X3_select_n343
          simp (disch := omega) only [l_m1, l_m2, l_0, l_1, l_2, l_3, l_4, l_5, l_6, l_7, l_8, l_9, l_10, l_11, l_12, l_13, l_14, l_15, l_16, l_17, l_18, l_19, l_20, l_21, l_22, l_23, l_24, l_25, l_26, l_27, l_28, l_29, l_30, l_31, l_32, l_33, l_34, l_35, l_36, l_37, l_38, l_39, l_40, l_41, l_42, l_43, l_44, l_45, l_46, l_47, l_48, l_49, l_50, l_51, l_52, l_53, l_54, l_55, l_56, l_57, l_58, l_59, l_60, l_61, l_62, l_63, l_64, l_97, l_100, l_110, l_115, l_116, l_120, l_122, l_127, l_128, l_136, l_140, l_200, l_255, l_256, l_400, l_1000, l_30000, l_1200, l_65536, l_2147483639, l_2147483647, ob_some, obd_some, q_lt_t, q_lt_f, q_le_t, q_le_f, q_eq_t, q_eq_f, im_ne, im_ne', im_lt, im_le, im_lt', im_le', i_add, i_mul, i_dec, i_dec0, i_sub, i_and, i_shr, i_div, nar_b0, nar_b1, b2i_t, b2i_f, gA1, pA1, gB2, pB2, gA3, pA3, gA4, pA4, gB5, pB5, gA6, pA6, gA7, pA7, gA8, pA8, gA9, pA9, gA10, pA10, gA11, pA11, gA12, pA12, gA13, pA13, gA14, pA14, gA15, pA15, gA16, pA16, gA17, pA17, gA18, pA18, gA19, pA19, gA20, pA20, gA21, pA21, gA40, pA40, gB43, pB43, gA44, pA44, gA45, pA45, gA46, pA46, gA47, pA47, gA48, pA48, gA49, pA49, gA53, pA53, gA54, pA54, gA55, pA55, gA56, pA56, gA58, pA58, gA60, pA60, gA61, pA61, gA62, pA62, gA63, pA63, gA66, pA66, ↓reduceIte, if_true, if_false, R_mI_sJ, R_mI_sA, R_mI_sB, R_mJ_sI, R_mJ_sA, R_mJ_sB, R_mA_sI, R_mA_sJ, R_mA_sB, R_mB_sI, R_mB_sJ, R_mB_sA, mI_on, mI_off, mJ_on, mJ_off, mA_on, mA_same, mA_off, mB_on, mB_same, mB_off, up_on, up_off, z1, y0, y7, y1, hk44', e1]
          rfl
        have r6 : 3 - r = 3 - (r + 1) + 1 := by omega
        have hi := ih _ N4 (sk T n w.2.2 + 1) (by omega) e3 (by rw [e2.1 7 (by decide), mA_on, r6])
        cases hp4 : pfrm T n r (sk T n w.2.2 + 1) with
        | inl e =>
          rw [hp4] at hi
          obtain ⟨N5, cc, hc, g5, b5, s5⟩ := hi
          rw [pb_inl]
          exact ⟨N5, cc + 1, by omega, (g4.tr e2.kS).tr g5, b5, fun fu => by rw [← Nat.add_assoc, s4, s5]⟩
        | inr b =>
          rw [hp4] at hi
          obtain ⟨N5, cc, hc, g5, p5, m5, ⟨m7, m8, m9, m10⟩, l6, o5, s5⟩ := hi
          rw [pb_inr]
          refine ⟨N5, cc + 1, by omega, (g4.tr e2.kS).tr g5, ?_, ?_, ⟨?_, ?_, ?_, ?_⟩, fun j hj => ?_, fun j hj => ?_, fun fu => by rw [← Nat.add_assoc, s4, s5]⟩
          · simp only [List.append_assoc, List.cons_append, List.nil_append] at p5 ⊢
            exact p5
          · rw [m5]
            show i_ (3 - r + b.2.1.length) = i_ (3 - (r + 1) + (b.2.1.length + 1))
            rw [show 3 - r + b.2.1.length = 3 - (r + 1) + (b.2.1.length + 1) by omega]
          · rw [m7, e2.1 4 (by decide), mA_same (by decide)]
            exact hsame.1
          · rw [m8, e2.1 18 (by decide), mA_same (by decide)]
            exact hsame.2.1
          · rw [m9, e2.1 19 (by decide), mA_same (by decide)]
            exact hsame.2.2.1
          · rw [m10, e2.2.2.1 5 (by decide)]
            exact hsame.2.2.2
          · by_cases ej : j = 0
            · subst ej
              obtain ⟨q1, q2⟩ := o5 (3 - (r + 1)) (by omega)
              refine ⟨?_, ?_⟩
              · show m_B N5 43 (3 - (r + 1)) = enc w.1
                rw [q1, e2.2.2.1 43 (by decide)]
                exact hB
              · show m_A N5 44 (3 - (r + 1)) = i_ w.2.1
                rw [q2, e2.1 44 (by decide), mA_same (by decide)]
                exact hA
            · obtain ⟨j, rfl⟩ : ∃ m, j = m + 1 := ⟨j - 1, by omega⟩
              have hj' : j + 1 < b.2.1.length + 1 := hj
              have := l6 j (by omega)
              rw [show 3 - r + j = 3 - (r + 1) + (j + 1) by omega] at this
              exact this
          · obtain ⟨q1, q2⟩ := o5 j (by omega)
            obtain ⟨u1, u2⟩ := hoff j hj
            refine ⟨?_, ?_⟩
            · rw [q1, e2.2.2.1 43 (by decide)]
              exact u1
            · rw [q2, e2.1 44 (by decide), mA_same (by decide)]
              exact u2
      · rw [if_neg e44]
        have hk44' := hk44.trans (eq_false e44)
        refine ⟨m_sA N1 7 t (i_ (3 - (r + 1) + 1)), 1, by omega, g4, d1s.sk, mA_on, ⟨?_, ?_, ?_, hsame.2.2.2⟩, fun j hj => ?_, fun j hj => ?_, fun fu => ?_⟩
        · rw [mA_same (by decide)]
          exact hsame.1
        · rw [mA_same (by decide)]
          exact hsame.2.1
        · rw [mA_same (by decide)]
          exact hsame.2.2.1
        · have hj' : j < 1 := hj
          have ej : j = 0 := by omega
          subst ej
          refine ⟨hB, ?_⟩
          rw [mA_same (by decide)]
          exact hA
        · rw [mA_same (by decide)]
          exact hoff j hj
        · rw [s1]
          unfold f_X3_select_n308 f_X3_select_n343
          simp (disch := omega) only [l_m1, l_m2, l_0, l_1, l_2, l_3, l_4, l_5, l_6, l_7, l_8, l_9, l_10, l_11, l_12, l_13, l_14, l_15, l_16, l_17, l_18, l_19, l_20, l_21, l_22, l_23, l_24, l_25, l_26, l_27, l_28, l_29, l_30, l_31, l_32, l_33, l_34, l_35, l_36, l_37, l_38, l_39, l_40, l_41, l_42, l_43, l_44, l_45, l_46, l_47, l_48, l_49, l_50, l_51, l_52, l_53, l_54, l_55, l_56, l_57, l_58, l_59, l_60, l_61, l_62, l_63, l_64, l_97, l_100, l_110, l_115, l_116, l_120, l_122, l_127, l_128, l_136, l_140, l_200, l_255, l_256, l_400, l_1000, l_30000, l_1200, l_65536, l_2147483639, l_2147483647, ob_some, obd_some, q_lt_t, q_lt_f, q_le_t, q_le_f, q_eq_t, q_eq_f, im_ne, im_ne', im_lt, im_le, im_lt', im_le', i_add, i_mul, i_dec, i_dec0, i_sub, i_and, i_shr, i_div, nar_b0, nar_b1, b2i_t, b2i_f, gA1, pA1, gB2, pB2, gA3, pA3, gA4, pA4, gB5, pB5, gA6, pA6, gA7, pA7, gA8, pA8, gA9, pA9, gA10, pA10, gA11, pA11, gA12, pA12, gA13, pA13, gA14, pA14, gA15, pA15, gA16, pA16, gA17, pA17, gA18, pA18, gA19, pA19, gA20, pA20, gA21, pA21, gA40, pA40, gB43, pB43, gA44, pA44, gA45, pA45, gA46, pA46, gA47, pA47, gA48, pA48, gA49, pA49, gA53, pA53, gA54, pA54, gA55, pA55, gA56, pA56, gA58, pA58, gA60, pA60, gA61, pA61, gA62, pA62, gA63, pA63, gA66, pA66, ↓reduceIte, if_true, if_false, R_mI_sJ, R_mI_sA, R_mI_sB, R_mJ_sI, R_mJ_sA, R_mJ_sB, R_mA_sI, R_mA_sJ, R_mA_sB, R_mB_sI, R_mB_sJ, R_mB_sA, mI_on, mI_off, mJ_on, mJ_off, mA_on, mA_same, mA_off, mB_on, mB_same, mB_off, up_on, up_off, z1, y0, y7, y1, hk44']
          rfl
/-- a where as it lies *-/
def WR (M : MS) (t : Nat) (ks : List Rk) (w : Option Wh) : Prop := match w with
  | none => m_A M 19 (8 * t + 7) = i_ 0
  | some w => m_I M 42 = i_ w.2.1.2 ∧ (∃ a, m_A M 18 (8 * t + 6) = i_ a ∧ m_A M 19 (8 * t + 6) = i_ (a + w.1.1.length) ∧ Sg ks a w.1.1) ∧ ∃ a, m_A M 18 (8 * t + 7) = i_ a ∧ m_A M 19 (8 * t + 7) = i_ (a + w.2.2.1.length) ∧ Sg ks a w.2.2.1
theorem Gr.tS {t : Nat} {M N : MS} (g : Gr kaS [5, 43] kiP t M N) : Gr kaS [5, 43] kiS t M N := g.mono (by decide) (by decide) (by decide)
theorem PS.x42 {t n : Nat} {T : Nat → Nat} {ks : List Rk} {M : MS} {p : Nat} (h : PS t n T ks M p) {k : Nat} (hk : k ∈ [41, 42]) (x : Int32) : PS t n T ks (m_sI M k x) p := by
  obtain ⟨h1, ⟨l1, l2, l3, l4, l5⟩, h3, h4, h5⟩ := h
  have g : Gr [] [] [41, 42] t M (m_sI M k x) := Gr.sI hk
  simp only [List.mem_cons, List.not_mem_nil, or_false] at hk
  refine ⟨h1.gr g (by decide) (by decide), ⟨?_, ?_, ?_, ?_, l5⟩, h3.gr g (by decide), ?_, h5.1, h5.2.1, ?_⟩
  · rw [mI_off (by omega)]
    exact l1
  · rw [mI_off (by omega)]
    exact l2
  · rw [mI_off (by omega)]
    exact l3
  · rw [mI_off (by omega)]
    exact l4
  · rw [mI_off (by omega)]
    exact h4
  · rw [mI_off (by omega)]
    exact h5.2.2
theorem sel_411 {M : MS} {e : Nat} (hb : BD M e) : f_X3_select_n411 M = some M := by
  have z : m_I M 25 = i_ 1 := hb.1
  unfold f_X3_select_n411
  simp (disch := omega) only [l_m1, l_m2, l_0, l_1, l_2, l_3, l_4, l_5, l_6, l_7, l_8, l_9, l_10, l_11, l_12, l_13, l_14, l_15, l_16, l_17, l_18, l_19, l_20, l_21, l_22, l_23, l_24, l_25, l_26, l_27, l_28, l_29, l_30, l_31, l_32, l_33, l_34, l_35, l_36, l_37, l_38, l_39, l_40, l_41, l_42, l_43, l_44, l_45, l_46, l_47, l_48, l_49, l_50, l_51, l_52, l_53, l_54, l_55, l_56, l_57, l_58, l_59, l_60, l_61, l_62, l_63, l_64, l_97, l_100, l_110, l_115, l_116, l_120, l_122, l_127, l_128, l_136, l_140, l_200, l_255, l_256, l_400, l_1000, l_30000, l_1200, l_65536, l_2147483639, l_2147483647, ob_some, obd_some, q_lt_t, q_lt_f, q_le_t, q_le_f, q_eq_t, q_eq_f, im_ne, im_ne', im_lt, im_le, im_lt', im_le', i_add, i_mul, i_dec, i_dec0, i_sub, i_and, i_shr, i_div, nar_b0, nar_b1, b2i_t, b2i_f, gA1, pA1, gB2, pB2, gA3, pA3, gA4, pA4, gB5, pB5, gA6, pA6, gA7, pA7, gA8, pA8, gA9, pA9, gA10, pA10, gA11, pA11, gA12, pA12, gA13, pA13, gA14, pA14, gA15, pA15, gA16, pA16, gA17, pA17, gA18, pA18, gA19, pA19, gA20, pA20, gA21, pA21, gA40, pA40, gB43, pB43, gA44, pA44, gA45, pA45, gA46, pA46, gA47, pA47, gA48, pA48, gA49, pA49, gA53, pA53, gA54, pA54, gA55, pA55, gA56, pA56, gA58, pA58, gA60, pA60, gA61, pA61, gA62, pA62, gA63, pA63, gA66, pA66, ↓reduceIte, if_true, if_false, R_mI_sJ, R_mI_sA, R_mI_sB, R_mJ_sI, R_mJ_sA, R_mJ_sB, R_mA_sI, R_mA_sJ, R_mA_sB, R_mB_sI, R_mB_sJ, R_mB_sA, mI_on, mI_off, mJ_on, mJ_off, mA_on, mA_same, mA_off, mB_on, mB_same, mB_off, up_on, up_off, z]
theorem M_wh {t n : Nat} {T : Nat → Nat} {ks : List Rk} {M : MS} {p : Nat} (h : PS t n T ks M p) (h7 : m_A M 19 (8 * t + 7) = i_ 0) (fu : Nat) : ∃ N, Sf (fu + 1) 0 M = some N ∧ Gr kaS [5, 43] kiS t M N ∧ (m_A N 4 = m_A M 4 ∧ m_A N 7 = m_A M 7 ∧ m_A N 44 = m_A M 44 ∧ m_B N = m_B M) ∧ match pwh T n p with
    | .inl e => BD N e
    | .inr a => PS t n T (ks ++ a.1) N a.2.2 ∧ WR N t (ks ++ a.1) a.2.1 ∧ ∀ j, j < 8 * t + 6 → m_A N 18 j = m_A M 18 j ∧ m_A N 19 j = m_A M 19 j := by
  have hn := h.1.1
  have ht := hn.2.1
  have h25 := h.2.2.2.1
  have w1 := M_isWord h.1 h.2.1 (k := [119, 104, 101, 114, 101]) (by decide)
  have j37 : m_J M 37 = enc [119, 104, 101, 114, 101] := h.1.2.2.2.2.2.2.2.2.1
  unfold pwh
  cases e1 : pwd [119, 104, 101, 114, 101] T n p with
  | false =>
    rw [e1] at w1
    rw [if_neg (by decide)]
    refine ⟨M, ?_, Gr.rf _ _ _ _ _, ⟨rfl, rfl, rfl, rfl⟩, ?_, h7, fun j _ => ⟨rfl, rfl⟩⟩
    · unfold Sf f_X3_select_n235
      simp (disch := omega) only [l_m1, l_m2, l_0, l_1, l_2, l_3, l_4, l_5, l_6, l_7, l_8, l_9, l_10, l_11, l_12, l_13, l_14, l_15, l_16, l_17, l_18, l_19, l_20, l_21, l_22, l_23, l_24, l_25, l_26, l_27, l_28, l_29, l_30, l_31, l_32, l_33, l_34, l_35, l_36, l_37, l_38, l_39, l_40, l_41, l_42, l_43, l_44, l_45, l_46, l_47, l_48, l_49, l_50, l_51, l_52, l_53, l_54, l_55, l_56, l_57, l_58, l_59, l_60, l_61, l_62, l_63, l_64, l_97, l_100, l_110, l_115, l_116, l_120, l_122, l_127, l_128, l_136, l_140, l_200, l_255, l_256, l_400, l_1000, l_30000, l_1200, l_65536, l_2147483639, l_2147483647, ob_some, obd_some, q_lt_t, q_lt_f, q_le_t, q_le_f, q_eq_t, q_eq_f, im_ne, im_ne', im_lt, im_le, im_lt', im_le', i_add, i_mul, i_dec, i_dec0, i_sub, i_and, i_shr, i_div, nar_b0, nar_b1, b2i_t, b2i_f, gA1, pA1, gB2, pB2, gA3, pA3, gA4, pA4, gB5, pB5, gA6, pA6, gA7, pA7, gA8, pA8, gA9, pA9, gA10, pA10, gA11, pA11, gA12, pA12, gA13, pA13, gA14, pA14, gA15, pA15, gA16, pA16, gA17, pA17, gA18, pA18, gA19, pA19, gA20, pA20, gA21, pA21, gA40, pA40, gB43, pB43, gA44, pA44, gA45, pA45, gA46, pA46, gA47, pA47, gA48, pA48, gA49, pA49, gA53, pA53, gA54, pA54, gA55, pA55, gA56, pA56, gA58, pA58, gA60, pA60, gA61, pA61, gA62, pA62, gA63, pA63, gA66, pA66, ↓reduceIte, if_true, if_false, R_mI_sJ, R_mI_sA, R_mI_sB, R_mJ_sI, R_mJ_sA, R_mJ_sB, R_mA_sI, R_mA_sJ, R_mA_sB, R_mB_sI, R_mB_sJ, R_mB_sA, mI_on, mI_off, mJ_on, mJ_off, mA_on, mA_same, mA_off, mB_on, mB_same, mB_off, up_on, up_off, j37, w1]
    · show PS t n T (ks ++ []) M (sk T n p)
      rw [List.append_nil]
      exact h.sk
  | true =>
    rw [e1] at w1
    rw [if_pos rfl]
    obtain ⟨v1, v2⟩ := pwd_t e1
    obtain ⟨q1, q2, q3, q4⟩ := isLb_lt v1
    have hx : tnx T n (sk T n p) = lw T n (sk T n p) := by
      unfold tnx
      rw [if_pos q1, if_pos q2]
    have hk1 := knd_L (q := sk T n p) (fun k hk => (h.1.2.1 k hk).2)
    obtain ⟨N1, a1, a2, a3⟩ := h.keep (c := 1) (by rw [hk1.trans (eq_true v1)]; trivial) q1
    rw [hx, v2] at a3
    obtain ⟨N2, b1, b2, b3, b4⟩ := M_formula (f := 6) (by omega) a3
    have s2 : Sf (fu + 1) 0 M = (if (m_I N2 25) = 0 then
          if (m_I N2 29) = (60) then
            f_X3_select_n411 N2
          else
            if (m_I N2 29) = (61) then
              f_X3_select_n411 N2
            else
              (f_X3_fail (1) (m_I N2 30) N2).bind fun N5 =>
              f_X3_select_n411 N5
        else
          f_X3_select_n411 N2) := by
      unfold Sf f_X3_select_n235
      simp (disch := omega) only [l_m1, l_m2, l_0, l_1, l_2, l_3, l_4, l_5, l_6, l_7, l_8, l_9, l_10, l_11, l_12, l_13, l_14, l_15, l_16, l_17, l_18, l_19, l_20, l_21, l_22, l_23, l_24, l_25, l_26, l_27, l_28, l_29, l_30, l_31, l_32, l_33, l_34, l_35, l_36, l_37, l_38, l_39, l_40, l_41, l_42, l_43, l_44, l_45, l_46, l_47, l_48, l_49, l_50, l_51, l_52, l_53, l_54, l_55, l_56, l_57, l_58, l_59, l_60, l_61, l_62, l_63, l_64, l_97, l_100, l_110, l_115, l_116, l_120, l_122, l_127, l_128, l_136, l_140, l_200, l_255, l_256, l_400, l_1000, l_30000, l_1200, l_65536, l_2147483639, l_2147483647, ob_some, obd_some, q_lt_t, q_lt_f, q_le_t, q_le_f, q_eq_t, q_eq_f, im_ne, im_ne', im_lt, im_le, im_lt', im_le', i_add, i_mul, i_dec, i_dec0, i_sub, i_and, i_shr, i_div, nar_b0, nar_b1, b2i_t, b2i_f, gA1, pA1, gB2, pB2, gA3, pA3, gA4, pA4, gB5, pB5, gA6, pA6, gA7, pA7, gA8, pA8, gA9, pA9, gA10, pA10, gA11, pA11, gA12, pA12, gA13, pA13, gA14, pA14, gA15, pA15, gA16, pA16, gA17, pA17, gA18, pA18, gA19, pA19, gA20, pA20, gA21, pA21, gA40, pA40, gB43, pB43, gA44, pA44, gA45, pA45, gA46, pA46, gA47, pA47, gA48, pA48, gA49, pA49, gA53, pA53, gA54, pA54, gA55, pA55, gA56, pA56, gA58, pA58, gA60, pA60, gA61, pA61, gA62, pA62, gA63, pA63, gA66, pA66, ↓reduceIte, if_true, if_false, R_mI_sJ, R_mI_sA, R_mI_sB, R_mJ_sI, R_mJ_sA, R_mJ_sB, R_mA_sI, R_mA_sJ, R_mA_sB, R_mB_sI, R_mB_sJ, R_mB_sA, mI_on, mI_off, mJ_on, mJ_off, mA_on, mA_same, mA_off, mB_on, mB_same, mB_off, up_on, up_off, j37, w1, a1, b1]
    have g2 := (a2.kS.tr b2.fS).tS
    cases hp1 : pform T n 3 (lw T n (sk T n p)) with
    | inl e =>
      rw [hp1] at b4
      have z2 : m_I N2 25 = i_ 1 := b4.1
      refine ⟨N2, ?_, g2, ⟨?_, ?_, ?_, ?_⟩, b4⟩
      · rw [s2]
        simp (disch := omega) only [l_m1, l_m2, l_0, l_1, l_2, l_3, l_4, l_5, l_6, l_7, l_8, l_9, l_10, l_11, l_12, l_13, l_14, l_15, l_16, l_17, l_18, l_19, l_20, l_21, l_22, l_23, l_24, l_25, l_26, l_27, l_28, l_29, l_30, l_31, l_32, l_33, l_34, l_35, l_36, l_37, l_38, l_39, l_40, l_41, l_42, l_43, l_44, l_45, l_46, l_47, l_48, l_49, l_50, l_51, l_52, l_53, l_54, l_55, l_56, l_57, l_58, l_59, l_60, l_61, l_62, l_63, l_64, l_97, l_100, l_110, l_115, l_116, l_120, l_122, l_127, l_128, l_136, l_140, l_200, l_255, l_256, l_400, l_1000, l_30000, l_1200, l_65536, l_2147483639, l_2147483647, ob_some, obd_some, q_lt_t, q_lt_f, q_le_t, q_le_f, q_eq_t, q_eq_f, im_ne, im_ne', im_lt, im_le, im_lt', im_le', i_add, i_mul, i_dec, i_dec0, i_sub, i_and, i_shr, i_div, nar_b0, nar_b1, b2i_t, b2i_f, gA1, pA1, gB2, pB2, gA3, pA3, gA4, pA4, gB5, pB5, gA6, pA6, gA7, pA7, gA8, pA8, gA9, pA9, gA10, pA10, gA11, pA11, gA12, pA12, gA13, pA13, gA14, pA14, gA15, pA15, gA16, pA16, gA17, pA17, gA18, pA18, gA19, pA19, gA20, pA20, gA21, pA21, gA40, pA40, gB43, pB43, gA44, pA44, gA45, pA45, gA46, pA46, gA47, pA47, gA48, pA48, gA49, pA49, gA53, pA53, gA54, pA54, gA55, pA55, gA56, pA56, gA58, pA58, gA60, pA60, gA61, pA61, gA62, pA62, gA63, pA63, gA66, pA66, ↓reduceIte, if_true, if_false, R_mI_sJ, R_mI_sA, R_mI_sB, R_mJ_sI, R_mJ_sA, R_mJ_sB, R_mA_sI, R_mA_sJ, R_mA_sB, R_mB_sI, R_mB_sJ, R_mB_sA, mI_on, mI_off, mJ_on, mJ_off, mA_on, mA_same, mA_off, mB_on, mB_same, mB_off, up_on, up_off, z2, sel_411 b4]
      · rw [b2.1 4 (by decide), a2.1 4 (by decide)]
      · rw [b2.1 7 (by decide), a2.1 7 (by decide)]
      · rw [b2.1 44 (by decide), a2.1 44 (by decide)]
      · funext k
        rw [b2.2.2.1 k List.not_mem_nil, a2.2.2.1 k List.not_mem_nil]
    | inr a =>
      rw [hp1] at b4
      obtain ⟨d1, d2, d3, d4⟩ : PS t n T (ks ++ [(1, sk T n p, [119, 104, 101, 114, 101])] ++ a.1) N2 a.2.2 ∧ m_A N2 18 (8 * t + 6) = i_ (ks ++ [(1, sk T n p, [119, 104, 101, 114, 101])]).length ∧ m_A N2 19 (8 * t + 6) = i_ ((ks ++ [(1, sk T n p, [119, 104, 101, 114, 101])]).length + a.1.length) ∧ ∀ i, i ≠ 8 * t + 6 → m_A N2 19 i = m_A N1 19 i := b4
      rw [pb_inr]
      have z2 := d1.2.2.2.1
      have y1 := d1.2.1.1
      have y2 := d1.2.1.2.1
      have hk60 := knd_sn (q := sk T n a.2.2) (fun k hk => (h.1.2.1 k hk).2) (isSn_l 60 (by decide))
      have hk61 := knd_sn (q := sk T n a.2.2) (fun k hk => (h.1.2.1 k hk).2) (isSn_l 61 (by decide))
      by_cases e6 : chp T n (sk T n a.2.2) = 60 ∨ chp T n (sk T n a.2.2) = 61
      · rw [if_pos e6]
        have hsn : isSn (chp T n (sk T n a.2.2)) := by
          rcases e6 with e6 | e6 <;> rw [e6] <;> exact isSn_l _ (by decide)
        have s3 : Sf (fu + 1) 0 M = f_X3_select_n411 N2 := by
          rw [s2]
          rcases e6 with e6 | e6
          · have hk60' := hk60.trans (eq_true e6)
            simp (disch := omega) only [l_m1, l_m2, l_0, l_1, l_2, l_3, l_4, l_5, l_6, l_7, l_8, l_9, l_10, l_11, l_12, l_13, l_14, l_15, l_16, l_17, l_18, l_19, l_20, l_21, l_22, l_23, l_24, l_25, l_26, l_27, l_28, l_29, l_30, l_31, l_32, l_33, l_34, l_35, l_36, l_37, l_38, l_39, l_40, l_41, l_42, l_43, l_44, l_45, l_46, l_47, l_48, l_49, l_50, l_51, l_52, l_53, l_54, l_55, l_56, l_57, l_58, l_59, l_60, l_61, l_62, l_63, l_64, l_97, l_100, l_110, l_115, l_116, l_120, l_122, l_127, l_128, l_136, l_140, l_200, l_255, l_256, l_400, l_1000, l_30000, l_1200, l_65536, l_2147483639, l_2147483647, ob_some, obd_some, q_lt_t, q_lt_f, q_le_t, q_le_f, q_eq_t, q_eq_f, im_ne, im_ne', im_lt, im_le, im_lt', im_le', i_add, i_mul, i_dec, i_dec0, i_sub, i_and, i_shr, i_div, nar_b0, nar_b1, b2i_t, b2i_f, gA1, pA1, gB2, pB2, gA3, pA3, gA4, pA4, gB5, pB5, gA6, pA6, gA7, pA7, gA8, pA8, gA9, pA9, gA10, pA10, gA11, pA11, gA12, pA12, gA13, pA13, gA14, pA14, gA15, pA15, gA16, pA16, gA17, pA17, gA18, pA18, gA19, pA19, gA20, pA20, gA21, pA21, gA40, pA40, gB43, pB43, gA44, pA44, gA45, pA45, gA46, pA46, gA47, pA47, gA48, pA48, gA49, pA49, gA53, pA53, gA54, pA54, gA55, pA55, gA56, pA56, gA58, pA58, gA60, pA60, gA61, pA61, gA62, pA62, gA63, pA63, gA66, pA66, ↓reduceIte, if_true, if_false, R_mI_sJ, R_mI_sA, R_mI_sB, R_mJ_sI, R_mJ_sA, R_mJ_sB, R_mA_sI, R_mA_sJ, R_mA_sB, R_mB_sI, R_mB_sJ, R_mB_sA, mI_on, mI_off, mJ_on, mJ_off, mA_on, mA_same, mA_off, mB_on, mB_same, mB_off, up_on, up_off, z2, y1, hk60']
          · have hk60' := hk60.trans (eq_false (by omega))
            have hk61' := hk61.trans (eq_true e6)
            simp (disch := omega) only [l_m1, l_m2, l_0, l_1, l_2, l_3, l_4, l_5, l_6, l_7, l_8, l_9, l_10, l_11, l_12, l_13, l_14, l_15, l_16, l_17, l_18, l_19, l_20, l_21, l_22, l_23, l_24, l_25, l_26, l_27, l_28, l_29, l_30, l_31, l_32, l_33, l_34, l_35, l_36, l_37, l_38, l_39, l_40, l_41, l_42, l_43, l_44, l_45, l_46, l_47, l_48, l_49, l_50, l_51, l_52, l_53, l_54, l_55, l_56, l_57, l_58, l_59, l_60, l_61, l_62, l_63, l_64, l_97, l_100, l_110, l_115, l_116, l_120, l_122, l_127, l_128, l_136, l_140, l_200, l_255, l_256, l_400, l_1000, l_30000, l_1200, l_65536, l_2147483639, l_2147483647, ob_some, obd_some, q_lt_t, q_lt_f, q_le_t, q_le_f, q_eq_t, q_eq_f, im_ne, im_ne', im_lt, im_le, im_lt', im_le', i_add, i_mul, i_dec, i_dec0, i_sub, i_and, i_shr, i_div, nar_b0, nar_b1, b2i_t, b2i_f, gA1, pA1, gB2, pB2, gA3, pA3, gA4, pA4, gB5, pB5, gA6, pA6, gA7, pA7, gA8, pA8, gA9, pA9, gA10, pA10, gA11, pA11, gA12, pA12, gA13, pA13, gA14, pA14, gA15, pA15, gA16, pA16, gA17, pA17, gA18, pA18, gA19, pA19, gA20, pA20, gA21, pA21, gA40, pA40, gB43, pB43, gA44, pA44, gA45, pA45, gA46, pA46, gA47, pA47, gA48, pA48, gA49, pA49, gA53, pA53, gA54, pA54, gA55, pA55, gA56, pA56, gA58, pA58, gA60, pA60, gA61, pA61, gA62, pA62, gA63, pA63, gA66, pA66, ↓reduceIte, if_true, if_false, R_mI_sJ, R_mI_sA, R_mI_sB, R_mJ_sI, R_mJ_sA, R_mJ_sB, R_mA_sI, R_mA_sJ, R_mA_sB, R_mB_sI, R_mB_sJ, R_mB_sA, mI_on, mI_off, mJ_on, mJ_off, mA_on, mA_same, mA_off, mB_on, mB_same, mB_off, up_on, up_off, z2, y1, hk60', hk61']
        have d1' := d1.x42 (k := 42) (by decide) (i_ (sk T n a.2.2))
        have g3 : Gr kaS [5, 43] kiS t M (m_sI N2 42 (i_ (sk T n a.2.2))) := g2.tr (Gr.sI (by decide))
        obtain ⟨N3, c1, c2, c3⟩ := d1'.ksg hsn rfl
        obtain ⟨N4, f1, f2, f3, f4⟩ := M_formula (f := 7) (by omega) c3
        have s4 : Sf (fu + 1) 0 M = some N4 := by
          rw [s3]
          unfold f_X3_select_n411
          simp (disch := omega) only [l_m1, l_m2, l_0, l_1, l_2, l_3, l_4, l_5, l_6, l_7, l_8, l_9, l_10, l_11, l_12, l_13, l_14, l_15, l_16, l_17, l_18, l_19, l_20, l_21, l_22, l_23, l_24, l_25, l_26, l_27, l_28, l_29, l_30, l_31, l_32, l_33, l_34, l_35, l_36, l_37, l_38, l_39, l_40, l_41, l_42, l_43, l_44, l_45, l_46, l_47, l_48, l_49, l_50, l_51, l_52, l_53, l_54, l_55, l_56, l_57, l_58, l_59, l_60, l_61, l_62, l_63, l_64, l_97, l_100, l_110, l_115, l_116, l_120, l_122, l_127, l_128, l_136, l_140, l_200, l_255, l_256, l_400, l_1000, l_30000, l_1200, l_65536, l_2147483639, l_2147483647, ob_some, obd_some, q_lt_t, q_lt_f, q_le_t, q_le_f, q_eq_t, q_eq_f, im_ne, im_ne', im_lt, im_le, im_lt', im_le', i_add, i_mul, i_dec, i_dec0, i_sub, i_and, i_shr, i_div, nar_b0, nar_b1, b2i_t, b2i_f, gA1, pA1, gB2, pB2, gA3, pA3, gA4, pA4, gB5, pB5, gA6, pA6, gA7, pA7, gA8, pA8, gA9, pA9, gA10, pA10, gA11, pA11, gA12, pA12, gA13, pA13, gA14, pA14, gA15, pA15, gA16, pA16, gA17, pA17, gA18, pA18, gA19, pA19, gA20, pA20, gA21, pA21, gA40, pA40, gB43, pB43, gA44, pA44, gA45, pA45, gA46, pA46, gA47, pA47, gA48, pA48, gA49, pA49, gA53, pA53, gA54, pA54, gA55, pA55, gA56, pA56, gA58, pA58, gA60, pA60, gA61, pA61, gA62, pA62, gA63, pA63, gA66, pA66, ↓reduceIte, if_true, if_false, R_mI_sJ, R_mI_sA, R_mI_sB, R_mJ_sI, R_mJ_sA, R_mJ_sB, R_mA_sI, R_mA_sJ, R_mA_sB, R_mB_sI, R_mB_sJ, R_mB_sA, mI_on, mI_off, mJ_on, mJ_off, mA_on, mA_same, mA_off, mB_on, mB_same, mB_off, up_on, up_off, z2, y2, c1, f1]
        have g4 := (g3.tr c2.kS.tS).tr f2.fS.tS
        have hBm : m_B N4 = m_B M := by
          funext k
          rw [f2.2.2.1 k List.not_mem_nil, c2.2.2.1 k List.not_mem_nil, R_mB_sI, b2.2.2.1 k List.not_mem_nil, a2.2.2.1 k List.not_mem_nil]
        have hAm : ∀ k, k ∉ [13, 14, 15, 16, 18, 19, 40] → m_A N4 k = m_A M k := fun k hk => by
          have hk2 : k ∉ kaK := fun q => hk (by
            simp only [List.mem_cons, List.not_mem_nil, or_false] at q ⊢
            omega)
          rw [f2.1 k hk, c2.1 k hk2, R_mA_sI, b2.1 k hk, a2.1 k hk2]
        refine ⟨N4, s4, g4, ⟨hAm 4 (by decide), hAm 7 (by decide), hAm 44 (by decide), hBm⟩, ?_⟩
        cases hp2 : pform T n 3 (sk T n a.2.2 + 1) with
        | inl e =>
          rw [hp2] at f4
          exact f4
        | inr b =>
          rw [hp2] at f4
          obtain ⟨i1, i2, i3, i4⟩ : PS t n T (ks ++ [(1, sk T n p, [119, 104, 101, 114, 101])] ++ a.1 ++ [(chp T n (sk T n a.2.2), sk T n a.2.2, [chp T n (sk T n a.2.2)])] ++ b.1) N4 b.2.2 ∧ m_A N4 18 (8 * t + 7) = i_ (ks ++ [(1, sk T n p, [119, 104, 101, 114, 101])] ++ a.1 ++ [(chp T n (sk T n a.2.2), sk T n a.2.2, [chp T n (sk T n a.2.2)])]).length ∧ m_A N4 19 (8 * t + 7) = i_ ((ks ++ [(1, sk T n p, [119, 104, 101, 114, 101])] ++ a.1 ++ [(chp T n (sk T n a.2.2), sk T n a.2.2, [chp T n (sk T n a.2.2)])]).length + b.1.length) ∧ ∀ i, i ≠ 8 * t + 7 → m_A N4 19 i = m_A N3 19 i := f4
          rw [pb_inr]
          have hks : ks ++ (1, sk T n p, [119, 104, 101, 114, 101]) :: (a.1 ++ (chp T n (sk T n a.2.2), sk T n a.2.2, [chp T n (sk T n a.2.2)]) :: b.1) = ks ++ [(1, sk T n p, [119, 104, 101, 114, 101])] ++ a.1 ++ [(chp T n (sk T n a.2.2), sk T n a.2.2, [chp T n (sk T n a.2.2)])] ++ b.1 := by simp
          refine ⟨?_, ⟨?_, ⟨(ks ++ [(1, sk T n p, [119, 104, 101, 114, 101])]).length, ?_, ?_, ?_⟩, _, i2, i3, ?_⟩, fun j hj => ⟨?_, ?_⟩⟩
          · show PS t n T (ks ++ (1, sk T n p, [119, 104, 101, 114, 101]) :: (a.1 ++ (chp T n (sk T n a.2.2), sk T n a.2.2, [chp T n (sk T n a.2.2)]) :: b.1)) N4 b.2.2
            rw [hks]
            exact i1
          · show m_I N4 42 = i_ (sk T n a.2.2)
            rw [f2.2.2.2.2.1 42 (by decide), c2.2.2.2.2.1 42 (by decide), mI_on]
          · rw [f3 _ (by omega), c2.1 18 (by decide)]
            exact d2
          · rw [i4 _ (by omega), c2.1 19 (by decide)]
            exact d3
          · show Sg (ks ++ (1, sk T n p, [119, 104, 101, 114, 101]) :: (a.1 ++ (chp T n (sk T n a.2.2), sk T n a.2.2, [chp T n (sk T n a.2.2)]) :: b.1)) _ a.1
            rw [hks, List.append_assoc (ks ++ [(1, sk T n p, [119, 104, 101, 114, 101])] ++ a.1)]
            exact (Sg.end _ _).app _
          · show Sg (ks ++ (1, sk T n p, [119, 104, 101, 114, 101]) :: (a.1 ++ (chp T n (sk T n a.2.2), sk T n a.2.2, [chp T n (sk T n a.2.2)]) :: b.1)) _ b.1
            rw [hks]
            exact Sg.end _ _
          · rw [f3 _ (by omega), c2.1 18 (by decide), R_mA_sI, b3 _ (by omega), a2.1 18 (by decide)]
          · rw [i4 _ (by omega), c2.1 19 (by decide), R_mA_sI, d4 _ (by omega), a2.1 19 (by decide)]
      · rw [if_neg e6]
        have hk60' := hk60.trans (eq_false (fun k => e6 (Or.inl k)))
        have hk61' := hk61.trans (eq_false (fun k => e6 (Or.inr k)))
        obtain ⟨N3, c1, c2, c3⟩ := d1.fail (sk T n a.2.2)
        refine ⟨N3, ?_, g2.tr c2.kS.tS, ⟨?_, ?_, ?_, ?_⟩, c3⟩
        · rw [s2]
          simp (disch := omega) only [l_m1, l_m2, l_0, l_1, l_2, l_3, l_4, l_5, l_6, l_7, l_8, l_9, l_10, l_11, l_12, l_13, l_14, l_15, l_16, l_17, l_18, l_19, l_20, l_21, l_22, l_23, l_24, l_25, l_26, l_27, l_28, l_29, l_30, l_31, l_32, l_33, l_34, l_35, l_36, l_37, l_38, l_39, l_40, l_41, l_42, l_43, l_44, l_45, l_46, l_47, l_48, l_49, l_50, l_51, l_52, l_53, l_54, l_55, l_56, l_57, l_58, l_59, l_60, l_61, l_62, l_63, l_64, l_97, l_100, l_110, l_115, l_116, l_120, l_122, l_127, l_128, l_136, l_140, l_200, l_255, l_256, l_400, l_1000, l_30000, l_1200, l_65536, l_2147483639, l_2147483647, ob_some, obd_some, q_lt_t, q_lt_f, q_le_t, q_le_f, q_eq_t, q_eq_f, im_ne, im_ne', im_lt, im_le, im_lt', im_le', i_add, i_mul, i_dec, i_dec0, i_sub, i_and, i_shr, i_div, nar_b0, nar_b1, b2i_t, b2i_f, gA1, pA1, gB2, pB2, gA3, pA3, gA4, pA4, gB5, pB5, gA6, pA6, gA7, pA7, gA8, pA8, gA9, pA9, gA10, pA10, gA11, pA11, gA12, pA12, gA13, pA13, gA14, pA14, gA15, pA15, gA16, pA16, gA17, pA17, gA18, pA18, gA19, pA19, gA20, pA20, gA21, pA21, gA40, pA40, gB43, pB43, gA44, pA44, gA45, pA45, gA46, pA46, gA47, pA47, gA48, pA48, gA49, pA49, gA53, pA53, gA54, pA54, gA55, pA55, gA56, pA56, gA58, pA58, gA60, pA60, gA61, pA61, gA62, pA62, gA63, pA63, gA66, pA66, ↓reduceIte, if_true, if_false, R_mI_sJ, R_mI_sA, R_mI_sB, R_mJ_sI, R_mJ_sA, R_mJ_sB, R_mA_sI, R_mA_sJ, R_mA_sB, R_mB_sI, R_mB_sJ, R_mB_sA, mI_on, mI_off, mJ_on, mJ_off, mA_on, mA_same, mA_off, mB_on, mB_same, mB_off, up_on, up_off, z2, y1, y2, hk60', hk61', c1, sel_411 c3]
        · rw [c2.1 4 (by decide), b2.1 4 (by decide), a2.1 4 (by decide)]
        · rw [c2.1 7 (by decide), b2.1 7 (by decide), a2.1 7 (by decide)]
        · rw [c2.1 44 (by decide), b2.1 44 (by decide), a2.1 44 (by decide)]
        · funext k
          rw [c2.2.2.1 k List.not_mem_nil, b2.2.2.1 k List.not_mem_nil, a2.2.2.1 k List.not_mem_nil]
/-- a select as it lies *-/
def SLR (M : MS) (t : Nat) (ks : List Rk) (a : Nat) (cs : List Cs) (fs : List (List Nat × Nat)) (w : Option Wh) : Prop :=
  m_A M 4 t = i_ cs.length ∧ CL M t ks 0 a cs ∧ m_A M 7 t = i_ fs.length ∧ FL M 0 fs ∧ WR M t ks w
theorem M_select {t n : Nat} {T : Nat → Nat} {ks : List Rk} {M : MS} {p : Nat} (h : PS t n T ks M p) (h4 : m_A M 4 t = i_ 0) (h7 : m_A M 7 t = i_ 0) (h19 : m_A M 19 (8 * t + 7) = i_ 0) : ∃ N, f_X3_select M = some N ∧ Gr (20 :: kaS) [5, 43] kiS t M N ∧ match psel T n p with
    | .inl e => BD N e
    | .inr b => PS t n T (ks ++ b.1) N b.2.2.2.2 ∧ SLR N t (ks ++ b.1) (ks.length + 1) b.2.1 b.2.2.1 b.2.2.2.1 ∧ m_A N 20 t = i_ ks.length := by
  have hn := h.1.1
  have ht := hn.2.1
  have h13 := h.2.2.1.1
  have g0 : Gr [20] [] [] t M (m_sA M 20 t (i_ ks.length)) := Gr.sA (by decide) (Nat.le_refl t)
  have h0 : PS t n T ks (m_sA M 20 t (i_ ks.length)) p := by
    obtain ⟨h1, h2, h3, h4, h5⟩ := h
    exact ⟨h1.gr g0 (by decide) (by decide), h2, h3.gr g0 (by decide), h4, h5⟩
  obtain ⟨N1, a1, a2, a3⟩ := M_sign h0 61 (isSn_l 61 (by decide))
  have s1 : f_X3_select M = (if (m_I N1 25) = 0 then f_X3_select_n37 fu_ (1) N1 else f_X3_select_n37 fu_ (0) N1) := by
    unfold f_X3_select
    simp (disch := omega) only [l_m1, l_m2, l_0, l_1, l_2, l_3, l_4, l_5, l_6, l_7, l_8, l_9, l_10, l_11, l_12, l_13, l_14, l_15, l_16, l_17, l_18, l_19, l_20, l_21, l_22, l_23, l_24, l_25, l_26, l_27, l_28, l_29, l_30, l_31, l_32, l_33, l_34, l_35, l_36, l_37, l_38, l_39, l_40, l_41, l_42, l_43, l_44, l_45, l_46, l_47, l_48, l_49, l_50, l_51, l_52, l_53, l_54, l_55, l_56, l_57, l_58, l_59, l_60, l_61, l_62, l_63, l_64, l_97, l_100, l_110, l_115, l_116, l_120, l_122, l_127, l_128, l_136, l_140, l_200, l_255, l_256, l_400, l_1000, l_30000, l_1200, l_65536, l_2147483639, l_2147483647, ob_some, obd_some, q_lt_t, q_lt_f, q_le_t, q_le_f, q_eq_t, q_eq_f, im_ne, im_ne', im_lt, im_le, im_lt', im_le', i_add, i_mul, i_dec, i_dec0, i_sub, i_and, i_shr, i_div, nar_b0, nar_b1, b2i_t, b2i_f, gA1, pA1, gB2, pB2, gA3, pA3, gA4, pA4, gB5, pB5, gA6, pA6, gA7, pA7, gA8, pA8, gA9, pA9, gA10, pA10, gA11, pA11, gA12, pA12, gA13, pA13, gA14, pA14, gA15, pA15, gA16, pA16, gA17, pA17, gA18, pA18, gA19, pA19, gA20, pA20, gA21, pA21, gA40, pA40, gB43, pB43, gA44, pA44, gA45, pA45, gA46, pA46, gA47, pA47, gA48, pA48, gA49, pA49, gA53, pA53, gA54, pA54, gA55, pA55, gA56, pA56, gA58, pA58, gA60, pA60, gA61, pA61, gA62, pA62, gA63, pA63, gA66, pA66, ↓reduceIte, if_true, if_false, R_mI_sJ, R_mI_sA, R_mI_sB, R_mJ_sI, R_mJ_sA, R_mJ_sB, R_mA_sI, R_mA_sJ, R_mA_sB, R_mB_sI, R_mB_sJ, R_mB_sA, mI_on, mI_off, mJ_on, mJ_off, mA_on, mA_same, mA_off, mB_on, mB_same, mB_off, up_on, up_off, hn.1, h13, a1]
  have g1 : Gr (20 :: kaS) [5, 43] kiS t M N1 := (g0.mono (by decide) (by decide) (by decide)).tr (a2.mono (by decide) (by decide) (by decide))
  have gS : ∀ {A B : MS}, Gr kaS [5, 43] kiP t A B → Gr (20 :: kaS) [5, 43] kiS t A B := fun g => g.mono (by decide) (by decide) (by decide)
  have gS' : ∀ {A B : MS}, Gr kaS [5, 43] kiS t A B → Gr (20 :: kaS) [5, 43] kiS t A B := fun g => g.mono (by decide) (by decide) (by decide)
  unfold psel
  cases hp1 : psg 61 T n p with
  | inl e =>
    rw [hp1] at a3
    have z1 : m_I N1 25 = i_ 1 := a3.1
    refine ⟨N1, ?_, g1, a3⟩
    rw [s1, fu_eq]
    unfold f_X3_select_n37 f_X3_select_n208
    simp (disch := omega) only [l_m1, l_m2, l_0, l_1, l_2, l_3, l_4, l_5, l_6, l_7, l_8, l_9, l_10, l_11, l_12, l_13, l_14, l_15, l_16, l_17, l_18, l_19, l_20, l_21, l_22, l_23, l_24, l_25, l_26, l_27, l_28, l_29, l_30, l_31, l_32, l_33, l_34, l_35, l_36, l_37, l_38, l_39, l_40, l_41, l_42, l_43, l_44, l_45, l_46, l_47, l_48, l_49, l_50, l_51, l_52, l_53, l_54, l_55, l_56, l_57, l_58, l_59, l_60, l_61, l_62, l_63, l_64, l_97, l_100, l_110, l_115, l_116, l_120, l_122, l_127, l_128, l_136, l_140, l_200, l_255, l_256, l_400, l_1000, l_30000, l_1200, l_65536, l_2147483639, l_2147483647, ob_some, obd_some, q_lt_t, q_lt_f, q_le_t, q_le_f, q_eq_t, q_eq_f, im_ne, im_ne', im_lt, im_le, im_lt', im_le', i_add, i_mul, i_dec, i_dec0, i_sub, i_and, i_shr, i_div, nar_b0, nar_b1, b2i_t, b2i_f, gA1, pA1, gB2, pB2, gA3, pA3, gA4, pA4, gB5, pB5, gA6, pA6, gA7, pA7, gA8, pA8, gA9, pA9, gA10, pA10, gA11, pA11, gA12, pA12, gA13, pA13, gA14, pA14, gA15, pA15, gA16, pA16, gA17, pA17, gA18, pA18, gA19, pA19, gA20, pA20, gA21, pA21, gA40, pA40, gB43, pB43, gA44, pA44, gA45, pA45, gA46, pA46, gA47, pA47, gA48, pA48, gA49, pA49, gA53, pA53, gA54, pA54, gA55, pA55, gA56, pA56, gA58, pA58, gA60, pA60, gA61, pA61, gA62, pA62, gA63, pA63, gA66, pA66, ↓reduceIte, if_true, if_false, R_mI_sJ, R_mI_sA, R_mI_sB, R_mJ_sI, R_mJ_sA, R_mJ_sB, R_mA_sI, R_mA_sJ, R_mA_sB, R_mB_sI, R_mB_sJ, R_mB_sA, mI_on, mI_off, mJ_on, mJ_off, mA_on, mA_same, mA_off, mB_on, mB_same, mB_off, up_on, up_off, z1]
  | inr v =>
    rw [hp1] at a3
    obtain ⟨v1, v2⟩ := psg_r hp1
    have a3' : PS t n T (ks ++ [v.1]) N1 v.2 := a3
    rw [pb_inr]
    have z1 := a3'.2.2.2.1
    have s2 : f_X3_select M = Sc fu_ 1 N1 := by
      rw [s1]
      simp (disch := omega) only [l_m1, l_m2, l_0, l_1, l_2, l_3, l_4, l_5, l_6, l_7, l_8, l_9, l_10, l_11, l_12, l_13, l_14, l_15, l_16, l_17, l_18, l_19, l_20, l_21, l_22, l_23, l_24, l_25, l_26, l_27, l_28, l_29, l_30, l_31, l_32, l_33, l_34, l_35, l_36, l_37, l_38, l_39, l_40, l_41, l_42, l_43, l_44, l_45, l_46, l_47, l_48, l_49, l_50, l_51, l_52, l_53, l_54, l_55, l_56, l_57, l_58, l_59, l_60, l_61, l_62, l_63, l_64, l_97, l_100, l_110, l_115, l_116, l_120, l_122, l_127, l_128, l_136, l_140, l_200, l_255, l_256, l_400, l_1000, l_30000, l_1200, l_65536, l_2147483639, l_2147483647, ob_some, obd_some, q_lt_t, q_lt_f, q_le_t, q_le_f, q_eq_t, q_eq_f, im_ne, im_ne', im_lt, im_le, im_lt', im_le', i_add, i_mul, i_dec, i_dec0, i_sub, i_and, i_shr, i_div, nar_b0, nar_b1, b2i_t, b2i_f, gA1, pA1, gB2, pB2, gA3, pA3, gA4, pA4, gB5, pB5, gA6, pA6, gA7, pA7, gA8, pA8, gA9, pA9, gA10, pA10, gA11, pA11, gA12, pA12, gA13, pA13, gA14, pA14, gA15, pA15, gA16, pA16, gA17, pA17, gA18, pA18, gA19, pA19, gA20, pA20, gA21, pA21, gA40, pA40, gB43, pB43, gA44, pA44, gA45, pA45, gA46, pA46, gA47, pA47, gA48, pA48, gA49, pA49, gA53, pA53, gA54, pA54, gA55, pA55, gA56, pA56, gA58, pA58, gA60, pA60, gA61, pA61, gA62, pA62, gA63, pA63, gA66, pA66, ↓reduceIte, if_true, if_false, R_mI_sJ, R_mI_sA, R_mI_sB, R_mJ_sI, R_mJ_sA, R_mJ_sB, R_mA_sI, R_mA_sJ, R_mA_sB, R_mB_sI, R_mB_sJ, R_mB_sA, mI_on, mI_off, mJ_on, mJ_off, mA_on, mA_same, mA_off, mB_on, mB_same, mB_off, up_on, up_off, z1]
      rfl
    have y4 : m_A N1 4 t = i_ (6 - 6) := by
      rw [a2.1 4 (by decide), mA_same (by decide)]
      exact h4
    have y7 : m_A N1 7 t = i_ 0 := by
      rw [a2.1 7 (by decide), mA_same (by decide)]
      exact h7
    have y19 : m_A N1 19 (8 * t + 7) = i_ 0 := by
      rw [a2.1 19 (by decide), mA_same (by decide)]
      exact h19
    have hc := M_col 6 _ N1 v.2 (Nat.le_refl _) a3' y4
    cases hp2 : pcol T n 6 v.2 with
    | inl e =>
      rw [hp2] at hc
      obtain ⟨N2, c, hcc, g2, b2, s3⟩ := hc
      refine ⟨N2, ?_, g1.tr (gS g2), b2⟩
      rw [s2, show fu_ = (fu_ - c) + c by have := fu_eq; omega, s3]
    | inr b =>
      rw [hp2] at hc
      obtain ⟨N2, c, hcc, g2, p2, m4, m7, cl, off, s3⟩ := hc
      rw [pb_inr]
      have s4 : f_X3_select M = Sc (fu_ - c - 1 + 1) 0 N2 := by
        rw [s2, show Sc fu_ 1 N1 = Sc (fu_ - c - 1 + 1 + c) 1 N1 by rw [show fu_ - c - 1 + 1 + c = fu_ by have := fu_eq; omega], s3]
      have w1 := M_isWord p2.1 p2.2.1 (k := [102, 114, 111, 109]) (by decide)
      have j36 : m_J N2 36 = enc [102, 114, 111, 109] := p2.1.2.2.2.2.2.2.2.1
      have z2 := p2.2.2.2.1
      have l2 := p2.2.1.2.1
      have g2' := g1.tr (gS g2)
      have hn2 := p2.1.1
      cases e1 : pwd [102, 114, 111, 109] T n b.2.2 with
      | false =>
        rw [e1] at w1
        rw [if_neg (by decide)]
        obtain ⟨N3, c1, c2, c3⟩ := p2.fail (sk T n b.2.2)
        have z3 : m_I N3 25 = i_ 1 := c3.1
        refine ⟨N3, ?_, g2'.tr (gS c2.kS), c3⟩
        rw [s4]
        unfold Sc f_X3_select_n37 f_X3_select_n208
        simp (disch := omega) only [l_m1, l_m2, l_0, l_1, l_2, l_3, l_4, l_5, l_6, l_7, l_8, l_9, l_10, l_11, l_12, l_13, l_14, l_15, l_16, l_17, l_18, l_19, l_20, l_21, l_22, l_23, l_24, l_25, l_26, l_27, l_28, l_29, l_30, l_31, l_32, l_33, l_34, l_35, l_36, l_37, l_38, l_39, l_40, l_41, l_42, l_43, l_44, l_45, l_46, l_47, l_48, l_49, l_50, l_51, l_52, l_53, l_54, l_55, l_56, l_57, l_58, l_59, l_60, l_61, l_62, l_63, l_64, l_97, l_100, l_110, l_115, l_116, l_120, l_122, l_127, l_128, l_136, l_140, l_200, l_255, l_256, l_400, l_1000, l_30000, l_1200, l_65536, l_2147483639, l_2147483647, ob_some, obd_some, q_lt_t, q_lt_f, q_le_t, q_le_f, q_eq_t, q_eq_f, im_ne, im_ne', im_lt, im_le, im_lt', im_le', i_add, i_mul, i_dec, i_dec0, i_sub, i_and, i_shr, i_div, nar_b0, nar_b1, b2i_t, b2i_f, gA1, pA1, gB2, pB2, gA3, pA3, gA4, pA4, gB5, pB5, gA6, pA6, gA7, pA7, gA8, pA8, gA9, pA9, gA10, pA10, gA11, pA11, gA12, pA12, gA13, pA13, gA14, pA14, gA15, pA15, gA16, pA16, gA17, pA17, gA18, pA18, gA19, pA19, gA20, pA20, gA21, pA21, gA40, pA40, gB43, pB43, gA44, pA44, gA45, pA45, gA46, pA46, gA47, pA47, gA48, pA48, gA49, pA49, gA53, pA53, gA54, pA54, gA55, pA55, gA56, pA56, gA58, pA58, gA60, pA60, gA61, pA61, gA62, pA62, gA63, pA63, gA66, pA66, ↓reduceIte, if_true, if_false, R_mI_sJ, R_mI_sA, R_mI_sB, R_mJ_sI, R_mJ_sA, R_mJ_sB, R_mA_sI, R_mA_sJ, R_mA_sB, R_mB_sI, R_mB_sJ, R_mB_sA, mI_on, mI_off, mJ_on, mJ_off, mA_on, mA_same, mA_off, mB_on, mB_same, mB_off, up_on, up_off, z2, j36, w1, l2, c1, z3]
      | true =>
        rw [e1] at w1
        rw [if_pos rfl]
        obtain ⟨u1, u2⟩ := pwd_t e1
        obtain ⟨q1, q2, q3, q4⟩ := isLb_lt u1
        have hx : tnx T n (sk T n b.2.2) = lw T n (sk T n b.2.2) := by
          unfold tnx
          rw [if_pos q1, if_pos q2]
        have hk1 := knd_L (q := sk T n b.2.2) (fun k hk => (h.1.2.1 k hk).2)
        obtain ⟨N3, c1, c2, c3⟩ := p2.keep (c := 1) (by rw [hk1.trans (eq_true u1)]; trivial) q1
        rw [hx, u2] at c3
        have d13 := c3.2.2.1.1
        have d0 := c3.1.1.1
        have c3' := c3.x42 (k := 41) (by decide) (m_A N3 13 t)
        have g3 : Gr (20 :: kaS) [5, 43] kiS t M (m_sI N3 41 (m_A N3 13 t)) := (g2'.tr (gS c2.kS)).tr (Gr.sI (by decide))
        have s5 : f_X3_select M = Sf fu_ 1 (m_sI N3 41 (m_A N3 13 t)) := by
          rw [s4]
          unfold Sc f_X3_select_n37 f_X3_select_n208
          simp (disch := omega) only [l_m1, l_m2, l_0, l_1, l_2, l_3, l_4, l_5, l_6, l_7, l_8, l_9, l_10, l_11, l_12, l_13, l_14, l_15, l_16, l_17, l_18, l_19, l_20, l_21, l_22, l_23, l_24, l_25, l_26, l_27, l_28, l_29, l_30, l_31, l_32, l_33, l_34, l_35, l_36, l_37, l_38, l_39, l_40, l_41, l_42, l_43, l_44, l_45, l_46, l_47, l_48, l_49, l_50, l_51, l_52, l_53, l_54, l_55, l_56, l_57, l_58, l_59, l_60, l_61, l_62, l_63, l_64, l_97, l_100, l_110, l_115, l_116, l_120, l_122, l_127, l_128, l_136, l_140, l_200, l_255, l_256, l_400, l_1000, l_30000, l_1200, l_65536, l_2147483639, l_2147483647, ob_some, obd_some, q_lt_t, q_lt_f, q_le_t, q_le_f, q_eq_t, q_eq_f, im_ne, im_ne', im_lt, im_le, im_lt', im_le', i_add, i_mul, i_dec, i_dec0, i_sub, i_and, i_shr, i_div, nar_b0, nar_b1, b2i_t, b2i_f, gA1, pA1, gB2, pB2, gA3, pA3, gA4, pA4, gB5, pB5, gA6, pA6, gA7, pA7, gA8, pA8, gA9, pA9, gA10, pA10, gA11, pA11, gA12, pA12, gA13, pA13, gA14, pA14, gA15, pA15, gA16, pA16, gA17, pA17, gA18, pA18, gA19, pA19, gA20, pA20, gA21, pA21, gA40, pA40, gB43, pB43, gA44, pA44, gA45, pA45, gA46, pA46, gA47, pA47, gA48, pA48, gA49, pA49, gA53, pA53, gA54, pA54, gA55, pA55, gA56, pA56, gA58, pA58, gA60, pA60, gA61, pA61, gA62, pA62, gA63, pA63, gA66, pA66, ↓reduceIte, if_true, if_false, R_mI_sJ, R_mI_sA, R_mI_sB, R_mJ_sI, R_mJ_sA, R_mJ_sB, R_mA_sI, R_mA_sJ, R_mA_sB, R_mB_sI, R_mB_sJ, R_mB_sA, mI_on, mI_off, mJ_on, mJ_off, mA_on, mA_same, mA_off, mB_on, mB_same, mB_off, up_on, up_off, z2, j36, w1, c1, d0]
          rfl
        have hf := M_frm 3 _ (m_sI N3 41 (m_A N3 13 t)) _ (Nat.le_refl _) c3' (by
          show m_A N3 7 t = _
          rw [c2.1 7 (by decide), m7]
          exact y7)
        cases hp3 : pfrm T n 3 (lw T n (sk T n b.2.2)) with
        | inl e =>
          rw [hp3] at hf
          obtain ⟨N4, c, hcc, g4, b4, s6⟩ := hf
          refine ⟨N4, ?_, g3.tr (gS g4), b4⟩
          rw [s5, show fu_ = (fu_ - c) + c by have := fu_eq; omega, s6]
        | inr f =>
          rw [hp3] at hf
          obtain ⟨N4, c', hcc', g4, p4, r7, ⟨r4, r18, r19, r5⟩, fl4, off4, s6⟩ := hf
          rw [pb_inr]
          have s7 : f_X3_select M = Sf (fu_ - c' - 1 + 1) 0 N4 := by
            rw [s5, show Sf fu_ 1 (m_sI N3 41 (m_A N3 13 t)) = Sf (fu_ - c' - 1 + 1 + c') 1 (m_sI N3 41 (m_A N3 13 t)) by rw [show fu_ - c' - 1 + 1 + c' = fu_ by have := fu_eq; omega], s6]
          have h19' : m_A N4 19 (8 * t + 7) = i_ 0 := by
            rw [r19]
            show m_A N3 19 _ = _
            rw [c2.1 19 (by decide), (off _ (by omega)).2.2]
            exact y19
          obtain ⟨N5, e1, e2, ⟨e3, e4, e5, e6⟩, e7⟩ := M_wh p4 h19' (fu_ - c' - 1)
          refine ⟨N5, by rw [s7]; exact e1, (g3.tr (gS g4)).tr (gS' e2), ?_⟩
          cases hp4 : pwh T n f.2.2 with
          | inl e =>
            rw [hp4] at e7
            exact e7
          | inr d =>
            rw [hp4] at e7
            obtain ⟨f1, f2, f3⟩ : PS t n T (ks ++ [v.1] ++ b.1 ++ [(1, sk T n b.2.2, [102, 114, 111, 109])] ++ f.1 ++ d.1) N5 d.2.2 ∧ WR N5 t (ks ++ [v.1] ++ b.1 ++ [(1, sk T n b.2.2, [102, 114, 111, 109])] ++ f.1 ++ d.1) d.2.1 ∧ ∀ j, j < 8 * t + 6 → m_A N5 18 j = m_A N4 18 j ∧ m_A N5 19 j = m_A N4 19 j := e7
            rw [pb_inr]
            have hks : ks ++ (v.1 :: (b.1 ++ (1, sk T n b.2.2, [102, 114, 111, 109]) :: (f.1 ++ d.1))) = ks ++ [v.1] ++ b.1 ++ [(1, sk T n b.2.2, [102, 114, 111, 109])] ++ f.1 ++ d.1 := by simp
            have hb6 : b.2.1.length ≤ 6 := (pcol_KG 6 v.2 b.1 b.2.1 b.2.2 hp2).2.2.2
            show PS t n T (ks ++ (v.1 :: (b.1 ++ (1, sk T n b.2.2, [102, 114, 111, 109]) :: (f.1 ++ d.1)))) N5 d.2.2 ∧ SLR N5 t (ks ++ (v.1 :: (b.1 ++ (1, sk T n b.2.2, [102, 114, 111, 109]) :: (f.1 ++ d.1)))) (ks.length + 1) b.2.1 f.2.1 d.2.1 ∧ _
            rw [hks]
            refine ⟨f1, ⟨?_, ?_, ?_, fun j hj => ?_, f2⟩, ?_⟩
            · rw [e3, r4]
              show m_A N3 4 t = _
              rw [c2.1 4 (by decide), m4]
              simp
            · have hcl := cl.of (N := N5) ([(1, sk T n b.2.2, [102, 114, 111, 109])] ++ f.1 ++ d.1) (fun j h1 h2 => by
                have hj : 8 * t + j < 8 * t + 6 := by omega
                obtain ⟨x1, x2⟩ := f3 _ hj
                refine ⟨?_, ?_, ?_⟩
                · rw [e6, r5]
                  show m_B N3 5 _ = _
                  rw [c2.2.2.1 5 (by decide)]
                · rw [x1, r18]
                  show m_A N3 18 _ = _
                  rw [c2.1 18 (by decide)]
                · rw [x2, r19]
                  show m_A N3 19 _ = _
                  rw [c2.1 19 (by decide)])
              have hl : (ks ++ [v.1]).length = ks.length + 1 := by simp
              rw [hl] at hcl
              simp only [List.append_assoc] at hcl ⊢
              exact hcl
            · rw [e4, r7]
              simp
            · rw [e6, e5]
              exact fl4 j hj
            · have hg : Gr kaS [5, 43] kiS t N1 N5 := ((g2.tS.tr c2.kS.tS).tr (Gr.sI (by decide))).tr (g4.tS.tr e2)
              rw [hg.1 20 (by decide), a2.1 20 (by decide), mA_on]
