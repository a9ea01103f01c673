/-! the reference's reader: columns, from, where *-/
theorem PS.sk {t n : Nat} {T : Nat → Nat} {ks : List Rk} {M : MS} {p : Nat} (h : PS t n T ks M p) : PS t n T ks M (sk T n p) := by
  obtain ⟨h1, h2, h3, h4, h5, h6⟩ := h
  have := sk_ge T n p
  refine ⟨h1, ?_, h3, h4, by omega, sk_le h6.1, h6.2⟩
  unfold LA
  rw [sk_sk]
  exact h2
def Sg (ks : List Rk) (a : Nat) (k : List Rk) : Prop := ∃ u v, ks = u ++ (k ++ v) ∧ u.length = a
theorem Sg.app {ks : List Rk} {a : Nat} {k : List Rk} (h : Sg ks a k) (m : List Rk) : Sg (ks ++ m) a k := by
  obtain ⟨u, v, rfl, h⟩ := h
  exact ⟨u, v ++ m, by simp, h⟩
theorem Sg.end (ks k : List Rk) : Sg (ks ++ k) ks.length k := ⟨ks, [], by simp, rfl⟩
/-- columns of a select as they lie: from a column and a token on *-/
def CL (M : MS) (t : Nat) (ks : List Rk) : Nat → Nat → List Cs → Prop
  | _, _, [] => True
  | i, a, c :: cs => m_B M 5 (8 * t + i) = enc c.1 ∧ m_A M 18 (8 * t + i) = i_ (a + 2) ∧ m_A M 19 (8 * t + i) = i_ (a + 2 + c.2.2.1.length) ∧ (∃ o, Sg ks a ((1, c.2.1, c.1) :: (58, o, [58]) :: c.2.2.1)) ∧ CL M t ks (i + 1) (a + 2 + c.2.2.1.length + 1) cs
theorem CL.of {M N : MS} {t : Nat} {ks : List Rk} (m : List Rk) : ∀ {cs : List Cs} {i a : Nat}, CL M t ks i a cs → (∀ j, i ≤ j → j < i + cs.length → m_B N 5 (8 * t + j) = m_B M 5 (8 * t + j) ∧ m_A N 18 (8 * t + j) = m_A M 18 (8 * t + j) ∧ m_A N 19 (8 * t + j) = m_A M 19 (8 * t + j)) → CL N t (ks ++ m) i a cs
  | [], _, _, _, _ => trivial
  | c :: cs, i, a, ⟨h1, h2, h3, ⟨o, h4⟩, h5⟩, h => by
    have hlen : (c :: cs).length = cs.length + 1 := rfl
    obtain ⟨g1, g2, g3⟩ := h i (Nat.le_refl _) (by omega)
    exact ⟨g1.trans h1, g2.trans h2, g3.trans h3, ⟨o, h4.app m⟩, h5.of m (fun j a b => h j (by omega) (by omega))⟩
abbrev kaS : List Nat := [4, 7, 13, 14, 15, 16, 18, 19, 40, 44]
theorem Gr.kS {t : Nat} {M N : MS} (g : Gr kaK [] kiP t M N) : Gr kaS [5, 43] kiP t M N := g.mono (by decide) (by decide) (by decide)
theorem Gr.fS {t : Nat} {M N : MS} (g : Gr [13, 14, 15, 16, 18, 19, 40] [] kiP t M N) : Gr kaS [5, 43] kiP t M N := g.mono (by decide) (by decide) (by decide)
theorem PS.x4 {t n : Nat} {T : Nat → Nat} {ks : List Rk} {M : MS} {p : Nat} (h : PS t n T ks M p) {k : Nat} (hk : k ∈ [4, 7, 44]) (j : Nat) (x : Int32) (hj : lmA t k ≤ j) : PS t n T ks (m_sA M k j x) p := by
  obtain ⟨h1, h2, h3, h4, h5⟩ := h
  have g : Gr [4, 7, 44] [] [] t M (m_sA M k j x) := Gr.sA hk hj
  exact ⟨h1.gr g (by decide) (by decide), h2, h3.gr g (by decide), h4, h5⟩
theorem PS.xB {t n : Nat} {T : Nat → Nat} {ks : List Rk} {M : MS} {p : Nat} (h : PS t n T ks M p) {k : Nat} (hk : k ∈ [5, 43]) (j : Nat) (x : Int64) (hj : lmB t k ≤ j) : PS t n T ks (m_sB M k j x) p := by
  obtain ⟨h1, h2, h3, h4, h5⟩ := h
  have g : Gr [] [5, 43] [] t M (m_sB M k j x) := Gr.sB hk hj
  exact ⟨h1.gr g (by decide) (by decide), h2, h3.gr g (by decide), h4, h5⟩
theorem twd_n {T : Nat → Nat} {n p : Nat} {w : List Nat} {q e : Nat} (h : pname T n p = .inr (w, q, e)) : twd T n (sk T n p) = enc w ∧ q = sk T n p := by
  obtain ⟨rfl, h2, h3, h4, h5, -⟩ := pname_r h
  refine ⟨?_, rfl⟩
  unfold twd
  rw [if_pos ⟨by rw [chp_T (show sk T n p < n by omega)]; exact h4, by rw [← h2]; exact h5.2.2.2⟩, ← h2, h3]
theorem sel_134 {M : MS} {e : Nat} (hb : BD M e) (K : Int32 → MS → Option MS) : f_X3_select_n134 K M = some M := by
  have z : m_I M 25 = i_ 1 := hb.1
  unfold f_X3_select_n134
  simp (disch := omega) only [l_m1, l_m2, l_0, l_1, l_2, l_3, l_4, l_5, l_6, l_7, l_8, l_9, l_10, l_11, l_12, l_13, l_14, l_15, l_16, l_17, l_18, l_19, l_20, l_21, l_22, l_23, l_24, l_25, l_26, l_27, l_28, l_29, l_30, l_31, l_32, l_33, l_34, l_35, l_36, l_37, l_38, l_39, l_40, l_41, l_42, l_43, l_44, l_45, l_46, l_47, l_48, l_49, l_50, l_51, l_52, l_53, l_54, l_55, l_56, l_57, l_58, l_59, l_60, l_61, l_62, l_63, l_64, l_97, l_100, l_110, l_115, l_116, l_120, l_122, l_127, l_128, l_136, l_140, l_200, l_255, l_256, l_400, l_1000, l_30000, l_1200, l_65536, l_2147483639, l_2147483647, ob_some, obd_some, q_lt_t, q_lt_f, q_le_t, q_le_f, q_eq_t, q_eq_f, im_ne, im_ne', im_lt, im_le, im_lt', im_le', i_add, i_mul, i_dec, i_dec0, i_sub, i_and, i_shr, i_div, nar_b0, nar_b1, b2i_t, b2i_f, gA1, pA1, gB2, pB2, gA3, pA3, gA4, pA4, gB5, pB5, gA6, pA6, gA7, pA7, gA8, pA8, gA9, pA9, gA10, pA10, gA11, pA11, gA12, pA12, gA13, pA13, gA14, pA14, gA15, pA15, gA16, pA16, gA17, pA17, gA18, pA18, gA19, pA19, gA20, pA20, gA21, pA21, gA40, pA40, gB43, pB43, gA44, pA44, gA45, pA45, gA46, pA46, gA47, pA47, gA48, pA48, gA49, pA49, gA53, pA53, gA54, pA54, gA55, pA55, gA56, pA56, gA58, pA58, gA60, pA60, gA61, pA61, gA62, pA62, gA63, pA63, gA66, pA66, ↓reduceIte, if_true, if_false, R_mI_sJ, R_mI_sA, R_mI_sB, R_mJ_sI, R_mJ_sA, R_mJ_sB, R_mA_sI, R_mA_sJ, R_mA_sB, R_mB_sI, R_mB_sJ, R_mB_sA, mI_on, mI_off, mJ_on, mJ_off, mA_on, mA_same, mA_off, mB_on, mB_same, mB_off, up_on, up_off, z]
theorem sel_114 {M : MS} {e : Nat} (hb : BD M e) (K : Int32 → MS → Option MS) : f_X3_select_n114 K M = some M := by
  have z : m_I M 25 = i_ 1 := hb.1
  unfold f_X3_select_n114
  simp (disch := omega) only [l_m1, l_m2, l_0, l_1, l_2, l_3, l_4, l_5, l_6, l_7, l_8, l_9, l_10, l_11, l_12, l_13, l_14, l_15, l_16, l_17, l_18, l_19, l_20, l_21, l_22, l_23, l_24, l_25, l_26, l_27, l_28, l_29, l_30, l_31, l_32, l_33, l_34, l_35, l_36, l_37, l_38, l_39, l_40, l_41, l_42, l_43, l_44, l_45, l_46, l_47, l_48, l_49, l_50, l_51, l_52, l_53, l_54, l_55, l_56, l_57, l_58, l_59, l_60, l_61, l_62, l_63, l_64, l_97, l_100, l_110, l_115, l_116, l_120, l_122, l_127, l_128, l_136, l_140, l_200, l_255, l_256, l_400, l_1000, l_30000, l_1200, l_65536, l_2147483639, l_2147483647, ob_some, obd_some, q_lt_t, q_lt_f, q_le_t, q_le_f, q_eq_t, q_eq_f, im_ne, im_ne', im_lt, im_le, im_lt', im_le', i_add, i_mul, i_dec, i_dec0, i_sub, i_and, i_shr, i_div, nar_b0, nar_b1, b2i_t, b2i_f, gA1, pA1, gB2, pB2, gA3, pA3, gA4, pA4, gB5, pB5, gA6, pA6, gA7, pA7, gA8, pA8, gA9, pA9, gA10, pA10, gA11, pA11, gA12, pA12, gA13, pA13, gA14, pA14, gA15, pA15, gA16, pA16, gA17, pA17, gA18, pA18, gA19, pA19, gA20, pA20, gA21, pA21, gA40, pA40, gB43, pB43, gA44, pA44, gA45, pA45, gA46, pA46, gA47, pA47, gA48, pA48, gA49, pA49, gA53, pA53, gA54, pA54, gA55, pA55, gA56, pA56, gA58, pA58, gA60, pA60, gA61, pA61, gA62, pA62, gA63, pA63, gA66, pA66, ↓reduceIte, if_true, if_false, R_mI_sJ, R_mI_sA, R_mI_sB, R_mJ_sI, R_mJ_sA, R_mJ_sB, R_mA_sI, R_mA_sJ, R_mA_sB, R_mB_sI, R_mB_sJ, R_mB_sA, mI_on, mI_off, mJ_on, mJ_off, mA_on, mA_same, mA_off, mB_on, mB_same, mB_off, up_on, up_off, z, sel_134 hb K]
theorem sel_101 {M : MS} {e : Nat} (hb : BD M e) (K : Int32 → MS → Option MS) : f_X3_select_n101 K M = some M := by
  have z : m_I M 25 = i_ 1 := hb.1
  unfold f_X3_select_n101
  simp (disch := omega) only [l_m1, l_m2, l_0, l_1, l_2, l_3, l_4, l_5, l_6, l_7, l_8, l_9, l_10, l_11, l_12, l_13, l_14, l_15, l_16, l_17, l_18, l_19, l_20, l_21, l_22, l_23, l_24, l_25, l_26, l_27, l_28, l_29, l_30, l_31, l_32, l_33, l_34, l_35, l_36, l_37, l_38, l_39, l_40, l_41, l_42, l_43, l_44, l_45, l_46, l_47, l_48, l_49, l_50, l_51, l_52, l_53, l_54, l_55, l_56, l_57, l_58, l_59, l_60, l_61, l_62, l_63, l_64, l_97, l_100, l_110, l_115, l_116, l_120, l_122, l_127, l_128, l_136, l_140, l_200, l_255, l_256, l_400, l_1000, l_30000, l_1200, l_65536, l_2147483639, l_2147483647, ob_some, obd_some, q_lt_t, q_lt_f, q_le_t, q_le_f, q_eq_t, q_eq_f, im_ne, im_ne', im_lt, im_le, im_lt', im_le', i_add, i_mul, i_dec, i_dec0, i_sub, i_and, i_shr, i_div, nar_b0, nar_b1, b2i_t, b2i_f, gA1, pA1, gB2, pB2, gA3, pA3, gA4, pA4, gB5, pB5, gA6, pA6, gA7, pA7, gA8, pA8, gA9, pA9, gA10, pA10, gA11, pA11, gA12, pA12, gA13, pA13, gA14, pA14, gA15, pA15, gA16, pA16, gA17, pA17, gA18, pA18, gA19, pA19, gA20, pA20, gA21, pA21, gA40, pA40, gB43, pB43, gA44, pA44, gA45, pA45, gA46, pA46, gA47, pA47, gA48, pA48, gA49, pA49, gA53, pA53, gA54, pA54, gA55, pA55, gA56, pA56, gA58, pA58, gA60, pA60, gA61, pA61, gA62, pA62, gA63, pA63, gA66, pA66, ↓reduceIte, if_true, if_false, R_mI_sJ, R_mI_sA, R_mI_sB, R_mJ_sI, R_mJ_sA, R_mJ_sB, R_mA_sI, R_mA_sJ, R_mA_sB, R_mB_sI, R_mB_sJ, R_mB_sA, mI_on, mI_off, mJ_on, mJ_off, mA_on, mA_same, mA_off, mB_on, mB_same, mB_off, up_on, up_off, z, sel_114 hb K]
theorem sel_64 {M : MS} {e : Nat} (hb : BD M e) (K : Int32 → MS → Option MS) : f_X3_select_n64 K M = some M := by
  have z : m_I M 25 = i_ 1 := hb.1
  unfold f_X3_select_n64
  simp (disch := omega) only [l_m1, l_m2, l_0, l_1, l_2, l_3, l_4, l_5, l_6, l_7, l_8, l_9, l_10, l_11, l_12, l_13, l_14, l_15, l_16, l_17, l_18, l_19, l_20, l_21, l_22, l_23, l_24, l_25, l_26, l_27, l_28, l_29, l_30, l_31, l_32, l_33, l_34, l_35, l_36, l_37, l_38, l_39, l_40, l_41, l_42, l_43, l_44, l_45, l_46, l_47, l_48, l_49, l_50, l_51, l_52, l_53, l_54, l_55, l_56, l_57, l_58, l_59, l_60, l_61, l_62, l_63, l_64, l_97, l_100, l_110, l_115, l_116, l_120, l_122, l_127, l_128, l_136, l_140, l_200, l_255, l_256, l_400, l_1000, l_30000, l_1200, l_65536, l_2147483639, l_2147483647, ob_some, obd_some, q_lt_t, q_lt_f, q_le_t, q_le_f, q_eq_t, q_eq_f, im_ne, im_ne', im_lt, im_le, im_lt', im_le', i_add, i_mul, i_dec, i_dec0, i_sub, i_and, i_shr, i_div, nar_b0, nar_b1, b2i_t, b2i_f, gA1, pA1, gB2, pB2, gA3, pA3, gA4, pA4, gB5, pB5, gA6, pA6, gA7, pA7, gA8, pA8, gA9, pA9, gA10, pA10, gA11, pA11, gA12, pA12, gA13, pA13, gA14, pA14, gA15, pA15, gA16, pA16, gA17, pA17, gA18, pA18, gA19, pA19, gA20, pA20, gA21, pA21, gA40, pA40, gB43, pB43, gA44, pA44, gA45, pA45, gA46, pA46, gA47, pA47, gA48, pA48, gA49, pA49, gA53, pA53, gA54, pA54, gA55, pA55, gA56, pA56, gA58, pA58, gA60, pA60, gA61, pA61, gA62, pA62, gA63, pA63, gA66, pA66, ↓reduceIte, if_true, if_false, R_mI_sJ, R_mI_sA, R_mI_sB, R_mJ_sI, R_mJ_sA, R_mJ_sB, R_mA_sI, R_mA_sJ, R_mA_sB, R_mB_sI, R_mB_sJ, R_mB_sA, mI_on, mI_off, mJ_on, mJ_off, mA_on, mA_same, mA_off, mB_on, mB_same, mB_off, up_on, up_off, z, sel_101 hb K]
def Sc (fu w : Nat) (M : MS) : Option MS := f_X3_select_n37 fu (i_ w) M
def Sk (fu : Nat) : Int32 → MS → Option MS := fun x1 M => f_X3_select_n37 fu x1 M
theorem M_col {t n : Nat} {T : Nat → Nat} : ∀ (r : Nat) (ks : List Rk) (M : MS) (p : Nat), r ≤ 6 → PS t n T ks M p → m_A M 4 t = i_ (6 - r) → match pcol T n r p with
    | .inl e => ∃ N c, c ≤ r + 1 ∧ Gr kaS [5, 43] kiP t M N ∧ BD N e ∧ ∀ fu, Sc (fu + c) 1 M = some N
    | .inr a => ∃ N c, c ≤ r + 1 ∧ Gr kaS [5, 43] kiP t M N ∧ PS t n T (ks ++ a.1) N a.2.2 ∧ m_A N 4 t = i_ (6 - r + a.2.1.length) ∧ m_A N 7 = m_A M 7 ∧ CL N t (ks ++ a.1) (6 - r) ks.length a.2.1 ∧ (∀ j, j < 8 * t + (6 - r) ∨ 8 * t + 6 ≤ j → m_B N 5 j = m_B M 5 j ∧ m_A N 18 j = m_A M 18 j ∧ m_A N 19 j = m_A M 19 j) ∧ ∀ fu, Sc (fu + c) 1 M = Sc fu 0 N := by
  intro r
  induction r with
  | zero =>
    intro ks M p hr h h4
    have hn := h.1.1
    have ht := hn.2.1
    have l2 := h.2.1.2.1
    obtain ⟨N, a1, a2, a3⟩ := h.fail (sk T n p)
    have e64 := fun fu => sel_64 a3 (fun x1 M => f_X3_select_n37 fu x1 M)
    refine ⟨N, 1, by omega, a2.kS, a3, fun fu => ?_⟩
    unfold Sc f_X3_select_n37
    simp (disch := omega) only [l_m1, l_m2, l_0, l_1, l_2, l_3, l_4, l_5, l_6, l_7, l_8, l_9, l_10, l_11, l_12, l_13, l_14, l_15, l_16, l_17, l_18, l_19, l_20, l_21, l_22, l_23, l_24, l_25, l_26, l_27, l_28, l_29, l_30, l_31, l_32, l_33, l_34, l_35, l_36, l_37, l_38, l_39, l_40, l_41, l_42, l_43, l_44, l_45, l_46, l_47, l_48, l_49, l_50, l_51, l_52, l_53, l_54, l_55, l_56, l_57, l_58, l_59, l_60, l_61, l_62, l_63, l_64, l_97, l_100, l_110, l_115, l_116, l_120, l_122, l_127, l_128, l_136, l_140, l_200, l_255, l_256, l_400, l_1000, l_30000, l_1200, l_65536, l_2147483639, l_2147483647, ob_some, obd_some, q_lt_t, q_lt_f, q_le_t, q_le_f, q_eq_t, q_eq_f, im_ne, im_ne', im_lt, im_le, im_lt', im_le', i_add, i_mul, i_dec, i_dec0, i_sub, i_and, i_shr, i_div, nar_b0, nar_b1, b2i_t, b2i_f, gA1, pA1, gB2, pB2, gA3, pA3, gA4, pA4, gB5, pB5, gA6, pA6, gA7, pA7, gA8, pA8, gA9, pA9, gA10, pA10, gA11, pA11, gA12, pA12, gA13, pA13, gA14, pA14, gA15, pA15, gA16, pA16, gA17, pA17, gA18, pA18, gA19, pA19, gA20, pA20, gA21, pA21, gA40, pA40, gB43, pB43, gA44, pA44, gA45, pA45, gA46, pA46, gA47, pA47, gA48, pA48, gA49, pA49, gA53, pA53, gA54, pA54, gA55, pA55, gA56, pA56, gA58, pA58, gA60, pA60, gA61, pA61, gA62, pA62, gA63, pA63, gA66, pA66, ↓reduceIte, if_true, if_false, R_mI_sJ, R_mI_sA, R_mI_sB, R_mJ_sI, R_mJ_sA, R_mJ_sB, R_mA_sI, R_mA_sJ, R_mA_sB, R_mB_sI, R_mB_sJ, R_mB_sA, mI_on, mI_off, mJ_on, mJ_off, mA_on, mA_same, mA_off, mB_on, mB_same, mB_off, up_on, up_off, hn.1, h4, l2, a1, e64]
  | succ r ih =>
    intro ks M p hr h h4
    have hn := h.1.1
    have ht := hn.2.1
    have h25 := h.2.2.2.1
    have l5 := h.2.1.2.2.2.2
    unfold pcol
    -- the name
    have h1 := h.xB (k := 5) (by decide) (8 * t + (6 - (r + 1))) (twd T n (sk T n p)) (show 8 * t ≤ _ by omega)
    have g1 : Gr kaS [5, 43] kiP t M (m_sB M 5 (8 * t + (6 - (r + 1))) (twd T n (sk T n p))) := Gr.sB (by decide) (show 8 * t ≤ _ by omega)
    obtain ⟨N1, a1, a2, a3⟩ := M_name h1
    have s1 : ∀ fu, Sc (fu + 1) 1 M = f_X3_select_n101 (Sk fu) N1 := fun fu => by
      unfold Sc
      conv => lhs; unfold f_X3_select_n37
      unfold f_X3_select_n64
      simp (disch := omega) only [l_m1, l_m2, l_0, l_1, l_2, l_3, l_4, l_5, l_6, l_7, l_8, l_9, l_10, l_11, l_12, l_13, l_14, l_15, l_16, l_17, l_18, l_19, l_20, l_21, l_22, l_23, l_24, l_25, l_26, l_27, l_28, l_29, l_30, l_31, l_32, l_33, l_34, l_35, l_36, l_37, l_38, l_39, l_40, l_41, l_42, l_43, l_44, l_45, l_46, l_47, l_48, l_49, l_50, l_51, l_52, l_53, l_54, l_55, l_56, l_57, l_58, l_59, l_60, l_61, l_62, l_63, l_64, l_97, l_100, l_110, l_115, l_116, l_120, l_122, l_127, l_128, l_136, l_140, l_200, l_255, l_256, l_400, l_1000, l_30000, l_1200, l_65536, l_2147483639, l_2147483647, ob_some, obd_some, q_lt_t, q_lt_f, q_le_t, q_le_f, q_eq_t, q_eq_f, im_ne, im_ne', im_lt, im_le, im_lt', im_le', i_add, i_mul, i_dec, i_dec0, i_sub, i_and, i_shr, i_div, nar_b0, nar_b1, b2i_t, b2i_f, gA1, pA1, gB2, pB2, gA3, pA3, gA4, pA4, gB5, pB5, gA6, pA6, gA7, pA7, gA8, pA8, gA9, pA9, gA10, pA10, gA11, pA11, gA12, pA12, gA13, pA13, gA14, pA14, gA15, pA15, gA16, pA16, gA17, pA17, gA18, pA18, gA19, pA19, gA20, pA20, gA21, pA21, gA40, pA40, gB43, pB43, gA44, pA44, gA45, pA45, gA46, pA46, gA47, pA47, gA48, pA48, gA49, pA49, gA53, pA53, gA54, pA54, gA55, pA55, gA56, pA56, gA58, pA58, gA60, pA60, gA61, pA61, gA62, pA62, gA63, pA63, gA66, pA66, ↓reduceIte, if_true, if_false, R_mI_sJ, R_mI_sA, R_mI_sB, R_mJ_sI, R_mJ_sA, R_mJ_sB, R_mA_sI, R_mA_sJ, R_mA_sB, R_mB_sI, R_mB_sJ, R_mB_sA, mI_on, mI_off, mJ_on, mJ_off, mA_on, mA_same, mA_off, mB_on, mB_same, mB_off, up_on, up_off, hn.1, h4, h25, l5, a1]
      rfl
    cases hp1 : pname T n p with
    | inl e =>
      rw [hp1] at a3
      exact ⟨N1, 1, by omega, g1.tr a2.kS, a3, fun fu => by rw [s1]; exact sel_101 a3 _⟩
    | inr w =>
      rw [hp1] at a3
      have a3' : PS t n T (ks ++ [(1, w.2.1, w.1)]) N1 w.2.2 := a3
      rw [pb_inr]
      have z1 := a3'.2.2.2.1
      obtain ⟨N2, b1, b2, b3⟩ := M_sign a3' 58 (isSn_l 58 (by decide))
      have s2 : ∀ fu, Sc (fu + 1) 1 M = f_X3_select_n114 (Sk fu) N2 := fun fu => by
        rw [s1]
        unfold f_X3_select_n101
        simp (disch := omega) only [l_m1, l_m2, l_0, l_1, l_2, l_3, l_4, l_5, l_6, l_7, l_8, l_9, l_10, l_11, l_12, l_13, l_14, l_15, l_16, l_17, l_18, l_19, l_20, l_21, l_22, l_23, l_24, l_25, l_26, l_27, l_28, l_29, l_30, l_31, l_32, l_33, l_34, l_35, l_36, l_37, l_38, l_39, l_40, l_41, l_42, l_43, l_44, l_45, l_46, l_47, l_48, l_49, l_50, l_51, l_52, l_53, l_54, l_55, l_56, l_57, l_58, l_59, l_60, l_61, l_62, l_63, l_64, l_97, l_100, l_110, l_115, l_116, l_120, l_122, l_127, l_128, l_136, l_140, l_200, l_255, l_256, l_400, l_1000, l_30000, l_1200, l_65536, l_2147483639, l_2147483647, ob_some, obd_some, q_lt_t, q_lt_f, q_le_t, q_le_f, q_eq_t, q_eq_f, im_ne, im_ne', im_lt, im_le, im_lt', im_le', i_add, i_mul, i_dec, i_dec0, i_sub, i_and, i_shr, i_div, nar_b0, nar_b1, b2i_t, b2i_f, gA1, pA1, gB2, pB2, gA3, pA3, gA4, pA4, gB5, pB5, gA6, pA6, gA7, pA7, gA8, pA8, gA9, pA9, gA10, pA10, gA11, pA11, gA12, pA12, gA13, pA13, gA14, pA14, gA15, pA15, gA16, pA16, gA17, pA17, gA18, pA18, gA19, pA19, gA20, pA20, gA21, pA21, gA40, pA40, gB43, pB43, gA44, pA44, gA45, pA45, gA46, pA46, gA47, pA47, gA48, pA48, gA49, pA49, gA53, pA53, gA54, pA54, gA55, pA55, gA56, pA56, gA58, pA58, gA60, pA60, gA61, pA61, gA62, pA62, gA63, pA63, gA66, pA66, ↓reduceIte, if_true, if_false, R_mI_sJ, R_mI_sA, R_mI_sB, R_mJ_sI, R_mJ_sA, R_mJ_sB, R_mA_sI, R_mA_sJ, R_mA_sB, R_mB_sI, R_mB_sJ, R_mB_sA, mI_on, mI_off, mJ_on, mJ_off, mA_on, mA_same, mA_off, mB_on, mB_same, mB_off, up_on, up_off, z1, b1]
      have g2 := (g1.tr a2.kS).tr b2.kS
      cases hp2 : psg 58 T n w.2.2 with
      | inl e =>
        rw [hp2] at b3
        exact ⟨N2, 1, by omega, g2, b3, fun fu => by rw [s2]; exact sel_114 b3 _⟩
      | inr v =>
        rw [hp2] at b3
        obtain ⟨v1, v2⟩ := psg_r hp2
        have b3' : PS t n T (ks ++ [(1, w.2.1, w.1)] ++ [v.1]) N2 v.2 := b3
        rw [pb_inr]
        have z2 := b3'.2.2.2.1
        have y0 := b3'.1.1.1
        have y4 : m_A N2 4 t = i_ (6 - (r + 1)) := by
          rw [b2.1 4 (by decide), a2.1 4 (by decide)]
          exact h4
        obtain ⟨N3, c1, c2, c3, c4⟩ := M_formula (f := 6 - (r + 1)) (by omega) b3'
        have s3 : ∀ fu, Sc (fu + 1) 1 M = f_X3_select_n134 (Sk fu) N3 := fun fu => by
          rw [s2]
          unfold f_X3_select_n114
          simp (disch := omega) only [l_m1, l_m2, l_0, l_1, l_2, l_3, l_4, l_5, l_6, l_7, l_8, l_9, l_10, l_11, l_12, l_13, l_14, l_15, l_16, l_17, l_18, l_19, l_20, l_21, l_22, l_23, l_24, l_25, l_26, l_27, l_28, l_29, l_30, l_31, l_32, l_33, l_34, l_35, l_36, l_37, l_38, l_39, l_40, l_41, l_42, l_43, l_44, l_45, l_46, l_47, l_48, l_49, l_50, l_51, l_52, l_53, l_54, l_55, l_56, l_57, l_58, l_59, l_60, l_61, l_62, l_63, l_64, l_97, l_100, l_110, l_115, l_116, l_120, l_122, l_127, l_128, l_136, l_140, l_200, l_255, l_256, l_400, l_1000, l_30000, l_1200, l_65536, l_2147483639, l_2147483647, ob_some, obd_some, q_lt_t, q_lt_f, q_le_t, q_le_f, q_eq_t, q_eq_f, im_ne, im_ne', im_lt, im_le, im_lt', im_le', i_add, i_mul, i_dec, i_dec0, i_sub, i_and, i_shr, i_div, nar_b0, nar_b1, b2i_t, b2i_f, gA1, pA1, gB2, pB2, gA3, pA3, gA4, pA4, gB5, pB5, gA6, pA6, gA7, pA7, gA8, pA8, gA9, pA9, gA10, pA10, gA11, pA11, gA12, pA12, gA13, pA13, gA14, pA14, gA15, pA15, gA16, pA16, gA17, pA17, gA18, pA18, gA19, pA19, gA20, pA20, gA21, pA21, gA40, pA40, gB43, pB43, gA44, pA44, gA45, pA45, gA46, pA46, gA47, pA47, gA48, pA48, gA49, pA49, gA53, pA53, gA54, pA54, gA55, pA55, gA56, pA56, gA58, pA58, gA60, pA60, gA61, pA61, gA62, pA62, gA63, pA63, gA66, pA66, ↓reduceIte, if_true, if_false, R_mI_sJ, R_mI_sA, R_mI_sB, R_mJ_sI, R_mJ_sA, R_mJ_sB, R_mA_sI, R_mA_sJ, R_mA_sB, R_mB_sI, R_mB_sJ, R_mB_sA, mI_on, mI_off, mJ_on, mJ_off, mA_on, mA_same, mA_off, mB_on, mB_same, mB_off, up_on, up_off, z2, y0, y4, c1]
        have g3 := g2.tr c2.fS
        cases hp3 : pform T n 3 v.2 with
        | inl e =>
          rw [hp3] at c4
          exact ⟨N3, 1, by omega, g3, c4, fun fu => by rw [s3]; exact sel_134 c4 _⟩
        | inr c =>
          rw [hp3] at c4
          obtain ⟨d1, d2, d3, d4⟩ : PS t n T (ks ++ [(1, w.2.1, w.1)] ++ [v.1] ++ c.1) N3 c.2.2 ∧ m_A N3 18 (8 * t + (6 - (r + 1))) = i_ (ks ++ [(1, w.2.1, w.1)] ++ [v.1]).length ∧ m_A N3 19 (8 * t + (6 - (r + 1))) = i_ ((ks ++ [(1, w.2.1, w.1)] ++ [v.1]).length + c.1.length) ∧ ∀ i, i ≠ 8 * t + (6 - (r + 1)) → m_A N3 19 i = m_A N2 19 i := c4
          rw [pb_inr]
          have hlen2 : (ks ++ [(1, w.2.1, w.1)] ++ [v.1]).length = ks.length + 2 := by simp
          rw [hlen2] at d2 d3
          have z3 := d1.2.2.2.1
          have x0 := d1.1.1.1
          have x4 : m_A N3 4 t = i_ (6 - (r + 1)) := by
            rw [c2.1 4 (by decide)]
            exact y4
          have d1s := d1.x4 (k := 4) (by decide) t (i_ (6 - (r + 1) + 1)) (Nat.le_refl t)
          have g4 : Gr kaS [5, 43] kiP t M (m_sA N3 4 t (i_ (6 - (r + 1) + 1))) := g3.tr (Gr.sA (by decide) (Nat.le_refl t))
          have hk44 := knd_sn (q := sk T n c.2.2) (fun k hk => (h.1.2.1 k hk).2) (isSn_l 44 (by decide))
          have x1 := d1.2.1.1
          have hB5 : m_B N3 5 (8 * t + (6 - (r + 1))) = enc w.1 := by
            rw [c2.2.2.1 5 (by decide), b2.2.2.1 5 (by decide), a2.2.2.1 5 (by decide), mB_on]
            exact (twd_n hp1).1
          have hks : ks ++ [(1, w.2.1, w.1)] ++ [v.1] ++ c.1 = ks ++ ((1, w.2.1, w.1) :: v.1 :: c.1) := by simp
          rw [hks] at d1s d1
          have hv1 : v.1 = (58, sk T n w.2.2, [58]) := by rw [v2]
          have hsg : ∃ o, Sg (ks ++ ((1, w.2.1, w.1) :: v.1 :: c.1)) ks.length ((1, w.2.1, w.1) :: (58, o, [58]) :: c.1) := ⟨sk T n w.2.2, by rw [hv1]; exact Sg.end _ _⟩
          have hoff : ∀ j, j < 8 * t + (6 - (r + 1)) ∨ 8 * t + 6 ≤ j → m_B N3 5 j = m_B M 5 j ∧ m_A N3 18 j = m_A M 18 j ∧ m_A N3 19 j = m_A M 19 j := fun j hj => by
            refine ⟨?_, ?_, ?_⟩
            · rw [c2.2.2.1 5 (by decide), b2.2.2.1 5 (by decide), a2.2.2.1 5 (by decide), mB_off (by omega)]
            · rw [c3 j (by omega), b2.1 18 (by decide), a2.1 18 (by decide)]
              rfl
            · rw [d4 j (by omega), b2.1 19 (by decide), a2.1 19 (by decide)]
              rfl
          have h7 : m_A N3 7 = m_A M 7 := by
            rw [c2.1 7 (by decide), b2.1 7 (by decide), a2.1 7 (by decide)]
            rfl
          by_cases e44 : chp T n (sk T n c.2.2) = 44
          · rw [if_pos e44]
            have hk44' := hk44.trans (eq_true e44)
            obtain ⟨N4, e1, e2, e3⟩ := d1s.ksg (isSn_l 44 (by decide)) e44
            have s4 : ∀ fu, Sc (fu + 1) 1 M = Sc fu 1 N4 := fun fu => by
              rw [s3]
              unfold f_X3_select_n134 f_X3_select_n169
              simp (disch := omega) only [l_m1, l_m2, l_0, l_1, l_2, l_3, l_4, l_5, l_6, l_7, l_8, l_9, l_10, l_11, l_12, l_13, l_14, l_15, l_16, l_17, l_18, l_19, l_20, l_21, l_22, l_23, l_24, l_25, l_26, l_27, l_28, l_29, l_30, l_31, l_32, l_33, l_34, l_35, l_36, l_37, l_38, l_39, l_40, l_41, l_42, l_43, l_44, l_45, l_46, l_47, l_48, l_49, l_50, l_51, l_52, l_53, l_54, l_55, l_56, l_57, l_58, l_59, l_60, l_61, l_62, l_63, l_64, l_97, l_100, l_110, l_115, l_116, l_120, l_122, l_127, l_128, l_136, l_140, l_200, l_255, l_256, l_400, l_1000, l_30000, l_1200, l_65536, l_2147483639, l_2147483647, ob_some, obd_some, q_lt_t, q_lt_f, q_le_t, q_le_f, q_eq_t, q_eq_f, im_ne, im_ne', im_lt, im_le, im_lt', im_le', i_add, i_mul, i_dec, i_dec0, i_sub, i_and, i_shr, i_div, nar_b0, nar_b1, b2i_t, b2i_f, gA1, pA1, gB2, pB2, gA3, pA3, gA4, pA4, gB5, pB5, gA6, pA6, gA7, pA7, gA8, pA8, gA9, pA9, gA10, pA10, gA11, pA11, gA12, pA12, gA13, pA13, gA14, pA14, gA15, pA15, gA16, pA16, gA17, pA17, gA18, pA18, gA19, pA19, gA20, pA20, gA21, pA21, gA40, pA40, gB43, pB43, gA44, pA44, gA45, pA45, gA46, pA46, gA47, pA47, gA48, pA48, gA49, pA49, gA53, pA53, gA54, pA54, gA55, pA55, gA56, pA56, gA58, pA58, gA60, pA60, gA61, pA61, gA62, pA62, gA63, pA63, gA66, pA66, ↓reduceIte, if_true, if_false, R_mI_sJ, R_mI_sA, R_mI_sB, R_mJ_sI, R_mJ_sA, R_mJ_sB, R_mA_sI, R_mA_sJ, R_mA_sB, R_mB_sI, R_mB_sJ, R_mB_sA, mI_on, mI_off, mJ_on, mJ_off, mA_on, mA_same, mA_off, mB_on, mB_same, mB_off, up_on, up_off, z3, x0, x4, x1, hk44', e1]
              rfl
            have r6 : 6 - r = 6 - (r + 1) + 1 := by omega
            have hi := ih _ N4 (sk T n c.2.2 + 1) (by omega) e3 (by rw [e2.1 4 (by decide), mA_on, r6])
            cases hp4 : pcol T n r (sk T n c.2.2 + 1) with
            | inl e =>
              rw [hp4] at hi
              obtain ⟨N5, cc, hc, g5, b5, s5⟩ := hi
              rw [pb_inl]
              exact ⟨N5, cc + 1, by omega, (g4.tr e2.kS).tr g5, b5, fun fu => by rw [← Nat.add_assoc, s4, s5]⟩
            | inr b =>
              rw [hp4] at hi
              obtain ⟨N5, cc, hc, g5, p5, m5, m7, l6, o5, s5⟩ := hi
              rw [pb_inr]
              refine ⟨N5, cc + 1, by omega, (g4.tr e2.kS).tr g5, ?_, ?_, ?_, ?_, fun j hj => ?_, fun fu => by rw [← Nat.add_assoc, s4, s5]⟩
              · simp only [List.append_assoc, List.cons_append, List.nil_append] at p5 ⊢
                exact p5
              · rw [m5]
                show i_ (6 - r + b.2.1.length) = i_ (6 - (r + 1) + (b.2.1.length + 1))
                rw [show 6 - r + b.2.1.length = 6 - (r + 1) + (b.2.1.length + 1) by omega]
              · rw [m7, e2.1 7 (by decide), mA_same (by decide), h7]
              · have hks2 : ks ++ ((1, w.2.1, w.1) :: v.1 :: (c.1 ++ (44, sk T n c.2.2, [44]) :: b.1)) = ks ++ ((1, w.2.1, w.1) :: v.1 :: c.1) ++ ((44, sk T n c.2.2, [44]) :: b.1) := by simp
                have hl6 : (ks ++ ((1, w.2.1, w.1) :: v.1 :: c.1) ++ [(44, sk T n c.2.2, [44])]).length = ks.length + 2 + c.1.length + 1 := by
                  simp only [List.length_append, List.length_cons, List.length_nil]
                  omega
                rw [hl6] at l6
                obtain ⟨q1, q2, q3⟩ := o5 (8 * t + (6 - (r + 1))) (by omega)
                obtain ⟨o, hsg⟩ := hsg
                show CL N5 t (ks ++ ((1, w.2.1, w.1) :: v.1 :: (c.1 ++ (44, sk T n c.2.2, [44]) :: b.1))) (6 - (r + 1)) ks.length ((w.1, w.2.1, c.1, c.2.1) :: b.2.1)
                refine ⟨?_, ?_, ?_, ⟨o, by rw [hks2]; exact hsg.app _⟩, ?_⟩
                · rw [q1, e2.2.2.1 5 (by decide)]
                  exact hB5
                · rw [q2, e2.1 18 (by decide), mA_same (by decide)]
                  exact d2
                · rw [q3, e2.1 19 (by decide), mA_same (by decide)]
                  exact d3
                · rw [show 6 - (r + 1) + 1 = 6 - r by omega]
                  have hks3 : ks ++ ((1, w.2.1, w.1) :: v.1 :: (c.1 ++ (44, sk T n c.2.2, [44]) :: b.1)) = ks ++ ((1, w.2.1, w.1) :: v.1 :: c.1) ++ [(44, sk T n c.2.2, [44])] ++ b.1 := by simp
                  rw [hks3]
                  exact l6
              · obtain ⟨q1, q2, q3⟩ := o5 j (by omega)
                obtain ⟨u1, u2, u3⟩ := hoff j hj
                refine ⟨?_, ?_, ?_⟩
                · rw [q1, e2.2.2.1 5 (by decide)]
                  exact u1
                · rw [q2, e2.1 18 (by decide), mA_same (by decide)]
                  exact u2
                · rw [q3, e2.1 19 (by decide), mA_same (by decide)]
                  exact u3
          · rw [if_neg e44]
            have hk44' := hk44.trans (eq_false e44)
            obtain ⟨o, hsg⟩ := hsg
            refine ⟨m_sA N3 4 t (i_ (6 - (r + 1) + 1)), 1, by omega, g4, d1s.sk, mA_on, ?_, ⟨hB5, ?_, ?_, ⟨o, hsg⟩, trivial⟩, fun j hj => ?_, fun fu => ?_⟩
            · rw [mA_same (by decide)]
              exact h7
            · rw [mA_same (by decide)]
              exact d2
            · rw [mA_same (by decide)]
              exact d3
            · rw [mA_same (by decide), mA_same (by decide)]
              exact hoff j hj
            · rw [s3]
              unfold f_X3_select_n134 f_X3_select_n169
              simp (disch := omega) only [l_m1, l_m2, l_0, l_1, l_2, l_3, l_4, l_5, l_6, l_7, l_8, l_9, l_10, l_11, l_12, l_13, l_14, l_15, l_16, l_17, l_18, l_19, l_20, l_21, l_22, l_23, l_24, l_25, l_26, l_27, l_28, l_29, l_30, l_31, l_32, l_33, l_34, l_35, l_36, l_37, l_38, l_39, l_40, l_41, l_42, l_43, l_44, l_45, l_46, l_47, l_48, l_49, l_50, l_51, l_52, l_53, l_54, l_55, l_56, l_57, l_58, l_59, l_60, l_61, l_62, l_63, l_64, l_97, l_100, l_110, l_115, l_116, l_120, l_122, l_127, l_128, l_136, l_140, l_200, l_255, l_256, l_400, l_1000, l_30000, l_1200, l_65536, l_2147483639, l_2147483647, ob_some, obd_some, q_lt_t, q_lt_f, q_le_t, q_le_f, q_eq_t, q_eq_f, im_ne, im_ne', im_lt, im_le, im_lt', im_le', i_add, i_mul, i_dec, i_dec0, i_sub, i_and, i_shr, i_div, nar_b0, nar_b1, b2i_t, b2i_f, gA1, pA1, gB2, pB2, gA3, pA3, gA4, pA4, gB5, pB5, gA6, pA6, gA7, pA7, gA8, pA8, gA9, pA9, gA10, pA10, gA11, pA11, gA12, pA12, gA13, pA13, gA14, pA14, gA15, pA15, gA16, pA16, gA17, pA17, gA18, pA18, gA19, pA19, gA20, pA20, gA21, pA21, gA40, pA40, gB43, pB43, gA44, pA44, gA45, pA45, gA46, pA46, gA47, pA47, gA48, pA48, gA49, pA49, gA53, pA53, gA54, pA54, gA55, pA55, gA56, pA56, gA58, pA58, gA60, pA60, gA61, pA61, gA62, pA62, gA63, pA63, gA66, pA66, ↓reduceIte, if_true, if_false, R_mI_sJ, R_mI_sA, R_mI_sB, R_mJ_sI, R_mJ_sA, R_mJ_sB, R_mA_sI, R_mA_sJ, R_mA_sB, R_mB_sI, R_mB_sJ, R_mB_sA, mI_on, mI_off, mJ_on, mJ_off, mA_on, mA_same, mA_off, mB_on, mB_same, mB_off, up_on, up_off, z3, x0, x4, x1, hk44']
              rfl
