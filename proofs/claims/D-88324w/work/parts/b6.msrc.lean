/-! the reference's reader: a source's columns *-/
def SL (M : MS) (t : Nat) (ks : List Rk) : Nat → Nat → List (List Nat × Nat × Nat) → Prop
  | _, _, [] => True
  | i, a, c :: cs => m_B M 5 (8 * t + i) = enc c.1 ∧ m_A M 6 (8 * t + i) = i_ c.2.2 ∧ Sg ks a [(1, c.2.1, c.1)] ∧ SL M t ks (i + 1) (a + 3) cs
theorem SL.of {M N : MS} {t : Nat} {ks : List Rk} (m : List Rk) : ∀ {cs : List (List Nat × Nat × Nat)} {i a : Nat}, SL M t ks i a cs → (∀ j, i ≤ j → j < i + cs.length → m_B N 5 (8 * t + j) = m_B M 5 (8 * t + j) ∧ m_A N 6 (8 * t + j) = m_A M 6 (8 * t + j)) → SL N t (ks ++ m) i a cs
  | [], _, _, _, _ => trivial
  | c :: cs, i, a, ⟨h1, h2, h3, h5⟩, h => by
    have hlen : (c :: cs).length = cs.length + 1 := rfl
    obtain ⟨g1, g2⟩ := h i (Nat.le_refl _) (by omega)
    exact ⟨g1.trans h1, g2.trans h2, h3.app m, h5.of m (fun j a b => h j (by omega) (by omega))⟩
abbrev kaR6 : List Nat := [4, 6, 13, 14, 15, 16]
theorem Gr.kR {t : Nat} {M N : MS} (g : Gr kaK [] kiP t M N) : Gr kaR6 [5] kiP t M N := g.mono (by decide) (by decide) (by decide)
theorem PS.x46 {t n : Nat} {T : Nat → Nat} {ks : List Rk} {M : MS} {p : Nat} (h : PS t n T ks M p) {k : Nat} (hk : k ∈ [4, 6]) (j : Nat) (x : Int32) (hj : lmA t k ≤ j) : PS t n T ks (m_sA M k j x) p := by
  obtain ⟨h1, h2, h3, h4, h5⟩ := h
  have g : Gr [4, 6] [] [] t M (m_sA M k j x) := Gr.sA hk hj
  exact ⟨h1.gr g (by decide) (by decide), h2, h3.gr g (by decide), h4, h5⟩
theorem src_140 {M : MS} {e : Nat} (hb : BD M e) (K : Int32 → MS → Option MS) : f_X3_source_n140 K M = some M := by
  have z : m_I M 25 = i_ 1 := hb.1
  unfold f_X3_source_n140
  simp (disch := omega) only [l_m1, l_m2, l_0, l_1, l_2, l_3, l_4, l_5, l_6, l_7, l_8, l_9, l_10, l_11, l_12, l_13, l_14, l_15, l_16, l_17, l_18, l_19, l_20, l_21, l_22, l_23, l_24, l_25, l_26, l_27, l_28, l_29, l_30, l_31, l_32, l_33, l_34, l_35, l_36, l_37, l_38, l_39, l_40, l_41, l_42, l_43, l_44, l_45, l_46, l_47, l_48, l_49, l_50, l_51, l_52, l_53, l_54, l_55, l_56, l_57, l_58, l_59, l_60, l_61, l_62, l_63, l_64, l_97, l_100, l_110, l_115, l_116, l_120, l_122, l_127, l_128, l_136, l_140, l_200, l_255, l_256, l_400, l_1000, l_30000, l_1200, l_65536, l_2147483639, l_2147483647, ob_some, obd_some, q_lt_t, q_lt_f, q_le_t, q_le_f, q_eq_t, q_eq_f, im_ne, im_ne', im_lt, im_le, im_lt', im_le', i_add, i_mul, i_dec, i_dec0, i_sub, i_and, i_shr, i_div, nar_b0, nar_b1, b2i_t, b2i_f, gA1, pA1, gB2, pB2, gA3, pA3, gA4, pA4, gB5, pB5, gA6, pA6, gA7, pA7, gA8, pA8, gA9, pA9, gA10, pA10, gA11, pA11, gA12, pA12, gA13, pA13, gA14, pA14, gA15, pA15, gA16, pA16, gA17, pA17, gA18, pA18, gA19, pA19, gA20, pA20, gA21, pA21, gA40, pA40, gB43, pB43, gA44, pA44, gA45, pA45, gA46, pA46, gA47, pA47, gA48, pA48, gA49, pA49, gA53, pA53, gA54, pA54, gA55, pA55, gA56, pA56, gA58, pA58, gA60, pA60, gA61, pA61, gA62, pA62, gA63, pA63, gA66, pA66, ↓reduceIte, if_true, if_false, R_mI_sJ, R_mI_sA, R_mI_sB, R_mJ_sI, R_mJ_sA, R_mJ_sB, R_mA_sI, R_mA_sJ, R_mA_sB, R_mB_sI, R_mB_sJ, R_mB_sA, mI_on, mI_off, mJ_on, mJ_off, mA_on, mA_same, mA_off, mB_on, mB_same, mB_off, up_on, up_off, z]
theorem src_83 {M : MS} {e : Nat} (hb : BD M e) (K : Int32 → MS → Option MS) : f_X3_source_n83 K M = some M := by
  have z : m_I M 25 = i_ 1 := hb.1
  unfold f_X3_source_n83
  simp (disch := omega) only [l_m1, l_m2, l_0, l_1, l_2, l_3, l_4, l_5, l_6, l_7, l_8, l_9, l_10, l_11, l_12, l_13, l_14, l_15, l_16, l_17, l_18, l_19, l_20, l_21, l_22, l_23, l_24, l_25, l_26, l_27, l_28, l_29, l_30, l_31, l_32, l_33, l_34, l_35, l_36, l_37, l_38, l_39, l_40, l_41, l_42, l_43, l_44, l_45, l_46, l_47, l_48, l_49, l_50, l_51, l_52, l_53, l_54, l_55, l_56, l_57, l_58, l_59, l_60, l_61, l_62, l_63, l_64, l_97, l_100, l_110, l_115, l_116, l_120, l_122, l_127, l_128, l_136, l_140, l_200, l_255, l_256, l_400, l_1000, l_30000, l_1200, l_65536, l_2147483639, l_2147483647, ob_some, obd_some, q_lt_t, q_lt_f, q_le_t, q_le_f, q_eq_t, q_eq_f, im_ne, im_ne', im_lt, im_le, im_lt', im_le', i_add, i_mul, i_dec, i_dec0, i_sub, i_and, i_shr, i_div, nar_b0, nar_b1, b2i_t, b2i_f, gA1, pA1, gB2, pB2, gA3, pA3, gA4, pA4, gB5, pB5, gA6, pA6, gA7, pA7, gA8, pA8, gA9, pA9, gA10, pA10, gA11, pA11, gA12, pA12, gA13, pA13, gA14, pA14, gA15, pA15, gA16, pA16, gA17, pA17, gA18, pA18, gA19, pA19, gA20, pA20, gA21, pA21, gA40, pA40, gB43, pB43, gA44, pA44, gA45, pA45, gA46, pA46, gA47, pA47, gA48, pA48, gA49, pA49, gA53, pA53, gA54, pA54, gA55, pA55, gA56, pA56, gA58, pA58, gA60, pA60, gA61, pA61, gA62, pA62, gA63, pA63, gA66, pA66, ↓reduceIte, if_true, if_false, R_mI_sJ, R_mI_sA, R_mI_sB, R_mJ_sI, R_mJ_sA, R_mJ_sB, R_mA_sI, R_mA_sJ, R_mA_sB, R_mB_sI, R_mB_sJ, R_mB_sA, mI_on, mI_off, mJ_on, mJ_off, mA_on, mA_same, mA_off, mB_on, mB_same, mB_off, up_on, up_off, z, src_140 hb K]
theorem src_46 {M : MS} {e : Nat} (hb : BD M e) (K : Int32 → MS → Option MS) : f_X3_source_n46 K M = some M := by
  have z : m_I M 25 = i_ 1 := hb.1
  unfold f_X3_source_n46
  simp (disch := omega) only [l_m1, l_m2, l_0, l_1, l_2, l_3, l_4, l_5, l_6, l_7, l_8, l_9, l_10, l_11, l_12, l_13, l_14, l_15, l_16, l_17, l_18, l_19, l_20, l_21, l_22, l_23, l_24, l_25, l_26, l_27, l_28, l_29, l_30, l_31, l_32, l_33, l_34, l_35, l_36, l_37, l_38, l_39, l_40, l_41, l_42, l_43, l_44, l_45, l_46, l_47, l_48, l_49, l_50, l_51, l_52, l_53, l_54, l_55, l_56, l_57, l_58, l_59, l_60, l_61, l_62, l_63, l_64, l_97, l_100, l_110, l_115, l_116, l_120, l_122, l_127, l_128, l_136, l_140, l_200, l_255, l_256, l_400, l_1000, l_30000, l_1200, l_65536, l_2147483639, l_2147483647, ob_some, obd_some, q_lt_t, q_lt_f, q_le_t, q_le_f, q_eq_t, q_eq_f, im_ne, im_ne', im_lt, im_le, im_lt', im_le', i_add, i_mul, i_dec, i_dec0, i_sub, i_and, i_shr, i_div, nar_b0, nar_b1, b2i_t, b2i_f, gA1, pA1, gB2, pB2, gA3, pA3, gA4, pA4, gB5, pB5, gA6, pA6, gA7, pA7, gA8, pA8, gA9, pA9, gA10, pA10, gA11, pA11, gA12, pA12, gA13, pA13, gA14, pA14, gA15, pA15, gA16, pA16, gA17, pA17, gA18, pA18, gA19, pA19, gA20, pA20, gA21, pA21, gA40, pA40, gB43, pB43, gA44, pA44, gA45, pA45, gA46, pA46, gA47, pA47, gA48, pA48, gA49, pA49, gA53, pA53, gA54, pA54, gA55, pA55, gA56, pA56, gA58, pA58, gA60, pA60, gA61, pA61, gA62, pA62, gA63, pA63, gA66, pA66, ↓reduceIte, if_true, if_false, R_mI_sJ, R_mI_sA, R_mI_sB, R_mJ_sI, R_mJ_sA, R_mJ_sB, R_mA_sI, R_mA_sJ, R_mA_sB, R_mB_sI, R_mB_sJ, R_mB_sA, mI_on, mI_off, mJ_on, mJ_off, mA_on, mA_same, mA_off, mB_on, mB_same, mB_off, up_on, up_off, z, src_83 hb K]
theorem w14 : (14 : Int64) = enc [110] := by decide
theorem w20 : (20 : Int64) = enc [116] := by decide
theorem w4 : (4 : Int64) = enc [100] := by decide
def Ss (fu w : Nat) (M : MS) : Option MS := f_X3_source_n19 fu (i_ w) M
def Ssk (fu : Nat) : Int32 → MS → Option MS := fun x1 M => f_X3_source_n19 fu x1 M
/-- a type's word *-/
theorem M_typ {t n : Nat} {T : Nat → Nat} {ks : List Rk} {M : MS} {p i : Nat} (h : PS t n T ks M p) (h4 : m_A M 4 t = i_ i) (hi : i < 6) : match ptyp T n p with
    | .inl e => ∃ N, (∀ K, f_X3_source_n83 K M = some N) ∧ Gr kaR6 [5] kiP t M N ∧ BD N e
    | .inr a => ∃ N, (∀ K : Int32 → MS → Option MS, f_X3_source_n83 K M = if chp T n (sk T n a.2.2) = 44 then (f_X3_keeps N).bind fun N1 => K (i_ 1) N1 else K (i_ 0) N) ∧ Gr kaR6 [5] kiP t M N ∧ PS t n T (ks ++ [(1, a.2.1, [a.1])]) N a.2.2 ∧ m_A N 4 t = i_ (i + 1) ∧ m_A N 6 (8 * t + i) = i_ a.1 ∧ (∀ j, j ≠ 8 * t + i → m_A N 6 j = m_A M 6 j) ∧ m_B N 5 = m_B M 5 := by
  have hP := h.1
  have hn := hP.1
  have ht := hn.2.1
  have hn4 := hn.2.2.1
  have h25 := h.2.2.2.1
  obtain ⟨l1, l2, l3, l4, l5⟩ := h.2.1
  have hk1 := knd_L (q := sk T n p) (fun k hk => (hP.2.1 k hk).2)
  have hbad : ∃ N, (∀ K, f_X3_source_n131 K M = some N) ∧ Gr kaR6 [5] kiP t M N ∧ BD N (sk T n p) := by
    obtain ⟨N, a1, a2, a3⟩ := h.fail (sk T n p)
    refine ⟨N, fun K => ?_, a2.kR, a3⟩
    unfold f_X3_source_n131
    simp (disch := omega) only [l_m1, l_m2, l_0, l_1, l_2, l_3, l_4, l_5, l_6, l_7, l_8, l_9, l_10, l_11, l_12, l_13, l_14, l_15, l_16, l_17, l_18, l_19, l_20, l_21, l_22, l_23, l_24, l_25, l_26, l_27, l_28, l_29, l_30, l_31, l_32, l_33, l_34, l_35, l_36, l_37, l_38, l_39, l_40, l_41, l_42, l_43, l_44, l_45, l_46, l_47, l_48, l_49, l_50, l_51, l_52, l_53, l_54, l_55, l_56, l_57, l_58, l_59, l_60, l_61, l_62, l_63, l_64, l_97, l_100, l_110, l_115, l_116, l_120, l_122, l_127, l_128, l_136, l_140, l_200, l_255, l_256, l_400, l_1000, l_30000, l_1200, l_65536, l_2147483639, l_2147483647, ob_some, obd_some, q_lt_t, q_lt_f, q_le_t, q_le_f, q_eq_t, q_eq_f, im_ne, im_ne', im_lt, im_le, im_lt', im_le', i_add, i_mul, i_dec, i_dec0, i_sub, i_and, i_shr, i_div, nar_b0, nar_b1, b2i_t, b2i_f, gA1, pA1, gB2, pB2, gA3, pA3, gA4, pA4, gB5, pB5, gA6, pA6, gA7, pA7, gA8, pA8, gA9, pA9, gA10, pA10, gA11, pA11, gA12, pA12, gA13, pA13, gA14, pA14, gA15, pA15, gA16, pA16, gA17, pA17, gA18, pA18, gA19, pA19, gA20, pA20, gA21, pA21, gA40, pA40, gB43, pB43, gA44, pA44, gA45, pA45, gA46, pA46, gA47, pA47, gA48, pA48, gA49, pA49, gA53, pA53, gA54, pA54, gA55, pA55, gA56, pA56, gA58, pA58, gA60, pA60, gA61, pA61, gA62, pA62, gA63, pA63, gA66, pA66, ↓reduceIte, if_true, if_false, R_mI_sJ, R_mI_sA, R_mI_sB, R_mJ_sI, R_mJ_sA, R_mJ_sB, R_mA_sI, R_mA_sJ, R_mA_sB, R_mB_sI, R_mB_sJ, R_mB_sA, mI_on, mI_off, mJ_on, mJ_off, mA_on, mA_same, mA_off, mB_on, mB_same, mB_off, up_on, up_off, l2, a1, src_140 a3 K]
  cases hp : ptyp T n p with
  | inl e =>
    unfold ptyp at hp
    by_cases hc : isLb (chp T n (sk T n p)) = true ∧ sl T (sk T n p) (lw T n (sk T n p)) ∈ ([[110], [116], [100]] : List (List Nat))
    · rw [if_pos hc] at hp
      cases hp
    · rw [if_neg hc] at hp
      cases hp
      obtain ⟨N, a1, a2, a3⟩ := hbad
      refine ⟨N, fun K => ?_, a2, a3⟩
      unfold f_X3_source_n83
      by_cases hb : isLb (chp T n (sk T n p)) = true
      · have hk1' := hk1.trans (eq_true hb)
        have hm : sl T (sk T n p) (lw T n (sk T n p)) ∉ ([[110], [116], [100]] : List (List Nat)) := fun k => hc ⟨hb, k⟩
        have hw : ∃ w, nmok w ∧ w ∉ ([[110], [116], [100]] : List (List Nat)) ∧ m_J M 32 = enc w := by
          rw [l5]
          unfold twd
          by_cases h8 : lw T n (sk T n p) ≤ sk T n p + 8
          · rw [if_pos ⟨hb, h8⟩]
            exact ⟨_, ⟨by rw [sl_len]; omega, sl_lw⟩, hm, rfl⟩
          · rw [if_neg (fun k => h8 k.2)]
            exact ⟨[], ⟨by decide, fun x hx => by cases hx⟩, by decide, rfl⟩
        obtain ⟨w, w1, w2, w3⟩ := hw
        have hL : ∀ x, x = 110 ∨ x = 116 ∨ x = 100 → isL x := fun x hx => by unfold isL; omega
        have z1 : (enc w = enc [110]) = False := eq_false (fun k => w2 (by
          rw [(enc_inj w1.1 (by decide) w1.2 (fun x hx => by rw [List.mem_singleton] at hx; exact hL x (Or.inl hx))).mp k]
          decide))
        have z2 : (enc w = enc [116]) = False := eq_false (fun k => w2 (by
          rw [(enc_inj w1.1 (by decide) w1.2 (fun x hx => by rw [List.mem_singleton] at hx; exact hL x (Or.inr (Or.inl hx)))).mp k]
          decide))
        have z3 : (enc w = enc [100]) = False := eq_false (fun k => w2 (by
          rw [(enc_inj w1.1 (by decide) w1.2 (fun x hx => by rw [List.mem_singleton] at hx; exact hL x (Or.inr (Or.inr hx)))).mp k]
          decide))
        simp (disch := omega) only [l_m1, l_m2, l_0, l_1, l_2, l_3, l_4, l_5, l_6, l_7, l_8, l_9, l_10, l_11, l_12, l_13, l_14, l_15, l_16, l_17, l_18, l_19, l_20, l_21, l_22, l_23, l_24, l_25, l_26, l_27, l_28, l_29, l_30, l_31, l_32, l_33, l_34, l_35, l_36, l_37, l_38, l_39, l_40, l_41, l_42, l_43, l_44, l_45, l_46, l_47, l_48, l_49, l_50, l_51, l_52, l_53, l_54, l_55, l_56, l_57, l_58, l_59, l_60, l_61, l_62, l_63, l_64, l_97, l_100, l_110, l_115, l_116, l_120, l_122, l_127, l_128, l_136, l_140, l_200, l_255, l_256, l_400, l_1000, l_30000, l_1200, l_65536, l_2147483639, l_2147483647, ob_some, obd_some, q_lt_t, q_lt_f, q_le_t, q_le_f, q_eq_t, q_eq_f, im_ne, im_ne', im_lt, im_le, im_lt', im_le', i_add, i_mul, i_dec, i_dec0, i_sub, i_and, i_shr, i_div, nar_b0, nar_b1, b2i_t, b2i_f, gA1, pA1, gB2, pB2, gA3, pA3, gA4, pA4, gB5, pB5, gA6, pA6, gA7, pA7, gA8, pA8, gA9, pA9, gA10, pA10, gA11, pA11, gA12, pA12, gA13, pA13, gA14, pA14, gA15, pA15, gA16, pA16, gA17, pA17, gA18, pA18, gA19, pA19, gA20, pA20, gA21, pA21, gA40, pA40, gB43, pB43, gA44, pA44, gA45, pA45, gA46, pA46, gA47, pA47, gA48, pA48, gA49, pA49, gA53, pA53, gA54, pA54, gA55, pA55, gA56, pA56, gA58, pA58, gA60, pA60, gA61, pA61, gA62, pA62, gA63, pA63, gA66, pA66, ↓reduceIte, if_true, if_false, R_mI_sJ, R_mI_sA, R_mI_sB, R_mJ_sI, R_mJ_sA, R_mJ_sB, R_mA_sI, R_mA_sJ, R_mA_sB, R_mB_sI, R_mB_sJ, R_mB_sA, mI_on, mI_off, mJ_on, mJ_off, mA_on, mA_same, mA_off, mB_on, mB_same, mB_off, up_on, up_off, h25, l1, hk1', w3, cmp_0, w14, w20, w4, z1, z2, z3]
        exact a1 K
      · have hk1' := hk1.trans (eq_false hb)
        simp (disch := omega) only [l_m1, l_m2, l_0, l_1, l_2, l_3, l_4, l_5, l_6, l_7, l_8, l_9, l_10, l_11, l_12, l_13, l_14, l_15, l_16, l_17, l_18, l_19, l_20, l_21, l_22, l_23, l_24, l_25, l_26, l_27, l_28, l_29, l_30, l_31, l_32, l_33, l_34, l_35, l_36, l_37, l_38, l_39, l_40, l_41, l_42, l_43, l_44, l_45, l_46, l_47, l_48, l_49, l_50, l_51, l_52, l_53, l_54, l_55, l_56, l_57, l_58, l_59, l_60, l_61, l_62, l_63, l_64, l_97, l_100, l_110, l_115, l_116, l_120, l_122, l_127, l_128, l_136, l_140, l_200, l_255, l_256, l_400, l_1000, l_30000, l_1200, l_65536, l_2147483639, l_2147483647, ob_some, obd_some, q_lt_t, q_lt_f, q_le_t, q_le_f, q_eq_t, q_eq_f, im_ne, im_ne', im_lt, im_le, im_lt', im_le', i_add, i_mul, i_dec, i_dec0, i_sub, i_and, i_shr, i_div, nar_b0, nar_b1, b2i_t, b2i_f, gA1, pA1, gB2, pB2, gA3, pA3, gA4, pA4, gB5, pB5, gA6, pA6, gA7, pA7, gA8, pA8, gA9, pA9, gA10, pA10, gA11, pA11, gA12, pA12, gA13, pA13, gA14, pA14, gA15, pA15, gA16, pA16, gA17, pA17, gA18, pA18, gA19, pA19, gA20, pA20, gA21, pA21, gA40, pA40, gB43, pB43, gA44, pA44, gA45, pA45, gA46, pA46, gA47, pA47, gA48, pA48, gA49, pA49, gA53, pA53, gA54, pA54, gA55, pA55, gA56, pA56, gA58, pA58, gA60, pA60, gA61, pA61, gA62, pA62, gA63, pA63, gA66, pA66, ↓reduceIte, if_true, if_false, R_mI_sJ, R_mI_sA, R_mI_sB, R_mJ_sI, R_mJ_sA, R_mJ_sB, R_mA_sI, R_mA_sJ, R_mA_sB, R_mB_sI, R_mB_sJ, R_mB_sA, mI_on, mI_off, mJ_on, mJ_off, mA_on, mA_same, mA_off, mB_on, mB_same, mB_off, up_on, up_off, h25, l1, hk1']
        exact a1 K
  | inr a =>
    obtain ⟨q1, q2, q3, q4, rfl⟩ := ptyp_r hp
    obtain ⟨r1, r2, r3, r4⟩ := isLb_lt q1
    have hk1' := hk1.trans (eq_true q1)
    have hx : tnx T n (sk T n p) = lw T n (sk T n p) := by
      unfold tnx
      rw [if_pos r1, if_pos r2]
    have w3 : m_J M 32 = enc [T (sk T n p)] := by
      rw [l5]
      unfold twd
      rw [if_pos ⟨q1, by omega⟩, q2]
    have c2 := (h.x46 (k := 6) (by decide) (8 * t + i) (i_ (T (sk T n p))) (show 8 * t ≤ _ by omega)).x46 (k := 4) (by decide) t (i_ (i + 1)) (Nat.le_refl t)
    have g2 : Gr kaR6 [5] kiP t M (m_sA (m_sA M 6 (8 * t + i) (i_ (T (sk T n p)))) 4 t (i_ (i + 1))) := Gr.tr (Gr.sA (by decide) (show 8 * t ≤ _ by omega)) (Gr.sA (by decide) (Nat.le_refl t))
    obtain ⟨N, a1, a2, a3⟩ := c2.keep (c := 1) (by rw [hk1']; trivial) r1
    rw [hx, q2] at a3
    have y1 := a3.2.1.1
    have hk44 := knd_sn (q := sk T n (lw T n (sk T n p))) (fun k hk => (hP.2.1 k hk).2) (isSn_l 44 (by decide))
    have s1 : ∀ K : Int32 → MS → Option MS, f_X3_source_n140 K M = if chp T n (sk T n (lw T n (sk T n p))) = 44 then (f_X3_keeps N).bind fun N1 => K (i_ 1) N1 else K (i_ 0) N := fun K => by
      have s2 : ∀ x, x = T (sk T n p) → f_X3_source_n203 K (8 * i_ t + i_ i) (i_ x) M = if chp T n (sk T n (lw T n (sk T n p))) = 44 then (f_X3_keeps N).bind fun N1 => K (i_ 1) N1 else K (i_ 0) N := by
        intro x hx
        subst hx
        unfold f_X3_source_n203 f_X3_source_n235
        by_cases e44 : chp T n (sk T n (lw T n (sk T n p))) = 44
        · have hk44' := hk44.trans (eq_true e44)
          rw [if_pos e44]
          simp (disch := omega) only [l_m1, l_m2, l_0, l_1, l_2, l_3, l_4, l_5, l_6, l_7, l_8, l_9, l_10, l_11, l_12, l_13, l_14, l_15, l_16, l_17, l_18, l_19, l_20, l_21, l_22, l_23, l_24, l_25, l_26, l_27, l_28, l_29, l_30, l_31, l_32, l_33, l_34, l_35, l_36, l_37, l_38, l_39, l_40, l_41, l_42, l_43, l_44, l_45, l_46, l_47, l_48, l_49, l_50, l_51, l_52, l_53, l_54, l_55, l_56, l_57, l_58, l_59, l_60, l_61, l_62, l_63, l_64, l_97, l_100, l_110, l_115, l_116, l_120, l_122, l_127, l_128, l_136, l_140, l_200, l_255, l_256, l_400, l_1000, l_30000, l_1200, l_65536, l_2147483639, l_2147483647, ob_some, obd_some, q_lt_t, q_lt_f, q_le_t, q_le_f, q_eq_t, q_eq_f, im_ne, im_ne', im_lt, im_le, im_lt', im_le', i_add, i_mul, i_dec, i_dec0, i_sub, i_and, i_shr, i_div, nar_b0, nar_b1, b2i_t, b2i_f, gA1, pA1, gB2, pB2, gA3, pA3, gA4, pA4, gB5, pB5, gA6, pA6, gA7, pA7, gA8, pA8, gA9, pA9, gA10, pA10, gA11, pA11, gA12, pA12, gA13, pA13, gA14, pA14, gA15, pA15, gA16, pA16, gA17, pA17, gA18, pA18, gA19, pA19, gA20, pA20, gA21, pA21, gA40, pA40, gB43, pB43, gA44, pA44, gA45, pA45, gA46, pA46, gA47, pA47, gA48, pA48, gA49, pA49, gA53, pA53, gA54, pA54, gA55, pA55, gA56, pA56, gA58, pA58, gA60, pA60, gA61, pA61, gA62, pA62, gA63, pA63, gA66, pA66, ↓reduceIte, if_true, if_false, R_mI_sJ, R_mI_sA, R_mI_sB, R_mJ_sI, R_mJ_sA, R_mJ_sB, R_mA_sI, R_mA_sJ, R_mA_sB, R_mB_sI, R_mB_sJ, R_mB_sA, mI_on, mI_off, mJ_on, mJ_off, mA_on, mA_same, mA_off, mB_on, mB_same, mB_off, up_on, up_off, hn.1, h4, a1, y1, hk44']
        · have hk44' := hk44.trans (eq_false e44)
          rw [if_neg e44]
          simp (disch := omega) only [l_m1, l_m2, l_0, l_1, l_2, l_3, l_4, l_5, l_6, l_7, l_8, l_9, l_10, l_11, l_12, l_13, l_14, l_15, l_16, l_17, l_18, l_19, l_20, l_21, l_22, l_23, l_24, l_25, l_26, l_27, l_28, l_29, l_30, l_31, l_32, l_33, l_34, l_35, l_36, l_37, l_38, l_39, l_40, l_41, l_42, l_43, l_44, l_45, l_46, l_47, l_48, l_49, l_50, l_51, l_52, l_53, l_54, l_55, l_56, l_57, l_58, l_59, l_60, l_61, l_62, l_63, l_64, l_97, l_100, l_110, l_115, l_116, l_120, l_122, l_127, l_128, l_136, l_140, l_200, l_255, l_256, l_400, l_1000, l_30000, l_1200, l_65536, l_2147483639, l_2147483647, ob_some, obd_some, q_lt_t, q_lt_f, q_le_t, q_le_f, q_eq_t, q_eq_f, im_ne, im_ne', im_lt, im_le, im_lt', im_le', i_add, i_mul, i_dec, i_dec0, i_sub, i_and, i_shr, i_div, nar_b0, nar_b1, b2i_t, b2i_f, gA1, pA1, gB2, pB2, gA3, pA3, gA4, pA4, gB5, pB5, gA6, pA6, gA7, pA7, gA8, pA8, gA9, pA9, gA10, pA10, gA11, pA11, gA12, pA12, gA13, pA13, gA14, pA14, gA15, pA15, gA16, pA16, gA17, pA17, gA18, pA18, gA19, pA19, gA20, pA20, gA21, pA21, gA40, pA40, gB43, pB43, gA44, pA44, gA45, pA45, gA46, pA46, gA47, pA47, gA48, pA48, gA49, pA49, gA53, pA53, gA54, pA54, gA55, pA55, gA56, pA56, gA58, pA58, gA60, pA60, gA61, pA61, gA62, pA62, gA63, pA63, gA66, pA66, ↓reduceIte, if_true, if_false, R_mI_sJ, R_mI_sA, R_mI_sB, R_mJ_sI, R_mJ_sA, R_mJ_sB, R_mA_sI, R_mA_sJ, R_mA_sB, R_mB_sI, R_mB_sJ, R_mB_sA, mI_on, mI_off, mJ_on, mJ_off, mA_on, mA_same, mA_off, mB_on, mB_same, mB_off, up_on, up_off, hn.1, h4, a1, y1, hk44']
      unfold f_X3_source_n140
      have d1 : ¬ enc [116] = enc [110] := by decide
      have d2 : ¬ enc [100] = enc [110] := by decide
      have d3 : ¬ enc [100] = enc [116] := by decide
      rcases q3 with e | e | e
      · rw [e] at w3
        have := s2 110 e.symm
        simp (disch := omega) only [l_m1, l_m2, l_0, l_1, l_2, l_3, l_4, l_5, l_6, l_7, l_8, l_9, l_10, l_11, l_12, l_13, l_14, l_15, l_16, l_17, l_18, l_19, l_20, l_21, l_22, l_23, l_24, l_25, l_26, l_27, l_28, l_29, l_30, l_31, l_32, l_33, l_34, l_35, l_36, l_37, l_38, l_39, l_40, l_41, l_42, l_43, l_44, l_45, l_46, l_47, l_48, l_49, l_50, l_51, l_52, l_53, l_54, l_55, l_56, l_57, l_58, l_59, l_60, l_61, l_62, l_63, l_64, l_97, l_100, l_110, l_115, l_116, l_120, l_122, l_127, l_128, l_136, l_140, l_200, l_255, l_256, l_400, l_1000, l_30000, l_1200, l_65536, l_2147483639, l_2147483647, ob_some, obd_some, q_lt_t, q_lt_f, q_le_t, q_le_f, q_eq_t, q_eq_f, im_ne, im_ne', im_lt, im_le, im_lt', im_le', i_add, i_mul, i_dec, i_dec0, i_sub, i_and, i_shr, i_div, nar_b0, nar_b1, b2i_t, b2i_f, gA1, pA1, gB2, pB2, gA3, pA3, gA4, pA4, gB5, pB5, gA6, pA6, gA7, pA7, gA8, pA8, gA9, pA9, gA10, pA10, gA11, pA11, gA12, pA12, gA13, pA13, gA14, pA14, gA15, pA15, gA16, pA16, gA17, pA17, gA18, pA18, gA19, pA19, gA20, pA20, gA21, pA21, gA40, pA40, gB43, pB43, gA44, pA44, gA45, pA45, gA46, pA46, gA47, pA47, gA48, pA48, gA49, pA49, gA53, pA53, gA54, pA54, gA55, pA55, gA56, pA56, gA58, pA58, gA60, pA60, gA61, pA61, gA62, pA62, gA63, pA63, gA66, pA66, ↓reduceIte, if_true, if_false, R_mI_sJ, R_mI_sA, R_mI_sB, R_mJ_sI, R_mJ_sA, R_mJ_sB, R_mA_sI, R_mA_sJ, R_mA_sB, R_mB_sI, R_mB_sJ, R_mB_sA, mI_on, mI_off, mJ_on, mJ_off, mA_on, mA_same, mA_off, mB_on, mB_same, mB_off, up_on, up_off, h25, hn.1, h4, w3, cmp_0, w14] at this ⊢
        exact this
      · rw [e] at w3
        have := s2 116 e.symm
        simp (disch := omega) only [l_m1, l_m2, l_0, l_1, l_2, l_3, l_4, l_5, l_6, l_7, l_8, l_9, l_10, l_11, l_12, l_13, l_14, l_15, l_16, l_17, l_18, l_19, l_20, l_21, l_22, l_23, l_24, l_25, l_26, l_27, l_28, l_29, l_30, l_31, l_32, l_33, l_34, l_35, l_36, l_37, l_38, l_39, l_40, l_41, l_42, l_43, l_44, l_45, l_46, l_47, l_48, l_49, l_50, l_51, l_52, l_53, l_54, l_55, l_56, l_57, l_58, l_59, l_60, l_61, l_62, l_63, l_64, l_97, l_100, l_110, l_115, l_116, l_120, l_122, l_127, l_128, l_136, l_140, l_200, l_255, l_256, l_400, l_1000, l_30000, l_1200, l_65536, l_2147483639, l_2147483647, ob_some, obd_some, q_lt_t, q_lt_f, q_le_t, q_le_f, q_eq_t, q_eq_f, im_ne, im_ne', im_lt, im_le, im_lt', im_le', i_add, i_mul, i_dec, i_dec0, i_sub, i_and, i_shr, i_div, nar_b0, nar_b1, b2i_t, b2i_f, gA1, pA1, gB2, pB2, gA3, pA3, gA4, pA4, gB5, pB5, gA6, pA6, gA7, pA7, gA8, pA8, gA9, pA9, gA10, pA10, gA11, pA11, gA12, pA12, gA13, pA13, gA14, pA14, gA15, pA15, gA16, pA16, gA17, pA17, gA18, pA18, gA19, pA19, gA20, pA20, gA21, pA21, gA40, pA40, gB43, pB43, gA44, pA44, gA45, pA45, gA46, pA46, gA47, pA47, gA48, pA48, gA49, pA49, gA53, pA53, gA54, pA54, gA55, pA55, gA56, pA56, gA58, pA58, gA60, pA60, gA61, pA61, gA62, pA62, gA63, pA63, gA66, pA66, ↓reduceIte, if_true, if_false, R_mI_sJ, R_mI_sA, R_mI_sB, R_mJ_sI, R_mJ_sA, R_mJ_sB, R_mA_sI, R_mA_sJ, R_mA_sB, R_mB_sI, R_mB_sJ, R_mB_sA, mI_on, mI_off, mJ_on, mJ_off, mA_on, mA_same, mA_off, mB_on, mB_same, mB_off, up_on, up_off, h25, hn.1, h4, w3, cmp_0, w14, w20, d1] at this ⊢
        exact this
      · rw [e] at w3
        have := s2 100 e.symm
        simp (disch := omega) only [l_m1, l_m2, l_0, l_1, l_2, l_3, l_4, l_5, l_6, l_7, l_8, l_9, l_10, l_11, l_12, l_13, l_14, l_15, l_16, l_17, l_18, l_19, l_20, l_21, l_22, l_23, l_24, l_25, l_26, l_27, l_28, l_29, l_30, l_31, l_32, l_33, l_34, l_35, l_36, l_37, l_38, l_39, l_40, l_41, l_42, l_43, l_44, l_45, l_46, l_47, l_48, l_49, l_50, l_51, l_52, l_53, l_54, l_55, l_56, l_57, l_58, l_59, l_60, l_61, l_62, l_63, l_64, l_97, l_100, l_110, l_115, l_116, l_120, l_122, l_127, l_128, l_136, l_140, l_200, l_255, l_256, l_400, l_1000, l_30000, l_1200, l_65536, l_2147483639, l_2147483647, ob_some, obd_some, q_lt_t, q_lt_f, q_le_t, q_le_f, q_eq_t, q_eq_f, im_ne, im_ne', im_lt, im_le, im_lt', im_le', i_add, i_mul, i_dec, i_dec0, i_sub, i_and, i_shr, i_div, nar_b0, nar_b1, b2i_t, b2i_f, gA1, pA1, gB2, pB2, gA3, pA3, gA4, pA4, gB5, pB5, gA6, pA6, gA7, pA7, gA8, pA8, gA9, pA9, gA10, pA10, gA11, pA11, gA12, pA12, gA13, pA13, gA14, pA14, gA15, pA15, gA16, pA16, gA17, pA17, gA18, pA18, gA19, pA19, gA20, pA20, gA21, pA21, gA40, pA40, gB43, pB43, gA44, pA44, gA45, pA45, gA46, pA46, gA47, pA47, gA48, pA48, gA49, pA49, gA53, pA53, gA54, pA54, gA55, pA55, gA56, pA56, gA58, pA58, gA60, pA60, gA61, pA61, gA62, pA62, gA63, pA63, gA66, pA66, ↓reduceIte, if_true, if_false, R_mI_sJ, R_mI_sA, R_mI_sB, R_mJ_sI, R_mJ_sA, R_mJ_sB, R_mA_sI, R_mA_sJ, R_mA_sB, R_mB_sI, R_mB_sJ, R_mB_sA, mI_on, mI_off, mJ_on, mJ_off, mA_on, mA_same, mA_off, mB_on, mB_same, mB_off, up_on, up_off, h25, hn.1, h4, w3, cmp_0, w14, w20, d2, d3] at this ⊢
        exact this
    refine ⟨N, fun K => ?_, g2.tr a2.kR, a3, by rw [a2.1 4 (by decide), mA_on], by rw [a2.1 6 (by decide), mA_same (by decide), mA_on], fun j hj => by rw [a2.1 6 (by decide), mA_same (by decide), mA_off hj], by rw [a2.2.2.1 5 (by decide)]; rfl⟩
    rw [← s1]
    unfold f_X3_source_n83
    have d1 : ¬ enc [116] = enc [110] := by decide
    have d2 : ¬ enc [100] = enc [110] := by decide
    have d3 : ¬ enc [100] = enc [116] := by decide
    rcases q3 with e | e | e
    · rw [e] at w3
      simp (disch := omega) only [l_m1, l_m2, l_0, l_1, l_2, l_3, l_4, l_5, l_6, l_7, l_8, l_9, l_10, l_11, l_12, l_13, l_14, l_15, l_16, l_17, l_18, l_19, l_20, l_21, l_22, l_23, l_24, l_25, l_26, l_27, l_28, l_29, l_30, l_31, l_32, l_33, l_34, l_35, l_36, l_37, l_38, l_39, l_40, l_41, l_42, l_43, l_44, l_45, l_46, l_47, l_48, l_49, l_50, l_51, l_52, l_53, l_54, l_55, l_56, l_57, l_58, l_59, l_60, l_61, l_62, l_63, l_64, l_97, l_100, l_110, l_115, l_116, l_120, l_122, l_127, l_128, l_136, l_140, l_200, l_255, l_256, l_400, l_1000, l_30000, l_1200, l_65536, l_2147483639, l_2147483647, ob_some, obd_some, q_lt_t, q_lt_f, q_le_t, q_le_f, q_eq_t, q_eq_f, im_ne, im_ne', im_lt, im_le, im_lt', im_le', i_add, i_mul, i_dec, i_dec0, i_sub, i_and, i_shr, i_div, nar_b0, nar_b1, b2i_t, b2i_f, gA1, pA1, gB2, pB2, gA3, pA3, gA4, pA4, gB5, pB5, gA6, pA6, gA7, pA7, gA8, pA8, gA9, pA9, gA10, pA10, gA11, pA11, gA12, pA12, gA13, pA13, gA14, pA14, gA15, pA15, gA16, pA16, gA17, pA17, gA18, pA18, gA19, pA19, gA20, pA20, gA21, pA21, gA40, pA40, gB43, pB43, gA44, pA44, gA45, pA45, gA46, pA46, gA47, pA47, gA48, pA48, gA49, pA49, gA53, pA53, gA54, pA54, gA55, pA55, gA56, pA56, gA58, pA58, gA60, pA60, gA61, pA61, gA62, pA62, gA63, pA63, gA66, pA66, ↓reduceIte, if_true, if_false, R_mI_sJ, R_mI_sA, R_mI_sB, R_mJ_sI, R_mJ_sA, R_mJ_sB, R_mA_sI, R_mA_sJ, R_mA_sB, R_mB_sI, R_mB_sJ, R_mB_sA, mI_on, mI_off, mJ_on, mJ_off, mA_on, mA_same, mA_off, mB_on, mB_same, mB_off, up_on, up_off, h25, l1, hk1', w3, cmp_0, w14]
    · rw [e] at w3
      simp (disch := omega) only [l_m1, l_m2, l_0, l_1, l_2, l_3, l_4, l_5, l_6, l_7, l_8, l_9, l_10, l_11, l_12, l_13, l_14, l_15, l_16, l_17, l_18, l_19, l_20, l_21, l_22, l_23, l_24, l_25, l_26, l_27, l_28, l_29, l_30, l_31, l_32, l_33, l_34, l_35, l_36, l_37, l_38, l_39, l_40, l_41, l_42, l_43, l_44, l_45, l_46, l_47, l_48, l_49, l_50, l_51, l_52, l_53, l_54, l_55, l_56, l_57, l_58, l_59, l_60, l_61, l_62, l_63, l_64, l_97, l_100, l_110, l_115, l_116, l_120, l_122, l_127, l_128, l_136, l_140, l_200, l_255, l_256, l_400, l_1000, l_30000, l_1200, l_65536, l_2147483639, l_2147483647, ob_some, obd_some, q_lt_t, q_lt_f, q_le_t, q_le_f, q_eq_t, q_eq_f, im_ne, im_ne', im_lt, im_le, im_lt', im_le', i_add, i_mul, i_dec, i_dec0, i_sub, i_and, i_shr, i_div, nar_b0, nar_b1, b2i_t, b2i_f, gA1, pA1, gB2, pB2, gA3, pA3, gA4, pA4, gB5, pB5, gA6, pA6, gA7, pA7, gA8, pA8, gA9, pA9, gA10, pA10, gA11, pA11, gA12, pA12, gA13, pA13, gA14, pA14, gA15, pA15, gA16, pA16, gA17, pA17, gA18, pA18, gA19, pA19, gA20, pA20, gA21, pA21, gA40, pA40, gB43, pB43, gA44, pA44, gA45, pA45, gA46, pA46, gA47, pA47, gA48, pA48, gA49, pA49, gA53, pA53, gA54, pA54, gA55, pA55, gA56, pA56, gA58, pA58, gA60, pA60, gA61, pA61, gA62, pA62, gA63, pA63, gA66, pA66, ↓reduceIte, if_true, if_false, R_mI_sJ, R_mI_sA, R_mI_sB, R_mJ_sI, R_mJ_sA, R_mJ_sB, R_mA_sI, R_mA_sJ, R_mA_sB, R_mB_sI, R_mB_sJ, R_mB_sA, mI_on, mI_off, mJ_on, mJ_off, mA_on, mA_same, mA_off, mB_on, mB_same, mB_off, up_on, up_off, h25, l1, hk1', w3, cmp_0, w14, w20, d1]
    · rw [e] at w3
      simp (disch := omega) only [l_m1, l_m2, l_0, l_1, l_2, l_3, l_4, l_5, l_6, l_7, l_8, l_9, l_10, l_11, l_12, l_13, l_14, l_15, l_16, l_17, l_18, l_19, l_20, l_21, l_22, l_23, l_24, l_25, l_26, l_27, l_28, l_29, l_30, l_31, l_32, l_33, l_34, l_35, l_36, l_37, l_38, l_39, l_40, l_41, l_42, l_43, l_44, l_45, l_46, l_47, l_48, l_49, l_50, l_51, l_52, l_53, l_54, l_55, l_56, l_57, l_58, l_59, l_60, l_61, l_62, l_63, l_64, l_97, l_100, l_110, l_115, l_116, l_120, l_122, l_127, l_128, l_136, l_140, l_200, l_255, l_256, l_400, l_1000, l_30000, l_1200, l_65536, l_2147483639, l_2147483647, ob_some, obd_some, q_lt_t, q_lt_f, q_le_t, q_le_f, q_eq_t, q_eq_f, im_ne, im_ne', im_lt, im_le, im_lt', im_le', i_add, i_mul, i_dec, i_dec0, i_sub, i_and, i_shr, i_div, nar_b0, nar_b1, b2i_t, b2i_f, gA1, pA1, gB2, pB2, gA3, pA3, gA4, pA4, gB5, pB5, gA6, pA6, gA7, pA7, gA8, pA8, gA9, pA9, gA10, pA10, gA11, pA11, gA12, pA12, gA13, pA13, gA14, pA14, gA15, pA15, gA16, pA16, gA17, pA17, gA18, pA18, gA19, pA19, gA20, pA20, gA21, pA21, gA40, pA40, gB43, pB43, gA44, pA44, gA45, pA45, gA46, pA46, gA47, pA47, gA48, pA48, gA49, pA49, gA53, pA53, gA54, pA54, gA55, pA55, gA56, pA56, gA58, pA58, gA60, pA60, gA61, pA61, gA62, pA62, gA63, pA63, gA66, pA66, ↓reduceIte, if_true, if_false, R_mI_sJ, R_mI_sA, R_mI_sB, R_mJ_sI, R_mJ_sA, R_mJ_sB, R_mA_sI, R_mA_sJ, R_mA_sB, R_mB_sI, R_mB_sJ, R_mB_sA, mI_on, mI_off, mJ_on, mJ_off, mA_on, mA_same, mA_off, mB_on, mB_same, mB_off, up_on, up_off, h25, l1, hk1', w3, cmp_0, w14, w20, w4, d2, d3]
theorem M_src {t n : Nat} {T : Nat → Nat} : ∀ (r : Nat) (ks : List Rk) (M : MS) (p : Nat), r ≤ 6 → PS t n T ks M p → m_A M 4 t = i_ (6 - r) → match psr T n r p with
    | .inl e => ∃ N c, c ≤ r + 1 ∧ Gr kaR6 [5] kiP t M N ∧ BD N e ∧ ∀ fu, Ss (fu + c) 1 M = some N
    | .inr a => ∃ N c, c ≤ r + 1 ∧ Gr kaR6 [5] kiP t M N ∧ PS t n T (ks ++ a.1) N a.2.2 ∧ m_A N 4 t = i_ (6 - r + a.2.1.length) ∧ SL N t (ks ++ a.1) (6 - r) ks.length a.2.1 ∧ (∀ j, j < 8 * t + (6 - r) → m_B N 5 j = m_B M 5 j ∧ m_A N 6 j = m_A M 6 j) ∧ ∀ fu, Ss (fu + c) 1 M = Ss fu 0 N := by
  intro r
  induction r with
  | zero =>
    intro ks M p hr h h4
    have hn := h.1.1
    have ht := hn.2.1
    have l2 := h.2.1.2.1
    obtain ⟨N, a1, a2, a3⟩ := h.fail (sk T n p)
    have e64 := fun fu => src_46 a3 (fun x1 M => f_X3_source_n19 fu x1 M)
    refine ⟨N, 1, by omega, a2.kR, a3, fun fu => ?_⟩
    unfold Ss f_X3_source_n19
    simp (disch := omega) only [l_m1, l_m2, l_0, l_1, l_2, l_3, l_4, l_5, l_6, l_7, l_8, l_9, l_10, l_11, l_12, l_13, l_14, l_15, l_16, l_17, l_18, l_19, l_20, l_21, l_22, l_23, l_24, l_25, l_26, l_27, l_28, l_29, l_30, l_31, l_32, l_33, l_34, l_35, l_36, l_37, l_38, l_39, l_40, l_41, l_42, l_43, l_44, l_45, l_46, l_47, l_48, l_49, l_50, l_51, l_52, l_53, l_54, l_55, l_56, l_57, l_58, l_59, l_60, l_61, l_62, l_63, l_64, l_97, l_100, l_110, l_115, l_116, l_120, l_122, l_127, l_128, l_136, l_140, l_200, l_255, l_256, l_400, l_1000, l_30000, l_1200, l_65536, l_2147483639, l_2147483647, ob_some, obd_some, q_lt_t, q_lt_f, q_le_t, q_le_f, q_eq_t, q_eq_f, im_ne, im_ne', im_lt, im_le, im_lt', im_le', i_add, i_mul, i_dec, i_dec0, i_sub, i_and, i_shr, i_div, nar_b0, nar_b1, b2i_t, b2i_f, gA1, pA1, gB2, pB2, gA3, pA3, gA4, pA4, gB5, pB5, gA6, pA6, gA7, pA7, gA8, pA8, gA9, pA9, gA10, pA10, gA11, pA11, gA12, pA12, gA13, pA13, gA14, pA14, gA15, pA15, gA16, pA16, gA17, pA17, gA18, pA18, gA19, pA19, gA20, pA20, gA21, pA21, gA40, pA40, gB43, pB43, gA44, pA44, gA45, pA45, gA46, pA46, gA47, pA47, gA48, pA48, gA49, pA49, gA53, pA53, gA54, pA54, gA55, pA55, gA56, pA56, gA58, pA58, gA60, pA60, gA61, pA61, gA62, pA62, gA63, pA63, gA66, pA66, ↓reduceIte, if_true, if_false, R_mI_sJ, R_mI_sA, R_mI_sB, R_mJ_sI, R_mJ_sA, R_mJ_sB, R_mA_sI, R_mA_sJ, R_mA_sB, R_mB_sI, R_mB_sJ, R_mB_sA, mI_on, mI_off, mJ_on, mJ_off, mA_on, mA_same, mA_off, mB_on, mB_same, mB_off, up_on, up_off, hn.1, h4, l2, a1, e64]
  | succ r ih =>
    intro ks M p hr h h4
    have hn := h.1.1
    have ht := hn.2.1
    have h25 := h.2.2.2.1
    have l5 := h.2.1.2.2.2.2
    unfold psr
    have h1 := h.xB (k := 5) (by decide) (8 * t + (6 - (r + 1))) (twd T n (sk T n p)) (show 8 * t ≤ _ by omega)
    have g1 : Gr kaR6 [5] kiP t M (m_sB M 5 (8 * t + (6 - (r + 1))) (twd T n (sk T n p))) := Gr.sB (by decide) (show 8 * t ≤ _ by omega)
    obtain ⟨N1, a1, a2, a3⟩ := M_name h1
    have s1 : ∀ fu, Ss (fu + 1) 1 M = f_X3_source_n83 (Ssk fu) N1 := fun fu => by
      unfold Ss
      conv => lhs; unfold f_X3_source_n19
      unfold f_X3_source_n46
      simp (disch := omega) only [l_m1, l_m2, l_0, l_1, l_2, l_3, l_4, l_5, l_6, l_7, l_8, l_9, l_10, l_11, l_12, l_13, l_14, l_15, l_16, l_17, l_18, l_19, l_20, l_21, l_22, l_23, l_24, l_25, l_26, l_27, l_28, l_29, l_30, l_31, l_32, l_33, l_34, l_35, l_36, l_37, l_38, l_39, l_40, l_41, l_42, l_43, l_44, l_45, l_46, l_47, l_48, l_49, l_50, l_51, l_52, l_53, l_54, l_55, l_56, l_57, l_58, l_59, l_60, l_61, l_62, l_63, l_64, l_97, l_100, l_110, l_115, l_116, l_120, l_122, l_127, l_128, l_136, l_140, l_200, l_255, l_256, l_400, l_1000, l_30000, l_1200, l_65536, l_2147483639, l_2147483647, ob_some, obd_some, q_lt_t, q_lt_f, q_le_t, q_le_f, q_eq_t, q_eq_f, im_ne, im_ne', im_lt, im_le, im_lt', im_le', i_add, i_mul, i_dec, i_dec0, i_sub, i_and, i_shr, i_div, nar_b0, nar_b1, b2i_t, b2i_f, gA1, pA1, gB2, pB2, gA3, pA3, gA4, pA4, gB5, pB5, gA6, pA6, gA7, pA7, gA8, pA8, gA9, pA9, gA10, pA10, gA11, pA11, gA12, pA12, gA13, pA13, gA14, pA14, gA15, pA15, gA16, pA16, gA17, pA17, gA18, pA18, gA19, pA19, gA20, pA20, gA21, pA21, gA40, pA40, gB43, pB43, gA44, pA44, gA45, pA45, gA46, pA46, gA47, pA47, gA48, pA48, gA49, pA49, gA53, pA53, gA54, pA54, gA55, pA55, gA56, pA56, gA58, pA58, gA60, pA60, gA61, pA61, gA62, pA62, gA63, pA63, gA66, pA66, ↓reduceIte, if_true, if_false, R_mI_sJ, R_mI_sA, R_mI_sB, R_mJ_sI, R_mJ_sA, R_mJ_sB, R_mA_sI, R_mA_sJ, R_mA_sB, R_mB_sI, R_mB_sJ, R_mB_sA, mI_on, mI_off, mJ_on, mJ_off, mA_on, mA_same, mA_off, mB_on, mB_same, mB_off, up_on, up_off, hn.1, h4, h25, l5, a1]
      rfl
    have g2 := g1.tr a2.kR
    cases hp1 : pname T n p with
    | inl e =>
      rw [hp1] at a3
      exact ⟨N1, 1, by omega, g2, a3, fun fu => by rw [s1]; exact src_83 a3 _⟩
    | inr w =>
      rw [hp1] at a3
      have a3' : PS t n T (ks ++ [(1, w.2.1, w.1)]) N1 w.2.2 := a3
      rw [pb_inr]
      have y4 : m_A N1 4 t = i_ (6 - (r + 1)) := by
        rw [a2.1 4 (by decide)]
        exact h4
      have htyp := M_typ a3' y4 (by omega)
      have hB : m_B N1 5 (8 * t + (6 - (r + 1))) = enc w.1 := by
        rw [a2.2.2.1 5 (by decide), mB_on]
        exact (twd_n hp1).1
      have hBo : ∀ j, j ≠ 8 * t + (6 - (r + 1)) → m_B N1 5 j = m_B M 5 j := fun j hj => by
        rw [a2.2.2.1 5 (by decide), mB_off hj]
      have hA6 : m_A N1 6 = m_A M 6 := by
        rw [a2.1 6 (by decide)]
        rfl
      cases hp2 : ptyp T n w.2.2 with
      | inl e =>
        rw [hp2] at htyp
        obtain ⟨N2, b1, b2, b3⟩ := htyp
        exact ⟨N2, 1, by omega, g2.tr b2, b3, fun fu => by rw [s1, b1]⟩
      | inr v =>
        rw [hp2] at htyp
        obtain ⟨N2, b1, b2, b3, b4, b5, b6, b7⟩ := htyp
        rw [pb_inr]
        have g3 := g2.tr b2
        have hks : ks ++ [(1, w.2.1, w.1)] ++ [(1, v.2.1, [v.1])] = ks ++ [(1, w.2.1, w.1), (1, v.2.1, [v.1])] := by simp
        have hoff : ∀ j, j ≠ 8 * t + (6 - (r + 1)) → m_B N2 5 j = m_B M 5 j ∧ m_A N2 6 j = m_A M 6 j := fun j hj => by
          rw [b7, hBo j hj, b6 j hj, hA6]
          exact ⟨rfl, rfl⟩
        have hB2 : m_B N2 5 (8 * t + (6 - (r + 1))) = enc w.1 := by
          rw [b7]
          exact hB
        by_cases e44 : chp T n (sk T n v.2.2) = 44
        · rw [if_pos e44]
          obtain ⟨N4, e1, e2, e3⟩ := b3.ksg (isSn_l 44 (by decide)) e44
          have s4 : ∀ fu, Ss (fu + 1) 1 M = Ss fu 1 N4 := fun fu => by
            rw [s1, b1, if_pos e44, e1]
            rfl
          have r6 : 6 - r = 6 - (r + 1) + 1 := by omega
          have hi := ih _ N4 (sk T n v.2.2 + 1) (by omega) e3 (by rw [e2.1 4 (by decide), b4, r6])
          cases hp4 : psr T n r (sk T n v.2.2 + 1) with
          | inl e =>
            rw [hp4] at hi
            obtain ⟨N5, cc, hc, g5, b5, s5⟩ := hi
            rw [pb_inl]
            exact ⟨N5, cc + 1, by omega, (g3.tr e2.kR).tr g5, b5, fun fu => by rw [← Nat.add_assoc, s4, s5]⟩
          | inr b =>
            rw [hp4] at hi
            obtain ⟨N5, cc, hc, g5, p5, m5, l6, o5, s5⟩ := hi
            rw [pb_inr]
            have hl6 : (ks ++ [(1, w.2.1, w.1)] ++ [(1, v.2.1, [v.1])] ++ [(44, sk T n v.2.2, [44])]).length = ks.length + 3 := by simp
            rw [hl6] at l6
            have hks2 : ks ++ (1, w.2.1, w.1) :: (1, v.2.1, [v.1]) :: (44, sk T n v.2.2, [44]) :: b.1 = ks ++ [(1, w.2.1, w.1)] ++ [(1, v.2.1, [v.1])] ++ [(44, sk T n v.2.2, [44])] ++ b.1 := by simp
            refine ⟨N5, cc + 1, by omega, (g3.tr e2.kR).tr g5, ?_, ?_, ?_, fun j hj => ?_, fun fu => by rw [← Nat.add_assoc, s4, s5]⟩
            · show PS t n T (ks ++ (1, w.2.1, w.1) :: (1, v.2.1, [v.1]) :: (44, sk T n v.2.2, [44]) :: b.1) N5 b.2.2
              rw [hks2]
              exact p5
            · rw [m5]
              show i_ (6 - r + b.2.1.length) = i_ (6 - (r + 1) + (b.2.1.length + 1))
              rw [show 6 - r + b.2.1.length = 6 - (r + 1) + (b.2.1.length + 1) by omega]
            · show SL N5 t (ks ++ (1, w.2.1, w.1) :: (1, v.2.1, [v.1]) :: (44, sk T n v.2.2, [44]) :: b.1) (6 - (r + 1)) ks.length ((w.1, w.2.1, v.1) :: b.2.1)
              obtain ⟨q1, q2⟩ := o5 (8 * t + (6 - (r + 1))) (by omega)
              refine ⟨?_, ?_, ?_, ?_⟩
              · rw [q1, e2.2.2.1 5 (by decide)]
                exact hB2
              · rw [q2, e2.1 6 (by decide)]
                exact b5
              · rw [hks2]
                exact (((Sg.end _ _).app _).app _).app _
              · rw [show 6 - (r + 1) + 1 = 6 - r by omega, hks2]
                exact l6
            · obtain ⟨q1, q2⟩ := o5 j (by omega)
              obtain ⟨u1, u2⟩ := hoff j (by omega)
              exact ⟨by rw [q1, e2.2.2.1 5 (by decide)]; exact u1, by rw [q2, e2.1 6 (by decide)]; exact u2⟩
        · rw [if_neg e44]
          refine ⟨N2, 1, by omega, g3, ?_, b4, ⟨hB2, b5, ?_, trivial⟩, fun j hj => hoff j (by omega), fun fu => by rw [s1, b1, if_neg e44]; rfl⟩
          · show PS t n T (ks ++ [(1, w.2.1, w.1), (1, v.2.1, [v.1])]) N2 (sk T n v.2.2)
            rw [← hks]
            exact b3.sk
          · show Sg (ks ++ [(1, w.2.1, w.1), (1, v.2.1, [v.1])]) _ _
            rw [← hks]
            exact (Sg.end _ _).app _
/-- a source's columns, whole: also where its bracket lacks *-/
theorem M_source {t n : Nat} {T : Nat → Nat} {ks : List Rk} {M : MS} {p : Nat} (h : PS t n T ks M p) (h4 : m_A M 4 t = i_ 0) : ∃ N, f_X3_source M = some N ∧ Gr kaR6 [5] kiP t M N ∧ match psrc T n p with
    | .inl e => BD N e
    | .inr b => PS t n T (ks ++ b.1) N b.2.2 ∧ m_A N 4 t = i_ b.2.1.length ∧ SL N t (ks ++ b.1) 0 (ks.length + 1) b.2.1 := by
  have hn := h.1.1
  have ht := hn.2.1
  unfold psrc
  by_cases e40 : chp T n (sk T n p) = 40
  · obtain ⟨N1, a1, a2, a3⟩ := M_sign h 40 (isSn_l 40 (by decide))
    rw [show psg 40 T n p = .inr ((40, sk T n p, [40]), sk T n p + 1) from if_pos e40] at a3 ⊢
    have a3' : PS t n T (ks ++ [(40, sk T n p, [40])]) N1 (sk T n p + 1) := a3
    rw [pb_inr]
    have z1 := a3'.2.2.2.1
    have s1 : f_X3_source M = Ss fu_ 1 N1 := by
      unfold f_X3_source
      simp (disch := omega) only [l_m1, l_m2, l_0, l_1, l_2, l_3, l_4, l_5, l_6, l_7, l_8, l_9, l_10, l_11, l_12, l_13, l_14, l_15, l_16, l_17, l_18, l_19, l_20, l_21, l_22, l_23, l_24, l_25, l_26, l_27, l_28, l_29, l_30, l_31, l_32, l_33, l_34, l_35, l_36, l_37, l_38, l_39, l_40, l_41, l_42, l_43, l_44, l_45, l_46, l_47, l_48, l_49, l_50, l_51, l_52, l_53, l_54, l_55, l_56, l_57, l_58, l_59, l_60, l_61, l_62, l_63, l_64, l_97, l_100, l_110, l_115, l_116, l_120, l_122, l_127, l_128, l_136, l_140, l_200, l_255, l_256, l_400, l_1000, l_30000, l_1200, l_65536, l_2147483639, l_2147483647, ob_some, obd_some, q_lt_t, q_lt_f, q_le_t, q_le_f, q_eq_t, q_eq_f, im_ne, im_ne', im_lt, im_le, im_lt', im_le', i_add, i_mul, i_dec, i_dec0, i_sub, i_and, i_shr, i_div, nar_b0, nar_b1, b2i_t, b2i_f, gA1, pA1, gB2, pB2, gA3, pA3, gA4, pA4, gB5, pB5, gA6, pA6, gA7, pA7, gA8, pA8, gA9, pA9, gA10, pA10, gA11, pA11, gA12, pA12, gA13, pA13, gA14, pA14, gA15, pA15, gA16, pA16, gA17, pA17, gA18, pA18, gA19, pA19, gA20, pA20, gA21, pA21, gA40, pA40, gB43, pB43, gA44, pA44, gA45, pA45, gA46, pA46, gA47, pA47, gA48, pA48, gA49, pA49, gA53, pA53, gA54, pA54, gA55, pA55, gA56, pA56, gA58, pA58, gA60, pA60, gA61, pA61, gA62, pA62, gA63, pA63, gA66, pA66, ↓reduceIte, if_true, if_false, R_mI_sJ, R_mI_sA, R_mI_sB, R_mJ_sI, R_mJ_sA, R_mJ_sB, R_mA_sI, R_mA_sJ, R_mA_sB, R_mB_sI, R_mB_sJ, R_mB_sA, mI_on, mI_off, mJ_on, mJ_off, mA_on, mA_same, mA_off, mB_on, mB_same, mB_off, up_on, up_off, a1, z1]
      rfl
    have y4 : m_A N1 4 t = i_ (6 - 6) := by
      rw [a2.1 4 (by decide)]
      exact h4
    have hc := M_src 6 _ N1 _ (Nat.le_refl _) a3' y4
    cases hp : psr T n 6 (sk T n p + 1) with
    | inl e =>
      rw [hp] at hc
      obtain ⟨N2, c, hcc, g2, b2, s2⟩ := hc
      rw [pb_inl]
      refine ⟨N2, ?_, a2.kR.tr g2, b2⟩
      rw [s1, show fu_ = (fu_ - c) + c by have := fu_eq; omega, s2]
    | inr b =>
      rw [hp] at hc
      obtain ⟨N2, c, hcc, g2, p2, m4, sl, -, s2⟩ := hc
      rw [pb_inr]
      obtain ⟨N3, c1, c2, c3⟩ := M_sign p2 41 (isSn_l 41 (by decide))
      have s3 : f_X3_source M = some N3 := by
        rw [s1, show Ss fu_ 1 N1 = Ss (fu_ - c - 1 + 1 + c) 1 N1 by rw [show fu_ - c - 1 + 1 + c = fu_ by have := fu_eq; omega], s2]
        unfold Ss f_X3_source_n19
        simp (disch := omega) only [l_m1, l_m2, l_0, l_1, l_2, l_3, l_4, l_5, l_6, l_7, l_8, l_9, l_10, l_11, l_12, l_13, l_14, l_15, l_16, l_17, l_18, l_19, l_20, l_21, l_22, l_23, l_24, l_25, l_26, l_27, l_28, l_29, l_30, l_31, l_32, l_33, l_34, l_35, l_36, l_37, l_38, l_39, l_40, l_41, l_42, l_43, l_44, l_45, l_46, l_47, l_48, l_49, l_50, l_51, l_52, l_53, l_54, l_55, l_56, l_57, l_58, l_59, l_60, l_61, l_62, l_63, l_64, l_97, l_100, l_110, l_115, l_116, l_120, l_122, l_127, l_128, l_136, l_140, l_200, l_255, l_256, l_400, l_1000, l_30000, l_1200, l_65536, l_2147483639, l_2147483647, ob_some, obd_some, q_lt_t, q_lt_f, q_le_t, q_le_f, q_eq_t, q_eq_f, im_ne, im_ne', im_lt, im_le, im_lt', im_le', i_add, i_mul, i_dec, i_dec0, i_sub, i_and, i_shr, i_div, nar_b0, nar_b1, b2i_t, b2i_f, gA1, pA1, gB2, pB2, gA3, pA3, gA4, pA4, gB5, pB5, gA6, pA6, gA7, pA7, gA8, pA8, gA9, pA9, gA10, pA10, gA11, pA11, gA12, pA12, gA13, pA13, gA14, pA14, gA15, pA15, gA16, pA16, gA17, pA17, gA18, pA18, gA19, pA19, gA20, pA20, gA21, pA21, gA40, pA40, gB43, pB43, gA44, pA44, gA45, pA45, gA46, pA46, gA47, pA47, gA48, pA48, gA49, pA49, gA53, pA53, gA54, pA54, gA55, pA55, gA56, pA56, gA58, pA58, gA60, pA60, gA61, pA61, gA62, pA62, gA63, pA63, gA66, pA66, ↓reduceIte, if_true, if_false, R_mI_sJ, R_mI_sA, R_mI_sB, R_mJ_sI, R_mJ_sA, R_mJ_sB, R_mA_sI, R_mA_sJ, R_mA_sB, R_mB_sI, R_mB_sJ, R_mB_sA, mI_on, mI_off, mJ_on, mJ_off, mA_on, mA_same, mA_off, mB_on, mB_same, mB_off, up_on, up_off, c1]
      have g3 := (a2.kR.tr g2).tr c2.kR
      refine ⟨N3, s3, g3, ?_⟩
      cases hp2 : psg 41 T n b.2.2 with
      | inl e =>
        rw [hp2] at c3
        exact c3
      | inr v =>
        rw [hp2] at c3
        have c3' : PS t n T (ks ++ [(40, sk T n p, [40])] ++ b.1 ++ [v.1]) N3 v.2 := c3
        rw [pb_inr]
        have hks : ks ++ (40, sk T n p, [40]) :: (b.1 ++ [v.1]) = ks ++ [(40, sk T n p, [40])] ++ b.1 ++ [v.1] := by simp
        show PS t n T (ks ++ (40, sk T n p, [40]) :: (b.1 ++ [v.1])) N3 v.2 ∧ m_A N3 4 t = i_ b.2.1.length ∧ SL N3 t (ks ++ (40, sk T n p, [40]) :: (b.1 ++ [v.1])) 0 (ks.length + 1) b.2.1
        rw [hks]
        refine ⟨c3', ?_, ?_⟩
        · rw [c2.1 4 (by decide), m4]
          simp
        · have hl : (ks ++ [(40, sk T n p, [40])]).length = ks.length + 1 := by simp
          rw [hl] at sl
          exact sl.of [v.1] (fun j _ _ => by rw [c2.2.2.1 5 (by decide), c2.1 6 (by decide)]; exact ⟨rfl, rfl⟩)
  · rw [show psg 40 T n p = .inl (sk T n p) from if_neg e40, pb_inl]
    obtain ⟨N1, a1, a2, a3⟩ := M_fail (t := t) h.2.2.2.1 (sk T n p)
    have l1 := h.2.1.1
    have l2 := h.2.1.2.1
    have hk40 := knd_sn (q := sk T n p) (fun k hk => (h.1.2.1 k hk).2) (isSn_l 40 (by decide))
    have hk40' := hk40.trans (eq_false e40)
    have z1 : m_I N1 25 = i_ 1 := a3.1
    have n1 : m_I N1 29 = knd T n (sk T n p) := by rw [a2.2.2.2.2.1 29 (by decide)]; exact l1
    have n2 : m_I N1 30 = i_ (sk T n p) := by rw [a2.2.2.2.2.1 30 (by decide)]; exact l2
    have hs : f_X3_source M = f_X3_sign (41) N1 := by
      unfold f_X3_source f_X3_sign
      simp (disch := omega) only [l_m1, l_m2, l_0, l_1, l_2, l_3, l_4, l_5, l_6, l_7, l_8, l_9, l_10, l_11, l_12, l_13, l_14, l_15, l_16, l_17, l_18, l_19, l_20, l_21, l_22, l_23, l_24, l_25, l_26, l_27, l_28, l_29, l_30, l_31, l_32, l_33, l_34, l_35, l_36, l_37, l_38, l_39, l_40, l_41, l_42, l_43, l_44, l_45, l_46, l_47, l_48, l_49, l_50, l_51, l_52, l_53, l_54, l_55, l_56, l_57, l_58, l_59, l_60, l_61, l_62, l_63, l_64, l_97, l_100, l_110, l_115, l_116, l_120, l_122, l_127, l_128, l_136, l_140, l_200, l_255, l_256, l_400, l_1000, l_30000, l_1200, l_65536, l_2147483639, l_2147483647, ob_some, obd_some, q_lt_t, q_lt_f, q_le_t, q_le_f, q_eq_t, q_eq_f, im_ne, im_ne', im_lt, im_le, im_lt', im_le', i_add, i_mul, i_dec, i_dec0, i_sub, i_and, i_shr, i_div, nar_b0, nar_b1, b2i_t, b2i_f, gA1, pA1, gB2, pB2, gA3, pA3, gA4, pA4, gB5, pB5, gA6, pA6, gA7, pA7, gA8, pA8, gA9, pA9, gA10, pA10, gA11, pA11, gA12, pA12, gA13, pA13, gA14, pA14, gA15, pA15, gA16, pA16, gA17, pA17, gA18, pA18, gA19, pA19, gA20, pA20, gA21, pA21, gA40, pA40, gB43, pB43, gA44, pA44, gA45, pA45, gA46, pA46, gA47, pA47, gA48, pA48, gA49, pA49, gA53, pA53, gA54, pA54, gA55, pA55, gA56, pA56, gA58, pA58, gA60, pA60, gA61, pA61, gA62, pA62, gA63, pA63, gA66, pA66, ↓reduceIte, if_true, if_false, R_mI_sJ, R_mI_sA, R_mI_sB, R_mJ_sI, R_mJ_sA, R_mJ_sB, R_mA_sI, R_mA_sJ, R_mA_sB, R_mB_sI, R_mB_sJ, R_mB_sA, mI_on, mI_off, mJ_on, mJ_off, mA_on, mA_same, mA_off, mB_on, mB_same, mB_off, up_on, up_off, l1, l2, hk40', a1, z1]
      rw [fu_eq]
      unfold f_X3_source_n19 f_X3_sign
      simp (disch := omega) only [l_m1, l_m2, l_0, l_1, l_2, l_3, l_4, l_5, l_6, l_7, l_8, l_9, l_10, l_11, l_12, l_13, l_14, l_15, l_16, l_17, l_18, l_19, l_20, l_21, l_22, l_23, l_24, l_25, l_26, l_27, l_28, l_29, l_30, l_31, l_32, l_33, l_34, l_35, l_36, l_37, l_38, l_39, l_40, l_41, l_42, l_43, l_44, l_45, l_46, l_47, l_48, l_49, l_50, l_51, l_52, l_53, l_54, l_55, l_56, l_57, l_58, l_59, l_60, l_61, l_62, l_63, l_64, l_97, l_100, l_110, l_115, l_116, l_120, l_122, l_127, l_128, l_136, l_140, l_200, l_255, l_256, l_400, l_1000, l_30000, l_1200, l_65536, l_2147483639, l_2147483647, ob_some, obd_some, q_lt_t, q_lt_f, q_le_t, q_le_f, q_eq_t, q_eq_f, im_ne, im_ne', im_lt, im_le, im_lt', im_le', i_add, i_mul, i_dec, i_dec0, i_sub, i_and, i_shr, i_div, nar_b0, nar_b1, b2i_t, b2i_f, gA1, pA1, gB2, pB2, gA3, pA3, gA4, pA4, gB5, pB5, gA6, pA6, gA7, pA7, gA8, pA8, gA9, pA9, gA10, pA10, gA11, pA11, gA12, pA12, gA13, pA13, gA14, pA14, gA15, pA15, gA16, pA16, gA17, pA17, gA18, pA18, gA19, pA19, gA20, pA20, gA21, pA21, gA40, pA40, gB43, pB43, gA44, pA44, gA45, pA45, gA46, pA46, gA47, pA47, gA48, pA48, gA49, pA49, gA53, pA53, gA54, pA54, gA55, pA55, gA56, pA56, gA58, pA58, gA60, pA60, gA61, pA61, gA62, pA62, gA63, pA63, gA66, pA66, ↓reduceIte, if_true, if_false, R_mI_sJ, R_mI_sA, R_mI_sB, R_mJ_sI, R_mJ_sA, R_mJ_sB, R_mA_sI, R_mA_sJ, R_mA_sB, R_mB_sI, R_mB_sJ, R_mB_sA, mI_on, mI_off, mJ_on, mJ_off, mA_on, mA_same, mA_off, mB_on, mB_same, mB_off, up_on, up_off, l1, l2, hk40', a1, z1]
      cases h9 : (if m_I N1 29 = i_ 41 then (f_X3_keeps N1).bind fun N2 => some N2 else (f_X3_fail (i_ 1) (m_I N1 30) N1).bind fun N1 => some N1) <;> rfl
    have hk41 := knd_sn (q := sk T n p) (fun k hk => (h.1.2.1 k hk).2) (isSn_l 41 (by decide))
    have k0 := sk_ge T n p
    by_cases e41 : chp T n (sk T n p) = 41
    · have hk41' := hk41.trans (eq_true e41)
      obtain ⟨t1, t2, t3, t4⟩ := tnx_sn (isSn_l 41 (by decide)) e41
      have n3 : m_I N1 23 = i_ (sk T n p + 1) := by
        rw [a2.2.2.2.2.1 23 (by decide), h.2.1.2.2.1, t3]
      have hle := h.2.2.2.2.1
      obtain ⟨N2, b1, b2, b3, b4⟩ := M_keeps (h.1.gr a2 (by decide) (by decide)) (h.2.2.1.gr a2 (by decide)) (by omega) (n1.trans (by rw [hk41']; trivial)) n2 n3 (by omega) t1
      refine ⟨N2, ?_, (a2.mono (by decide) (by decide) (by decide)).tr (b2.mono (by decide) (by decide) (by decide)), ?_, ?_⟩
      · rw [hs]
        unfold f_X3_sign
        simp (disch := omega) only [l_m1, l_m2, l_0, l_1, l_2, l_3, l_4, l_5, l_6, l_7, l_8, l_9, l_10, l_11, l_12, l_13, l_14, l_15, l_16, l_17, l_18, l_19, l_20, l_21, l_22, l_23, l_24, l_25, l_26, l_27, l_28, l_29, l_30, l_31, l_32, l_33, l_34, l_35, l_36, l_37, l_38, l_39, l_40, l_41, l_42, l_43, l_44, l_45, l_46, l_47, l_48, l_49, l_50, l_51, l_52, l_53, l_54, l_55, l_56, l_57, l_58, l_59, l_60, l_61, l_62, l_63, l_64, l_97, l_100, l_110, l_115, l_116, l_120, l_122, l_127, l_128, l_136, l_140, l_200, l_255, l_256, l_400, l_1000, l_30000, l_1200, l_65536, l_2147483639, l_2147483647, ob_some, obd_some, q_lt_t, q_lt_f, q_le_t, q_le_f, q_eq_t, q_eq_f, im_ne, im_ne', im_lt, im_le, im_lt', im_le', i_add, i_mul, i_dec, i_dec0, i_sub, i_and, i_shr, i_div, nar_b0, nar_b1, b2i_t, b2i_f, gA1, pA1, gB2, pB2, gA3, pA3, gA4, pA4, gB5, pB5, gA6, pA6, gA7, pA7, gA8, pA8, gA9, pA9, gA10, pA10, gA11, pA11, gA12, pA12, gA13, pA13, gA14, pA14, gA15, pA15, gA16, pA16, gA17, pA17, gA18, pA18, gA19, pA19, gA20, pA20, gA21, pA21, gA40, pA40, gB43, pB43, gA44, pA44, gA45, pA45, gA46, pA46, gA47, pA47, gA48, pA48, gA49, pA49, gA53, pA53, gA54, pA54, gA55, pA55, gA56, pA56, gA58, pA58, gA60, pA60, gA61, pA61, gA62, pA62, gA63, pA63, gA66, pA66, ↓reduceIte, if_true, if_false, R_mI_sJ, R_mI_sA, R_mI_sB, R_mJ_sI, R_mJ_sA, R_mJ_sB, R_mA_sI, R_mA_sJ, R_mA_sB, R_mB_sI, R_mB_sJ, R_mB_sA, mI_on, mI_off, mJ_on, mJ_off, mA_on, mA_same, mA_off, mB_on, mB_same, mB_off, up_on, up_off, n1, hk41', b1]
      · rw [b2.2.2.2.2.1 25 (by decide)]
        exact a3.1
      · rw [b2.2.2.2.2.1 26 (by decide)]
        exact a3.2
    · have hk41' := hk41.trans (eq_false e41)
      refine ⟨N1, ?_, a2.mono (by decide) (by decide) (by decide), a3⟩
      rw [hs]
      unfold f_X3_sign f_X3_fail
      simp (disch := omega) only [l_m1, l_m2, l_0, l_1, l_2, l_3, l_4, l_5, l_6, l_7, l_8, l_9, l_10, l_11, l_12, l_13, l_14, l_15, l_16, l_17, l_18, l_19, l_20, l_21, l_22, l_23, l_24, l_25, l_26, l_27, l_28, l_29, l_30, l_31, l_32, l_33, l_34, l_35, l_36, l_37, l_38, l_39, l_40, l_41, l_42, l_43, l_44, l_45, l_46, l_47, l_48, l_49, l_50, l_51, l_52, l_53, l_54, l_55, l_56, l_57, l_58, l_59, l_60, l_61, l_62, l_63, l_64, l_97, l_100, l_110, l_115, l_116, l_120, l_122, l_127, l_128, l_136, l_140, l_200, l_255, l_256, l_400, l_1000, l_30000, l_1200, l_65536, l_2147483639, l_2147483647, ob_some, obd_some, q_lt_t, q_lt_f, q_le_t, q_le_f, q_eq_t, q_eq_f, im_ne, im_ne', im_lt, im_le, im_lt', im_le', i_add, i_mul, i_dec, i_dec0, i_sub, i_and, i_shr, i_div, nar_b0, nar_b1, b2i_t, b2i_f, gA1, pA1, gB2, pB2, gA3, pA3, gA4, pA4, gB5, pB5, gA6, pA6, gA7, pA7, gA8, pA8, gA9, pA9, gA10, pA10, gA11, pA11, gA12, pA12, gA13, pA13, gA14, pA14, gA15, pA15, gA16, pA16, gA17, pA17, gA18, pA18, gA19, pA19, gA20, pA20, gA21, pA21, gA40, pA40, gB43, pB43, gA44, pA44, gA45, pA45, gA46, pA46, gA47, pA47, gA48, pA48, gA49, pA49, gA53, pA53, gA54, pA54, gA55, pA55, gA56, pA56, gA58, pA58, gA60, pA60, gA61, pA61, gA62, pA62, gA63, pA63, gA66, pA66, ↓reduceIte, if_true, if_false, R_mI_sJ, R_mI_sA, R_mI_sB, R_mJ_sI, R_mJ_sA, R_mJ_sB, R_mA_sI, R_mA_sJ, R_mA_sB, R_mB_sI, R_mB_sJ, R_mB_sA, mI_on, mI_off, mJ_on, mJ_off, mA_on, mA_same, mA_off, mB_on, mB_same, mB_off, up_on, up_off, n1, n2, hk41', z1]
