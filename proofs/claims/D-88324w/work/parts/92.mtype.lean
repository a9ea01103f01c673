/-! the reference's typeOf -/
def TP (M : MS) (t k : Nat) (y : Tt) (k1 : Nat) : Prop :=
  (y.1 = 2 ∧ y.2.2.2 = [] ∧ ((m_A M 14 (400 * t + k) = i_ 2 ∧ y.2.1 = 110) ∨ (m_A M 14 (400 * t + k) = i_ 3 ∧ y.2.1 = 116)) ∧ k1 = k + 1) ∨
  (y.1 = 2 ∧ m_A M 14 (400 * t + k) = i_ 1 ∧ m_A M 14 (400 * t + k + 1) = i_ 46 ∧ k1 = k + 3 ∧ ∀ N, MTy M N → ∃ N', f_X3_typeOfName (i_ t) (i_ k) N = some (i_ y.2.1, N') ∧ MTy N N' ∧ m_A N' = m_A N ∧ m_I N' 51 = m_I N 51 ∧ ErR N N' y.2.2.2) ∨
  (y.1 = 3 ∧ m_A M 14 (400 * t + k) = i_ 1 ∧ m_A M 14 (400 * t + k + 1) = i_ 40 ∧ k1 = k + 2 ∧ m_A M 15 (400 * t + k) = i_ y.2.2.1 ∧ ((y.2.1 = 116 ∧ Wd_ M t k [108, 101, 110]) ∨ (y.2.1 = 110 ∧ Wd_ M t k [115, 116, 114]))) ∨
  (y.1 = 4 ∧ m_A M 14 (400 * t + k) = i_ 41 ∧ k1 = k + 1) ∨
  (y.1 = 5 ∧ m_A M 14 (400 * t + k) = i_ y.2.1 ∧ m_A M 15 (400 * t + k) = i_ y.2.2.1 ∧ k1 = k + 1)
def TPl (M : MS) (t : Nat) : Nat → List Tt → Nat → Prop
  | k, [], k' => k = k'
  | k, y :: l, k' => ∃ k1, TP M t k y k1 ∧ TPl M t k1 l k'
theorem TP.lt {M : MS} {t k k1 : Nat} {y : Tt} (h : TP M t k y k1) : k < k1 := by
  rcases h with ⟨-, -, -, h⟩ | ⟨-, -, -, h, -⟩ | ⟨-, -, -, h, -⟩ | ⟨-, -, h⟩ | ⟨-, -, -, h⟩ <;> omega
theorem TPl_le {M : MS} {t : Nat} : ∀ (l : List Tt) (k k' : Nat), TPl M t k l k' → k + l.length ≤ k'
  | [], k, k', h => by
    have h' : k = k' := h
    simp
    omega
  | x :: l, k, k', h => by
    obtain ⟨k1, h1, h2⟩ := h
    have := TPl_le l k1 k' h2
    have := h1.lt
    simp
    omega
theorem Wd_.ty {M N : MS} (hm : MTy M N) {t k : Nat} {w : List Nat} (h : Wd_ M t k w) : Wd_ N t k w := by
  unfold Wd_ at h ⊢
  rw [hm.1 15 (by decide), hm.1 16 (by decide), hm.1 17 (by decide)]
  exact h
theorem MTy.I52 {M N : MS} (h : MTy M N) : m_I N 52 = m_I M 52 := h.2.2.2 52 (by decide)
theorem evl_cons (y : Tt) (l : List Tt) (σ : List Lv × Ev2) : evl (y :: l) σ = evl l (ev1 y σ) := rfl
def Lv0 : Lv := (0, 0, 0, 0, 0)
theorem M_typeOf_l {M : MS} {t c k' : Nat} (ht : t < 17) (hc : c < 8) (h19 : m_A M 19 (8 * t + c) = i_ k') (hk' : k' ≤ 400) (hlen : m_J M 38 = enc [108, 101, 110]) :
    ∀ (l : List Tt) (k n : Nat) (N : MS) (st : List Lv) (es : Ev2), MTy M N → TPl M t k l k' → OKd (st.length - 1) l → EvL N st → 1 ≤ st.length → st.length ≤ 4 → m_I N 51 = i_ (st.length - 1) → ErR M N es → 2 * l.length < n →
      ∃ N' x, (evl l (st, es)).1 = [x] ∧ x.1 < 128 ∧ f_X3_typeOf_n31 n (i_ t) (i_ c) (i_ k) N = some (i_ x.1, N') ∧ MTy M N' ∧ ErR M N' (evl l (st, es)).2 := by
  intro l
  induction l with
  | nil =>
    intro k n N st es hm hT hO hE h1 h4 h51 hR hn
    obtain ⟨n, rfl⟩ : ∃ m, n = m + 1 := ⟨n - 1, by omega⟩
    have hT' : k = k' := hT
    have hO' : st.length - 1 = 0 := hO
    match st, hE, h1, hO' with
    | [x], hE, _, _ =>
      obtain ⟨⟨⟨b1, -⟩, e1, -⟩, -⟩ := hE
      unfold f_X3_typeOf_n31
      have e19 := hm.1 19 (by decide)
      have e1' : m_A N 45 0 = i_ x.1 := e1
      simp (disch := omega) only [l_m1, l_m2, l_0, l_1, l_2, l_3, l_4, l_5, l_6, l_7, l_8, l_9, l_10, l_11, l_12, l_13, l_14, l_15, l_16, l_17, l_18, l_19, l_20, l_21, l_22, l_23, l_24, l_25, l_26, l_27, l_28, l_29, l_30, l_31, l_32, l_33, l_34, l_35, l_36, l_37, l_38, l_39, l_40, l_41, l_42, l_43, l_44, l_45, l_46, l_47, l_48, l_49, l_50, l_51, l_52, l_53, l_54, l_55, l_56, l_57, l_58, l_59, l_60, l_61, l_62, l_63, l_64, l_97, l_100, l_110, l_115, l_116, l_120, l_122, l_127, l_128, l_136, l_140, l_200, l_255, l_256, l_400, l_1000, l_30000, l_1200, l_65536, l_2147483639, l_2147483647, ob_some, obd_some, q_lt_t, q_lt_f, q_le_t, q_le_f, q_eq_t, q_eq_f, im_ne, im_ne', im_lt, im_le, im_lt', im_le', i_add, i_mul, i_dec, i_dec0, i_sub, i_and, i_shr, i_div, nar_b0, nar_b1, b2i_t, b2i_f, gA1, pA1, gB2, pB2, gA3, pA3, gA4, pA4, gB5, pB5, gA6, pA6, gA7, pA7, gA8, pA8, gA9, pA9, gA10, pA10, gA11, pA11, gA12, pA12, gA13, pA13, gA14, pA14, gA15, pA15, gA16, pA16, gA17, pA17, gA18, pA18, gA19, pA19, gA20, pA20, gA21, pA21, gA40, pA40, gB43, pB43, gA44, pA44, gA45, pA45, gA46, pA46, gA47, pA47, gA48, pA48, gA49, pA49, gA53, pA53, gA54, pA54, gA55, pA55, gA56, pA56, gA58, pA58, gA60, pA60, gA61, pA61, gA62, pA62, gA63, pA63, gA66, pA66, ↓reduceIte, if_true, if_false, e19, h19, e1']
      exact ⟨N, x, rfl, b1, rfl, hm, hR⟩
    | x :: x2 :: st, _, _, h => simp at h
  | cons y l ih =>
    intro k n N st es hm hT hO hE h1 h4 h51 hR hn
    obtain ⟨n, rfl⟩ : ∃ m, n = m + 1 := ⟨n - 1, by omega⟩
    obtain ⟨k1, hP, hT1⟩ := hT
    have hle := TPl_le _ _ _ hT1
    have hlt := hP.lt
    have hll : (y :: l).length = l.length + 1 := rfl
    have e19 := hm.1 19 (by decide)
    have e14 := hm.1 14 (by decide)
    have e15 := hm.1 15 (by decide)
    have e38 : m_J N 38 = enc [108, 101, 110] := by rw [hm.2.2.1]; exact hlen
    obtain ⟨x, st', rfl⟩ : ∃ x st', st = x :: st' := by
      cases st with
      | nil => simp at h1
      | cons x st' => exact ⟨x, st', rfl⟩
    have hst : (x :: st').length - 1 = st'.length := by simp
    rw [hst] at h51
    have hst4 : st'.length ≤ 3 := by simp at h4; omega
    rw [evl_cons]
    unfold OKd at hO
    rw [hst] at hO
    unfold f_X3_typeOf_n31
    rcases hP with ⟨e, ee, a, ek⟩ | ⟨e, a, b, ek, hN⟩ | ⟨e, a, b, ek, ap, hw⟩ | ⟨e, a, ek⟩ | ⟨e, a, ap, ek⟩
    · rw [if_pos e] at hO
      obtain ⟨N1, g1, g2, g3, g4, g5⟩ := M_comes hE h51 hst4 hO.1
      have hev : ev1 y (x :: st', es) = (cmL y.2.1 x :: st', es ++ cmE y.2.1 x) := by
        unfold ev1
        rw [if_pos e, ee]
        simp [cm]
      have r := ih k1 n N1 (cmL y.2.1 x :: st') (es ++ cmE y.2.1 x) (hm.tr g2) hT1 (by rw [show (cmL y.2.1 x :: st').length - 1 = st'.length by simp]; exact hO.2) g3 (by simp) (by simpa using hst4) (by rw [show (cmL y.2.1 x :: st').length - 1 = st'.length by simp]; exact g4) (hR.tr hm.I52 g5) (by omega)
      rw [hev]
      rcases a with ⟨a, av⟩ | ⟨a, av⟩
      · rw [av] at g1
        simp (disch := omega) only [l_m1, l_m2, l_0, l_1, l_2, l_3, l_4, l_5, l_6, l_7, l_8, l_9, l_10, l_11, l_12, l_13, l_14, l_15, l_16, l_17, l_18, l_19, l_20, l_21, l_22, l_23, l_24, l_25, l_26, l_27, l_28, l_29, l_30, l_31, l_32, l_33, l_34, l_35, l_36, l_37, l_38, l_39, l_40, l_41, l_42, l_43, l_44, l_45, l_46, l_47, l_48, l_49, l_50, l_51, l_52, l_53, l_54, l_55, l_56, l_57, l_58, l_59, l_60, l_61, l_62, l_63, l_64, l_97, l_100, l_110, l_115, l_116, l_120, l_122, l_127, l_128, l_136, l_140, l_200, l_255, l_256, l_400, l_1000, l_30000, l_1200, l_65536, l_2147483639, l_2147483647, ob_some, obd_some, q_lt_t, q_lt_f, q_le_t, q_le_f, q_eq_t, q_eq_f, im_ne, im_ne', im_lt, im_le, im_lt', im_le', i_add, i_mul, i_dec, i_dec0, i_sub, i_and, i_shr, i_div, nar_b0, nar_b1, b2i_t, b2i_f, gA1, pA1, gB2, pB2, gA3, pA3, gA4, pA4, gB5, pB5, gA6, pA6, gA7, pA7, gA8, pA8, gA9, pA9, gA10, pA10, gA11, pA11, gA12, pA12, gA13, pA13, gA14, pA14, gA15, pA15, gA16, pA16, gA17, pA17, gA18, pA18, gA19, pA19, gA20, pA20, gA21, pA21, gA40, pA40, gB43, pB43, gA44, pA44, gA45, pA45, gA46, pA46, gA47, pA47, gA48, pA48, gA49, pA49, gA53, pA53, gA54, pA54, gA55, pA55, gA56, pA56, gA58, pA58, gA60, pA60, gA61, pA61, gA62, pA62, gA63, pA63, gA66, pA66, ↓reduceIte, if_true, if_false, e19, h19, e14, a, g1]
        rw [← ek]
        exact r
      · rw [av] at g1
        simp (disch := omega) only [l_m1, l_m2, l_0, l_1, l_2, l_3, l_4, l_5, l_6, l_7, l_8, l_9, l_10, l_11, l_12, l_13, l_14, l_15, l_16, l_17, l_18, l_19, l_20, l_21, l_22, l_23, l_24, l_25, l_26, l_27, l_28, l_29, l_30, l_31, l_32, l_33, l_34, l_35, l_36, l_37, l_38, l_39, l_40, l_41, l_42, l_43, l_44, l_45, l_46, l_47, l_48, l_49, l_50, l_51, l_52, l_53, l_54, l_55, l_56, l_57, l_58, l_59, l_60, l_61, l_62, l_63, l_64, l_97, l_100, l_110, l_115, l_116, l_120, l_122, l_127, l_128, l_136, l_140, l_200, l_255, l_256, l_400, l_1000, l_30000, l_1200, l_65536, l_2147483639, l_2147483647, ob_some, obd_some, q_lt_t, q_lt_f, q_le_t, q_le_f, q_eq_t, q_eq_f, im_ne, im_ne', im_lt, im_le, im_lt', im_le', i_add, i_mul, i_dec, i_dec0, i_sub, i_and, i_shr, i_div, nar_b0, nar_b1, b2i_t, b2i_f, gA1, pA1, gB2, pB2, gA3, pA3, gA4, pA4, gB5, pB5, gA6, pA6, gA7, pA7, gA8, pA8, gA9, pA9, gA10, pA10, gA11, pA11, gA12, pA12, gA13, pA13, gA14, pA14, gA15, pA15, gA16, pA16, gA17, pA17, gA18, pA18, gA19, pA19, gA20, pA20, gA21, pA21, gA40, pA40, gB43, pB43, gA44, pA44, gA45, pA45, gA46, pA46, gA47, pA47, gA48, pA48, gA49, pA49, gA53, pA53, gA54, pA54, gA55, pA55, gA56, pA56, gA58, pA58, gA60, pA60, gA61, pA61, gA62, pA62, gA63, pA63, gA66, pA66, ↓reduceIte, if_true, if_false, e19, h19, e14, a, g1]
        rw [← ek]
        exact r
    · rw [if_pos e] at hO
      obtain ⟨N0, f1, f2, f3, f4, f5⟩ := hN N hm
      have hE0 : EvL N0 (x :: st') := hE.up fun k _ i _ => by rw [f3]
      obtain ⟨N1, g1, g2, g3, g4, g5⟩ := M_comes hE0 (by rw [f4]; exact h51) hst4 hO.1
      have hev : ev1 y (x :: st', es) = (cmL y.2.1 x :: st', es ++ y.2.2.2 ++ cmE y.2.1 x) := by
        unfold ev1
        rw [if_pos e]
        simp [cm]
      have r := ih k1 n N1 (cmL y.2.1 x :: st') (es ++ y.2.2.2 ++ cmE y.2.1 x) ((hm.tr f2).tr g2) hT1 (by rw [show (cmL y.2.1 x :: st').length - 1 = st'.length by simp]; exact hO.2) g3 (by simp) (by simpa using hst4) (by rw [show (cmL y.2.1 x :: st').length - 1 = st'.length by simp]; exact g4) ((hR.tr hm.I52 f5).tr (hm.tr f2).I52 g5) (by omega)
      rw [hev]
      unfold f_X3_typeOf_n202
      simp (disch := omega) only [l_m1, l_m2, l_0, l_1, l_2, l_3, l_4, l_5, l_6, l_7, l_8, l_9, l_10, l_11, l_12, l_13, l_14, l_15, l_16, l_17, l_18, l_19, l_20, l_21, l_22, l_23, l_24, l_25, l_26, l_27, l_28, l_29, l_30, l_31, l_32, l_33, l_34, l_35, l_36, l_37, l_38, l_39, l_40, l_41, l_42, l_43, l_44, l_45, l_46, l_47, l_48, l_49, l_50, l_51, l_52, l_53, l_54, l_55, l_56, l_57, l_58, l_59, l_60, l_61, l_62, l_63, l_64, l_97, l_100, l_110, l_115, l_116, l_120, l_122, l_127, l_128, l_136, l_140, l_200, l_255, l_256, l_400, l_1000, l_30000, l_1200, l_65536, l_2147483639, l_2147483647, ob_some, obd_some, q_lt_t, q_lt_f, q_le_t, q_le_f, q_eq_t, q_eq_f, im_ne, im_ne', im_lt, im_le, im_lt', im_le', i_add, i_mul, i_dec, i_dec0, i_sub, i_and, i_shr, i_div, nar_b0, nar_b1, b2i_t, b2i_f, gA1, pA1, gB2, pB2, gA3, pA3, gA4, pA4, gB5, pB5, gA6, pA6, gA7, pA7, gA8, pA8, gA9, pA9, gA10, pA10, gA11, pA11, gA12, pA12, gA13, pA13, gA14, pA14, gA15, pA15, gA16, pA16, gA17, pA17, gA18, pA18, gA19, pA19, gA20, pA20, gA21, pA21, gA40, pA40, gB43, pB43, gA44, pA44, gA45, pA45, gA46, pA46, gA47, pA47, gA48, pA48, gA49, pA49, gA53, pA53, gA54, pA54, gA55, pA55, gA56, pA56, gA58, pA58, gA60, pA60, gA61, pA61, gA62, pA62, gA63, pA63, gA66, pA66, ↓reduceIte, if_true, if_false, e19, h19, e14, a, b, f1, g1]
      rw [show k + 2 + 1 = k1 by omega]
      exact r
    · have hne : ¬ y.1 = 2 := by omega
      rw [if_neg hne, if_pos e] at hO
      obtain ⟨o1, o2, o3, o4⟩ := hO
      have hev : ev1 y (x :: st', es) = ((0, 0, 0, y.2.1, y.2.2.1) :: x :: st', es) := by
        unfold ev1
        rw [if_neg hne, if_pos e]
      rw [hev]
      have fin : ∀ (L : MS), m_A L 45 (st'.length + 1) = i_ 0 → m_A L 46 (st'.length + 1) = i_ 0 → m_A L 48 (st'.length + 1) = i_ y.2.1 → m_A L 49 (st'.length + 1) = i_ y.2.2.1 → (∀ k, k ∈ [45, 46, 47, 48, 49] → ∀ i, i < st'.length + 1 → m_A L k i = m_A N k i) → m_I L 51 = i_ (st'.length + 1) → MTy N L → m_I L 50 = m_I N 50 → m_I L 25 = m_I N 25 → m_I L 26 = m_I N 26 → ∃ N' x_1, (evl l ((0, 0, 0, y.2.1, y.2.2.1) :: x :: st', es)).1 = [x_1] ∧ x_1.1 < 128 ∧ f_X3_typeOf_n31 n (i_ t) (i_ c) (i_ k1) L = some (i_ x_1.1, N') ∧ MTy M N' ∧ ErR M N' (evl l ((0, 0, 0, y.2.1, y.2.2.1) :: x :: st', es)).2 := by
        intro L a45 a46 a48 a49 ak a51 am a50 a25 a26
        refine ih k1 n L _ es (hm.tr am) hT1 (by simpa using o4) ⟨⟨⟨Nat.zero_lt_succ _, Nat.zero_lt_succ _, by show y.2.1 < 128; rcases o1 with h | h <;> omega⟩, a45, a46, fun q => absurd rfl q, fun _ => ⟨a48, a49⟩⟩, hE.up ak⟩ (by simp) (by simp; omega) (by simpa using a51) ?_ (by omega)
        have := hR.tr hm.I52 (ErR.nil a50 a25 a26)
        rwa [List.append_nil] at this
      unfold f_X3_typeOf_n179
      rcases hw with ⟨q1, q2⟩ | ⟨q1, q2⟩
      · have h38 : m_J (m_sA (m_sA (m_sI N 51 (i_ (st'.length + 1))) 45 (st'.length + 1) (i_ 0)) 46 (st'.length + 1) (i_ 0)) 38 = enc [108, 101, 110] := e38
        have hmm : MTy N (m_sA (m_sA (m_sI N 51 (i_ (st'.length + 1))) 45 (st'.length + 1) (i_ 0)) 46 (st'.length + 1) (i_ 0)) := ((MTy.sI (by decide)).tr (MTy.sA (by decide))).tr (MTy.sA (by decide))
        simp (disch := omega) only [l_m1, l_m2, l_0, l_1, l_2, l_3, l_4, l_5, l_6, l_7, l_8, l_9, l_10, l_11, l_12, l_13, l_14, l_15, l_16, l_17, l_18, l_19, l_20, l_21, l_22, l_23, l_24, l_25, l_26, l_27, l_28, l_29, l_30, l_31, l_32, l_33, l_34, l_35, l_36, l_37, l_38, l_39, l_40, l_41, l_42, l_43, l_44, l_45, l_46, l_47, l_48, l_49, l_50, l_51, l_52, l_53, l_54, l_55, l_56, l_57, l_58, l_59, l_60, l_61, l_62, l_63, l_64, l_97, l_100, l_110, l_115, l_116, l_120, l_122, l_127, l_128, l_136, l_140, l_200, l_255, l_256, l_400, l_1000, l_30000, l_1200, l_65536, l_2147483639, l_2147483647, ob_some, obd_some, q_lt_t, q_lt_f, q_le_t, q_le_f, q_eq_t, q_eq_f, im_ne, im_ne', im_lt, im_le, im_lt', im_le', i_add, i_mul, i_dec, i_dec0, i_sub, i_and, i_shr, i_div, nar_b0, nar_b1, b2i_t, b2i_f, gA1, pA1, gB2, pB2, gA3, pA3, gA4, pA4, gB5, pB5, gA6, pA6, gA7, pA7, gA8, pA8, gA9, pA9, gA10, pA10, gA11, pA11, gA12, pA12, gA13, pA13, gA14, pA14, gA15, pA15, gA16, pA16, gA17, pA17, gA18, pA18, gA19, pA19, gA20, pA20, gA21, pA21, gA40, pA40, gB43, pB43, gA44, pA44, gA45, pA45, gA46, pA46, gA47, pA47, gA48, pA48, gA49, pA49, gA53, pA53, gA54, pA54, gA55, pA55, gA56, pA56, gA58, pA58, gA60, pA60, gA61, pA61, gA62, pA62, gA63, pA63, gA66, pA66, ↓reduceIte, if_true, if_false, e19, h19, e14, a, b, h51, mI_on, r_mI_sA, M_wordOf ht (show k < 400 by omega) ((q2.ty hm).ty hmm), h38, cmp_0, r_mA_sI, mA_same, e15, ap]
        rw [show k + 1 + 1 = k1 by omega]
        refine fin _ ?_ ?_ ?_ ?_ ?_ (mI_on (M := N) (k := 51) (x := i_ (st'.length + 1))) ((hmm.tr (MTy.sA (by decide))).tr (MTy.sA (by decide))) ?_ ?_ ?_
        · rw [mA_same (by decide), mA_same (by decide), mA_same (by decide), mA_on]
        · rw [mA_same (by decide), mA_same (by decide), mA_on]
        · rw [mA_same (by decide), mA_on, q1]
        · rw [mA_on]
        · intro k hk i hi
          have hi' : i ≠ st'.length + 1 := by omega
          simp only [r_mA_sA, r_mA_sI, h_st, hi', and_false, if_false]
        · exact mI_off (M := N) (k := 51) (j := 50) (x := i_ (st'.length + 1)) (by decide)
        · exact mI_off (M := N) (k := 51) (j := 25) (x := i_ (st'.length + 1)) (by decide)
        · exact mI_off (M := N) (k := 51) (j := 26) (x := i_ (st'.length + 1)) (by decide)
      · have h38 : m_J (m_sA (m_sA (m_sI N 51 (i_ (st'.length + 1))) 45 (st'.length + 1) (i_ 0)) 46 (st'.length + 1) (i_ 0)) 38 = enc [108, 101, 110] := e38
        have hmm : MTy N (m_sA (m_sA (m_sI N 51 (i_ (st'.length + 1))) 45 (st'.length + 1) (i_ 0)) 46 (st'.length + 1) (i_ 0)) := ((MTy.sI (by decide)).tr (MTy.sA (by decide))).tr (MTy.sA (by decide))
        have hno : (enc [115, 116, 114] = enc [108, 101, 110]) = False := eq_false (by decide)
        simp (disch := omega) only [l_m1, l_m2, l_0, l_1, l_2, l_3, l_4, l_5, l_6, l_7, l_8, l_9, l_10, l_11, l_12, l_13, l_14, l_15, l_16, l_17, l_18, l_19, l_20, l_21, l_22, l_23, l_24, l_25, l_26, l_27, l_28, l_29, l_30, l_31, l_32, l_33, l_34, l_35, l_36, l_37, l_38, l_39, l_40, l_41, l_42, l_43, l_44, l_45, l_46, l_47, l_48, l_49, l_50, l_51, l_52, l_53, l_54, l_55, l_56, l_57, l_58, l_59, l_60, l_61, l_62, l_63, l_64, l_97, l_100, l_110, l_115, l_116, l_120, l_122, l_127, l_128, l_136, l_140, l_200, l_255, l_256, l_400, l_1000, l_30000, l_1200, l_65536, l_2147483639, l_2147483647, ob_some, obd_some, q_lt_t, q_lt_f, q_le_t, q_le_f, q_eq_t, q_eq_f, im_ne, im_ne', im_lt, im_le, im_lt', im_le', i_add, i_mul, i_dec, i_dec0, i_sub, i_and, i_shr, i_div, nar_b0, nar_b1, b2i_t, b2i_f, gA1, pA1, gB2, pB2, gA3, pA3, gA4, pA4, gB5, pB5, gA6, pA6, gA7, pA7, gA8, pA8, gA9, pA9, gA10, pA10, gA11, pA11, gA12, pA12, gA13, pA13, gA14, pA14, gA15, pA15, gA16, pA16, gA17, pA17, gA18, pA18, gA19, pA19, gA20, pA20, gA21, pA21, gA40, pA40, gB43, pB43, gA44, pA44, gA45, pA45, gA46, pA46, gA47, pA47, gA48, pA48, gA49, pA49, gA53, pA53, gA54, pA54, gA55, pA55, gA56, pA56, gA58, pA58, gA60, pA60, gA61, pA61, gA62, pA62, gA63, pA63, gA66, pA66, ↓reduceIte, if_true, if_false, e19, h19, e14, a, b, h51, mI_on, r_mI_sA, M_wordOf ht (show k < 400 by omega) ((q2.ty hm).ty hmm), h38, cmp_0, hno, r_mA_sI, mA_same, e15, ap]
        rw [show k + 1 + 1 = k1 by omega]
        refine fin _ ?_ ?_ ?_ ?_ ?_ (mI_on (M := N) (k := 51) (x := i_ (st'.length + 1))) ((hmm.tr (MTy.sA (by decide))).tr (MTy.sA (by decide))) ?_ ?_ ?_
        · rw [mA_same (by decide), mA_same (by decide), mA_same (by decide), mA_on]
        · rw [mA_same (by decide), mA_same (by decide), mA_on]
        · rw [mA_same (by decide), mA_on, q1]
        · rw [mA_on]
        · intro k hk i hi
          have hi' : i ≠ st'.length + 1 := by omega
          simp only [r_mA_sA, r_mA_sI, h_st, hi', and_false, if_false]
        · exact mI_off (M := N) (k := 51) (j := 50) (x := i_ (st'.length + 1)) (by decide)
        · exact mI_off (M := N) (k := 51) (j := 25) (x := i_ (st'.length + 1)) (by decide)
        · exact mI_off (M := N) (k := 51) (j := 26) (x := i_ (st'.length + 1)) (by decide)
    · have hne : ¬ y.1 = 2 := by omega
      have hne3 : ¬ y.1 = 3 := by omega
      rw [if_neg hne, if_neg hne3, if_pos e] at hO
      obtain ⟨x2, st2, rfl⟩ : ∃ x2 st2, st' = x2 :: st2 := by
        cases st' with
        | nil => exact absurd hO.1 (by simp)
        | cons x2 st2 => exact ⟨x2, st2, rfl⟩
      have hl2 : (x2 :: st2).length = st2.length + 1 := rfl
      rw [hl2] at h51 hst4 hO
      obtain ⟨⟨⟨b1, b2, b3⟩, s45, s46, s47, s48⟩, hE2⟩ := hE
      obtain ⟨s48, s49⟩ := s48 (by simp)
      rw [hl2] at s45 s48 s49
      have key : ∀ (L : MS) (ev : Ev2), MTy N L → m_A L = m_A N → m_I L 51 = i_ (st2.length + 1) → ErR N L ev → ev1 y (x :: x2 :: st2, es) = cm (if x.2.2.2.1 = 116 then 110 else 116) (x2 :: st2, es ++ ev) →
          ∃ N' x_1, (evl l (ev1 y (x :: x2 :: st2, es))).1 = [x_1] ∧ x_1.1 < 128 ∧ f_X3_typeOf_n288 (fun x1 x2 x3 M => f_X3_typeOf_n31 n x1 x2 x3 M) (i_ t) (i_ c) (i_ k) (i_ x.2.2.2.1) L = some (i_ x_1.1, N') ∧ MTy M N' ∧ ErR M N' (evl l (ev1 y (x :: x2 :: st2, es))).2 := by
        intro L ev lm la l51 lR hev
        rw [hev]
        have hE3 : EvL (m_sI L 51 (i_ st2.length)) (x2 :: st2) := hE2.up fun k _ i _ => by
          show m_A L k i = m_A N k i
          rw [la]
        have lm2 : MTy N (m_sI L 51 (i_ st2.length)) := lm.tr (MTy.sI (by decide))
        have lR2 : ErR M (m_sI L 51 (i_ st2.length)) (es ++ ev) := by
          have h9 := (hR.tr hm.I52 lR).tr (hm.tr lm).I52 (ErR.nil (N := m_sI L 51 (i_ st2.length)) (mI_off (by decide)) (mI_off (by decide)) (mI_off (by decide)))
          rwa [List.append_nil] at h9
        have goal : ∀ v, v < 128 → ∃ N' x_1, (evl l (cm v (x2 :: st2, es ++ ev))).1 = [x_1] ∧ x_1.1 < 128 ∧ f_X3_typeOf_n313 (fun x1 x2 x3 M => f_X3_typeOf_n31 n x1 x2 x3 M) (i_ t) (i_ c) (i_ k) (i_ v) (m_sI L 51 (i_ st2.length)) = some (i_ x_1.1, N') ∧ MTy M N' ∧ ErR M N' (evl l (cm v (x2 :: st2, es ++ ev))).2 := by
          intro v hv
          obtain ⟨N1, g1, g2, g3, g4, g5⟩ := M_comes hE3 mI_on (by omega) hv
          unfold f_X3_typeOf_n313
          simp (disch := omega) only [l_m1, l_m2, l_0, l_1, l_2, l_3, l_4, l_5, l_6, l_7, l_8, l_9, l_10, l_11, l_12, l_13, l_14, l_15, l_16, l_17, l_18, l_19, l_20, l_21, l_22, l_23, l_24, l_25, l_26, l_27, l_28, l_29, l_30, l_31, l_32, l_33, l_34, l_35, l_36, l_37, l_38, l_39, l_40, l_41, l_42, l_43, l_44, l_45, l_46, l_47, l_48, l_49, l_50, l_51, l_52, l_53, l_54, l_55, l_56, l_57, l_58, l_59, l_60, l_61, l_62, l_63, l_64, l_97, l_100, l_110, l_115, l_116, l_120, l_122, l_127, l_128, l_136, l_140, l_200, l_255, l_256, l_400, l_1000, l_30000, l_1200, l_65536, l_2147483639, l_2147483647, ob_some, obd_some, q_lt_t, q_lt_f, q_le_t, q_le_f, q_eq_t, q_eq_f, im_ne, im_ne', im_lt, im_le, im_lt', im_le', i_add, i_mul, i_dec, i_dec0, i_sub, i_and, i_shr, i_div, nar_b0, nar_b1, b2i_t, b2i_f, gA1, pA1, gB2, pB2, gA3, pA3, gA4, pA4, gB5, pB5, gA6, pA6, gA7, pA7, gA8, pA8, gA9, pA9, gA10, pA10, gA11, pA11, gA12, pA12, gA13, pA13, gA14, pA14, gA15, pA15, gA16, pA16, gA17, pA17, gA18, pA18, gA19, pA19, gA20, pA20, gA21, pA21, gA40, pA40, gB43, pB43, gA44, pA44, gA45, pA45, gA46, pA46, gA47, pA47, gA48, pA48, gA49, pA49, gA53, pA53, gA54, pA54, gA55, pA55, gA56, pA56, gA58, pA58, gA60, pA60, gA61, pA61, gA62, pA62, gA63, pA63, gA66, pA66, ↓reduceIte, if_true, if_false, g1]
          rw [← ek]
          exact ih k1 n N1 (cmL v x2 :: st2) (es ++ ev ++ cmE v x2) ((hm.tr lm2).tr g2) hT1 (by simpa using hO.2) g3 (by simp) (by simp; omega) (by simpa using g4) (lR2.tr (hm.tr lm2).I52 g5) (by omega)
        unfold f_X3_typeOf_n288
        by_cases e6 : x.2.2.2.1 = 116
        · rw [if_pos e6]
          simp (disch := omega) only [l_m1, l_m2, l_0, l_1, l_2, l_3, l_4, l_5, l_6, l_7, l_8, l_9, l_10, l_11, l_12, l_13, l_14, l_15, l_16, l_17, l_18, l_19, l_20, l_21, l_22, l_23, l_24, l_25, l_26, l_27, l_28, l_29, l_30, l_31, l_32, l_33, l_34, l_35, l_36, l_37, l_38, l_39, l_40, l_41, l_42, l_43, l_44, l_45, l_46, l_47, l_48, l_49, l_50, l_51, l_52, l_53, l_54, l_55, l_56, l_57, l_58, l_59, l_60, l_61, l_62, l_63, l_64, l_97, l_100, l_110, l_115, l_116, l_120, l_122, l_127, l_128, l_136, l_140, l_200, l_255, l_256, l_400, l_1000, l_30000, l_1200, l_65536, l_2147483639, l_2147483647, ob_some, obd_some, q_lt_t, q_lt_f, q_le_t, q_le_f, q_eq_t, q_eq_f, im_ne, im_ne', im_lt, im_le, im_lt', im_le', i_add, i_mul, i_dec, i_dec0, i_sub, i_and, i_shr, i_div, nar_b0, nar_b1, b2i_t, b2i_f, gA1, pA1, gB2, pB2, gA3, pA3, gA4, pA4, gB5, pB5, gA6, pA6, gA7, pA7, gA8, pA8, gA9, pA9, gA10, pA10, gA11, pA11, gA12, pA12, gA13, pA13, gA14, pA14, gA15, pA15, gA16, pA16, gA17, pA17, gA18, pA18, gA19, pA19, gA20, pA20, gA21, pA21, gA40, pA40, gB43, pB43, gA44, pA44, gA45, pA45, gA46, pA46, gA47, pA47, gA48, pA48, gA49, pA49, gA53, pA53, gA54, pA54, gA55, pA55, gA56, pA56, gA58, pA58, gA60, pA60, gA61, pA61, gA62, pA62, gA63, pA63, gA66, pA66, ↓reduceIte, if_true, if_false, l51, e6, (show st2.length + 1 - 1 = st2.length by omega)]
          exact goal 110 (by decide)
        · rw [if_neg e6]
          simp (disch := omega) only [l_m1, l_m2, l_0, l_1, l_2, l_3, l_4, l_5, l_6, l_7, l_8, l_9, l_10, l_11, l_12, l_13, l_14, l_15, l_16, l_17, l_18, l_19, l_20, l_21, l_22, l_23, l_24, l_25, l_26, l_27, l_28, l_29, l_30, l_31, l_32, l_33, l_34, l_35, l_36, l_37, l_38, l_39, l_40, l_41, l_42, l_43, l_44, l_45, l_46, l_47, l_48, l_49, l_50, l_51, l_52, l_53, l_54, l_55, l_56, l_57, l_58, l_59, l_60, l_61, l_62, l_63, l_64, l_97, l_100, l_110, l_115, l_116, l_120, l_122, l_127, l_128, l_136, l_140, l_200, l_255, l_256, l_400, l_1000, l_30000, l_1200, l_65536, l_2147483639, l_2147483647, ob_some, obd_some, q_lt_t, q_lt_f, q_le_t, q_le_f, q_eq_t, q_eq_f, im_ne, im_ne', im_lt, im_le, im_lt', im_le', i_add, i_mul, i_dec, i_dec0, i_sub, i_and, i_shr, i_div, nar_b0, nar_b1, b2i_t, b2i_f, gA1, pA1, gB2, pB2, gA3, pA3, gA4, pA4, gB5, pB5, gA6, pA6, gA7, pA7, gA8, pA8, gA9, pA9, gA10, pA10, gA11, pA11, gA12, pA12, gA13, pA13, gA14, pA14, gA15, pA15, gA16, pA16, gA17, pA17, gA18, pA18, gA19, pA19, gA20, pA20, gA21, pA21, gA40, pA40, gB43, pB43, gA44, pA44, gA45, pA45, gA46, pA46, gA47, pA47, gA48, pA48, gA49, pA49, gA53, pA53, gA54, pA54, gA55, pA55, gA56, pA56, gA58, pA58, gA60, pA60, gA61, pA61, gA62, pA62, gA63, pA63, gA66, pA66, ↓reduceIte, if_true, if_false, l51, e6, (show st2.length + 1 - 1 = st2.length by omega)]
          exact goal 116 (by decide)
      have hev0 : ∀ ev, (if ¬ x.1 = 0 ∧ ¬ x.1 = x.2.2.2.1 then [(3, x.2.2.2.2)] else []) = ev → ev1 y (x :: x2 :: st2, es) = cm (if x.2.2.2.1 = 116 then 110 else 116) (x2 :: st2, es ++ ev) := by
        intro ev hh
        unfold ev1
        rw [if_neg hne, if_neg hne3, if_pos e]
        show cm _ (x2 :: st2, es ++ (if ¬ x.1 = 0 ∧ ¬ x.1 = x.2.2.2.1 then [(3, x.2.2.2.2)] else [])) = _
        rw [hh]
      unfold f_X3_typeOf_n202
      by_cases e6 : x.1 = 0
      · simp (disch := omega) only [l_m1, l_m2, l_0, l_1, l_2, l_3, l_4, l_5, l_6, l_7, l_8, l_9, l_10, l_11, l_12, l_13, l_14, l_15, l_16, l_17, l_18, l_19, l_20, l_21, l_22, l_23, l_24, l_25, l_26, l_27, l_28, l_29, l_30, l_31, l_32, l_33, l_34, l_35, l_36, l_37, l_38, l_39, l_40, l_41, l_42, l_43, l_44, l_45, l_46, l_47, l_48, l_49, l_50, l_51, l_52, l_53, l_54, l_55, l_56, l_57, l_58, l_59, l_60, l_61, l_62, l_63, l_64, l_97, l_100, l_110, l_115, l_116, l_120, l_122, l_127, l_128, l_136, l_140, l_200, l_255, l_256, l_400, l_1000, l_30000, l_1200, l_65536, l_2147483639, l_2147483647, ob_some, obd_some, q_lt_t, q_lt_f, q_le_t, q_le_f, q_eq_t, q_eq_f, im_ne, im_ne', im_lt, im_le, im_lt', im_le', i_add, i_mul, i_dec, i_dec0, i_sub, i_and, i_shr, i_div, nar_b0, nar_b1, b2i_t, b2i_f, gA1, pA1, gB2, pB2, gA3, pA3, gA4, pA4, gB5, pB5, gA6, pA6, gA7, pA7, gA8, pA8, gA9, pA9, gA10, pA10, gA11, pA11, gA12, pA12, gA13, pA13, gA14, pA14, gA15, pA15, gA16, pA16, gA17, pA17, gA18, pA18, gA19, pA19, gA20, pA20, gA21, pA21, gA40, pA40, gB43, pB43, gA44, pA44, gA45, pA45, gA46, pA46, gA47, pA47, gA48, pA48, gA49, pA49, gA53, pA53, gA54, pA54, gA55, pA55, gA56, pA56, gA58, pA58, gA60, pA60, gA61, pA61, gA62, pA62, gA63, pA63, gA66, pA66, ↓reduceIte, if_true, if_false, e19, h19, e14, a, h51, s45, s48, e6]
        exact key N [] (MTy.rf N) rfl h51 (ErR.rf N) (hev0 [] (if_neg (by simp [e6])))
      · by_cases e7 : x.1 = x.2.2.2.1
        · have e7' : (i_ x.1 = i_ x.2.2.2.1) = True := q_eq_t e7
          simp (disch := omega) only [l_m1, l_m2, l_0, l_1, l_2, l_3, l_4, l_5, l_6, l_7, l_8, l_9, l_10, l_11, l_12, l_13, l_14, l_15, l_16, l_17, l_18, l_19, l_20, l_21, l_22, l_23, l_24, l_25, l_26, l_27, l_28, l_29, l_30, l_31, l_32, l_33, l_34, l_35, l_36, l_37, l_38, l_39, l_40, l_41, l_42, l_43, l_44, l_45, l_46, l_47, l_48, l_49, l_50, l_51, l_52, l_53, l_54, l_55, l_56, l_57, l_58, l_59, l_60, l_61, l_62, l_63, l_64, l_97, l_100, l_110, l_115, l_116, l_120, l_122, l_127, l_128, l_136, l_140, l_200, l_255, l_256, l_400, l_1000, l_30000, l_1200, l_65536, l_2147483639, l_2147483647, ob_some, obd_some, q_lt_t, q_lt_f, q_le_t, q_le_f, q_eq_t, q_eq_f, im_ne, im_ne', im_lt, im_le, im_lt', im_le', i_add, i_mul, i_dec, i_dec0, i_sub, i_and, i_shr, i_div, nar_b0, nar_b1, b2i_t, b2i_f, gA1, pA1, gB2, pB2, gA3, pA3, gA4, pA4, gB5, pB5, gA6, pA6, gA7, pA7, gA8, pA8, gA9, pA9, gA10, pA10, gA11, pA11, gA12, pA12, gA13, pA13, gA14, pA14, gA15, pA15, gA16, pA16, gA17, pA17, gA18, pA18, gA19, pA19, gA20, pA20, gA21, pA21, gA40, pA40, gB43, pB43, gA44, pA44, gA45, pA45, gA46, pA46, gA47, pA47, gA48, pA48, gA49, pA49, gA53, pA53, gA54, pA54, gA55, pA55, gA56, pA56, gA58, pA58, gA60, pA60, gA61, pA61, gA62, pA62, gA63, pA63, gA66, pA66, ↓reduceIte, if_true, if_false, e19, h19, e14, a, h51, s45, s48, e6, e7']
          exact key N [] (MTy.rf N) rfl h51 (ErR.rf N) (hev0 [] (if_neg (by simp [e7])))
        · obtain ⟨K, g1, g2, g3, g4, g5⟩ := M_wrong x.2.2.2.2 N
          simp (disch := omega) only [l_m1, l_m2, l_0, l_1, l_2, l_3, l_4, l_5, l_6, l_7, l_8, l_9, l_10, l_11, l_12, l_13, l_14, l_15, l_16, l_17, l_18, l_19, l_20, l_21, l_22, l_23, l_24, l_25, l_26, l_27, l_28, l_29, l_30, l_31, l_32, l_33, l_34, l_35, l_36, l_37, l_38, l_39, l_40, l_41, l_42, l_43, l_44, l_45, l_46, l_47, l_48, l_49, l_50, l_51, l_52, l_53, l_54, l_55, l_56, l_57, l_58, l_59, l_60, l_61, l_62, l_63, l_64, l_97, l_100, l_110, l_115, l_116, l_120, l_122, l_127, l_128, l_136, l_140, l_200, l_255, l_256, l_400, l_1000, l_30000, l_1200, l_65536, l_2147483639, l_2147483647, ob_some, obd_some, q_lt_t, q_lt_f, q_le_t, q_le_f, q_eq_t, q_eq_f, im_ne, im_ne', im_lt, im_le, im_lt', im_le', i_add, i_mul, i_dec, i_dec0, i_sub, i_and, i_shr, i_div, nar_b0, nar_b1, b2i_t, b2i_f, gA1, pA1, gB2, pB2, gA3, pA3, gA4, pA4, gB5, pB5, gA6, pA6, gA7, pA7, gA8, pA8, gA9, pA9, gA10, pA10, gA11, pA11, gA12, pA12, gA13, pA13, gA14, pA14, gA15, pA15, gA16, pA16, gA17, pA17, gA18, pA18, gA19, pA19, gA20, pA20, gA21, pA21, gA40, pA40, gB43, pB43, gA44, pA44, gA45, pA45, gA46, pA46, gA47, pA47, gA48, pA48, gA49, pA49, gA53, pA53, gA54, pA54, gA55, pA55, gA56, pA56, gA58, pA58, gA60, pA60, gA61, pA61, gA62, pA62, gA63, pA63, gA66, pA66, ↓reduceIte, if_true, if_false, e19, h19, e14, a, h51, s45, s48, e6, e7, s49, g1]
          exact key K [(3, x.2.2.2.2)] g2 g3 (g4.trans h51) g5 (hev0 _ (if_pos ⟨e6, e7⟩))
    · have hne : ¬ y.1 = 2 := by omega
      have hne3 : ¬ y.1 = 3 := by omega
      have hne4 : ¬ y.1 = 4 := by omega
      rw [if_neg hne, if_neg hne3, if_neg hne4] at hO
      obtain ⟨⟨o1, o2, o3⟩, o4⟩ := hO
      have hev : ev1 y (x :: st', es) = ((x.1, y.2.1, y.2.2.1, x.2.2.2) :: st', es) := by
        unfold ev1
        rw [if_neg hne, if_neg hne3, if_neg hne4]
      rw [hev]
      obtain ⟨⟨⟨b1, b2, b3⟩, s45, s46, s47, s48⟩, hE2⟩ := hE
      have r := ih k1 n (m_sA (m_sA N 46 st'.length (i_ y.2.1)) 47 st'.length (i_ y.2.2.1)) ((x.1, y.2.1, y.2.2.1, x.2.2.2) :: st') es ((hm.tr (MTy.sA (by decide))).tr (MTy.sA (by decide))) hT1 (by simpa using o4) ⟨⟨⟨b1, by show y.2.1 < 128; rcases o2 with h | h | h <;> omega, b3⟩, by rw [mA_same (by decide), mA_same (by decide)]; exact s45, by rw [mA_same (by decide)]; exact mA_on, fun _ => mA_on, fun q => by rw [mA_same (by decide), mA_same (by decide), mA_same (by decide), mA_same (by decide)]; exact s48 q⟩, hE2.up fun k hk i hi => by
          have hi' : i ≠ st'.length := by omega
          simp only [r_mA_sA, h_st, hi', and_false, if_false]⟩ (by simp) (by simpa using hst4) h51 (by
          have h9 := hR.tr hm.I52 (ErR.nil (N := m_sA (m_sA N 46 st'.length (i_ y.2.1)) 47 st'.length (i_ y.2.2.1)) rfl rfl rfl)
          rwa [List.append_nil] at h9) (by omega)
      unfold f_X3_typeOf_n202
      rcases o2 with o2 | o2 | o2
      all_goals
        rw [o2] at a r ⊢
        simp (disch := omega) only [l_m1, l_m2, l_0, l_1, l_2, l_3, l_4, l_5, l_6, l_7, l_8, l_9, l_10, l_11, l_12, l_13, l_14, l_15, l_16, l_17, l_18, l_19, l_20, l_21, l_22, l_23, l_24, l_25, l_26, l_27, l_28, l_29, l_30, l_31, l_32, l_33, l_34, l_35, l_36, l_37, l_38, l_39, l_40, l_41, l_42, l_43, l_44, l_45, l_46, l_47, l_48, l_49, l_50, l_51, l_52, l_53, l_54, l_55, l_56, l_57, l_58, l_59, l_60, l_61, l_62, l_63, l_64, l_97, l_100, l_110, l_115, l_116, l_120, l_122, l_127, l_128, l_136, l_140, l_200, l_255, l_256, l_400, l_1000, l_30000, l_1200, l_65536, l_2147483639, l_2147483647, ob_some, obd_some, q_lt_t, q_lt_f, q_le_t, q_le_f, q_eq_t, q_eq_f, im_ne, im_ne', im_lt, im_le, im_lt', im_le', i_add, i_mul, i_dec, i_dec0, i_sub, i_and, i_shr, i_div, nar_b0, nar_b1, b2i_t, b2i_f, gA1, pA1, gB2, pB2, gA3, pA3, gA4, pA4, gB5, pB5, gA6, pA6, gA7, pA7, gA8, pA8, gA9, pA9, gA10, pA10, gA11, pA11, gA12, pA12, gA13, pA13, gA14, pA14, gA15, pA15, gA16, pA16, gA17, pA17, gA18, pA18, gA19, pA19, gA20, pA20, gA21, pA21, gA40, pA40, gB43, pB43, gA44, pA44, gA45, pA45, gA46, pA46, gA47, pA47, gA48, pA48, gA49, pA49, gA53, pA53, gA54, pA54, gA55, pA55, gA56, pA56, gA58, pA58, gA60, pA60, gA61, pA61, gA62, pA62, gA63, pA63, gA66, pA66, ↓reduceIte, if_true, if_false, e19, h19, e14, a, h51, r_mI_sA, mA_same, e15, ap]
        rw [← ek]
        exact r
theorem M_typeOf {M : MS} {t c k k' : Nat} {l : List Tt} (ht : t < 17) (hc : c < 8) (h18 : m_A M 18 (8 * t + c) = i_ k) (h19 : m_A M 19 (8 * t + c) = i_ k') (hk' : k' ≤ 400) (hlen : m_J M 38 = enc [108, 101, 110]) (hT : TPl M t k l k') (hO : OKd 0 l) :
    ∃ N' x, (evl l ([Lv0], [])).1 = [x] ∧ x.1 < 128 ∧ f_X3_typeOf (i_ t) (i_ c) M = some (i_ x.1, N') ∧ MTy M N' ∧ ErR M N' (evl l ([Lv0], [])).2 := by
  have hle := TPl_le _ _ _ hT
  unfold f_X3_typeOf
  simp (disch := omega) only [l_m1, l_m2, l_0, l_1, l_2, l_3, l_4, l_5, l_6, l_7, l_8, l_9, l_10, l_11, l_12, l_13, l_14, l_15, l_16, l_17, l_18, l_19, l_20, l_21, l_22, l_23, l_24, l_25, l_26, l_27, l_28, l_29, l_30, l_31, l_32, l_33, l_34, l_35, l_36, l_37, l_38, l_39, l_40, l_41, l_42, l_43, l_44, l_45, l_46, l_47, l_48, l_49, l_50, l_51, l_52, l_53, l_54, l_55, l_56, l_57, l_58, l_59, l_60, l_61, l_62, l_63, l_64, l_97, l_100, l_110, l_115, l_116, l_120, l_122, l_127, l_128, l_136, l_140, l_200, l_255, l_256, l_400, l_1000, l_30000, l_1200, l_65536, l_2147483639, l_2147483647, ob_some, obd_some, q_lt_t, q_lt_f, q_le_t, q_le_f, q_eq_t, q_eq_f, im_ne, im_ne', im_lt, im_le, im_lt', im_le', i_add, i_mul, i_dec, i_dec0, i_sub, i_and, i_shr, i_div, nar_b0, nar_b1, b2i_t, b2i_f, gA1, pA1, gB2, pB2, gA3, pA3, gA4, pA4, gB5, pB5, gA6, pA6, gA7, pA7, gA8, pA8, gA9, pA9, gA10, pA10, gA11, pA11, gA12, pA12, gA13, pA13, gA14, pA14, gA15, pA15, gA16, pA16, gA17, pA17, gA18, pA18, gA19, pA19, gA20, pA20, gA21, pA21, gA40, pA40, gB43, pB43, gA44, pA44, gA45, pA45, gA46, pA46, gA47, pA47, gA48, pA48, gA49, pA49, gA53, pA53, gA54, pA54, gA55, pA55, gA56, pA56, gA58, pA58, gA60, pA60, gA61, pA61, gA62, pA62, gA63, pA63, gA66, pA66, ↓reduceIte, if_true, if_false, mA_same, r_mA_sI, h18]
  have hm : MTy M (m_sA (m_sA (m_sI M 51 (i_ 0)) 45 0 (i_ 0)) 46 0 (i_ 0)) := ((MTy.sI (by decide)).tr (MTy.sA (by decide))).tr (MTy.sA (by decide))
  exact M_typeOf_l ht hc h19 hk' hlen l k fu_ _ [Lv0] [] hm hT hO ⟨⟨⟨by decide, by decide, by decide⟩, by rw [mA_same (by decide)]; exact mA_on, mA_on, fun q => absurd rfl q, fun q => absurd rfl q⟩, trivial⟩ (by decide) (by decide) (mI_on (M := M) (k := 51) (x := i_ 0)) (ErR.nil (mI_off (M := M) (k := 51) (j := 50) (x := i_ 0) (by decide)) (mI_off (M := M) (k := 51) (j := 25) (x := i_ 0) (by decide)) (mI_off (M := M) (k := 51) (j := 26) (x := i_ 0) (by decide))) (by rw [fu_eq]; omega)
