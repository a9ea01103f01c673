/-! the reference's marks; words and formulas of its tables -/
def m_mk (M : MS) (mk : Nat → Bool) : MS := m_row M 56 (fun i => if i < 136 then b2i (mk i) else m_A M 56 i)
theorem mk_A {M : MS} {mk : Nat → Bool} {k : Nat} (h : k ≠ 56) : m_A (m_mk M mk) k = m_A M k := row_off h
theorem mk_B (M : MS) (mk : Nat → Bool) : m_B (m_mk M mk) = m_B M := rfl
theorem mk_J (M : MS) (mk : Nat → Bool) : m_J (m_mk M mk) = m_J M := rfl
theorem mk_I (M : MS) (mk : Nat → Bool) : m_I (m_mk M mk) = m_I M := rfl
theorem mk_get {M : MS} {mk : Nat → Bool} {v : Nat} (h : v < 136) : m_A (m_mk M mk) 56 v = b2i (mk v) := by
  unfold m_mk
  rw [row_on, if_pos h]
def mk_up (mk : Nat → Bool) (v : Nat) : Nat → Bool := fun i => decide (i = v) || mk i
theorem mk_set {M : MS} {mk : Nat → Bool} {v : Nat} (h : v < 136) : m_sA (m_mk M mk) 56 v (i_ 1) = m_mk M (mk_up mk v) := by
  unfold m_mk
  rw [row_set]
  congr 1
  funext i
  unfold h_up mk_up
  by_cases e : i = v
  · subst e
    simp [h]
    rfl
  · simp [e]
theorem mk_mk (M : MS) (a b : Nat → Bool) : m_mk (m_mk M a) b = m_mk M b := by
  unfold m_mk
  rw [row_row]
  congr 1
  funext i
  by_cases e : i < 136
  · rw [if_pos e, if_pos e]
  · rw [if_neg e, if_neg e, row_on, if_neg e]
theorem M_clears_l {M : MS} : ∀ (r k n : Nat) (f : Nat → Int32), k + r = 136 → r < n → f_X3_clears_n2 n (i_ k) (m_row M 56 f) = some (m_row M 56 (fun i => if k ≤ i ∧ i < 136 then i_ 0 else f i)) := by
  intro r
  induction r with
  | zero =>
    intro k n f hk hn
    obtain ⟨n, rfl⟩ : ∃ m, n = m + 1 := ⟨n - 1, by omega⟩
    unfold f_X3_clears_n2
    simp (disch := omega) only [l_m1, l_m2, l_0, l_1, l_2, l_3, l_4, l_5, l_6, l_7, l_8, l_9, l_10, l_11, l_12, l_13, l_14, l_15, l_16, l_17, l_18, l_19, l_20, l_21, l_22, l_23, l_24, l_25, l_26, l_27, l_28, l_29, l_30, l_31, l_32, l_33, l_34, l_35, l_36, l_37, l_38, l_39, l_40, l_41, l_42, l_43, l_44, l_45, l_46, l_47, l_48, l_49, l_50, l_51, l_52, l_53, l_54, l_55, l_56, l_57, l_58, l_59, l_60, l_61, l_62, l_63, l_64, l_97, l_100, l_110, l_115, l_116, l_120, l_122, l_127, l_128, l_136, l_140, l_200, l_255, l_256, l_400, l_1000, l_30000, l_1200, l_65536, l_2147483639, l_2147483647, ob_some, obd_some, q_lt_t, q_lt_f, q_le_t, q_le_f, q_eq_t, q_eq_f, im_ne, im_ne', im_lt, im_le, im_lt', im_le', i_add, i_mul, i_dec, i_dec0, i_sub, i_and, i_shr, i_div, nar_b0, nar_b1, b2i_t, b2i_f, gA1, pA1, gB2, pB2, gA3, pA3, gA4, pA4, gB5, pB5, gA6, pA6, gA7, pA7, gA8, pA8, gA9, pA9, gA10, pA10, gA11, pA11, gA12, pA12, gA13, pA13, gA14, pA14, gA15, pA15, gA16, pA16, gA17, pA17, gA18, pA18, gA19, pA19, gA20, pA20, gA21, pA21, gA40, pA40, gB43, pB43, gA44, pA44, gA45, pA45, gA46, pA46, gA47, pA47, gA48, pA48, gA49, pA49, gA53, pA53, gA54, pA54, gA55, pA55, gA56, pA56, gA58, pA58, gA60, pA60, gA61, pA61, gA62, pA62, gA63, pA63, gA66, pA66, ↓reduceIte, if_true, if_false]
    congr 2
    funext i
    rw [if_neg (by omega)]
  | succ r ih =>
    intro k n f hk hn
    obtain ⟨n, rfl⟩ : ∃ m, n = m + 1 := ⟨n - 1, by omega⟩
    unfold f_X3_clears_n2
    simp (disch := omega) only [l_m1, l_m2, l_0, l_1, l_2, l_3, l_4, l_5, l_6, l_7, l_8, l_9, l_10, l_11, l_12, l_13, l_14, l_15, l_16, l_17, l_18, l_19, l_20, l_21, l_22, l_23, l_24, l_25, l_26, l_27, l_28, l_29, l_30, l_31, l_32, l_33, l_34, l_35, l_36, l_37, l_38, l_39, l_40, l_41, l_42, l_43, l_44, l_45, l_46, l_47, l_48, l_49, l_50, l_51, l_52, l_53, l_54, l_55, l_56, l_57, l_58, l_59, l_60, l_61, l_62, l_63, l_64, l_97, l_100, l_110, l_115, l_116, l_120, l_122, l_127, l_128, l_136, l_140, l_200, l_255, l_256, l_400, l_1000, l_30000, l_1200, l_65536, l_2147483639, l_2147483647, ob_some, obd_some, q_lt_t, q_lt_f, q_le_t, q_le_f, q_eq_t, q_eq_f, im_ne, im_ne', im_lt, im_le, im_lt', im_le', i_add, i_mul, i_dec, i_dec0, i_sub, i_and, i_shr, i_div, nar_b0, nar_b1, b2i_t, b2i_f, gA1, pA1, gB2, pB2, gA3, pA3, gA4, pA4, gB5, pB5, gA6, pA6, gA7, pA7, gA8, pA8, gA9, pA9, gA10, pA10, gA11, pA11, gA12, pA12, gA13, pA13, gA14, pA14, gA15, pA15, gA16, pA16, gA17, pA17, gA18, pA18, gA19, pA19, gA20, pA20, gA21, pA21, gA40, pA40, gB43, pB43, gA44, pA44, gA45, pA45, gA46, pA46, gA47, pA47, gA48, pA48, gA49, pA49, gA53, pA53, gA54, pA54, gA55, pA55, gA56, pA56, gA58, pA58, gA60, pA60, gA61, pA61, gA62, pA62, gA63, pA63, gA66, pA66, ↓reduceIte, if_true, if_false, row_set]
    rw [ih (k + 1) n _ (by omega) (by omega)]
    congr 2
    funext i
    unfold h_up
    by_cases e : i = k
    · subst e
      rw [if_neg (by omega), if_pos rfl, if_pos (by omega)]
    · by_cases e2 : k ≤ i ∧ i < 136
      · rw [if_pos (by omega), if_pos e2]
      · rw [if_neg (by omega), if_neg e, if_neg e2]
theorem M_clears (M : MS) : f_X3_clears M = some (m_mk M (fun _ => false)) := by
  unfold f_X3_clears
  have h := M_clears_l (M := M) 136 0 fu_ (m_A M 56) rfl (by rw [fu_eq]; omega)
  rw [row_self] at h
  rw [l_0, h]
  unfold m_mk
  refine congrArg some (congrArg (m_row M 56) (funext fun i => ?_))
  by_cases e : i < 136
  · rw [if_pos (by omega), if_pos e]
    rfl
  · rw [if_neg (by omega), if_neg e]
theorem RMa.mk {M : MS} {s : SP} (h : RMa M s) (mk : Nat → Bool) : RMa (m_mk M mk) s := h.row (by decide) _
/-- a token's letters -/
def Wd_ (M : MS) (t k : Nat) (w : List Nat) : Prop := m_A M 16 (400 * t + k) = i_ w.length ∧ (w.length ≤ 8 ∧ ∀ x ∈ w, isL x) ∧ ∃ p, m_A M 15 (400 * t + k) = i_ p ∧ p + w.length ≤ 400 ∧ ∀ i, i < w.length → m_A M 17 (400 * t + p + i) = i_ (w.getD i 0)
theorem i64_of {x : Nat} (h : x < 2147483648) : Int32.toInt64 (i_ x) = Int64.ofNat x := by
  apply Int64.toInt_inj.mp
  rw [Int32.toInt_toInt64, i_toInt h, Int64.toInt_ofNat_of_lt (by omega)]
theorem enc_take {w : List Nat} {j : Nat} (h : j < w.length) : enc (w.take (j + 1)) = 27 * enc (w.take j) + Int64.ofNat (w.getD j 0) - 97 + 1 := by
  rw [List.take_succ, List.getElem?_eq_getElem h, List.getD_eq_getElem?_getD, List.getElem?_eq_getElem h]
  exact enc_snoc _ _
theorem getD_mem {w : List Nat} {j : Nat} (h : j < w.length) : w.getD j 0 ∈ w := by
  rw [List.getD_eq_getElem?_getD, List.getElem?_eq_getElem h]
  exact List.getElem_mem h
theorem M_wordOf_l {M : MS} {t k : Nat} {w : List Nat} (ht : t < 17) (hk : k < 400) (h : Wd_ M t k w) : ∀ (r j n : Nat), j + r = w.length → r < n → f_X3_wordOf_n14 n (i_ t) (enc (w.take j)) (i_ (400 * t + k)) (i_ j) M = some (enc w, M) := by
  obtain ⟨h1, ⟨h2, h3⟩, p, h4, h5, h6⟩ := h
  intro r
  induction r with
  | zero =>
    intro j n hj hn
    obtain ⟨n, rfl⟩ : ∃ m, n = m + 1 := ⟨n - 1, by omega⟩
    unfold f_X3_wordOf_n14
    simp (disch := omega) only [l_m1, l_m2, l_0, l_1, l_2, l_3, l_4, l_5, l_6, l_7, l_8, l_9, l_10, l_11, l_12, l_13, l_14, l_15, l_16, l_17, l_18, l_19, l_20, l_21, l_22, l_23, l_24, l_25, l_26, l_27, l_28, l_29, l_30, l_31, l_32, l_33, l_34, l_35, l_36, l_37, l_38, l_39, l_40, l_41, l_42, l_43, l_44, l_45, l_46, l_47, l_48, l_49, l_50, l_51, l_52, l_53, l_54, l_55, l_56, l_57, l_58, l_59, l_60, l_61, l_62, l_63, l_64, l_97, l_100, l_110, l_115, l_116, l_120, l_122, l_127, l_128, l_136, l_140, l_200, l_255, l_256, l_400, l_1000, l_30000, l_1200, l_65536, l_2147483639, l_2147483647, ob_some, obd_some, q_lt_t, q_lt_f, q_le_t, q_le_f, q_eq_t, q_eq_f, im_ne, im_ne', im_lt, im_le, im_lt', im_le', i_add, i_mul, i_dec, i_dec0, i_sub, i_and, i_shr, i_div, nar_b0, nar_b1, b2i_t, b2i_f, gA1, pA1, gB2, pB2, gA3, pA3, gA4, pA4, gB5, pB5, gA6, pA6, gA7, pA7, gA8, pA8, gA9, pA9, gA10, pA10, gA11, pA11, gA12, pA12, gA13, pA13, gA14, pA14, gA15, pA15, gA16, pA16, gA17, pA17, gA18, pA18, gA19, pA19, gA20, pA20, gA21, pA21, gA40, pA40, gB43, pB43, gA44, pA44, gA45, pA45, gA46, pA46, gA47, pA47, gA48, pA48, gA49, pA49, gA53, pA53, gA54, pA54, gA55, pA55, gA56, pA56, gA58, pA58, gA60, pA60, gA61, pA61, gA62, pA62, gA63, pA63, gA66, pA66, ↓reduceIte, if_true, if_false, h1]
    rw [List.take_of_length_le (by omega)]
  | succ r ih =>
    intro j n hj hn
    obtain ⟨n, rfl⟩ : ∃ m, n = m + 1 := ⟨n - 1, by omega⟩
    unfold f_X3_wordOf_n14
    have h7 := h3 _ (getD_mem (show j < w.length by omega))
    simp (disch := omega) only [l_m1, l_m2, l_0, l_1, l_2, l_3, l_4, l_5, l_6, l_7, l_8, l_9, l_10, l_11, l_12, l_13, l_14, l_15, l_16, l_17, l_18, l_19, l_20, l_21, l_22, l_23, l_24, l_25, l_26, l_27, l_28, l_29, l_30, l_31, l_32, l_33, l_34, l_35, l_36, l_37, l_38, l_39, l_40, l_41, l_42, l_43, l_44, l_45, l_46, l_47, l_48, l_49, l_50, l_51, l_52, l_53, l_54, l_55, l_56, l_57, l_58, l_59, l_60, l_61, l_62, l_63, l_64, l_97, l_100, l_110, l_115, l_116, l_120, l_122, l_127, l_128, l_136, l_140, l_200, l_255, l_256, l_400, l_1000, l_30000, l_1200, l_65536, l_2147483639, l_2147483647, ob_some, obd_some, q_lt_t, q_lt_f, q_le_t, q_le_f, q_eq_t, q_eq_f, im_ne, im_ne', im_lt, im_le, im_lt', im_le', i_add, i_mul, i_dec, i_dec0, i_sub, i_and, i_shr, i_div, nar_b0, nar_b1, b2i_t, b2i_f, gA1, pA1, gB2, pB2, gA3, pA3, gA4, pA4, gB5, pB5, gA6, pA6, gA7, pA7, gA8, pA8, gA9, pA9, gA10, pA10, gA11, pA11, gA12, pA12, gA13, pA13, gA14, pA14, gA15, pA15, gA16, pA16, gA17, pA17, gA18, pA18, gA19, pA19, gA20, pA20, gA21, pA21, gA40, pA40, gB43, pB43, gA44, pA44, gA45, pA45, gA46, pA46, gA47, pA47, gA48, pA48, gA49, pA49, gA53, pA53, gA54, pA54, gA55, pA55, gA56, pA56, gA58, pA58, gA60, pA60, gA61, pA61, gA62, pA62, gA63, pA63, gA66, pA66, ↓reduceIte, if_true, if_false, h1, h4, h6]
    rw [i64_of (by have := h7.2; omega), ← enc_take (by omega)]
    exact ih (j + 1) n (by omega) (by omega)
theorem M_wordOf {M : MS} {t k : Nat} {w : List Nat} (ht : t < 17) (hk : k < 400) (h : Wd_ M t k w) : f_X3_wordOf (i_ t) (i_ k) M = some (enc w, M) := by
  unfold f_X3_wordOf
  simp (disch := omega) only [l_m1, l_m2, l_0, l_1, l_2, l_3, l_4, l_5, l_6, l_7, l_8, l_9, l_10, l_11, l_12, l_13, l_14, l_15, l_16, l_17, l_18, l_19, l_20, l_21, l_22, l_23, l_24, l_25, l_26, l_27, l_28, l_29, l_30, l_31, l_32, l_33, l_34, l_35, l_36, l_37, l_38, l_39, l_40, l_41, l_42, l_43, l_44, l_45, l_46, l_47, l_48, l_49, l_50, l_51, l_52, l_53, l_54, l_55, l_56, l_57, l_58, l_59, l_60, l_61, l_62, l_63, l_64, l_97, l_100, l_110, l_115, l_116, l_120, l_122, l_127, l_128, l_136, l_140, l_200, l_255, l_256, l_400, l_1000, l_30000, l_1200, l_65536, l_2147483639, l_2147483647, ob_some, obd_some, q_lt_t, q_lt_f, q_le_t, q_le_f, q_eq_t, q_eq_f, im_ne, im_ne', im_lt, im_le, im_lt', im_le', i_add, i_mul, i_dec, i_dec0, i_sub, i_and, i_shr, i_div, nar_b0, nar_b1, b2i_t, b2i_f, gA1, pA1, gB2, pB2, gA3, pA3, gA4, pA4, gB5, pB5, gA6, pA6, gA7, pA7, gA8, pA8, gA9, pA9, gA10, pA10, gA11, pA11, gA12, pA12, gA13, pA13, gA14, pA14, gA15, pA15, gA16, pA16, gA17, pA17, gA18, pA18, gA19, pA19, gA20, pA20, gA21, pA21, gA40, pA40, gB43, pB43, gA44, pA44, gA45, pA45, gA46, pA46, gA47, pA47, gA48, pA48, gA49, pA49, gA53, pA53, gA54, pA54, gA55, pA55, gA56, pA56, gA58, pA58, gA60, pA60, gA61, pA61, gA62, pA62, gA63, pA63, gA66, pA66, ↓reduceIte, if_true, if_false]
  exact M_wordOf_l ht hk h w.length 0 fu_ (by omega) (by have := h.2.1.1; rw [fu_eq]; omega)
def nmok (w : List Nat) : Prop := w.length ≤ 8 ∧ ∀ x ∈ w, isL x
def oi (o : Option Nat) : Int32 := match o with
  | some q => i_ q
  | none => i_m
theorem cmp_0 (a b : Int64) : (lg_cmp a b = i_ 0) = (a = b) := by
  unfold lg_cmp
  by_cases h : a > b
  · rw [if_pos h]
    refine propext ⟨fun e => absurd e (by decide), fun e => ?_⟩
    rw [e] at h
    exact (Int64.lt_irrefl h).elim
  · rw [if_neg h]
    by_cases e : a = b
    · rw [if_pos e]
      exact propext ⟨fun _ => e, fun _ => rfl⟩
    · rw [if_neg e]
      exact propext ⟨fun k => absurd k (by decide), fun k => absurd k e⟩
/-- the place that the reference finds behind a table's from -/
def bnf (nm : Nat → List Nat) (fx : Nat → Option Nat) (w : List Nat) : Nat → Nat → Option Nat
  | _, 0 => none
  | k, r + 1 => match fx k with
    | some q => if nm q = w then some q else bnf nm fx w (k + 1) r
    | none => bnf nm fx w (k + 1) r
theorem M_behindNamed_l {M : MS} {t nb : Nat} {nm : Nat → List Nat} {fx : Nat → Option Nat} {w : List Nat} (ht : t < 17) (h7 : m_A M 7 t = i_ nb) (hnb : nb ≤ 3) (h8 : ∀ k, k < nb → m_A M 8 (3 * t + k) = oi (fx k)) (h9 : ∀ k q, k < nb → fx k = some q → q < 17 ∧ m_B M 2 q = enc (nm q) ∧ nmok (nm q)) (hw : nmok w) :
    ∀ (r k n : Nat), k + r = nb → r < n → f_X3_behindNamed_n3 n (i_ t) (enc w) (i_ k) M = some (oi (bnf nm fx w k r), M) := by
  intro r
  induction r with
  | zero =>
    intro k n hk hn
    obtain ⟨n, rfl⟩ : ∃ m, n = m + 1 := ⟨n - 1, by omega⟩
    unfold f_X3_behindNamed_n3
    simp (disch := omega) only [l_m1, l_m2, l_0, l_1, l_2, l_3, l_4, l_5, l_6, l_7, l_8, l_9, l_10, l_11, l_12, l_13, l_14, l_15, l_16, l_17, l_18, l_19, l_20, l_21, l_22, l_23, l_24, l_25, l_26, l_27, l_28, l_29, l_30, l_31, l_32, l_33, l_34, l_35, l_36, l_37, l_38, l_39, l_40, l_41, l_42, l_43, l_44, l_45, l_46, l_47, l_48, l_49, l_50, l_51, l_52, l_53, l_54, l_55, l_56, l_57, l_58, l_59, l_60, l_61, l_62, l_63, l_64, l_97, l_100, l_110, l_115, l_116, l_120, l_122, l_127, l_128, l_136, l_140, l_200, l_255, l_256, l_400, l_1000, l_30000, l_1200, l_65536, l_2147483639, l_2147483647, ob_some, obd_some, q_lt_t, q_lt_f, q_le_t, q_le_f, q_eq_t, q_eq_f, im_ne, im_ne', im_lt, im_le, im_lt', im_le', i_add, i_mul, i_dec, i_dec0, i_sub, i_and, i_shr, i_div, nar_b0, nar_b1, b2i_t, b2i_f, gA1, pA1, gB2, pB2, gA3, pA3, gA4, pA4, gB5, pB5, gA6, pA6, gA7, pA7, gA8, pA8, gA9, pA9, gA10, pA10, gA11, pA11, gA12, pA12, gA13, pA13, gA14, pA14, gA15, pA15, gA16, pA16, gA17, pA17, gA18, pA18, gA19, pA19, gA20, pA20, gA21, pA21, gA40, pA40, gB43, pB43, gA44, pA44, gA45, pA45, gA46, pA46, gA47, pA47, gA48, pA48, gA49, pA49, gA53, pA53, gA54, pA54, gA55, pA55, gA56, pA56, gA58, pA58, gA60, pA60, gA61, pA61, gA62, pA62, gA63, pA63, gA66, pA66, ↓reduceIte, if_true, if_false, h7]
    rfl
  | succ r ih =>
    intro k n hk hn
    obtain ⟨n, rfl⟩ : ∃ m, n = m + 1 := ⟨n - 1, by omega⟩
    unfold f_X3_behindNamed_n3 bnf
    have e8 := h8 k (by omega)
    cases hf : fx k with
    | none =>
      rw [hf] at e8
      have e8' : m_A M 8 (3 * t + k) = i_m := e8
      simp (disch := omega) only [l_m1, l_m2, l_0, l_1, l_2, l_3, l_4, l_5, l_6, l_7, l_8, l_9, l_10, l_11, l_12, l_13, l_14, l_15, l_16, l_17, l_18, l_19, l_20, l_21, l_22, l_23, l_24, l_25, l_26, l_27, l_28, l_29, l_30, l_31, l_32, l_33, l_34, l_35, l_36, l_37, l_38, l_39, l_40, l_41, l_42, l_43, l_44, l_45, l_46, l_47, l_48, l_49, l_50, l_51, l_52, l_53, l_54, l_55, l_56, l_57, l_58, l_59, l_60, l_61, l_62, l_63, l_64, l_97, l_100, l_110, l_115, l_116, l_120, l_122, l_127, l_128, l_136, l_140, l_200, l_255, l_256, l_400, l_1000, l_30000, l_1200, l_65536, l_2147483639, l_2147483647, ob_some, obd_some, q_lt_t, q_lt_f, q_le_t, q_le_f, q_eq_t, q_eq_f, im_ne, im_ne', im_lt, im_le, im_lt', im_le', i_add, i_mul, i_dec, i_dec0, i_sub, i_and, i_shr, i_div, nar_b0, nar_b1, b2i_t, b2i_f, gA1, pA1, gB2, pB2, gA3, pA3, gA4, pA4, gB5, pB5, gA6, pA6, gA7, pA7, gA8, pA8, gA9, pA9, gA10, pA10, gA11, pA11, gA12, pA12, gA13, pA13, gA14, pA14, gA15, pA15, gA16, pA16, gA17, pA17, gA18, pA18, gA19, pA19, gA20, pA20, gA21, pA21, gA40, pA40, gB43, pB43, gA44, pA44, gA45, pA45, gA46, pA46, gA47, pA47, gA48, pA48, gA49, pA49, gA53, pA53, gA54, pA54, gA55, pA55, gA56, pA56, gA58, pA58, gA60, pA60, gA61, pA61, gA62, pA62, gA63, pA63, gA66, pA66, ↓reduceIte, if_true, if_false, h7, e8']
      exact ih (k + 1) n (by omega) (by omega)
    | some q =>
      rw [hf] at e8
      have e8' : m_A M 8 (3 * t + k) = i_ q := e8
      obtain ⟨b1, b2, b3⟩ := h9 k q (by omega) hf
      by_cases e : nm q = w
      · have e2 : (enc (nm q) = enc w) = True := eq_true (congrArg enc e)
        simp (disch := omega) only [l_m1, l_m2, l_0, l_1, l_2, l_3, l_4, l_5, l_6, l_7, l_8, l_9, l_10, l_11, l_12, l_13, l_14, l_15, l_16, l_17, l_18, l_19, l_20, l_21, l_22, l_23, l_24, l_25, l_26, l_27, l_28, l_29, l_30, l_31, l_32, l_33, l_34, l_35, l_36, l_37, l_38, l_39, l_40, l_41, l_42, l_43, l_44, l_45, l_46, l_47, l_48, l_49, l_50, l_51, l_52, l_53, l_54, l_55, l_56, l_57, l_58, l_59, l_60, l_61, l_62, l_63, l_64, l_97, l_100, l_110, l_115, l_116, l_120, l_122, l_127, l_128, l_136, l_140, l_200, l_255, l_256, l_400, l_1000, l_30000, l_1200, l_65536, l_2147483639, l_2147483647, ob_some, obd_some, q_lt_t, q_lt_f, q_le_t, q_le_f, q_eq_t, q_eq_f, im_ne, im_ne', im_lt, im_le, im_lt', im_le', i_add, i_mul, i_dec, i_dec0, i_sub, i_and, i_shr, i_div, nar_b0, nar_b1, b2i_t, b2i_f, gA1, pA1, gB2, pB2, gA3, pA3, gA4, pA4, gB5, pB5, gA6, pA6, gA7, pA7, gA8, pA8, gA9, pA9, gA10, pA10, gA11, pA11, gA12, pA12, gA13, pA13, gA14, pA14, gA15, pA15, gA16, pA16, gA17, pA17, gA18, pA18, gA19, pA19, gA20, pA20, gA21, pA21, gA40, pA40, gB43, pB43, gA44, pA44, gA45, pA45, gA46, pA46, gA47, pA47, gA48, pA48, gA49, pA49, gA53, pA53, gA54, pA54, gA55, pA55, gA56, pA56, gA58, pA58, gA60, pA60, gA61, pA61, gA62, pA62, gA63, pA63, gA66, pA66, ↓reduceIte, if_true, if_false, h7, e8', b2, cmp_0, e2]
        simp [e, oi]
      · have e2 : (enc (nm q) = enc w) = False := eq_false (fun k => e ((enc_inj b3.1 hw.1 b3.2 hw.2).mp k))
        simp (disch := omega) only [l_m1, l_m2, l_0, l_1, l_2, l_3, l_4, l_5, l_6, l_7, l_8, l_9, l_10, l_11, l_12, l_13, l_14, l_15, l_16, l_17, l_18, l_19, l_20, l_21, l_22, l_23, l_24, l_25, l_26, l_27, l_28, l_29, l_30, l_31, l_32, l_33, l_34, l_35, l_36, l_37, l_38, l_39, l_40, l_41, l_42, l_43, l_44, l_45, l_46, l_47, l_48, l_49, l_50, l_51, l_52, l_53, l_54, l_55, l_56, l_57, l_58, l_59, l_60, l_61, l_62, l_63, l_64, l_97, l_100, l_110, l_115, l_116, l_120, l_122, l_127, l_128, l_136, l_140, l_200, l_255, l_256, l_400, l_1000, l_30000, l_1200, l_65536, l_2147483639, l_2147483647, ob_some, obd_some, q_lt_t, q_lt_f, q_le_t, q_le_f, q_eq_t, q_eq_f, im_ne, im_ne', im_lt, im_le, im_lt', im_le', i_add, i_mul, i_dec, i_dec0, i_sub, i_and, i_shr, i_div, nar_b0, nar_b1, b2i_t, b2i_f, gA1, pA1, gB2, pB2, gA3, pA3, gA4, pA4, gB5, pB5, gA6, pA6, gA7, pA7, gA8, pA8, gA9, pA9, gA10, pA10, gA11, pA11, gA12, pA12, gA13, pA13, gA14, pA14, gA15, pA15, gA16, pA16, gA17, pA17, gA18, pA18, gA19, pA19, gA20, pA20, gA21, pA21, gA40, pA40, gB43, pB43, gA44, pA44, gA45, pA45, gA46, pA46, gA47, pA47, gA48, pA48, gA49, pA49, gA53, pA53, gA54, pA54, gA55, pA55, gA56, pA56, gA58, pA58, gA60, pA60, gA61, pA61, gA62, pA62, gA63, pA63, gA66, pA66, ↓reduceIte, if_true, if_false, h7, e8', b2, cmp_0, e2]
        simp only [if_neg e]
        exact ih (k + 1) n (by omega) (by omega)
theorem M_behindNamed {M : MS} {t nb : Nat} {nm : Nat → List Nat} {fx : Nat → Option Nat} {w : List Nat} (ht : t < 17) (h7 : m_A M 7 t = i_ nb) (hnb : nb ≤ 3) (h8 : ∀ k, k < nb → m_A M 8 (3 * t + k) = oi (fx k)) (h9 : ∀ k q, k < nb → fx k = some q → q < 17 ∧ m_B M 2 q = enc (nm q) ∧ nmok (nm q)) (hw : nmok w) :
    f_X3_behindNamed (i_ t) (enc w) M = some (oi (bnf nm fx w 0 nb), M) := by
  unfold f_X3_behindNamed
  rw [l_0]
  exact M_behindNamed_l ht h7 hnb h8 h9 hw nb 0 fu_ (by omega) (by rw [fu_eq]; omega)
def cnf (cn : Nat → List Nat) (w : List Nat) : Nat → Nat → Option Nat
  | _, 0 => none
  | k, r + 1 => if cn k = w then some k else cnf cn w (k + 1) r
theorem M_columnNamed_l {M : MS} {t nc : Nat} {cn : Nat → List Nat} {w : List Nat} (ht : t < 17) (h4 : m_A M 4 t = i_ nc) (hnc : nc ≤ 6) (h5 : ∀ k, k < nc → m_B M 5 (8 * t + k) = enc (cn k) ∧ nmok (cn k)) (hw : nmok w) :
    ∀ (r k n : Nat), k + r = nc → r < n → f_X3_columnNamed_n3 n (i_ t) (enc w) (i_ k) M = some (oi (cnf cn w k r), M) := by
  intro r
  induction r with
  | zero =>
    intro k n hk hn
    obtain ⟨n, rfl⟩ : ∃ m, n = m + 1 := ⟨n - 1, by omega⟩
    unfold f_X3_columnNamed_n3
    simp (disch := omega) only [l_m1, l_m2, l_0, l_1, l_2, l_3, l_4, l_5, l_6, l_7, l_8, l_9, l_10, l_11, l_12, l_13, l_14, l_15, l_16, l_17, l_18, l_19, l_20, l_21, l_22, l_23, l_24, l_25, l_26, l_27, l_28, l_29, l_30, l_31, l_32, l_33, l_34, l_35, l_36, l_37, l_38, l_39, l_40, l_41, l_42, l_43, l_44, l_45, l_46, l_47, l_48, l_49, l_50, l_51, l_52, l_53, l_54, l_55, l_56, l_57, l_58, l_59, l_60, l_61, l_62, l_63, l_64, l_97, l_100, l_110, l_115, l_116, l_120, l_122, l_127, l_128, l_136, l_140, l_200, l_255, l_256, l_400, l_1000, l_30000, l_1200, l_65536, l_2147483639, l_2147483647, ob_some, obd_some, q_lt_t, q_lt_f, q_le_t, q_le_f, q_eq_t, q_eq_f, im_ne, im_ne', im_lt, im_le, im_lt', im_le', i_add, i_mul, i_dec, i_dec0, i_sub, i_and, i_shr, i_div, nar_b0, nar_b1, b2i_t, b2i_f, gA1, pA1, gB2, pB2, gA3, pA3, gA4, pA4, gB5, pB5, gA6, pA6, gA7, pA7, gA8, pA8, gA9, pA9, gA10, pA10, gA11, pA11, gA12, pA12, gA13, pA13, gA14, pA14, gA15, pA15, gA16, pA16, gA17, pA17, gA18, pA18, gA19, pA19, gA20, pA20, gA21, pA21, gA40, pA40, gB43, pB43, gA44, pA44, gA45, pA45, gA46, pA46, gA47, pA47, gA48, pA48, gA49, pA49, gA53, pA53, gA54, pA54, gA55, pA55, gA56, pA56, gA58, pA58, gA60, pA60, gA61, pA61, gA62, pA62, gA63, pA63, gA66, pA66, ↓reduceIte, if_true, if_false, h4]
    rfl
  | succ r ih =>
    intro k n hk hn
    obtain ⟨n, rfl⟩ : ∃ m, n = m + 1 := ⟨n - 1, by omega⟩
    unfold f_X3_columnNamed_n3 cnf
    obtain ⟨b2, b3⟩ := h5 k (by omega)
    by_cases e : cn k = w
    · have e2 : (enc (cn k) = enc w) = True := eq_true (congrArg enc e)
      simp (disch := omega) only [l_m1, l_m2, l_0, l_1, l_2, l_3, l_4, l_5, l_6, l_7, l_8, l_9, l_10, l_11, l_12, l_13, l_14, l_15, l_16, l_17, l_18, l_19, l_20, l_21, l_22, l_23, l_24, l_25, l_26, l_27, l_28, l_29, l_30, l_31, l_32, l_33, l_34, l_35, l_36, l_37, l_38, l_39, l_40, l_41, l_42, l_43, l_44, l_45, l_46, l_47, l_48, l_49, l_50, l_51, l_52, l_53, l_54, l_55, l_56, l_57, l_58, l_59, l_60, l_61, l_62, l_63, l_64, l_97, l_100, l_110, l_115, l_116, l_120, l_122, l_127, l_128, l_136, l_140, l_200, l_255, l_256, l_400, l_1000, l_30000, l_1200, l_65536, l_2147483639, l_2147483647, ob_some, obd_some, q_lt_t, q_lt_f, q_le_t, q_le_f, q_eq_t, q_eq_f, im_ne, im_ne', im_lt, im_le, im_lt', im_le', i_add, i_mul, i_dec, i_dec0, i_sub, i_and, i_shr, i_div, nar_b0, nar_b1, b2i_t, b2i_f, gA1, pA1, gB2, pB2, gA3, pA3, gA4, pA4, gB5, pB5, gA6, pA6, gA7, pA7, gA8, pA8, gA9, pA9, gA10, pA10, gA11, pA11, gA12, pA12, gA13, pA13, gA14, pA14, gA15, pA15, gA16, pA16, gA17, pA17, gA18, pA18, gA19, pA19, gA20, pA20, gA21, pA21, gA40, pA40, gB43, pB43, gA44, pA44, gA45, pA45, gA46, pA46, gA47, pA47, gA48, pA48, gA49, pA49, gA53, pA53, gA54, pA54, gA55, pA55, gA56, pA56, gA58, pA58, gA60, pA60, gA61, pA61, gA62, pA62, gA63, pA63, gA66, pA66, ↓reduceIte, if_true, if_false, h4, b2, cmp_0, e2]
      simp [e, oi]
    · have e2 : (enc (cn k) = enc w) = False := eq_false (fun k => e ((enc_inj b3.1 hw.1 b3.2 hw.2).mp k))
      simp (disch := omega) only [l_m1, l_m2, l_0, l_1, l_2, l_3, l_4, l_5, l_6, l_7, l_8, l_9, l_10, l_11, l_12, l_13, l_14, l_15, l_16, l_17, l_18, l_19, l_20, l_21, l_22, l_23, l_24, l_25, l_26, l_27, l_28, l_29, l_30, l_31, l_32, l_33, l_34, l_35, l_36, l_37, l_38, l_39, l_40, l_41, l_42, l_43, l_44, l_45, l_46, l_47, l_48, l_49, l_50, l_51, l_52, l_53, l_54, l_55, l_56, l_57, l_58, l_59, l_60, l_61, l_62, l_63, l_64, l_97, l_100, l_110, l_115, l_116, l_120, l_122, l_127, l_128, l_136, l_140, l_200, l_255, l_256, l_400, l_1000, l_30000, l_1200, l_65536, l_2147483639, l_2147483647, ob_some, obd_some, q_lt_t, q_lt_f, q_le_t, q_le_f, q_eq_t, q_eq_f, im_ne, im_ne', im_lt, im_le, im_lt', im_le', i_add, i_mul, i_dec, i_dec0, i_sub, i_and, i_shr, i_div, nar_b0, nar_b1, b2i_t, b2i_f, gA1, pA1, gB2, pB2, gA3, pA3, gA4, pA4, gB5, pB5, gA6, pA6, gA7, pA7, gA8, pA8, gA9, pA9, gA10, pA10, gA11, pA11, gA12, pA12, gA13, pA13, gA14, pA14, gA15, pA15, gA16, pA16, gA17, pA17, gA18, pA18, gA19, pA19, gA20, pA20, gA21, pA21, gA40, pA40, gB43, pB43, gA44, pA44, gA45, pA45, gA46, pA46, gA47, pA47, gA48, pA48, gA49, pA49, gA53, pA53, gA54, pA54, gA55, pA55, gA56, pA56, gA58, pA58, gA60, pA60, gA61, pA61, gA62, pA62, gA63, pA63, gA66, pA66, ↓reduceIte, if_true, if_false, h4, b2, cmp_0, e2]
      simp only [if_neg e]
      exact ih (k + 1) n (by omega) (by omega)
theorem M_columnNamed {M : MS} {t nc : Nat} {cn : Nat → List Nat} {w : List Nat} (ht : t < 17) (h4 : m_A M 4 t = i_ nc) (hnc : nc ≤ 6) (h5 : ∀ k, k < nc → m_B M 5 (8 * t + k) = enc (cn k) ∧ nmok (cn k)) (hw : nmok w) :
    f_X3_columnNamed (i_ t) (enc w) M = some (oi (cnf cn w 0 nc), M) := by
  unfold f_X3_columnNamed
  rw [l_0]
  exact M_columnNamed_l ht h4 hnc h5 hw nc 0 fu_ (by omega) (by rw [fu_eq]; omega)
