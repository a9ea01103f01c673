/-! formulas of the reference's tables: names, what they use -/
abbrev Tk : Type := Nat × Nat × Nat
def FT1 (M : MS) (s : SP) (t k : Nat) (x : Tk) (k' : Nat) : Prop :=
  (x.1 = 0 ∧ m_A M 14 (400 * t + k) = i_ 2 ∧ k' = k + 1) ∨ (x.1 = 1 ∧ m_A M 14 (400 * t + k) = i_ 3 ∧ k' = k + 1) ∨
  (x.1 = 2 ∧ m_A M 14 (400 * t + k) = i_ 1 ∧ m_A M 14 (400 * t + k + 1) = i_ 46 ∧ k' = k + 3 ∧ ∃ q c, x.2.1 = 8 * q + c ∧ q < t ∧ c < z_nc s q ∧ z_nc s q ≤ 6 ∧ (∃ j, j < z_nb s t ∧ z_fr s t j = q) ∧ Wd_ M t k (z_nm s q) ∧ Wd_ M t (k + 2) (z_cn s q c)) ∨
  (x.1 = 3 ∧ m_A M 14 (400 * t + k) = i_ 1 ∧ m_A M 14 (400 * t + k + 1) = i_ 40 ∧ k' = k + 2 ∧ m_A M 15 (400 * t + k) = i_ x.2.2 ∧ ((x.2.1 = 116 ∧ Wd_ M t k [108, 101, 110]) ∨ (x.2.1 = 110 ∧ Wd_ M t k [115, 116, 114]))) ∨
  (x.1 = 4 ∧ m_A M 14 (400 * t + k) = i_ 41 ∧ k' = k + 1) ∨
  (x.1 = 5 ∧ m_A M 14 (400 * t + k) = i_ x.2.1 ∧ (x.2.1 = 43 ∨ x.2.1 = 45 ∨ x.2.1 = 38) ∧ m_A M 15 (400 * t + k) = i_ x.2.2 ∧ k' = k + 1)
def FT (M : MS) (s : SP) (t : Nat) : Nat → List Tk → Nat → Prop
  | k, [], k' => k = k'
  | k, x :: l, k' => ∃ k1, FT1 M s t k x k1 ∧ x.2.2 < 400 ∧ FT M s t k1 l k'
def uc (l : List Tk) : List Nat := (l.filter (fun x => decide (x.1 = 2))).map (fun x => x.2.1)
theorem uc_cons (x : Tk) (l : List Tk) : uc (x :: l) = if x.1 = 2 then x.2.1 :: uc l else uc l := by
  unfold uc
  by_cases h : x.1 = 2
  · simp [h]
  · simp [h]
theorem FT_le {M : MS} {s : SP} {t : Nat} : ∀ (l : List Tk) (k k' : Nat), FT M s t k l k' → k + l.length ≤ k'
  | [], k, k', h => by
    have h' : k = k' := h
    simp
    omega
  | x :: l, k, k', h => by
    obtain ⟨k1, h1, -, h2⟩ := h
    have := FT_le l k1 k' h2
    have : k + 1 ≤ k1 := by
      rcases h1 with ⟨-, -, h⟩ | ⟨-, -, h⟩ | ⟨-, -, -, h, -⟩ | ⟨-, -, -, h, -⟩ | ⟨-, -, h⟩ | ⟨-, -, -, -, h⟩ <;> omega
    simp
    omega
/-- names: those of the tables, and of columns; distinct among those that are there -/
def RMn (M : MS) (s : SP) : Prop := ∀ t, t < z_n s → (m_B M 2 t = enc (z_nm s t) ∧ nmok (z_nm s t)) ∧ ∀ c, c < z_nc s t → m_B M 5 (8 * t + c) = enc (z_cn s t c) ∧ nmok (z_cn s t c)
/-- what the spec's tables keep -/
def made (s : SP) (t : Nat) : Bool := decide (z_so s t = 1 ∨ z_so s t = 2)
def us (s : SP) (t c : Nat) : List Nat := uc (z_fo s t c)
def OKt : Nat → List Tk → Prop
  | d, [] => d = 0
  | d, x :: l => if x.1 = 3 then (x.2.1 = 116 ∨ x.2.1 = 110) ∧ x.2.2 < 400 ∧ d < 3 ∧ OKt (d + 1) l else if x.1 = 4 then 1 ≤ d ∧ OKt (d - 1) l else if x.1 = 5 then (x.2.1 = 43 ∨ x.2.1 = 45 ∨ x.2.1 = 38) ∧ x.2.2 < 400 ∧ OKt d l else OKt d l
def hasF (s : SP) (t c : Nat) : Prop := c < z_nc s t ∨ (z_hw s t = true ∧ (c = 6 ∨ c = 7))
def isCd (s : SP) (t v : Nat) : Prop := ∃ q d, v = 8 * q + d ∧ q < t ∧ q < z_n s ∧ z_th s q = true ∧ d < z_nc s q ∧ z_nc s q ≤ 6
def SI (s : SP) : Prop := (∀ t u, t < z_n s → u < z_n s → z_th s t = true → z_th s u = true → z_nm s t = z_nm s u → t = u) ∧
  (∀ t, t < z_n s → ∀ c d, c < z_nc s t → d < z_nc s t → z_cn s t c = z_cn s t d → c = d) ∧
  (∀ t, t < z_n s → z_th s t = true → ∀ k, k < z_nb s t → z_th s (z_fr s t k) = true) ∧
  (∀ t, t < z_n s → z_th s t = true → made s t = true → ∀ c, hasF s t c → ∀ v ∈ us s t c, isCd s t v) ∧
  (∀ t, t < z_n s → (1 ≤ z_nc s t ∧ z_nc s t ≤ 6) ∧ z_nb s t ≤ 3 ∧ (made s t = true → 1 ≤ z_nb s t) ∧ ∀ k, k < z_nb s t → z_fr s t k < t) ∧
  (∀ t, t < z_n s → z_th s t = true → made s t = true → ∀ c, hasF s t c → OKt 0 (z_fo s t c))
theorem bnf_fr {s : SP} {t q : Nat} (hq : ∃ j, j < z_nb s t ∧ z_fr s t j = q) (hd : ∀ j, j < z_nb s t → z_nm s (z_fr s t j) = z_nm s q → z_fr s t j = q) :
    ∀ (r k : Nat), k + r = z_nb s t → (∃ j, k ≤ j ∧ j < z_nb s t ∧ z_fr s t j = q) → bnf (z_nm s) (fun k => some (z_fr s t k)) (z_nm s q) k r = some q := by
  intro r
  induction r with
  | zero =>
    intro k hk ⟨j, h1, h2, _⟩
    omega
  | succ r ih =>
    intro k hk ⟨j, h1, h2, h3⟩
    unfold bnf
    by_cases e : z_nm s (z_fr s t k) = z_nm s q
    · simp only [if_pos e]
      rw [hd k (by omega) e]
    · simp only [if_neg e]
      refine ih (k + 1) (by omega) ⟨j, ?_, h2, h3⟩
      by_cases ej : j = k
      · subst ej
        rw [h3] at e
        exact absurd rfl e
      · omega
theorem cnf_of {cn : Nat → List Nat} {nc c : Nat} (hc : c < nc) (hd : ∀ d, d < nc → cn d = cn c → d = c) : ∀ (r k : Nat), k + r = nc → k ≤ c → cnf cn (cn c) k r = some c := by
  intro r
  induction r with
  | zero =>
    intro k hk h1
    omega
  | succ r ih =>
    intro k hk h1
    unfold cnf
    by_cases e : cn k = cn c
    · rw [if_pos e, hd k (by omega) e]
    · rw [if_neg e]
      refine ih (k + 1) (by omega) ?_
      by_cases ek : k = c
      · subst ek
        exact absurd rfl e
      · omega
theorem M_usedAt {M : MS} {s : SP} (h : RMa M s) (hn : RMn M s) (hs : SI s) {t k q c : Nat} (ht : t < z_n s) (hth : z_th s t = true) (hk : k + 2 < 400) (hq : q < t) (hc : c < z_nc s q) (hj : ∃ j, j < z_nb s t ∧ z_fr s t j = q) (w1 : Wd_ M t k (z_nm s q)) (w2 : Wd_ M t (k + 2) (z_cn s q c)) :
    f_X3_usedAt (i_ t) (i_ k) M = some (i_ (8 * q + c), M) := by
  have h2 := h.2.1
  obtain ⟨-, -, -, ⟨r4, r4'⟩, r5, -⟩ := h.2.2 t ht
  obtain ⟨-, -, ⟨c1, c2, c3⟩, -⟩ := h.2.2 q (by omega)
  have n1 := hn q (by omega)
  unfold f_X3_usedAt
  have b1 : f_X3_behindNamed (i_ t) (enc (z_nm s q)) M = some (i_ q, M) := by
    rw [M_behindNamed (fx := fun k => some (z_fr s t k)) (nm := z_nm s) (show t < 17 by omega) r4 r4' (fun k hk => (r5 k hk).1) (fun k q hk e => by
      cases e
      have := (r5 k hk).2
      exact ⟨by omega, (hn _ (by omega)).1⟩) n1.1.2]
    rw [bnf_fr hj (fun j hj' e => hs.1 _ _ (by have := (r5 j hj').2; omega) (by omega) (hs.2.2.1 t ht hth j hj') (by
      obtain ⟨j0, g1, g2⟩ := hj
      rw [← g2]
      exact hs.2.2.1 t ht hth j0 g1) e) _ 0 (by omega) (by
        obtain ⟨j0, g1, g2⟩ := hj
        exact ⟨j0, Nat.zero_le _, g1, g2⟩)]
    rfl
  have b2 : f_X3_columnNamed (i_ q) (enc (z_cn s q c)) M = some (i_ c, M) := by
    rw [M_columnNamed (show q < 17 by omega) c1 c3 n1.2 (n1.2 c hc).2]
    rw [cnf_of hc (fun d hd e => hs.2.1 q (by omega) d c hd hc e) _ 0 (by omega) (by omega)]
    rfl
  simp (disch := omega) only [l_m1, l_m2, l_0, l_1, l_2, l_3, l_4, l_5, l_6, l_7, l_8, l_9, l_10, l_11, l_12, l_13, l_14, l_15, l_16, l_17, l_18, l_19, l_20, l_21, l_22, l_23, l_24, l_25, l_26, l_27, l_28, l_29, l_30, l_31, l_32, l_33, l_34, l_35, l_36, l_37, l_38, l_39, l_40, l_41, l_42, l_43, l_44, l_45, l_46, l_47, l_48, l_49, l_50, l_51, l_52, l_53, l_54, l_55, l_56, l_57, l_58, l_59, l_60, l_61, l_62, l_63, l_64, l_97, l_100, l_110, l_115, l_116, l_120, l_122, l_127, l_128, l_136, l_140, l_200, l_255, l_256, l_400, l_1000, l_30000, l_1200, l_65536, l_2147483639, l_2147483647, ob_some, obd_some, q_lt_t, q_lt_f, q_le_t, q_le_f, q_eq_t, q_eq_f, im_ne, im_ne', im_lt, im_le, im_lt', im_le', i_add, i_mul, i_dec, i_dec0, i_sub, i_and, i_shr, i_div, nar_b0, nar_b1, b2i_t, b2i_f, gA1, pA1, gB2, pB2, gA3, pA3, gA4, pA4, gB5, pB5, gA6, pA6, gA7, pA7, gA8, pA8, gA9, pA9, gA10, pA10, gA11, pA11, gA12, pA12, gA13, pA13, gA14, pA14, gA15, pA15, gA16, pA16, gA17, pA17, gA18, pA18, gA19, pA19, gA20, pA20, gA21, pA21, gA40, pA40, gB43, pB43, gA44, pA44, gA45, pA45, gA46, pA46, gA47, pA47, gA48, pA48, gA49, pA49, gA53, pA53, gA54, pA54, gA55, pA55, gA56, pA56, gA58, pA58, gA60, pA60, gA61, pA61, gA62, pA62, gA63, pA63, gA66, pA66, ↓reduceIte, if_true, if_false, M_wordOf (show t < 17 by omega) (show k < 400 by omega) w1, b1, M_wordOf (show t < 17 by omega) (show k + 2 < 400 by omega) w2, b2]
theorem M_isNameAt {M : MS} {s : SP} {t k k1 : Nat} {x : Tk} (ht : t < 16) (hk : k < 400) (h : FT1 M s t k x k1) : f_X3_isNameAt (i_ t) (i_ k) M = some (b2i (decide (x.1 = 2)), M) := by
  unfold f_X3_isNameAt
  rcases h with ⟨e, a, -⟩ | ⟨e, a, -⟩ | ⟨e, a, b, -⟩ | ⟨e, a, b, -⟩ | ⟨e, a, -⟩ | ⟨e, a, b, -⟩
  · simp (disch := omega) only [l_m1, l_m2, l_0, l_1, l_2, l_3, l_4, l_5, l_6, l_7, l_8, l_9, l_10, l_11, l_12, l_13, l_14, l_15, l_16, l_17, l_18, l_19, l_20, l_21, l_22, l_23, l_24, l_25, l_26, l_27, l_28, l_29, l_30, l_31, l_32, l_33, l_34, l_35, l_36, l_37, l_38, l_39, l_40, l_41, l_42, l_43, l_44, l_45, l_46, l_47, l_48, l_49, l_50, l_51, l_52, l_53, l_54, l_55, l_56, l_57, l_58, l_59, l_60, l_61, l_62, l_63, l_64, l_97, l_100, l_110, l_115, l_116, l_120, l_122, l_127, l_128, l_136, l_140, l_200, l_255, l_256, l_400, l_1000, l_30000, l_1200, l_65536, l_2147483639, l_2147483647, ob_some, obd_some, q_lt_t, q_lt_f, q_le_t, q_le_f, q_eq_t, q_eq_f, im_ne, im_ne', im_lt, im_le, im_lt', im_le', i_add, i_mul, i_dec, i_dec0, i_sub, i_and, i_shr, i_div, nar_b0, nar_b1, b2i_t, b2i_f, gA1, pA1, gB2, pB2, gA3, pA3, gA4, pA4, gB5, pB5, gA6, pA6, gA7, pA7, gA8, pA8, gA9, pA9, gA10, pA10, gA11, pA11, gA12, pA12, gA13, pA13, gA14, pA14, gA15, pA15, gA16, pA16, gA17, pA17, gA18, pA18, gA19, pA19, gA20, pA20, gA21, pA21, gA40, pA40, gB43, pB43, gA44, pA44, gA45, pA45, gA46, pA46, gA47, pA47, gA48, pA48, gA49, pA49, gA53, pA53, gA54, pA54, gA55, pA55, gA56, pA56, gA58, pA58, gA60, pA60, gA61, pA61, gA62, pA62, gA63, pA63, gA66, pA66, ↓reduceIte, if_true, if_false, a]
    simp [e, b2i]
    rfl
  · simp (disch := omega) only [l_m1, l_m2, l_0, l_1, l_2, l_3, l_4, l_5, l_6, l_7, l_8, l_9, l_10, l_11, l_12, l_13, l_14, l_15, l_16, l_17, l_18, l_19, l_20, l_21, l_22, l_23, l_24, l_25, l_26, l_27, l_28, l_29, l_30, l_31, l_32, l_33, l_34, l_35, l_36, l_37, l_38, l_39, l_40, l_41, l_42, l_43, l_44, l_45, l_46, l_47, l_48, l_49, l_50, l_51, l_52, l_53, l_54, l_55, l_56, l_57, l_58, l_59, l_60, l_61, l_62, l_63, l_64, l_97, l_100, l_110, l_115, l_116, l_120, l_122, l_127, l_128, l_136, l_140, l_200, l_255, l_256, l_400, l_1000, l_30000, l_1200, l_65536, l_2147483639, l_2147483647, ob_some, obd_some, q_lt_t, q_lt_f, q_le_t, q_le_f, q_eq_t, q_eq_f, im_ne, im_ne', im_lt, im_le, im_lt', im_le', i_add, i_mul, i_dec, i_dec0, i_sub, i_and, i_shr, i_div, nar_b0, nar_b1, b2i_t, b2i_f, gA1, pA1, gB2, pB2, gA3, pA3, gA4, pA4, gB5, pB5, gA6, pA6, gA7, pA7, gA8, pA8, gA9, pA9, gA10, pA10, gA11, pA11, gA12, pA12, gA13, pA13, gA14, pA14, gA15, pA15, gA16, pA16, gA17, pA17, gA18, pA18, gA19, pA19, gA20, pA20, gA21, pA21, gA40, pA40, gB43, pB43, gA44, pA44, gA45, pA45, gA46, pA46, gA47, pA47, gA48, pA48, gA49, pA49, gA53, pA53, gA54, pA54, gA55, pA55, gA56, pA56, gA58, pA58, gA60, pA60, gA61, pA61, gA62, pA62, gA63, pA63, gA66, pA66, ↓reduceIte, if_true, if_false, a]
    simp [e, b2i]
    rfl
  · simp (disch := omega) only [l_m1, l_m2, l_0, l_1, l_2, l_3, l_4, l_5, l_6, l_7, l_8, l_9, l_10, l_11, l_12, l_13, l_14, l_15, l_16, l_17, l_18, l_19, l_20, l_21, l_22, l_23, l_24, l_25, l_26, l_27, l_28, l_29, l_30, l_31, l_32, l_33, l_34, l_35, l_36, l_37, l_38, l_39, l_40, l_41, l_42, l_43, l_44, l_45, l_46, l_47, l_48, l_49, l_50, l_51, l_52, l_53, l_54, l_55, l_56, l_57, l_58, l_59, l_60, l_61, l_62, l_63, l_64, l_97, l_100, l_110, l_115, l_116, l_120, l_122, l_127, l_128, l_136, l_140, l_200, l_255, l_256, l_400, l_1000, l_30000, l_1200, l_65536, l_2147483639, l_2147483647, ob_some, obd_some, q_lt_t, q_lt_f, q_le_t, q_le_f, q_eq_t, q_eq_f, im_ne, im_ne', im_lt, im_le, im_lt', im_le', i_add, i_mul, i_dec, i_dec0, i_sub, i_and, i_shr, i_div, nar_b0, nar_b1, b2i_t, b2i_f, gA1, pA1, gB2, pB2, gA3, pA3, gA4, pA4, gB5, pB5, gA6, pA6, gA7, pA7, gA8, pA8, gA9, pA9, gA10, pA10, gA11, pA11, gA12, pA12, gA13, pA13, gA14, pA14, gA15, pA15, gA16, pA16, gA17, pA17, gA18, pA18, gA19, pA19, gA20, pA20, gA21, pA21, gA40, pA40, gB43, pB43, gA44, pA44, gA45, pA45, gA46, pA46, gA47, pA47, gA48, pA48, gA49, pA49, gA53, pA53, gA54, pA54, gA55, pA55, gA56, pA56, gA58, pA58, gA60, pA60, gA61, pA61, gA62, pA62, gA63, pA63, gA66, pA66, ↓reduceIte, if_true, if_false, a, b]
    simp [e, b2i]
    rfl
  · simp (disch := omega) only [l_m1, l_m2, l_0, l_1, l_2, l_3, l_4, l_5, l_6, l_7, l_8, l_9, l_10, l_11, l_12, l_13, l_14, l_15, l_16, l_17, l_18, l_19, l_20, l_21, l_22, l_23, l_24, l_25, l_26, l_27, l_28, l_29, l_30, l_31, l_32, l_33, l_34, l_35, l_36, l_37, l_38, l_39, l_40, l_41, l_42, l_43, l_44, l_45, l_46, l_47, l_48, l_49, l_50, l_51, l_52, l_53, l_54, l_55, l_56, l_57, l_58, l_59, l_60, l_61, l_62, l_63, l_64, l_97, l_100, l_110, l_115, l_116, l_120, l_122, l_127, l_128, l_136, l_140, l_200, l_255, l_256, l_400, l_1000, l_30000, l_1200, l_65536, l_2147483639, l_2147483647, ob_some, obd_some, q_lt_t, q_lt_f, q_le_t, q_le_f, q_eq_t, q_eq_f, im_ne, im_ne', im_lt, im_le, im_lt', im_le', i_add, i_mul, i_dec, i_dec0, i_sub, i_and, i_shr, i_div, nar_b0, nar_b1, b2i_t, b2i_f, gA1, pA1, gB2, pB2, gA3, pA3, gA4, pA4, gB5, pB5, gA6, pA6, gA7, pA7, gA8, pA8, gA9, pA9, gA10, pA10, gA11, pA11, gA12, pA12, gA13, pA13, gA14, pA14, gA15, pA15, gA16, pA16, gA17, pA17, gA18, pA18, gA19, pA19, gA20, pA20, gA21, pA21, gA40, pA40, gB43, pB43, gA44, pA44, gA45, pA45, gA46, pA46, gA47, pA47, gA48, pA48, gA49, pA49, gA53, pA53, gA54, pA54, gA55, pA55, gA56, pA56, gA58, pA58, gA60, pA60, gA61, pA61, gA62, pA62, gA63, pA63, gA66, pA66, ↓reduceIte, if_true, if_false, a, b]
    simp [e, b2i]
    rfl
  · simp (disch := omega) only [l_m1, l_m2, l_0, l_1, l_2, l_3, l_4, l_5, l_6, l_7, l_8, l_9, l_10, l_11, l_12, l_13, l_14, l_15, l_16, l_17, l_18, l_19, l_20, l_21, l_22, l_23, l_24, l_25, l_26, l_27, l_28, l_29, l_30, l_31, l_32, l_33, l_34, l_35, l_36, l_37, l_38, l_39, l_40, l_41, l_42, l_43, l_44, l_45, l_46, l_47, l_48, l_49, l_50, l_51, l_52, l_53, l_54, l_55, l_56, l_57, l_58, l_59, l_60, l_61, l_62, l_63, l_64, l_97, l_100, l_110, l_115, l_116, l_120, l_122, l_127, l_128, l_136, l_140, l_200, l_255, l_256, l_400, l_1000, l_30000, l_1200, l_65536, l_2147483639, l_2147483647, ob_some, obd_some, q_lt_t, q_lt_f, q_le_t, q_le_f, q_eq_t, q_eq_f, im_ne, im_ne', im_lt, im_le, im_lt', im_le', i_add, i_mul, i_dec, i_dec0, i_sub, i_and, i_shr, i_div, nar_b0, nar_b1, b2i_t, b2i_f, gA1, pA1, gB2, pB2, gA3, pA3, gA4, pA4, gB5, pB5, gA6, pA6, gA7, pA7, gA8, pA8, gA9, pA9, gA10, pA10, gA11, pA11, gA12, pA12, gA13, pA13, gA14, pA14, gA15, pA15, gA16, pA16, gA17, pA17, gA18, pA18, gA19, pA19, gA20, pA20, gA21, pA21, gA40, pA40, gB43, pB43, gA44, pA44, gA45, pA45, gA46, pA46, gA47, pA47, gA48, pA48, gA49, pA49, gA53, pA53, gA54, pA54, gA55, pA55, gA56, pA56, gA58, pA58, gA60, pA60, gA61, pA61, gA62, pA62, gA63, pA63, gA66, pA66, ↓reduceIte, if_true, if_false, a]
    simp [e, b2i]
    rfl
  · rcases b with b | b | b
    all_goals
      rw [b] at a
      simp (disch := omega) only [l_m1, l_m2, l_0, l_1, l_2, l_3, l_4, l_5, l_6, l_7, l_8, l_9, l_10, l_11, l_12, l_13, l_14, l_15, l_16, l_17, l_18, l_19, l_20, l_21, l_22, l_23, l_24, l_25, l_26, l_27, l_28, l_29, l_30, l_31, l_32, l_33, l_34, l_35, l_36, l_37, l_38, l_39, l_40, l_41, l_42, l_43, l_44, l_45, l_46, l_47, l_48, l_49, l_50, l_51, l_52, l_53, l_54, l_55, l_56, l_57, l_58, l_59, l_60, l_61, l_62, l_63, l_64, l_97, l_100, l_110, l_115, l_116, l_120, l_122, l_127, l_128, l_136, l_140, l_200, l_255, l_256, l_400, l_1000, l_30000, l_1200, l_65536, l_2147483639, l_2147483647, ob_some, obd_some, q_lt_t, q_lt_f, q_le_t, q_le_f, q_eq_t, q_eq_f, im_ne, im_ne', im_lt, im_le, im_lt', im_le', i_add, i_mul, i_dec, i_dec0, i_sub, i_and, i_shr, i_div, nar_b0, nar_b1, b2i_t, b2i_f, gA1, pA1, gB2, pB2, gA3, pA3, gA4, pA4, gB5, pB5, gA6, pA6, gA7, pA7, gA8, pA8, gA9, pA9, gA10, pA10, gA11, pA11, gA12, pA12, gA13, pA13, gA14, pA14, gA15, pA15, gA16, pA16, gA17, pA17, gA18, pA18, gA19, pA19, gA20, pA20, gA21, pA21, gA40, pA40, gB43, pB43, gA44, pA44, gA45, pA45, gA46, pA46, gA47, pA47, gA48, pA48, gA49, pA49, gA53, pA53, gA54, pA54, gA55, pA55, gA56, pA56, gA58, pA58, gA60, pA60, gA61, pA61, gA62, pA62, gA63, pA63, gA66, pA66, ↓reduceIte, if_true, if_false, a]
      simp [e, b2i]
      rfl
theorem M_isNameAt_no {M : MS} {t k : Nat} (ht : t < 16) (hk : k < 400) (h : m_A M 14 (400 * t + k) = i_ 40) : f_X3_isNameAt (i_ t) (i_ k) M = some (i_ 0, M) := by
  unfold f_X3_isNameAt
  simp (disch := omega) only [l_m1, l_m2, l_0, l_1, l_2, l_3, l_4, l_5, l_6, l_7, l_8, l_9, l_10, l_11, l_12, l_13, l_14, l_15, l_16, l_17, l_18, l_19, l_20, l_21, l_22, l_23, l_24, l_25, l_26, l_27, l_28, l_29, l_30, l_31, l_32, l_33, l_34, l_35, l_36, l_37, l_38, l_39, l_40, l_41, l_42, l_43, l_44, l_45, l_46, l_47, l_48, l_49, l_50, l_51, l_52, l_53, l_54, l_55, l_56, l_57, l_58, l_59, l_60, l_61, l_62, l_63, l_64, l_97, l_100, l_110, l_115, l_116, l_120, l_122, l_127, l_128, l_136, l_140, l_200, l_255, l_256, l_400, l_1000, l_30000, l_1200, l_65536, l_2147483639, l_2147483647, ob_some, obd_some, q_lt_t, q_lt_f, q_le_t, q_le_f, q_eq_t, q_eq_f, im_ne, im_ne', im_lt, im_le, im_lt', im_le', i_add, i_mul, i_dec, i_dec0, i_sub, i_and, i_shr, i_div, nar_b0, nar_b1, b2i_t, b2i_f, gA1, pA1, gB2, pB2, gA3, pA3, gA4, pA4, gB5, pB5, gA6, pA6, gA7, pA7, gA8, pA8, gA9, pA9, gA10, pA10, gA11, pA11, gA12, pA12, gA13, pA13, gA14, pA14, gA15, pA15, gA16, pA16, gA17, pA17, gA18, pA18, gA19, pA19, gA20, pA20, gA21, pA21, gA40, pA40, gB43, pB43, gA44, pA44, gA45, pA45, gA46, pA46, gA47, pA47, gA48, pA48, gA49, pA49, gA53, pA53, gA54, pA54, gA55, pA55, gA56, pA56, gA58, pA58, gA60, pA60, gA61, pA61, gA62, pA62, gA63, pA63, gA66, pA66, ↓reduceIte, if_true, if_false, h]
theorem FT1.mk {M : MS} {s : SP} {t k k1 : Nat} {x : Tk} (h : FT1 M s t k x k1) (mk : Nat → Bool) : FT1 (m_mk M mk) s t k x k1 := by
  unfold FT1 Wd_ at h ⊢
  simp only [mk_A (show 14 ≠ 56 by decide), mk_A (show 15 ≠ 56 by decide), mk_A (show 16 ≠ 56 by decide), mk_A (show 17 ≠ 56 by decide)]
  exact h
theorem FT.mk {M : MS} {s : SP} {t : Nat} : ∀ {l : List Tk} {k k' : Nat}, FT M s t k l k' → ∀ mk, FT (m_mk M mk) s t k l k'
  | [], _, _, h, _ => h
  | x :: l, k, k', ⟨k1, h1, h2, h3⟩, mk => ⟨k1, h1.mk mk, h2, h3.mk mk⟩
theorem RMn.mk {M : MS} {s : SP} (h : RMn M s) (mk : Nat → Bool) : RMn (m_mk M mk) s := h
def mk_l (mk : Nat → Bool) (l : List Nat) : Nat → Bool := fun i => l.contains i || mk i
theorem mk_l_nil (mk : Nat → Bool) : mk_l mk [] = mk := by
  funext i
  simp [mk_l]
theorem mk_l_cons (mk : Nat → Bool) (v : Nat) (l : List Nat) : mk_l (mk_up mk v) l = mk_l mk (v :: l) := by
  funext i
  simp only [mk_l, mk_up, List.contains_cons]
  cases l.contains i <;> cases mk i <;> by_cases e : i = v <;> simp [e]
theorem FT1.cls {M : MS} {s : SP} {t k k1 : Nat} {x : Tk} (h : FT1 M s t k x k1) : (¬ x.1 = 2 ∧ k1 = k + 1) ∨ (¬ x.1 = 2 ∧ k1 = k + 2 ∧ m_A M 14 (400 * t + (k + 1)) = i_ 40) ∨ (x.1 = 2 ∧ k1 = k + 3 ∧ ∃ q c, x.2.1 = 8 * q + c ∧ q < t ∧ c < z_nc s q ∧ z_nc s q ≤ 6 ∧ (∃ j, j < z_nb s t ∧ z_fr s t j = q) ∧ Wd_ M t k (z_nm s q) ∧ Wd_ M t (k + 2) (z_cn s q c)) := by
  rcases h with ⟨e, a, b⟩ | ⟨e, a, b⟩ | ⟨e, a, b, c, d⟩ | ⟨e, a, b, c, d⟩ | ⟨e, a, b⟩ | ⟨e, a, b, c, d⟩
  · exact Or.inl ⟨by omega, b⟩
  · exact Or.inl ⟨by omega, b⟩
  · exact Or.inr (Or.inr ⟨e, c, d⟩)
  · exact Or.inr (Or.inl ⟨by omega, c, b⟩)
  · exact Or.inl ⟨by omega, b⟩
  · exact Or.inl ⟨by omega, d⟩
theorem Wd_.mk {M : MS} {t k : Nat} {w : List Nat} (h : Wd_ M t k w) (mk : Nat → Bool) : Wd_ (m_mk M mk) t k w := by
  unfold Wd_ at h ⊢
  simp only [mk_A (show 15 ≠ 56 by decide), mk_A (show 16 ≠ 56 by decide), mk_A (show 17 ≠ 56 by decide)]
  exact h
theorem M_marksUsed_l {M : MS} {s : SP} (h : RMa M s) (hn : RMn M s) (hs : SI s) {t c : Nat} (ht : t < z_n s) (hth : z_th s t = true) (hc : c < 8) {k' : Nat} (hk' : k' ≤ 400) (h19 : m_A M 19 (8 * t + c) = i_ k') :
    ∀ (l : List Tk) (k n : Nat) (mk : Nat → Bool), FT M s t k l k' → 2 * l.length < n → f_X3_marksUsed_n12 n (i_ t) (i_ c) (i_ k) (m_mk M mk) = some (m_mk M (mk_l mk (uc l))) := by
  have h2 := h.2.1
  intro l
  induction l with
  | nil =>
    intro k n mk hF hn
    obtain ⟨n, rfl⟩ : ∃ m, n = m + 1 := ⟨n - 1, by omega⟩
    have hF' : k = k' := hF
    unfold f_X3_marksUsed_n12
    simp (disch := omega) only [l_m1, l_m2, l_0, l_1, l_2, l_3, l_4, l_5, l_6, l_7, l_8, l_9, l_10, l_11, l_12, l_13, l_14, l_15, l_16, l_17, l_18, l_19, l_20, l_21, l_22, l_23, l_24, l_25, l_26, l_27, l_28, l_29, l_30, l_31, l_32, l_33, l_34, l_35, l_36, l_37, l_38, l_39, l_40, l_41, l_42, l_43, l_44, l_45, l_46, l_47, l_48, l_49, l_50, l_51, l_52, l_53, l_54, l_55, l_56, l_57, l_58, l_59, l_60, l_61, l_62, l_63, l_64, l_97, l_100, l_110, l_115, l_116, l_120, l_122, l_127, l_128, l_136, l_140, l_200, l_255, l_256, l_400, l_1000, l_30000, l_1200, l_65536, l_2147483639, l_2147483647, ob_some, obd_some, q_lt_t, q_lt_f, q_le_t, q_le_f, q_eq_t, q_eq_f, im_ne, im_ne', im_lt, im_le, im_lt', im_le', i_add, i_mul, i_dec, i_dec0, i_sub, i_and, i_shr, i_div, nar_b0, nar_b1, b2i_t, b2i_f, gA1, pA1, gB2, pB2, gA3, pA3, gA4, pA4, gB5, pB5, gA6, pA6, gA7, pA7, gA8, pA8, gA9, pA9, gA10, pA10, gA11, pA11, gA12, pA12, gA13, pA13, gA14, pA14, gA15, pA15, gA16, pA16, gA17, pA17, gA18, pA18, gA19, pA19, gA20, pA20, gA21, pA21, gA40, pA40, gB43, pB43, gA44, pA44, gA45, pA45, gA46, pA46, gA47, pA47, gA48, pA48, gA49, pA49, gA53, pA53, gA54, pA54, gA55, pA55, gA56, pA56, gA58, pA58, gA60, pA60, gA61, pA61, gA62, pA62, gA63, pA63, gA66, pA66, ↓reduceIte, if_true, if_false, mk_A, h19]
    rw [show uc [] = [] from rfl, mk_l_nil]
  | cons x l ih =>
    intro k n mk hF hn0
    obtain ⟨n, rfl⟩ : ∃ m, n = m + 1 := ⟨n - 1, by omega⟩
    obtain ⟨k1, h1, h3, h4⟩ := hF
    have hle := FT_le l k1 k' h4
    have hlen : (x :: l).length = l.length + 1 := rfl
    have hk1 : k < k1 := by rcases h1.cls with ⟨-, e⟩ | ⟨-, e, -⟩ | ⟨-, e, -⟩ <;> omega
    have hna := M_isNameAt (s := s) (show t < 16 by omega) (show k < 400 by omega) (h1.mk mk)
    unfold f_X3_marksUsed_n12
    rw [uc_cons]
    rcases h1.cls with ⟨e, ek⟩ | ⟨e, ek, a⟩ | ⟨e, ek, q, c1, g1, g2, g3, g4, g5, g6, g7⟩
    · rw [show decide (x.1 = 2) = false from decide_eq_false e] at hna
      simp (disch := omega) only [l_m1, l_m2, l_0, l_1, l_2, l_3, l_4, l_5, l_6, l_7, l_8, l_9, l_10, l_11, l_12, l_13, l_14, l_15, l_16, l_17, l_18, l_19, l_20, l_21, l_22, l_23, l_24, l_25, l_26, l_27, l_28, l_29, l_30, l_31, l_32, l_33, l_34, l_35, l_36, l_37, l_38, l_39, l_40, l_41, l_42, l_43, l_44, l_45, l_46, l_47, l_48, l_49, l_50, l_51, l_52, l_53, l_54, l_55, l_56, l_57, l_58, l_59, l_60, l_61, l_62, l_63, l_64, l_97, l_100, l_110, l_115, l_116, l_120, l_122, l_127, l_128, l_136, l_140, l_200, l_255, l_256, l_400, l_1000, l_30000, l_1200, l_65536, l_2147483639, l_2147483647, ob_some, obd_some, q_lt_t, q_lt_f, q_le_t, q_le_f, q_eq_t, q_eq_f, im_ne, im_ne', im_lt, im_le, im_lt', im_le', i_add, i_mul, i_dec, i_dec0, i_sub, i_and, i_shr, i_div, nar_b0, nar_b1, b2i_t, b2i_f, gA1, pA1, gB2, pB2, gA3, pA3, gA4, pA4, gB5, pB5, gA6, pA6, gA7, pA7, gA8, pA8, gA9, pA9, gA10, pA10, gA11, pA11, gA12, pA12, gA13, pA13, gA14, pA14, gA15, pA15, gA16, pA16, gA17, pA17, gA18, pA18, gA19, pA19, gA20, pA20, gA21, pA21, gA40, pA40, gB43, pB43, gA44, pA44, gA45, pA45, gA46, pA46, gA47, pA47, gA48, pA48, gA49, pA49, gA53, pA53, gA54, pA54, gA55, pA55, gA56, pA56, gA58, pA58, gA60, pA60, gA61, pA61, gA62, pA62, gA63, pA63, gA66, pA66, ↓reduceIte, if_true, if_false, mk_A, h19, hna]
      rw [if_neg e]
      exact ih (k + 1) n mk (ek ▸ h4) (by omega)
    · rw [show decide (x.1 = 2) = false from decide_eq_false e] at hna
      simp (disch := omega) only [l_m1, l_m2, l_0, l_1, l_2, l_3, l_4, l_5, l_6, l_7, l_8, l_9, l_10, l_11, l_12, l_13, l_14, l_15, l_16, l_17, l_18, l_19, l_20, l_21, l_22, l_23, l_24, l_25, l_26, l_27, l_28, l_29, l_30, l_31, l_32, l_33, l_34, l_35, l_36, l_37, l_38, l_39, l_40, l_41, l_42, l_43, l_44, l_45, l_46, l_47, l_48, l_49, l_50, l_51, l_52, l_53, l_54, l_55, l_56, l_57, l_58, l_59, l_60, l_61, l_62, l_63, l_64, l_97, l_100, l_110, l_115, l_116, l_120, l_122, l_127, l_128, l_136, l_140, l_200, l_255, l_256, l_400, l_1000, l_30000, l_1200, l_65536, l_2147483639, l_2147483647, ob_some, obd_some, q_lt_t, q_lt_f, q_le_t, q_le_f, q_eq_t, q_eq_f, im_ne, im_ne', im_lt, im_le, im_lt', im_le', i_add, i_mul, i_dec, i_dec0, i_sub, i_and, i_shr, i_div, nar_b0, nar_b1, b2i_t, b2i_f, gA1, pA1, gB2, pB2, gA3, pA3, gA4, pA4, gB5, pB5, gA6, pA6, gA7, pA7, gA8, pA8, gA9, pA9, gA10, pA10, gA11, pA11, gA12, pA12, gA13, pA13, gA14, pA14, gA15, pA15, gA16, pA16, gA17, pA17, gA18, pA18, gA19, pA19, gA20, pA20, gA21, pA21, gA40, pA40, gB43, pB43, gA44, pA44, gA45, pA45, gA46, pA46, gA47, pA47, gA48, pA48, gA49, pA49, gA53, pA53, gA54, pA54, gA55, pA55, gA56, pA56, gA58, pA58, gA60, pA60, gA61, pA61, gA62, pA62, gA63, pA63, gA66, pA66, ↓reduceIte, if_true, if_false, mk_A, h19, hna]
      rw [if_neg e]
      obtain ⟨n, rfl⟩ : ∃ m, n = m + 1 := ⟨n - 1, by omega⟩
      unfold f_X3_marksUsed_n12
      simp (disch := omega) only [l_m1, l_m2, l_0, l_1, l_2, l_3, l_4, l_5, l_6, l_7, l_8, l_9, l_10, l_11, l_12, l_13, l_14, l_15, l_16, l_17, l_18, l_19, l_20, l_21, l_22, l_23, l_24, l_25, l_26, l_27, l_28, l_29, l_30, l_31, l_32, l_33, l_34, l_35, l_36, l_37, l_38, l_39, l_40, l_41, l_42, l_43, l_44, l_45, l_46, l_47, l_48, l_49, l_50, l_51, l_52, l_53, l_54, l_55, l_56, l_57, l_58, l_59, l_60, l_61, l_62, l_63, l_64, l_97, l_100, l_110, l_115, l_116, l_120, l_122, l_127, l_128, l_136, l_140, l_200, l_255, l_256, l_400, l_1000, l_30000, l_1200, l_65536, l_2147483639, l_2147483647, ob_some, obd_some, q_lt_t, q_lt_f, q_le_t, q_le_f, q_eq_t, q_eq_f, im_ne, im_ne', im_lt, im_le, im_lt', im_le', i_add, i_mul, i_dec, i_dec0, i_sub, i_and, i_shr, i_div, nar_b0, nar_b1, b2i_t, b2i_f, gA1, pA1, gB2, pB2, gA3, pA3, gA4, pA4, gB5, pB5, gA6, pA6, gA7, pA7, gA8, pA8, gA9, pA9, gA10, pA10, gA11, pA11, gA12, pA12, gA13, pA13, gA14, pA14, gA15, pA15, gA16, pA16, gA17, pA17, gA18, pA18, gA19, pA19, gA20, pA20, gA21, pA21, gA40, pA40, gB43, pB43, gA44, pA44, gA45, pA45, gA46, pA46, gA47, pA47, gA48, pA48, gA49, pA49, gA53, pA53, gA54, pA54, gA55, pA55, gA56, pA56, gA58, pA58, gA60, pA60, gA61, pA61, gA62, pA62, gA63, pA63, gA66, pA66, ↓reduceIte, if_true, if_false, mk_A, h19, M_isNameAt_no (M := m_mk M mk) (show t < 16 by omega) (show k + 1 < 400 by omega) (by rw [mk_A (by decide)]; exact a)]
      exact ih (k + 2) n mk (ek ▸ h4) (by omega)
    · rw [show decide (x.1 = 2) = true from decide_eq_true e] at hna
      have hu := M_usedAt (h.mk mk) (hn.mk mk) hs ht hth (show k + 2 < 400 by omega) g2 g3 g5 (g6.mk mk) (g7.mk mk)
      simp (disch := omega) only [l_m1, l_m2, l_0, l_1, l_2, l_3, l_4, l_5, l_6, l_7, l_8, l_9, l_10, l_11, l_12, l_13, l_14, l_15, l_16, l_17, l_18, l_19, l_20, l_21, l_22, l_23, l_24, l_25, l_26, l_27, l_28, l_29, l_30, l_31, l_32, l_33, l_34, l_35, l_36, l_37, l_38, l_39, l_40, l_41, l_42, l_43, l_44, l_45, l_46, l_47, l_48, l_49, l_50, l_51, l_52, l_53, l_54, l_55, l_56, l_57, l_58, l_59, l_60, l_61, l_62, l_63, l_64, l_97, l_100, l_110, l_115, l_116, l_120, l_122, l_127, l_128, l_136, l_140, l_200, l_255, l_256, l_400, l_1000, l_30000, l_1200, l_65536, l_2147483639, l_2147483647, ob_some, obd_some, q_lt_t, q_lt_f, q_le_t, q_le_f, q_eq_t, q_eq_f, im_ne, im_ne', im_lt, im_le, im_lt', im_le', i_add, i_mul, i_dec, i_dec0, i_sub, i_and, i_shr, i_div, nar_b0, nar_b1, b2i_t, b2i_f, gA1, pA1, gB2, pB2, gA3, pA3, gA4, pA4, gB5, pB5, gA6, pA6, gA7, pA7, gA8, pA8, gA9, pA9, gA10, pA10, gA11, pA11, gA12, pA12, gA13, pA13, gA14, pA14, gA15, pA15, gA16, pA16, gA17, pA17, gA18, pA18, gA19, pA19, gA20, pA20, gA21, pA21, gA40, pA40, gB43, pB43, gA44, pA44, gA45, pA45, gA46, pA46, gA47, pA47, gA48, pA48, gA49, pA49, gA53, pA53, gA54, pA54, gA55, pA55, gA56, pA56, gA58, pA58, gA60, pA60, gA61, pA61, gA62, pA62, gA63, pA63, gA66, pA66, ↓reduceIte, if_true, if_false, mk_A, h19, hna, hu, mk_set]
      rw [if_pos e, ih (k + 3) n _ (ek ▸ h4) (by omega), mk_l_cons, g1]
theorem any_cons_mk (mk : Nat → Bool) (v : Nat) (l : List Nat) : (v :: l).any mk = (mk v || l.any mk) := List.any_cons
theorem M_usesMarked_l {M : MS} {s : SP} (h : RMa M s) (hn : RMn M s) (hs : SI s) {t c : Nat} (ht : t < z_n s) (hth : z_th s t = true) (hc : c < 8) {k' : Nat} (hk' : k' ≤ 400) (h19 : m_A M 19 (8 * t + c) = i_ k') (mk : Nat → Bool) :
    ∀ (l : List Tk) (k n : Nat), FT M s t k l k' → 2 * l.length < n → f_X3_usesMarked_n12 n (i_ t) (i_ c) (i_ k) (m_mk M mk) = some (b2i ((uc l).any mk), m_mk M mk) := by
  have h2 := h.2.1
  intro l
  induction l with
  | nil =>
    intro k n hF hn
    obtain ⟨n, rfl⟩ : ∃ m, n = m + 1 := ⟨n - 1, by omega⟩
    have hF' : k = k' := hF
    unfold f_X3_usesMarked_n12
    simp (disch := omega) only [l_m1, l_m2, l_0, l_1, l_2, l_3, l_4, l_5, l_6, l_7, l_8, l_9, l_10, l_11, l_12, l_13, l_14, l_15, l_16, l_17, l_18, l_19, l_20, l_21, l_22, l_23, l_24, l_25, l_26, l_27, l_28, l_29, l_30, l_31, l_32, l_33, l_34, l_35, l_36, l_37, l_38, l_39, l_40, l_41, l_42, l_43, l_44, l_45, l_46, l_47, l_48, l_49, l_50, l_51, l_52, l_53, l_54, l_55, l_56, l_57, l_58, l_59, l_60, l_61, l_62, l_63, l_64, l_97, l_100, l_110, l_115, l_116, l_120, l_122, l_127, l_128, l_136, l_140, l_200, l_255, l_256, l_400, l_1000, l_30000, l_1200, l_65536, l_2147483639, l_2147483647, ob_some, obd_some, q_lt_t, q_lt_f, q_le_t, q_le_f, q_eq_t, q_eq_f, im_ne, im_ne', im_lt, im_le, im_lt', im_le', i_add, i_mul, i_dec, i_dec0, i_sub, i_and, i_shr, i_div, nar_b0, nar_b1, b2i_t, b2i_f, gA1, pA1, gB2, pB2, gA3, pA3, gA4, pA4, gB5, pB5, gA6, pA6, gA7, pA7, gA8, pA8, gA9, pA9, gA10, pA10, gA11, pA11, gA12, pA12, gA13, pA13, gA14, pA14, gA15, pA15, gA16, pA16, gA17, pA17, gA18, pA18, gA19, pA19, gA20, pA20, gA21, pA21, gA40, pA40, gB43, pB43, gA44, pA44, gA45, pA45, gA46, pA46, gA47, pA47, gA48, pA48, gA49, pA49, gA53, pA53, gA54, pA54, gA55, pA55, gA56, pA56, gA58, pA58, gA60, pA60, gA61, pA61, gA62, pA62, gA63, pA63, gA66, pA66, ↓reduceIte, if_true, if_false, mk_A, h19]
    rfl
  | cons x l ih =>
    intro k n hF hn0
    obtain ⟨n, rfl⟩ : ∃ m, n = m + 1 := ⟨n - 1, by omega⟩
    obtain ⟨k1, h1, h3, h4⟩ := hF
    have hle := FT_le l k1 k' h4
    have hlen : (x :: l).length = l.length + 1 := rfl
    have hk1 : k < k1 := by rcases h1.cls with ⟨-, e⟩ | ⟨-, e, -⟩ | ⟨-, e, -⟩ <;> omega
    have hna := M_isNameAt (s := s) (show t < 16 by omega) (show k < 400 by omega) (h1.mk mk)
    unfold f_X3_usesMarked_n12
    rw [uc_cons]
    rcases h1.cls with ⟨e, ek⟩ | ⟨e, ek, a⟩ | ⟨e, ek, q, c1, g1, g2, g3, g4, g5, g6, g7⟩
    · rw [show decide (x.1 = 2) = false from decide_eq_false e] at hna
      simp (disch := omega) only [l_m1, l_m2, l_0, l_1, l_2, l_3, l_4, l_5, l_6, l_7, l_8, l_9, l_10, l_11, l_12, l_13, l_14, l_15, l_16, l_17, l_18, l_19, l_20, l_21, l_22, l_23, l_24, l_25, l_26, l_27, l_28, l_29, l_30, l_31, l_32, l_33, l_34, l_35, l_36, l_37, l_38, l_39, l_40, l_41, l_42, l_43, l_44, l_45, l_46, l_47, l_48, l_49, l_50, l_51, l_52, l_53, l_54, l_55, l_56, l_57, l_58, l_59, l_60, l_61, l_62, l_63, l_64, l_97, l_100, l_110, l_115, l_116, l_120, l_122, l_127, l_128, l_136, l_140, l_200, l_255, l_256, l_400, l_1000, l_30000, l_1200, l_65536, l_2147483639, l_2147483647, ob_some, obd_some, q_lt_t, q_lt_f, q_le_t, q_le_f, q_eq_t, q_eq_f, im_ne, im_ne', im_lt, im_le, im_lt', im_le', i_add, i_mul, i_dec, i_dec0, i_sub, i_and, i_shr, i_div, nar_b0, nar_b1, b2i_t, b2i_f, gA1, pA1, gB2, pB2, gA3, pA3, gA4, pA4, gB5, pB5, gA6, pA6, gA7, pA7, gA8, pA8, gA9, pA9, gA10, pA10, gA11, pA11, gA12, pA12, gA13, pA13, gA14, pA14, gA15, pA15, gA16, pA16, gA17, pA17, gA18, pA18, gA19, pA19, gA20, pA20, gA21, pA21, gA40, pA40, gB43, pB43, gA44, pA44, gA45, pA45, gA46, pA46, gA47, pA47, gA48, pA48, gA49, pA49, gA53, pA53, gA54, pA54, gA55, pA55, gA56, pA56, gA58, pA58, gA60, pA60, gA61, pA61, gA62, pA62, gA63, pA63, gA66, pA66, ↓reduceIte, if_true, if_false, mk_A, h19, hna]
      rw [if_neg e]
      exact ih (k + 1) n (ek ▸ h4) (by omega)
    · rw [show decide (x.1 = 2) = false from decide_eq_false e] at hna
      simp (disch := omega) only [l_m1, l_m2, l_0, l_1, l_2, l_3, l_4, l_5, l_6, l_7, l_8, l_9, l_10, l_11, l_12, l_13, l_14, l_15, l_16, l_17, l_18, l_19, l_20, l_21, l_22, l_23, l_24, l_25, l_26, l_27, l_28, l_29, l_30, l_31, l_32, l_33, l_34, l_35, l_36, l_37, l_38, l_39, l_40, l_41, l_42, l_43, l_44, l_45, l_46, l_47, l_48, l_49, l_50, l_51, l_52, l_53, l_54, l_55, l_56, l_57, l_58, l_59, l_60, l_61, l_62, l_63, l_64, l_97, l_100, l_110, l_115, l_116, l_120, l_122, l_127, l_128, l_136, l_140, l_200, l_255, l_256, l_400, l_1000, l_30000, l_1200, l_65536, l_2147483639, l_2147483647, ob_some, obd_some, q_lt_t, q_lt_f, q_le_t, q_le_f, q_eq_t, q_eq_f, im_ne, im_ne', im_lt, im_le, im_lt', im_le', i_add, i_mul, i_dec, i_dec0, i_sub, i_and, i_shr, i_div, nar_b0, nar_b1, b2i_t, b2i_f, gA1, pA1, gB2, pB2, gA3, pA3, gA4, pA4, gB5, pB5, gA6, pA6, gA7, pA7, gA8, pA8, gA9, pA9, gA10, pA10, gA11, pA11, gA12, pA12, gA13, pA13, gA14, pA14, gA15, pA15, gA16, pA16, gA17, pA17, gA18, pA18, gA19, pA19, gA20, pA20, gA21, pA21, gA40, pA40, gB43, pB43, gA44, pA44, gA45, pA45, gA46, pA46, gA47, pA47, gA48, pA48, gA49, pA49, gA53, pA53, gA54, pA54, gA55, pA55, gA56, pA56, gA58, pA58, gA60, pA60, gA61, pA61, gA62, pA62, gA63, pA63, gA66, pA66, ↓reduceIte, if_true, if_false, mk_A, h19, hna]
      rw [if_neg e]
      obtain ⟨n, rfl⟩ : ∃ m, n = m + 1 := ⟨n - 1, by omega⟩
      unfold f_X3_usesMarked_n12
      simp (disch := omega) only [l_m1, l_m2, l_0, l_1, l_2, l_3, l_4, l_5, l_6, l_7, l_8, l_9, l_10, l_11, l_12, l_13, l_14, l_15, l_16, l_17, l_18, l_19, l_20, l_21, l_22, l_23, l_24, l_25, l_26, l_27, l_28, l_29, l_30, l_31, l_32, l_33, l_34, l_35, l_36, l_37, l_38, l_39, l_40, l_41, l_42, l_43, l_44, l_45, l_46, l_47, l_48, l_49, l_50, l_51, l_52, l_53, l_54, l_55, l_56, l_57, l_58, l_59, l_60, l_61, l_62, l_63, l_64, l_97, l_100, l_110, l_115, l_116, l_120, l_122, l_127, l_128, l_136, l_140, l_200, l_255, l_256, l_400, l_1000, l_30000, l_1200, l_65536, l_2147483639, l_2147483647, ob_some, obd_some, q_lt_t, q_lt_f, q_le_t, q_le_f, q_eq_t, q_eq_f, im_ne, im_ne', im_lt, im_le, im_lt', im_le', i_add, i_mul, i_dec, i_dec0, i_sub, i_and, i_shr, i_div, nar_b0, nar_b1, b2i_t, b2i_f, gA1, pA1, gB2, pB2, gA3, pA3, gA4, pA4, gB5, pB5, gA6, pA6, gA7, pA7, gA8, pA8, gA9, pA9, gA10, pA10, gA11, pA11, gA12, pA12, gA13, pA13, gA14, pA14, gA15, pA15, gA16, pA16, gA17, pA17, gA18, pA18, gA19, pA19, gA20, pA20, gA21, pA21, gA40, pA40, gB43, pB43, gA44, pA44, gA45, pA45, gA46, pA46, gA47, pA47, gA48, pA48, gA49, pA49, gA53, pA53, gA54, pA54, gA55, pA55, gA56, pA56, gA58, pA58, gA60, pA60, gA61, pA61, gA62, pA62, gA63, pA63, gA66, pA66, ↓reduceIte, if_true, if_false, mk_A, h19, M_isNameAt_no (M := m_mk M mk) (show t < 16 by omega) (show k + 1 < 400 by omega) (by rw [mk_A (by decide)]; exact a)]
      exact ih (k + 2) n (ek ▸ h4) (by omega)
    · rw [show decide (x.1 = 2) = true from decide_eq_true e] at hna
      have hu := M_usedAt (h.mk mk) (hn.mk mk) hs ht hth (show k + 2 < 400 by omega) g2 g3 g5 (g6.mk mk) (g7.mk mk)
      rw [if_pos e, any_cons_mk, g1]
      cases hv : mk (8 * q + c1) with
      | true =>
        simp (disch := omega) only [l_m1, l_m2, l_0, l_1, l_2, l_3, l_4, l_5, l_6, l_7, l_8, l_9, l_10, l_11, l_12, l_13, l_14, l_15, l_16, l_17, l_18, l_19, l_20, l_21, l_22, l_23, l_24, l_25, l_26, l_27, l_28, l_29, l_30, l_31, l_32, l_33, l_34, l_35, l_36, l_37, l_38, l_39, l_40, l_41, l_42, l_43, l_44, l_45, l_46, l_47, l_48, l_49, l_50, l_51, l_52, l_53, l_54, l_55, l_56, l_57, l_58, l_59, l_60, l_61, l_62, l_63, l_64, l_97, l_100, l_110, l_115, l_116, l_120, l_122, l_127, l_128, l_136, l_140, l_200, l_255, l_256, l_400, l_1000, l_30000, l_1200, l_65536, l_2147483639, l_2147483647, ob_some, obd_some, q_lt_t, q_lt_f, q_le_t, q_le_f, q_eq_t, q_eq_f, im_ne, im_ne', im_lt, im_le, im_lt', im_le', i_add, i_mul, i_dec, i_dec0, i_sub, i_and, i_shr, i_div, nar_b0, nar_b1, b2i_t, b2i_f, gA1, pA1, gB2, pB2, gA3, pA3, gA4, pA4, gB5, pB5, gA6, pA6, gA7, pA7, gA8, pA8, gA9, pA9, gA10, pA10, gA11, pA11, gA12, pA12, gA13, pA13, gA14, pA14, gA15, pA15, gA16, pA16, gA17, pA17, gA18, pA18, gA19, pA19, gA20, pA20, gA21, pA21, gA40, pA40, gB43, pB43, gA44, pA44, gA45, pA45, gA46, pA46, gA47, pA47, gA48, pA48, gA49, pA49, gA53, pA53, gA54, pA54, gA55, pA55, gA56, pA56, gA58, pA58, gA60, pA60, gA61, pA61, gA62, pA62, gA63, pA63, gA66, pA66, ↓reduceIte, if_true, if_false, mk_A, h19, hna, hu, mk_get, hv]
        rfl
      | false =>
        simp (disch := omega) only [l_m1, l_m2, l_0, l_1, l_2, l_3, l_4, l_5, l_6, l_7, l_8, l_9, l_10, l_11, l_12, l_13, l_14, l_15, l_16, l_17, l_18, l_19, l_20, l_21, l_22, l_23, l_24, l_25, l_26, l_27, l_28, l_29, l_30, l_31, l_32, l_33, l_34, l_35, l_36, l_37, l_38, l_39, l_40, l_41, l_42, l_43, l_44, l_45, l_46, l_47, l_48, l_49, l_50, l_51, l_52, l_53, l_54, l_55, l_56, l_57, l_58, l_59, l_60, l_61, l_62, l_63, l_64, l_97, l_100, l_110, l_115, l_116, l_120, l_122, l_127, l_128, l_136, l_140, l_200, l_255, l_256, l_400, l_1000, l_30000, l_1200, l_65536, l_2147483639, l_2147483647, ob_some, obd_some, q_lt_t, q_lt_f, q_le_t, q_le_f, q_eq_t, q_eq_f, im_ne, im_ne', im_lt, im_le, im_lt', im_le', i_add, i_mul, i_dec, i_dec0, i_sub, i_and, i_shr, i_div, nar_b0, nar_b1, b2i_t, b2i_f, gA1, pA1, gB2, pB2, gA3, pA3, gA4, pA4, gB5, pB5, gA6, pA6, gA7, pA7, gA8, pA8, gA9, pA9, gA10, pA10, gA11, pA11, gA12, pA12, gA13, pA13, gA14, pA14, gA15, pA15, gA16, pA16, gA17, pA17, gA18, pA18, gA19, pA19, gA20, pA20, gA21, pA21, gA40, pA40, gB43, pB43, gA44, pA44, gA45, pA45, gA46, pA46, gA47, pA47, gA48, pA48, gA49, pA49, gA53, pA53, gA54, pA54, gA55, pA55, gA56, pA56, gA58, pA58, gA60, pA60, gA61, pA61, gA62, pA62, gA63, pA63, gA66, pA66, ↓reduceIte, if_true, if_false, mk_A, h19, hna, hu, mk_get, hv]
        rw [ih (k + 3) n (ek ▸ h4) (by omega), Bool.false_or]
/-- a formula of a table lies where the rows say -/
def FF (M : MS) (s : SP) (t c : Nat) : Prop := ∃ k k', m_A M 18 (8 * t + c) = i_ k ∧ m_A M 19 (8 * t + c) = i_ k' ∧ k < k' ∧ k' ≤ 400 ∧ FT M s t k (z_fo s t c) k'
def RMf (M : MS) (s : SP) : Prop := ∀ t, t < z_n s → z_th s t = true → made s t = true → (∀ c, c < z_nc s t → FF M s t c) ∧ (if z_hw s t = true then FF M s t 6 ∧ FF M s t 7 else m_A M 19 (8 * t + 7) = i_ 0)
theorem M_marksUsed {M : MS} {s : SP} (h : RMa M s) (hn : RMn M s) (hs : SI s) {t c : Nat} (ht : t < z_n s) (hth : z_th s t = true) (hc : c < 8) (hF : FF M s t c) (mk : Nat → Bool) :
    f_X3_marksUsed (i_ t) (i_ c) (m_mk M mk) = some (m_mk M (mk_l mk (us s t c))) := by
  obtain ⟨k, k', a, b, h0, h1, h3⟩ := hF
  have h2 := h.2.1
  have hl := FT_le _ _ _ h3
  unfold f_X3_marksUsed
  simp (disch := omega) only [l_m1, l_m2, l_0, l_1, l_2, l_3, l_4, l_5, l_6, l_7, l_8, l_9, l_10, l_11, l_12, l_13, l_14, l_15, l_16, l_17, l_18, l_19, l_20, l_21, l_22, l_23, l_24, l_25, l_26, l_27, l_28, l_29, l_30, l_31, l_32, l_33, l_34, l_35, l_36, l_37, l_38, l_39, l_40, l_41, l_42, l_43, l_44, l_45, l_46, l_47, l_48, l_49, l_50, l_51, l_52, l_53, l_54, l_55, l_56, l_57, l_58, l_59, l_60, l_61, l_62, l_63, l_64, l_97, l_100, l_110, l_115, l_116, l_120, l_122, l_127, l_128, l_136, l_140, l_200, l_255, l_256, l_400, l_1000, l_30000, l_1200, l_65536, l_2147483639, l_2147483647, ob_some, obd_some, q_lt_t, q_lt_f, q_le_t, q_le_f, q_eq_t, q_eq_f, im_ne, im_ne', im_lt, im_le, im_lt', im_le', i_add, i_mul, i_dec, i_dec0, i_sub, i_and, i_shr, i_div, nar_b0, nar_b1, b2i_t, b2i_f, gA1, pA1, gB2, pB2, gA3, pA3, gA4, pA4, gB5, pB5, gA6, pA6, gA7, pA7, gA8, pA8, gA9, pA9, gA10, pA10, gA11, pA11, gA12, pA12, gA13, pA13, gA14, pA14, gA15, pA15, gA16, pA16, gA17, pA17, gA18, pA18, gA19, pA19, gA20, pA20, gA21, pA21, gA40, pA40, gB43, pB43, gA44, pA44, gA45, pA45, gA46, pA46, gA47, pA47, gA48, pA48, gA49, pA49, gA53, pA53, gA54, pA54, gA55, pA55, gA56, pA56, gA58, pA58, gA60, pA60, gA61, pA61, gA62, pA62, gA63, pA63, gA66, pA66, ↓reduceIte, if_true, if_false, mk_A, a]
  exact M_marksUsed_l h hn hs ht hth hc h1 b _ k fu_ mk h3 (by rw [fu_eq]; omega)
theorem M_usesMarked {M : MS} {s : SP} (h : RMa M s) (hn : RMn M s) (hs : SI s) {t c : Nat} (ht : t < z_n s) (hth : z_th s t = true) (hc : c < 8) (hF : FF M s t c) (mk : Nat → Bool) :
    f_X3_usesMarked (i_ t) (i_ c) (m_mk M mk) = some (b2i ((us s t c).any mk), m_mk M mk) := by
  obtain ⟨k, k', a, b, h0, h1, h3⟩ := hF
  have h2 := h.2.1
  have hl := FT_le _ _ _ h3
  unfold f_X3_usesMarked
  simp (disch := omega) only [l_m1, l_m2, l_0, l_1, l_2, l_3, l_4, l_5, l_6, l_7, l_8, l_9, l_10, l_11, l_12, l_13, l_14, l_15, l_16, l_17, l_18, l_19, l_20, l_21, l_22, l_23, l_24, l_25, l_26, l_27, l_28, l_29, l_30, l_31, l_32, l_33, l_34, l_35, l_36, l_37, l_38, l_39, l_40, l_41, l_42, l_43, l_44, l_45, l_46, l_47, l_48, l_49, l_50, l_51, l_52, l_53, l_54, l_55, l_56, l_57, l_58, l_59, l_60, l_61, l_62, l_63, l_64, l_97, l_100, l_110, l_115, l_116, l_120, l_122, l_127, l_128, l_136, l_140, l_200, l_255, l_256, l_400, l_1000, l_30000, l_1200, l_65536, l_2147483639, l_2147483647, ob_some, obd_some, q_lt_t, q_lt_f, q_le_t, q_le_f, q_eq_t, q_eq_f, im_ne, im_ne', im_lt, im_le, im_lt', im_le', i_add, i_mul, i_dec, i_dec0, i_sub, i_and, i_shr, i_div, nar_b0, nar_b1, b2i_t, b2i_f, gA1, pA1, gB2, pB2, gA3, pA3, gA4, pA4, gB5, pB5, gA6, pA6, gA7, pA7, gA8, pA8, gA9, pA9, gA10, pA10, gA11, pA11, gA12, pA12, gA13, pA13, gA14, pA14, gA15, pA15, gA16, pA16, gA17, pA17, gA18, pA18, gA19, pA19, gA20, pA20, gA21, pA21, gA40, pA40, gB43, pB43, gA44, pA44, gA45, pA45, gA46, pA46, gA47, pA47, gA48, pA48, gA49, pA49, gA53, pA53, gA54, pA54, gA55, pA55, gA56, pA56, gA58, pA58, gA60, pA60, gA61, pA61, gA62, pA62, gA63, pA63, gA66, pA66, ↓reduceIte, if_true, if_false, mk_A, a]
  exact M_usesMarked_l h hn hs ht hth hc h1 b mk _ k fu_ h3 (by rw [fu_eq]; omega)
