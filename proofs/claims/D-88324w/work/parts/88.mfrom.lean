/-! from, touch, asked -/
def Sup (s : SP) (mk : Nat → Bool) : Prop := ∀ i, mk i = true → isCd s (z_n s) i
theorem isCd.up {s : SP} {t u v : Nat} (h : isCd s t v) (k : t ≤ u) : isCd s u v := by
  obtain ⟨q, d, h1, h2, h3⟩ := h
  exact ⟨q, d, h1, by omega, h3⟩
theorem isCd.lt {s : SP} {t v : Nat} (h : isCd s t v) : v < 8 * t := by
  obtain ⟨q, d, h1, h2, h3, h4, h5, h6⟩ := h
  omega
theorem made_f {s : SP} {t : Nat} (h : ¬ made s t = true) : ¬ (z_so s t = 1 ∨ z_so s t = 2) := fun k => h (decide_eq_true k)
def frp (s : SP) (q : Nat) (mk : Nat → Bool) (k : Nat) : Nat → Bool := fun i => mk i || (List.range k).any (fun j => mk (8 * q + j) && (us s q j).contains i)
def fr_go (s : SP) : Nat → (Nat → Bool) → Nat → Bool
  | 0, m => m
  | q + 1, m => fr_go s q (if (z_th s q && made s q) = true then frp s q m (z_nc s q) else m)
theorem frp_self {s : SP} (hs : SI s) {q : Nat} (hq : q < z_n s) (hth : z_th s q = true) (hm : made s q = true) (mk : Nat → Bool) {k : Nat} (hk : k ≤ z_nc s q) {i : Nat} (hi : 8 * q ≤ i) : frp s q mk k i = mk i := by
  unfold frp
  rw [show (List.range k).any (fun j => mk (8 * q + j) && (us s q j).contains i) = false from ?_, Bool.or_false]
  rw [List.any_eq_false]
  intro j hj
  have hj' := List.mem_range.mp hj
  simp only [Bool.and_eq_true, List.contains_iff_mem]
  rintro ⟨-, h⟩
  have := (hs.2.2.2.1 q hq hth hm j (Or.inl (by omega)) i h).lt
  omega
theorem frp_succ (s : SP) (q : Nat) (mk : Nat → Bool) (k : Nat) : frp s q mk (k + 1) = fun i => frp s q mk k i || (mk (8 * q + k) && (us s q k).contains i) := by
  funext i
  unfold frp
  rw [List.range_succ, List.any_append, List.any_cons, List.any_nil, Bool.or_false, Bool.or_assoc]
theorem frp_zero (s : SP) (q : Nat) (mk : Nat → Bool) : frp s q mk 0 = mk := by
  funext i
  simp [frp]
theorem M_from_in {M : MS} {s : SP} (h : RMa M s) (hn : RMn M s) (hs : SI s) {q : Nat} (hq : q < z_n s) (hth : z_th s q = true) (hm : made s q = true) (hF : ∀ c, c < z_nc s q → FF M s q c) (K : Int32 → Int32 → MS → Option (Int32 × MS)) (w : Int32) (mk : Nat → Bool) :
    ∀ (r k n : Nat), k + r = z_nc s q → r < n → f_X3_from_n101 K n w (i_ q) (i_ k) (m_mk M (frp s q mk k)) = K w (i_ q + i_m) (m_mk M (frp s q mk (z_nc s q))) := by
  have h2 := h.2.1
  obtain ⟨-, -, ⟨c1, c2, c3⟩, -⟩ := h.2.2 q hq
  intro r
  induction r with
  | zero =>
    intro k n hk hn'
    obtain ⟨n, rfl⟩ : ∃ m, n = m + 1 := ⟨n - 1, by omega⟩
    unfold f_X3_from_n101
    simp (disch := omega) only [l_m1, l_m2, l_0, l_1, l_2, l_3, l_4, l_5, l_6, l_7, l_8, l_9, l_10, l_11, l_12, l_13, l_14, l_15, l_16, l_17, l_18, l_19, l_20, l_21, l_22, l_23, l_24, l_25, l_26, l_27, l_28, l_29, l_30, l_31, l_32, l_33, l_34, l_35, l_36, l_37, l_38, l_39, l_40, l_41, l_42, l_43, l_44, l_45, l_46, l_47, l_48, l_49, l_50, l_51, l_52, l_53, l_54, l_55, l_56, l_57, l_58, l_59, l_60, l_61, l_62, l_63, l_64, l_97, l_100, l_110, l_115, l_116, l_120, l_122, l_127, l_128, l_136, l_140, l_200, l_255, l_256, l_400, l_1000, l_30000, l_1200, l_65536, l_2147483639, l_2147483647, ob_some, obd_some, q_lt_t, q_lt_f, q_le_t, q_le_f, q_eq_t, q_eq_f, im_ne, im_ne', im_lt, im_le, im_lt', im_le', i_add, i_mul, i_dec, i_dec0, i_sub, i_and, i_shr, i_div, nar_b0, nar_b1, b2i_t, b2i_f, gA1, pA1, gB2, pB2, gA3, pA3, gA4, pA4, gB5, pB5, gA6, pA6, gA7, pA7, gA8, pA8, gA9, pA9, gA10, pA10, gA11, pA11, gA12, pA12, gA13, pA13, gA14, pA14, gA15, pA15, gA16, pA16, gA17, pA17, gA18, pA18, gA19, pA19, gA20, pA20, gA21, pA21, gA40, pA40, gB43, pB43, gA44, pA44, gA45, pA45, gA46, pA46, gA47, pA47, gA48, pA48, gA49, pA49, gA53, pA53, gA54, pA54, gA55, pA55, gA56, pA56, gA58, pA58, gA60, pA60, gA61, pA61, gA62, pA62, gA63, pA63, gA66, pA66, ↓reduceIte, if_true, if_false, mk_A, c1]
    rw [show k = z_nc s q by omega]
  | succ r ih =>
    intro k n hk hn'
    obtain ⟨n, rfl⟩ : ∃ m, n = m + 1 := ⟨n - 1, by omega⟩
    have hmk : m_A (m_mk M (frp s q mk k)) 56 (8 * q + k) = b2i (mk (8 * q + k)) := by
      rw [mk_get (by omega), frp_self hs hq hth hm mk (by omega) (by omega)]
    unfold f_X3_from_n101
    have hsu := frp_succ s q mk k
    cases hv : mk (8 * q + k) with
    | false =>
      rw [hv] at hmk hsu
      have hsu' : frp s q mk (k + 1) = frp s q mk k := by
        rw [hsu]
        funext i
        simp
      simp (disch := omega) only [l_m1, l_m2, l_0, l_1, l_2, l_3, l_4, l_5, l_6, l_7, l_8, l_9, l_10, l_11, l_12, l_13, l_14, l_15, l_16, l_17, l_18, l_19, l_20, l_21, l_22, l_23, l_24, l_25, l_26, l_27, l_28, l_29, l_30, l_31, l_32, l_33, l_34, l_35, l_36, l_37, l_38, l_39, l_40, l_41, l_42, l_43, l_44, l_45, l_46, l_47, l_48, l_49, l_50, l_51, l_52, l_53, l_54, l_55, l_56, l_57, l_58, l_59, l_60, l_61, l_62, l_63, l_64, l_97, l_100, l_110, l_115, l_116, l_120, l_122, l_127, l_128, l_136, l_140, l_200, l_255, l_256, l_400, l_1000, l_30000, l_1200, l_65536, l_2147483639, l_2147483647, ob_some, obd_some, q_lt_t, q_lt_f, q_le_t, q_le_f, q_eq_t, q_eq_f, im_ne, im_ne', im_lt, im_le, im_lt', im_le', i_add, i_mul, i_dec, i_dec0, i_sub, i_and, i_shr, i_div, nar_b0, nar_b1, b2i_t, b2i_f, gA1, pA1, gB2, pB2, gA3, pA3, gA4, pA4, gB5, pB5, gA6, pA6, gA7, pA7, gA8, pA8, gA9, pA9, gA10, pA10, gA11, pA11, gA12, pA12, gA13, pA13, gA14, pA14, gA15, pA15, gA16, pA16, gA17, pA17, gA18, pA18, gA19, pA19, gA20, pA20, gA21, pA21, gA40, pA40, gB43, pB43, gA44, pA44, gA45, pA45, gA46, pA46, gA47, pA47, gA48, pA48, gA49, pA49, gA53, pA53, gA54, pA54, gA55, pA55, gA56, pA56, gA58, pA58, gA60, pA60, gA61, pA61, gA62, pA62, gA63, pA63, gA66, pA66, ↓reduceIte, if_true, if_false, mk_A, c1, hmk]
      rw [← hsu']
      exact ih (k + 1) n (by omega) (by omega)
    | true =>
      rw [hv] at hmk hsu
      have hsu' : frp s q mk (k + 1) = mk_l (frp s q mk k) (us s q k) := by
        rw [hsu]
        funext i
        simp only [mk_l, Bool.true_and, Bool.or_comm]
      simp (disch := omega) only [l_m1, l_m2, l_0, l_1, l_2, l_3, l_4, l_5, l_6, l_7, l_8, l_9, l_10, l_11, l_12, l_13, l_14, l_15, l_16, l_17, l_18, l_19, l_20, l_21, l_22, l_23, l_24, l_25, l_26, l_27, l_28, l_29, l_30, l_31, l_32, l_33, l_34, l_35, l_36, l_37, l_38, l_39, l_40, l_41, l_42, l_43, l_44, l_45, l_46, l_47, l_48, l_49, l_50, l_51, l_52, l_53, l_54, l_55, l_56, l_57, l_58, l_59, l_60, l_61, l_62, l_63, l_64, l_97, l_100, l_110, l_115, l_116, l_120, l_122, l_127, l_128, l_136, l_140, l_200, l_255, l_256, l_400, l_1000, l_30000, l_1200, l_65536, l_2147483639, l_2147483647, ob_some, obd_some, q_lt_t, q_lt_f, q_le_t, q_le_f, q_eq_t, q_eq_f, im_ne, im_ne', im_lt, im_le, im_lt', im_le', i_add, i_mul, i_dec, i_dec0, i_sub, i_and, i_shr, i_div, nar_b0, nar_b1, b2i_t, b2i_f, gA1, pA1, gB2, pB2, gA3, pA3, gA4, pA4, gB5, pB5, gA6, pA6, gA7, pA7, gA8, pA8, gA9, pA9, gA10, pA10, gA11, pA11, gA12, pA12, gA13, pA13, gA14, pA14, gA15, pA15, gA16, pA16, gA17, pA17, gA18, pA18, gA19, pA19, gA20, pA20, gA21, pA21, gA40, pA40, gB43, pB43, gA44, pA44, gA45, pA45, gA46, pA46, gA47, pA47, gA48, pA48, gA49, pA49, gA53, pA53, gA54, pA54, gA55, pA55, gA56, pA56, gA58, pA58, gA60, pA60, gA61, pA61, gA62, pA62, gA63, pA63, gA66, pA66, ↓reduceIte, if_true, if_false, mk_A, c1, hmk, M_marksUsed h hn hs hq hth (show k < 8 by omega) (hF k (by omega))]
      rw [← hsu']
      exact ih (k + 1) n (by omega) (by omega)
def idx (r : Nat) : Int32 := match r with
  | 0 => i_m
  | r + 1 => i_ r
theorem idx_s (r : Nat) : idx (r + 1) = i_ r := id rfl
theorem idx_z : idx 0 = i_m := id rfl
theorem idx_dec (q : Nat) : i_ q + i_m = idx q := by
  cases q with
  | zero => exact i_dec0
  | succ q => exact i_dec (by omega)
theorem M_from_go {M : MS} {s : SP} (h : RMa M s) (hn : RMn M s) (hf : RMf M s) (hs : SI s) {w : Nat} (hw : w ≤ 2) : ∀ (r n : Nat) (mk : Nat → Bool), r ≤ z_n s → r < n → f_X3_from_n55 n (i_ w) (idx r) (m_mk M mk) = f_X3_from_n149 (i_ w) (m_mk M (if w = 0 then mk else fr_go s r mk)) := by
  have h2 := h.2.1
  intro r
  induction r with
  | zero =>
    intro n mk hr hn'
    obtain ⟨n, rfl⟩ : ∃ m, n = m + 1 := ⟨n - 1, by omega⟩
    unfold f_X3_from_n55
    have e : (i_m < i_ 0) = True := im_lt (by omega)
    simp (disch := omega) only [l_m1, l_m2, l_0, l_1, l_2, l_3, l_4, l_5, l_6, l_7, l_8, l_9, l_10, l_11, l_12, l_13, l_14, l_15, l_16, l_17, l_18, l_19, l_20, l_21, l_22, l_23, l_24, l_25, l_26, l_27, l_28, l_29, l_30, l_31, l_32, l_33, l_34, l_35, l_36, l_37, l_38, l_39, l_40, l_41, l_42, l_43, l_44, l_45, l_46, l_47, l_48, l_49, l_50, l_51, l_52, l_53, l_54, l_55, l_56, l_57, l_58, l_59, l_60, l_61, l_62, l_63, l_64, l_97, l_100, l_110, l_115, l_116, l_120, l_122, l_127, l_128, l_136, l_140, l_200, l_255, l_256, l_400, l_1000, l_30000, l_1200, l_65536, l_2147483639, l_2147483647, ob_some, obd_some, q_lt_t, q_lt_f, q_le_t, q_le_f, q_eq_t, q_eq_f, im_ne, im_ne', im_lt, im_le, im_lt', im_le', i_add, i_mul, i_dec, i_dec0, i_sub, i_and, i_shr, i_div, nar_b0, nar_b1, b2i_t, b2i_f, gA1, pA1, gB2, pB2, gA3, pA3, gA4, pA4, gB5, pB5, gA6, pA6, gA7, pA7, gA8, pA8, gA9, pA9, gA10, pA10, gA11, pA11, gA12, pA12, gA13, pA13, gA14, pA14, gA15, pA15, gA16, pA16, gA17, pA17, gA18, pA18, gA19, pA19, gA20, pA20, gA21, pA21, gA40, pA40, gB43, pB43, gA44, pA44, gA45, pA45, gA46, pA46, gA47, pA47, gA48, pA48, gA49, pA49, gA53, pA53, gA54, pA54, gA55, pA55, gA56, pA56, gA58, pA58, gA60, pA60, gA61, pA61, gA62, pA62, gA63, pA63, gA66, pA66, ↓reduceIte, if_true, if_false, idx_z, e]
    simp [fr_go]
  | succ q ih =>
    intro n mk hr hn'
    obtain ⟨n, rfl⟩ : ∃ m, n = m + 1 := ⟨n - 1, by omega⟩
    obtain ⟨t1, ⟨q1, q2⟩, -⟩ := h.2.2 q (by omega)
    unfold f_X3_from_n55
    by_cases hw0 : w = 0
    · subst hw0
      simp (disch := omega) only [l_m1, l_m2, l_0, l_1, l_2, l_3, l_4, l_5, l_6, l_7, l_8, l_9, l_10, l_11, l_12, l_13, l_14, l_15, l_16, l_17, l_18, l_19, l_20, l_21, l_22, l_23, l_24, l_25, l_26, l_27, l_28, l_29, l_30, l_31, l_32, l_33, l_34, l_35, l_36, l_37, l_38, l_39, l_40, l_41, l_42, l_43, l_44, l_45, l_46, l_47, l_48, l_49, l_50, l_51, l_52, l_53, l_54, l_55, l_56, l_57, l_58, l_59, l_60, l_61, l_62, l_63, l_64, l_97, l_100, l_110, l_115, l_116, l_120, l_122, l_127, l_128, l_136, l_140, l_200, l_255, l_256, l_400, l_1000, l_30000, l_1200, l_65536, l_2147483639, l_2147483647, ob_some, obd_some, q_lt_t, q_lt_f, q_le_t, q_le_f, q_eq_t, q_eq_f, im_ne, im_ne', im_lt, im_le, im_lt', im_le', i_add, i_mul, i_dec, i_dec0, i_sub, i_and, i_shr, i_div, nar_b0, nar_b1, b2i_t, b2i_f, gA1, pA1, gB2, pB2, gA3, pA3, gA4, pA4, gB5, pB5, gA6, pA6, gA7, pA7, gA8, pA8, gA9, pA9, gA10, pA10, gA11, pA11, gA12, pA12, gA13, pA13, gA14, pA14, gA15, pA15, gA16, pA16, gA17, pA17, gA18, pA18, gA19, pA19, gA20, pA20, gA21, pA21, gA40, pA40, gB43, pB43, gA44, pA44, gA45, pA45, gA46, pA46, gA47, pA47, gA48, pA48, gA49, pA49, gA53, pA53, gA54, pA54, gA55, pA55, gA56, pA56, gA58, pA58, gA60, pA60, gA61, pA61, gA62, pA62, gA63, pA63, gA66, pA66, ↓reduceIte, if_true, if_false, idx_s]
    have hgo : fr_go s (q + 1) mk = fr_go s q (if (z_th s q && made s q) = true then frp s q mk (z_nc s q) else mk) := rfl
    have ih' := ih n mk (by omega) (by omega)
    rw [if_neg hw0] at ih' ⊢
    rw [hgo]
    by_cases hm : made s q = true
    · cases hth : z_th s q with
      | false =>
        rw [hth] at t1
        have hm' : z_so s q = 1 ∨ z_so s q = 2 := of_decide_eq_true hm
        rcases hm' with e | e <;> (simp (disch := omega) only [l_m1, l_m2, l_0, l_1, l_2, l_3, l_4, l_5, l_6, l_7, l_8, l_9, l_10, l_11, l_12, l_13, l_14, l_15, l_16, l_17, l_18, l_19, l_20, l_21, l_22, l_23, l_24, l_25, l_26, l_27, l_28, l_29, l_30, l_31, l_32, l_33, l_34, l_35, l_36, l_37, l_38, l_39, l_40, l_41, l_42, l_43, l_44, l_45, l_46, l_47, l_48, l_49, l_50, l_51, l_52, l_53, l_54, l_55, l_56, l_57, l_58, l_59, l_60, l_61, l_62, l_63, l_64, l_97, l_100, l_110, l_115, l_116, l_120, l_122, l_127, l_128, l_136, l_140, l_200, l_255, l_256, l_400, l_1000, l_30000, l_1200, l_65536, l_2147483639, l_2147483647, ob_some, obd_some, q_lt_t, q_lt_f, q_le_t, q_le_f, q_eq_t, q_eq_f, im_ne, im_ne', im_lt, im_le, im_lt', im_le', i_add, i_mul, i_dec, i_dec0, i_sub, i_and, i_shr, i_div, nar_b0, nar_b1, b2i_t, b2i_f, gA1, pA1, gB2, pB2, gA3, pA3, gA4, pA4, gB5, pB5, gA6, pA6, gA7, pA7, gA8, pA8, gA9, pA9, gA10, pA10, gA11, pA11, gA12, pA12, gA13, pA13, gA14, pA14, gA15, pA15, gA16, pA16, gA17, pA17, gA18, pA18, gA19, pA19, gA20, pA20, gA21, pA21, gA40, pA40, gB43, pB43, gA44, pA44, gA45, pA45, gA46, pA46, gA47, pA47, gA48, pA48, gA49, pA49, gA53, pA53, gA54, pA54, gA55, pA55, gA56, pA56, gA58, pA58, gA60, pA60, gA61, pA61, gA62, pA62, gA63, pA63, gA66, pA66, ↓reduceIte, if_true, if_false, mk_A, q1, e, t1, idx_s, idx_dec]; rw [ih']; simp)
      | true =>
        have hin := M_from_in h hn hs (show q < z_n s by omega) hth hm (hf q (by omega) hth hm).1 (fun x3 x4 M => f_X3_from_n55 n x3 x4 M) (i_ w) mk (z_nc s q) 0 fu_ (by omega) (by have := (hs.2.2.2.2.1 q (by omega)).1.2; rw [fu_eq]; omega)
        rw [frp_zero] at hin
        have hm' : z_so s q = 1 ∨ z_so s q = 2 := of_decide_eq_true hm
        rw [hth] at t1
        have ih2 := ih n (frp s q mk (z_nc s q)) (by omega) (by omega)
        rw [if_neg hw0] at ih2
        rcases hm' with e | e <;> (simp (disch := omega) only [l_m1, l_m2, l_0, l_1, l_2, l_3, l_4, l_5, l_6, l_7, l_8, l_9, l_10, l_11, l_12, l_13, l_14, l_15, l_16, l_17, l_18, l_19, l_20, l_21, l_22, l_23, l_24, l_25, l_26, l_27, l_28, l_29, l_30, l_31, l_32, l_33, l_34, l_35, l_36, l_37, l_38, l_39, l_40, l_41, l_42, l_43, l_44, l_45, l_46, l_47, l_48, l_49, l_50, l_51, l_52, l_53, l_54, l_55, l_56, l_57, l_58, l_59, l_60, l_61, l_62, l_63, l_64, l_97, l_100, l_110, l_115, l_116, l_120, l_122, l_127, l_128, l_136, l_140, l_200, l_255, l_256, l_400, l_1000, l_30000, l_1200, l_65536, l_2147483639, l_2147483647, ob_some, obd_some, q_lt_t, q_lt_f, q_le_t, q_le_f, q_eq_t, q_eq_f, im_ne, im_ne', im_lt, im_le, im_lt', im_le', i_add, i_mul, i_dec, i_dec0, i_sub, i_and, i_shr, i_div, nar_b0, nar_b1, b2i_t, b2i_f, gA1, pA1, gB2, pB2, gA3, pA3, gA4, pA4, gB5, pB5, gA6, pA6, gA7, pA7, gA8, pA8, gA9, pA9, gA10, pA10, gA11, pA11, gA12, pA12, gA13, pA13, gA14, pA14, gA15, pA15, gA16, pA16, gA17, pA17, gA18, pA18, gA19, pA19, gA20, pA20, gA21, pA21, gA40, pA40, gB43, pB43, gA44, pA44, gA45, pA45, gA46, pA46, gA47, pA47, gA48, pA48, gA49, pA49, gA53, pA53, gA54, pA54, gA55, pA55, gA56, pA56, gA58, pA58, gA60, pA60, gA61, pA61, gA62, pA62, gA63, pA63, gA66, pA66, ↓reduceIte, if_true, if_false, mk_A, q1, e, t1, hin, idx_s, idx_dec]; rw [ih2]; simp [hm])
    · have hm' : ¬ (z_so s q = 1 ∨ z_so s q = 2) := made_f hm
      have : z_so s q = 0 ∨ z_so s q = 3 := by omega
      rcases this with e | e <;> (simp (disch := omega) only [l_m1, l_m2, l_0, l_1, l_2, l_3, l_4, l_5, l_6, l_7, l_8, l_9, l_10, l_11, l_12, l_13, l_14, l_15, l_16, l_17, l_18, l_19, l_20, l_21, l_22, l_23, l_24, l_25, l_26, l_27, l_28, l_29, l_30, l_31, l_32, l_33, l_34, l_35, l_36, l_37, l_38, l_39, l_40, l_41, l_42, l_43, l_44, l_45, l_46, l_47, l_48, l_49, l_50, l_51, l_52, l_53, l_54, l_55, l_56, l_57, l_58, l_59, l_60, l_61, l_62, l_63, l_64, l_97, l_100, l_110, l_115, l_116, l_120, l_122, l_127, l_128, l_136, l_140, l_200, l_255, l_256, l_400, l_1000, l_30000, l_1200, l_65536, l_2147483639, l_2147483647, ob_some, obd_some, q_lt_t, q_lt_f, q_le_t, q_le_f, q_eq_t, q_eq_f, im_ne, im_ne', im_lt, im_le, im_lt', im_le', i_add, i_mul, i_dec, i_dec0, i_sub, i_and, i_shr, i_div, nar_b0, nar_b1, b2i_t, b2i_f, gA1, pA1, gB2, pB2, gA3, pA3, gA4, pA4, gB5, pB5, gA6, pA6, gA7, pA7, gA8, pA8, gA9, pA9, gA10, pA10, gA11, pA11, gA12, pA12, gA13, pA13, gA14, pA14, gA15, pA15, gA16, pA16, gA17, pA17, gA18, pA18, gA19, pA19, gA20, pA20, gA21, pA21, gA40, pA40, gB43, pB43, gA44, pA44, gA45, pA45, gA46, pA46, gA47, pA47, gA48, pA48, gA49, pA49, gA53, pA53, gA54, pA54, gA55, pA55, gA56, pA56, gA58, pA58, gA60, pA60, gA61, pA61, gA62, pA62, gA63, pA63, gA66, pA66, ↓reduceIte, if_true, if_false, mk_A, q1, e, idx_s, idx_dec]; rw [ih']; simp [hm])
def fr_p (s : SP) (w : Nat) (mk : Nat → Bool) (k : Nat) : Bool := mk k && (decide (w < 2) || decide (z_so s (k / 8) = 0))
theorem filt_succ (p : Nat → Bool) (k r : Nat) : (List.range' k (r + 1)).filter p = (if p k = true then [k] else []) ++ (List.range' (k + 1) r).filter p := by
  rw [List.range'_succ, List.filter_cons]
  split <;> rfl
theorem M_from_out {M : MS} {s : SP} (h : RMa M s) {w : Nat} (hw : w ≤ 2) {mk : Nat → Bool} (hsup : Sup s mk) : ∀ (r k n : Nat) (l : List Nat), k + r = 136 → r < n → l.length ≤ k → f_X3_from_n157 n (i_ w) (i_ k) (m_fd (m_mk M mk) l) = some (i_ (l ++ (List.range' k r).filter (fr_p s w mk)).length, m_fd (m_mk M mk) (l ++ (List.range' k r).filter (fr_p s w mk))) := by
  have h2 := h.2.1
  intro r
  induction r with
  | zero =>
    intro k n l hk hn hl
    obtain ⟨n, rfl⟩ : ∃ m, n = m + 1 := ⟨n - 1, by omega⟩
    unfold f_X3_from_n157
    simp (disch := omega) only [l_m1, l_m2, l_0, l_1, l_2, l_3, l_4, l_5, l_6, l_7, l_8, l_9, l_10, l_11, l_12, l_13, l_14, l_15, l_16, l_17, l_18, l_19, l_20, l_21, l_22, l_23, l_24, l_25, l_26, l_27, l_28, l_29, l_30, l_31, l_32, l_33, l_34, l_35, l_36, l_37, l_38, l_39, l_40, l_41, l_42, l_43, l_44, l_45, l_46, l_47, l_48, l_49, l_50, l_51, l_52, l_53, l_54, l_55, l_56, l_57, l_58, l_59, l_60, l_61, l_62, l_63, l_64, l_97, l_100, l_110, l_115, l_116, l_120, l_122, l_127, l_128, l_136, l_140, l_200, l_255, l_256, l_400, l_1000, l_30000, l_1200, l_65536, l_2147483639, l_2147483647, ob_some, obd_some, q_lt_t, q_lt_f, q_le_t, q_le_f, q_eq_t, q_eq_f, im_ne, im_ne', im_lt, im_le, im_lt', im_le', i_add, i_mul, i_dec, i_dec0, i_sub, i_and, i_shr, i_div, nar_b0, nar_b1, b2i_t, b2i_f, gA1, pA1, gB2, pB2, gA3, pA3, gA4, pA4, gB5, pB5, gA6, pA6, gA7, pA7, gA8, pA8, gA9, pA9, gA10, pA10, gA11, pA11, gA12, pA12, gA13, pA13, gA14, pA14, gA15, pA15, gA16, pA16, gA17, pA17, gA18, pA18, gA19, pA19, gA20, pA20, gA21, pA21, gA40, pA40, gB43, pB43, gA44, pA44, gA45, pA45, gA46, pA46, gA47, pA47, gA48, pA48, gA49, pA49, gA53, pA53, gA54, pA54, gA55, pA55, gA56, pA56, gA58, pA58, gA60, pA60, gA61, pA61, gA62, pA62, gA63, pA63, gA66, pA66, ↓reduceIte, if_true, if_false, fd_57]
    simp
  | succ r ih =>
    intro k n l hk hn hl
    obtain ⟨n, rfl⟩ : ∃ m, n = m + 1 := ⟨n - 1, by omega⟩
    have hmk : m_A (m_fd (m_mk M mk) l) 56 k = b2i (mk k) := by rw [fd_A (by decide), mk_get (by omega)]
    unfold f_X3_from_n157 f_X3_from_n193
    rw [filt_succ]
    cases hv : mk k with
    | false =>
      rw [hv] at hmk
      simp (disch := omega) only [l_m1, l_m2, l_0, l_1, l_2, l_3, l_4, l_5, l_6, l_7, l_8, l_9, l_10, l_11, l_12, l_13, l_14, l_15, l_16, l_17, l_18, l_19, l_20, l_21, l_22, l_23, l_24, l_25, l_26, l_27, l_28, l_29, l_30, l_31, l_32, l_33, l_34, l_35, l_36, l_37, l_38, l_39, l_40, l_41, l_42, l_43, l_44, l_45, l_46, l_47, l_48, l_49, l_50, l_51, l_52, l_53, l_54, l_55, l_56, l_57, l_58, l_59, l_60, l_61, l_62, l_63, l_64, l_97, l_100, l_110, l_115, l_116, l_120, l_122, l_127, l_128, l_136, l_140, l_200, l_255, l_256, l_400, l_1000, l_30000, l_1200, l_65536, l_2147483639, l_2147483647, ob_some, obd_some, q_lt_t, q_lt_f, q_le_t, q_le_f, q_eq_t, q_eq_f, im_ne, im_ne', im_lt, im_le, im_lt', im_le', i_add, i_mul, i_dec, i_dec0, i_sub, i_and, i_shr, i_div, nar_b0, nar_b1, b2i_t, b2i_f, gA1, pA1, gB2, pB2, gA3, pA3, gA4, pA4, gB5, pB5, gA6, pA6, gA7, pA7, gA8, pA8, gA9, pA9, gA10, pA10, gA11, pA11, gA12, pA12, gA13, pA13, gA14, pA14, gA15, pA15, gA16, pA16, gA17, pA17, gA18, pA18, gA19, pA19, gA20, pA20, gA21, pA21, gA40, pA40, gB43, pB43, gA44, pA44, gA45, pA45, gA46, pA46, gA47, pA47, gA48, pA48, gA49, pA49, gA53, pA53, gA54, pA54, gA55, pA55, gA56, pA56, gA58, pA58, gA60, pA60, gA61, pA61, gA62, pA62, gA63, pA63, gA66, pA66, ↓reduceIte, if_true, if_false, hmk]
      rw [ih (k + 1) n l (by omega) (by omega) (by omega)]
      simp [fr_p, hv]
    | true =>
      rw [hv] at hmk
      obtain ⟨q, d, g1, g2, g3, g4, g5, g6⟩ := hsup k hv
      have gq : k / 8 = q := by omega
      obtain ⟨-, ⟨q1, q2⟩, -⟩ := h.2.2 q g2
      have hso : m_A (m_fd (m_mk M mk) l) 3 (k / 8) = i_ (z_so s q) := by rw [gq, fd_A (by decide), mk_A (by decide), q1]
      by_cases hw2 : w < 2
      · simp (disch := omega) only [l_m1, l_m2, l_0, l_1, l_2, l_3, l_4, l_5, l_6, l_7, l_8, l_9, l_10, l_11, l_12, l_13, l_14, l_15, l_16, l_17, l_18, l_19, l_20, l_21, l_22, l_23, l_24, l_25, l_26, l_27, l_28, l_29, l_30, l_31, l_32, l_33, l_34, l_35, l_36, l_37, l_38, l_39, l_40, l_41, l_42, l_43, l_44, l_45, l_46, l_47, l_48, l_49, l_50, l_51, l_52, l_53, l_54, l_55, l_56, l_57, l_58, l_59, l_60, l_61, l_62, l_63, l_64, l_97, l_100, l_110, l_115, l_116, l_120, l_122, l_127, l_128, l_136, l_140, l_200, l_255, l_256, l_400, l_1000, l_30000, l_1200, l_65536, l_2147483639, l_2147483647, ob_some, obd_some, q_lt_t, q_lt_f, q_le_t, q_le_f, q_eq_t, q_eq_f, im_ne, im_ne', im_lt, im_le, im_lt', im_le', i_add, i_mul, i_dec, i_dec0, i_sub, i_and, i_shr, i_div, nar_b0, nar_b1, b2i_t, b2i_f, gA1, pA1, gB2, pB2, gA3, pA3, gA4, pA4, gB5, pB5, gA6, pA6, gA7, pA7, gA8, pA8, gA9, pA9, gA10, pA10, gA11, pA11, gA12, pA12, gA13, pA13, gA14, pA14, gA15, pA15, gA16, pA16, gA17, pA17, gA18, pA18, gA19, pA19, gA20, pA20, gA21, pA21, gA40, pA40, gB43, pB43, gA44, pA44, gA45, pA45, gA46, pA46, gA47, pA47, gA48, pA48, gA49, pA49, gA53, pA53, gA54, pA54, gA55, pA55, gA56, pA56, gA58, pA58, gA60, pA60, gA61, pA61, gA62, pA62, gA63, pA63, gA66, pA66, ↓reduceIte, if_true, if_false, hmk, M_finds]
        rw [ih (k + 1) n (l ++ [k]) (by omega) (by omega) (by simp; omega)]
        simp [fr_p, hv, hw2]
      · by_cases h0 : z_so s q = 0
        · simp (disch := omega) only [l_m1, l_m2, l_0, l_1, l_2, l_3, l_4, l_5, l_6, l_7, l_8, l_9, l_10, l_11, l_12, l_13, l_14, l_15, l_16, l_17, l_18, l_19, l_20, l_21, l_22, l_23, l_24, l_25, l_26, l_27, l_28, l_29, l_30, l_31, l_32, l_33, l_34, l_35, l_36, l_37, l_38, l_39, l_40, l_41, l_42, l_43, l_44, l_45, l_46, l_47, l_48, l_49, l_50, l_51, l_52, l_53, l_54, l_55, l_56, l_57, l_58, l_59, l_60, l_61, l_62, l_63, l_64, l_97, l_100, l_110, l_115, l_116, l_120, l_122, l_127, l_128, l_136, l_140, l_200, l_255, l_256, l_400, l_1000, l_30000, l_1200, l_65536, l_2147483639, l_2147483647, ob_some, obd_some, q_lt_t, q_lt_f, q_le_t, q_le_f, q_eq_t, q_eq_f, im_ne, im_ne', im_lt, im_le, im_lt', im_le', i_add, i_mul, i_dec, i_dec0, i_sub, i_and, i_shr, i_div, nar_b0, nar_b1, b2i_t, b2i_f, gA1, pA1, gB2, pB2, gA3, pA3, gA4, pA4, gB5, pB5, gA6, pA6, gA7, pA7, gA8, pA8, gA9, pA9, gA10, pA10, gA11, pA11, gA12, pA12, gA13, pA13, gA14, pA14, gA15, pA15, gA16, pA16, gA17, pA17, gA18, pA18, gA19, pA19, gA20, pA20, gA21, pA21, gA40, pA40, gB43, pB43, gA44, pA44, gA45, pA45, gA46, pA46, gA47, pA47, gA48, pA48, gA49, pA49, gA53, pA53, gA54, pA54, gA55, pA55, gA56, pA56, gA58, pA58, gA60, pA60, gA61, pA61, gA62, pA62, gA63, pA63, gA66, pA66, ↓reduceIte, if_true, if_false, hmk, hso, h0, M_finds]
          rw [ih (k + 1) n (l ++ [k]) (by omega) (by omega) (by simp; omega)]
          simp [fr_p, hv, hw2, gq, h0]
        · simp (disch := omega) only [l_m1, l_m2, l_0, l_1, l_2, l_3, l_4, l_5, l_6, l_7, l_8, l_9, l_10, l_11, l_12, l_13, l_14, l_15, l_16, l_17, l_18, l_19, l_20, l_21, l_22, l_23, l_24, l_25, l_26, l_27, l_28, l_29, l_30, l_31, l_32, l_33, l_34, l_35, l_36, l_37, l_38, l_39, l_40, l_41, l_42, l_43, l_44, l_45, l_46, l_47, l_48, l_49, l_50, l_51, l_52, l_53, l_54, l_55, l_56, l_57, l_58, l_59, l_60, l_61, l_62, l_63, l_64, l_97, l_100, l_110, l_115, l_116, l_120, l_122, l_127, l_128, l_136, l_140, l_200, l_255, l_256, l_400, l_1000, l_30000, l_1200, l_65536, l_2147483639, l_2147483647, ob_some, obd_some, q_lt_t, q_lt_f, q_le_t, q_le_f, q_eq_t, q_eq_f, im_ne, im_ne', im_lt, im_le, im_lt', im_le', i_add, i_mul, i_dec, i_dec0, i_sub, i_and, i_shr, i_div, nar_b0, nar_b1, b2i_t, b2i_f, gA1, pA1, gB2, pB2, gA3, pA3, gA4, pA4, gB5, pB5, gA6, pA6, gA7, pA7, gA8, pA8, gA9, pA9, gA10, pA10, gA11, pA11, gA12, pA12, gA13, pA13, gA14, pA14, gA15, pA15, gA16, pA16, gA17, pA17, gA18, pA18, gA19, pA19, gA20, pA20, gA21, pA21, gA40, pA40, gB43, pB43, gA44, pA44, gA45, pA45, gA46, pA46, gA47, pA47, gA48, pA48, gA49, pA49, gA53, pA53, gA54, pA54, gA55, pA55, gA56, pA56, gA58, pA58, gA60, pA60, gA61, pA61, gA62, pA62, gA63, pA63, gA66, pA66, ↓reduceIte, if_true, if_false, hmk, hso, h0]
          rw [ih (k + 1) n l (by omega) (by omega) (by omega)]
          simp [fr_p, hv, hw2, gq, h0]
def fr_mk (s : SP) (t c w : Nat) : Nat → Bool := if w = 0 then (if made s t = true then mk_l (fun _ => false) (us s t c) else fun _ => false) else fr_go s t (if made s t = true then mk_l (fun _ => false) (us s t c) else fun _ => false)
def fr_l (s : SP) (t c w : Nat) : List Nat := (List.range' 0 128).filter (fr_p s w (fr_mk s t c w))
def sp_from (s : SP) (x y w : Int32) : Int32 × SP := if isC s x y = true ∧ ¬ w < i_ 0 ∧ w ≤ i_ 2 then (i_ (fr_l s x.toNatClampNeg y.toNatClampNeg w.toNatClampNeg).length, u_fd s (fr_l s x.toNatClampNeg y.toNatClampNeg w.toNatClampNeg)) else (i_m, s)
theorem Sup.l {s : SP} {mk : Nat → Bool} (h : Sup s mk) {l : List Nat} (hl : ∀ v ∈ l, isCd s (z_n s) v) : Sup s (mk_l mk l) := by
  intro i hi
  unfold mk_l at hi
  rw [Bool.or_eq_true, List.contains_iff_mem] at hi
  rcases hi with hi | hi
  · exact hl i hi
  · exact h i hi
theorem Sup.frp {s : SP} (hs : SI s) {mk : Nat → Bool} (h : Sup s mk) {q : Nat} (hq : q < z_n s) (hth : z_th s q = true) (hm : made s q = true) : Sup s (frp s q mk (z_nc s q)) := by
  intro i hi
  have hi2 : (mk i || (List.range (z_nc s q)).any (fun j => mk (8 * q + j) && (us s q j).contains i)) = true := hi
  rw [Bool.or_eq_true, List.any_eq_true] at hi2
  rcases hi2 with hi2 | ⟨j, hj, hi2⟩
  · exact h i hi2
  · rw [Bool.and_eq_true, List.contains_iff_mem] at hi2
    exact (hs.2.2.2.1 q hq hth hm j (Or.inl (List.mem_range.mp hj)) i hi2.2).up (by omega)
theorem Sup.go {s : SP} (hs : SI s) : ∀ (r : Nat) {mk : Nat → Bool}, Sup s mk → r ≤ z_n s → Sup s (fr_go s r mk)
  | 0, _, h, _ => h
  | q + 1, m, h, hr => by
    unfold fr_go
    refine Sup.go hs q ?_ (by omega)
    by_cases e : (z_th s q && made s q) = true
    · rw [if_pos e]
      rw [Bool.and_eq_true] at e
      exact h.frp hs (by omega) e.1 e.2
    · rw [if_neg e]
      exact h
theorem Sup.mk {s : SP} (hs : SI s) {t c : Nat} (w : Nat) (ht : t < z_n s) (hth : z_th s t = true) (hc : c < z_nc s t) : Sup s (fr_mk s t c w) := by
  have h0 : Sup s (if made s t = true then mk_l (fun _ => false) (us s t c) else fun _ => false) := by
    by_cases e : made s t = true
    · rw [if_pos e]
      exact Sup.l (fun i hi => by cases hi) (fun v hv => (hs.2.2.2.1 t ht hth e c (Or.inl hc) v hv).up (by omega))
    · rw [if_neg e]
      exact fun i hi => by cases hi
  unfold fr_mk
  by_cases e : w = 0
  · rw [if_pos e]
    exact h0
  · rw [if_neg e]
    exact h0.go hs t (by omega)
theorem filt_tail {p : Nat → Bool} (h : ∀ k, 128 ≤ k → p k = false) : (List.range' 0 136).filter p = (List.range' 0 128).filter p := by
  have e : List.range' 0 136 = List.range' 0 128 ++ List.range' 128 8 := by decide
  have e2 : (List.range' 128 8).filter p = [] := List.filter_eq_nil_iff.mpr (fun a ha => by
    have := (List.mem_range'_1.mp ha).1
    rw [h a this]
    decide)
  rw [e, List.filter_append, e2, List.append_nil]
theorem filt_len (p : Nat → Bool) (n : Nat) : ((List.range' 0 n).filter p).length ≤ n := by
  have := List.length_filter_le p (List.range' 0 n)
  rw [List.length_range'] at this
  exact this
theorem Sup.lt {s : SP} {mk : Nat → Bool} (h : Sup s mk) (hn : z_n s ≤ 16) {k : Nat} (hk : 128 ≤ k) : mk k = false := by
  cases hv : mk k with
  | false => rfl
  | true =>
    have := (h k hv).lt
    omega
/-- what a reading of marks leaves: marks and what was found -/
def MFd (M M' : MS) (l : List Nat) : Prop := ∃ mk, M' = m_fd (m_mk M mk) l
theorem M_from {M : MS} {s : SP} (h : RMa M s) (hn : RMn M s) (hf : RMf M s) (hs : SI s) (x y w : Int32) : ∃ M', f_X3_from x y w M = some ((sp_from s x y w).1, M') ∧ (M' = M ∧ (sp_from s x y w).2 = s ∨ MFd M M' (z_fd (sp_from s x y w).2) ∧ (sp_from s x y w).2 = u_fd s (z_fd (sp_from s x y w).2) ∧ (z_fd (sp_from s x y w).2).length ≤ 128 ∧ ∀ v ∈ z_fd (sp_from s x y w).2, v < 136) := by
  unfold f_X3_from sp_from
  rw [M_isColumn h]
  cases hc : isC s x y with
  | false =>
    simp (disch := omega) only [l_m1, l_m2, l_0, l_1, l_2, l_3, l_4, l_5, l_6, l_7, l_8, l_9, l_10, l_11, l_12, l_13, l_14, l_15, l_16, l_17, l_18, l_19, l_20, l_21, l_22, l_23, l_24, l_25, l_26, l_27, l_28, l_29, l_30, l_31, l_32, l_33, l_34, l_35, l_36, l_37, l_38, l_39, l_40, l_41, l_42, l_43, l_44, l_45, l_46, l_47, l_48, l_49, l_50, l_51, l_52, l_53, l_54, l_55, l_56, l_57, l_58, l_59, l_60, l_61, l_62, l_63, l_64, l_97, l_100, l_110, l_115, l_116, l_120, l_122, l_127, l_128, l_136, l_140, l_200, l_255, l_256, l_400, l_1000, l_30000, l_1200, l_65536, l_2147483639, l_2147483647, ob_some, obd_some, q_lt_t, q_lt_f, q_le_t, q_le_f, q_eq_t, q_eq_f, im_ne, im_ne', im_lt, im_le, im_lt', im_le', i_add, i_mul, i_dec, i_dec0, i_sub, i_and, i_shr, i_div, nar_b0, nar_b1, b2i_t, b2i_f, gA1, pA1, gB2, pB2, gA3, pA3, gA4, pA4, gB5, pB5, gA6, pA6, gA7, pA7, gA8, pA8, gA9, pA9, gA10, pA10, gA11, pA11, gA12, pA12, gA13, pA13, gA14, pA14, gA15, pA15, gA16, pA16, gA17, pA17, gA18, pA18, gA19, pA19, gA20, pA20, gA21, pA21, gA40, pA40, gB43, pB43, gA44, pA44, gA45, pA45, gA46, pA46, gA47, pA47, gA48, pA48, gA49, pA49, gA53, pA53, gA54, pA54, gA55, pA55, gA56, pA56, gA58, pA58, gA60, pA60, gA61, pA61, gA62, pA62, gA63, pA63, gA66, pA66, ↓reduceIte, if_true, if_false]
    exact ⟨M, by simp, Or.inl ⟨rfl, by simp⟩⟩
  | true =>
    obtain ⟨t, c, rfl, rfl, ht, hth, hcc⟩ := isC_of hc
    have h2 := h.2.1
    obtain ⟨-, ⟨q1, q2⟩, ⟨c1, c2, c3⟩, -⟩ := h.2.2 t ht
    rw [i_cl (show t < 2147483648 by omega), i_cl (show c < 2147483648 by omega)]
    by_cases h0 : w < i_ 0
    · simp (disch := omega) only [l_m1, l_m2, l_0, l_1, l_2, l_3, l_4, l_5, l_6, l_7, l_8, l_9, l_10, l_11, l_12, l_13, l_14, l_15, l_16, l_17, l_18, l_19, l_20, l_21, l_22, l_23, l_24, l_25, l_26, l_27, l_28, l_29, l_30, l_31, l_32, l_33, l_34, l_35, l_36, l_37, l_38, l_39, l_40, l_41, l_42, l_43, l_44, l_45, l_46, l_47, l_48, l_49, l_50, l_51, l_52, l_53, l_54, l_55, l_56, l_57, l_58, l_59, l_60, l_61, l_62, l_63, l_64, l_97, l_100, l_110, l_115, l_116, l_120, l_122, l_127, l_128, l_136, l_140, l_200, l_255, l_256, l_400, l_1000, l_30000, l_1200, l_65536, l_2147483639, l_2147483647, ob_some, obd_some, q_lt_t, q_lt_f, q_le_t, q_le_f, q_eq_t, q_eq_f, im_ne, im_ne', im_lt, im_le, im_lt', im_le', i_add, i_mul, i_dec, i_dec0, i_sub, i_and, i_shr, i_div, nar_b0, nar_b1, b2i_t, b2i_f, gA1, pA1, gB2, pB2, gA3, pA3, gA4, pA4, gB5, pB5, gA6, pA6, gA7, pA7, gA8, pA8, gA9, pA9, gA10, pA10, gA11, pA11, gA12, pA12, gA13, pA13, gA14, pA14, gA15, pA15, gA16, pA16, gA17, pA17, gA18, pA18, gA19, pA19, gA20, pA20, gA21, pA21, gA40, pA40, gB43, pB43, gA44, pA44, gA45, pA45, gA46, pA46, gA47, pA47, gA48, pA48, gA49, pA49, gA53, pA53, gA54, pA54, gA55, pA55, gA56, pA56, gA58, pA58, gA60, pA60, gA61, pA61, gA62, pA62, gA63, pA63, gA66, pA66, ↓reduceIte, if_true, if_false, h0]
      exact ⟨M, by simp, Or.inl ⟨rfl, by simp⟩⟩
    by_cases h3 : w ≤ i_ 2
    · obtain ⟨e, hb⟩ := i_of h0
      generalize w.toNatClampNeg = v at e hb
      subst e
      have hv : v ≤ 2 := by rw [i_le hb (by omega)] at h3; exact h3
      have hsup := Sup.mk hs v ht hth hcc
      have hgo := M_from_go h hn hf hs hv t fu_ (if made s t = true then mk_l (fun _ => false) (us s t c) else fun _ => false) (by omega) (by rw [fu_eq]; omega)
      have hout := M_from_out h hv hsup 136 0 fu_ [] (by omega) (by rw [fu_eq]; omega) (by simp)
      rw [filt_tail (p := fr_p s v (fr_mk s t c v)) (fun k hk => by unfold fr_p; rw [hsup.lt h2 hk]; rfl), fd_nil] at hout
      have hti : i_ t - i_ 1 = idx t := by
        cases t with
        | zero => decide
        | succ t =>
          rw [i_sub (by omega)]
          rfl
      refine ⟨m_fd (m_mk M (fr_mk s t c v)) (fr_l s t c v), ?_, Or.inr ?_⟩
      · rw [show (if true = true ∧ ¬i_ v < i_ 0 ∧ i_ v ≤ i_ 2 then ((i_ (fr_l s t c v).length, u_fd s (fr_l s t c v)) : Int32 × SP) else (i_m, s)) = (i_ (fr_l s t c v).length, u_fd s (fr_l s t c v)) from if_pos ⟨rfl, h0, h3⟩]
        unfold f_X3_from_n44 f_X3_from_n50
        by_cases hm : made s t = true
        · have hm' : z_so s t = 1 ∨ z_so s t = 2 := of_decide_eq_true hm
          rw [if_pos hm] at hgo
          have hF := M_marksUsed h hn hs ht hth (show c < 8 by omega) ((hf t ht hth hm).1 c hcc) (fun _ => false)
          have hmkeq : fr_mk s t c v = (if v = 0 then mk_l (fun _ => false) (us s t c) else fr_go s t (mk_l (fun _ => false) (us s t c))) := by
            unfold fr_mk
            rw [if_pos hm]
          rw [← hmkeq] at hgo
          unfold f_X3_from_n149 at hgo
          rcases hm' with e | e <;> (simp (disch := omega) only [l_m1, l_m2, l_0, l_1, l_2, l_3, l_4, l_5, l_6, l_7, l_8, l_9, l_10, l_11, l_12, l_13, l_14, l_15, l_16, l_17, l_18, l_19, l_20, l_21, l_22, l_23, l_24, l_25, l_26, l_27, l_28, l_29, l_30, l_31, l_32, l_33, l_34, l_35, l_36, l_37, l_38, l_39, l_40, l_41, l_42, l_43, l_44, l_45, l_46, l_47, l_48, l_49, l_50, l_51, l_52, l_53, l_54, l_55, l_56, l_57, l_58, l_59, l_60, l_61, l_62, l_63, l_64, l_97, l_100, l_110, l_115, l_116, l_120, l_122, l_127, l_128, l_136, l_140, l_200, l_255, l_256, l_400, l_1000, l_30000, l_1200, l_65536, l_2147483639, l_2147483647, ob_some, obd_some, q_lt_t, q_lt_f, q_le_t, q_le_f, q_eq_t, q_eq_f, im_ne, im_ne', im_lt, im_le, im_lt', im_le', i_add, i_mul, i_dec, i_dec0, i_sub, i_and, i_shr, i_div, nar_b0, nar_b1, b2i_t, b2i_f, gA1, pA1, gB2, pB2, gA3, pA3, gA4, pA4, gB5, pB5, gA6, pA6, gA7, pA7, gA8, pA8, gA9, pA9, gA10, pA10, gA11, pA11, gA12, pA12, gA13, pA13, gA14, pA14, gA15, pA15, gA16, pA16, gA17, pA17, gA18, pA18, gA19, pA19, gA20, pA20, gA21, pA21, gA40, pA40, gB43, pB43, gA44, pA44, gA45, pA45, gA46, pA46, gA47, pA47, gA48, pA48, gA49, pA49, gA53, pA53, gA54, pA54, gA55, pA55, gA56, pA56, gA58, pA58, gA60, pA60, gA61, pA61, gA62, pA62, gA63, pA63, gA66, pA66, ↓reduceIte, if_true, if_false, h0, h3, M_clears, mk_A, q1, e, hF, hti, hgo]; exact hout)
        · have hm' : ¬ (z_so s t = 1 ∨ z_so s t = 2) := made_f hm
          rw [if_neg hm] at hgo
          have hmkeq : fr_mk s t c v = (if v = 0 then (fun _ => false) else fr_go s t (fun _ => false)) := by
            unfold fr_mk
            rw [if_neg hm]
          rw [← hmkeq] at hgo
          unfold f_X3_from_n149 at hgo
          have : z_so s t = 0 ∨ z_so s t = 3 := by omega
          rcases this with e | e <;> (simp (disch := omega) only [l_m1, l_m2, l_0, l_1, l_2, l_3, l_4, l_5, l_6, l_7, l_8, l_9, l_10, l_11, l_12, l_13, l_14, l_15, l_16, l_17, l_18, l_19, l_20, l_21, l_22, l_23, l_24, l_25, l_26, l_27, l_28, l_29, l_30, l_31, l_32, l_33, l_34, l_35, l_36, l_37, l_38, l_39, l_40, l_41, l_42, l_43, l_44, l_45, l_46, l_47, l_48, l_49, l_50, l_51, l_52, l_53, l_54, l_55, l_56, l_57, l_58, l_59, l_60, l_61, l_62, l_63, l_64, l_97, l_100, l_110, l_115, l_116, l_120, l_122, l_127, l_128, l_136, l_140, l_200, l_255, l_256, l_400, l_1000, l_30000, l_1200, l_65536, l_2147483639, l_2147483647, ob_some, obd_some, q_lt_t, q_lt_f, q_le_t, q_le_f, q_eq_t, q_eq_f, im_ne, im_ne', im_lt, im_le, im_lt', im_le', i_add, i_mul, i_dec, i_dec0, i_sub, i_and, i_shr, i_div, nar_b0, nar_b1, b2i_t, b2i_f, gA1, pA1, gB2, pB2, gA3, pA3, gA4, pA4, gB5, pB5, gA6, pA6, gA7, pA7, gA8, pA8, gA9, pA9, gA10, pA10, gA11, pA11, gA12, pA12, gA13, pA13, gA14, pA14, gA15, pA15, gA16, pA16, gA17, pA17, gA18, pA18, gA19, pA19, gA20, pA20, gA21, pA21, gA40, pA40, gB43, pB43, gA44, pA44, gA45, pA45, gA46, pA46, gA47, pA47, gA48, pA48, gA49, pA49, gA53, pA53, gA54, pA54, gA55, pA55, gA56, pA56, gA58, pA58, gA60, pA60, gA61, pA61, gA62, pA62, gA63, pA63, gA66, pA66, ↓reduceIte, if_true, if_false, h0, h3, M_clears, mk_A, q1, e, hti, hgo]; exact hout)
      · simp only [h0, h3, not_false_eq_true, and_self, if_true]
        refine ⟨⟨_, rfl⟩, rfl, ?_, ?_⟩
        · exact filt_len _ _
        · intro v hv
          have := (List.mem_range'_1.mp (List.mem_filter.mp hv |>.1)).2
          omega
    · simp (disch := omega) only [l_m1, l_m2, l_0, l_1, l_2, l_3, l_4, l_5, l_6, l_7, l_8, l_9, l_10, l_11, l_12, l_13, l_14, l_15, l_16, l_17, l_18, l_19, l_20, l_21, l_22, l_23, l_24, l_25, l_26, l_27, l_28, l_29, l_30, l_31, l_32, l_33, l_34, l_35, l_36, l_37, l_38, l_39, l_40, l_41, l_42, l_43, l_44, l_45, l_46, l_47, l_48, l_49, l_50, l_51, l_52, l_53, l_54, l_55, l_56, l_57, l_58, l_59, l_60, l_61, l_62, l_63, l_64, l_97, l_100, l_110, l_115, l_116, l_120, l_122, l_127, l_128, l_136, l_140, l_200, l_255, l_256, l_400, l_1000, l_30000, l_1200, l_65536, l_2147483639, l_2147483647, ob_some, obd_some, q_lt_t, q_lt_f, q_le_t, q_le_f, q_eq_t, q_eq_f, im_ne, im_ne', im_lt, im_le, im_lt', im_le', i_add, i_mul, i_dec, i_dec0, i_sub, i_and, i_shr, i_div, nar_b0, nar_b1, b2i_t, b2i_f, gA1, pA1, gB2, pB2, gA3, pA3, gA4, pA4, gB5, pB5, gA6, pA6, gA7, pA7, gA8, pA8, gA9, pA9, gA10, pA10, gA11, pA11, gA12, pA12, gA13, pA13, gA14, pA14, gA15, pA15, gA16, pA16, gA17, pA17, gA18, pA18, gA19, pA19, gA20, pA20, gA21, pA21, gA40, pA40, gB43, pB43, gA44, pA44, gA45, pA45, gA46, pA46, gA47, pA47, gA48, pA48, gA49, pA49, gA53, pA53, gA54, pA54, gA55, pA55, gA56, pA56, gA58, pA58, gA60, pA60, gA61, pA61, gA62, pA62, gA63, pA63, gA66, pA66, ↓reduceIte, if_true, if_false, h0, h3]
      exact ⟨M, by simp, Or.inl ⟨rfl, by simp⟩⟩
