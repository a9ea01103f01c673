/-! touch, asked -/
def tcp (s : SP) (q : Nat) (rows : Bool) (mk : Nat → Bool) (k : Nat) : Nat → Bool := fun i => mk i || (List.range k).any (fun j => decide (i = 8 * q + j) && (rows || (us s q j).any mk))
def tc_r (s : SP) (q : Nat) (mk : Nat → Bool) : Bool := z_hw s q && ((us s q 6).any mk || (us s q 7).any mk)
def tc_go (s : SP) : Nat → Nat → (Nat → Bool) → Nat → Bool
  | 0, _, m => m
  | r + 1, q, m => tc_go s r (q + 1) (if (z_th s q && made s q) = true then tcp s q (tc_r s q m) m (z_nc s q) else m)
theorem tcp_zero (s : SP) (q : Nat) (rows : Bool) (mk : Nat → Bool) : tcp s q rows mk 0 = mk := by
  funext i
  simp [tcp]
theorem tcp_succ (s : SP) (q : Nat) (rows : Bool) (mk : Nat → Bool) (k : Nat) : tcp s q rows mk (k + 1) = fun i => tcp s q rows mk k i || (decide (i = 8 * q + k) && (rows || (us s q k).any mk)) := by
  funext i
  unfold tcp
  rw [List.range_succ, List.any_append, List.any_cons, List.any_nil, Bool.or_false, Bool.or_assoc]
theorem tcp_lo {s : SP} {q : Nat} {rows : Bool} {mk : Nat → Bool} {k i : Nat} (h : i < 8 * q) : tcp s q rows mk k i = mk i := by
  unfold tcp
  rw [show (List.range k).any (fun j => decide (i = 8 * q + j) && (rows || (us s q j).any mk)) = false from ?_, Bool.or_false]
  rw [List.any_eq_false]
  intro j _
  rw [show decide (i = 8 * q + j) = false from decide_eq_false (by omega)]
  simp
theorem any_congr' {l : List Nat} {f g : Nat → Bool} (h : ∀ v ∈ l, f v = g v) : l.any f = l.any g := by
  induction l with
  | nil => rfl
  | cons a l ih =>
    rw [List.any_cons, List.any_cons, h a List.mem_cons_self, ih (fun v hv => h v (List.mem_cons_of_mem _ hv))]
theorem M_touch_in {M : MS} {s : SP} (h : RMa M s) (hn : RMn M s) (hs : SI s) {q : Nat} (hq : q < z_n s) (hth : z_th s q = true) (hm : made s q = true) (hF : ∀ c, c < z_nc s q → FF M s q c) (K : Int32 → MS → Option MS) (rows : Bool) (mk : Nat → Bool) :
    ∀ (r k n : Nat), k + r = z_nc s q → r < n → f_X3_touches_n97 K n (i_ q) (b2i rows) (i_ k) (m_mk M (tcp s q rows mk k)) = K (i_ (q + 1)) (m_mk M (tcp s q rows mk (z_nc s q))) := by
  have h2 := h.2.1
  obtain ⟨-, -, ⟨c1, c2, c3⟩, -⟩ := h.2.2 q hq
  intro r
  induction r with
  | zero =>
    intro k n hk hn'
    obtain ⟨n, rfl⟩ : ∃ m, n = m + 1 := ⟨n - 1, by omega⟩
    unfold f_X3_touches_n97
    simp (disch := omega) only [l_m1, l_m2, l_0, l_1, l_2, l_3, l_4, l_5, l_6, l_7, l_8, l_9, l_10, l_11, l_12, l_13, l_14, l_15, l_16, l_17, l_18, l_19, l_20, l_21, l_22, l_23, l_24, l_25, l_26, l_27, l_28, l_29, l_30, l_31, l_32, l_33, l_34, l_35, l_36, l_37, l_38, l_39, l_40, l_41, l_42, l_43, l_44, l_45, l_46, l_47, l_48, l_49, l_50, l_51, l_52, l_53, l_54, l_55, l_56, l_57, l_58, l_59, l_60, l_61, l_62, l_63, l_64, l_97, l_100, l_110, l_115, l_116, l_120, l_122, l_127, l_128, l_136, l_140, l_200, l_255, l_256, l_400, l_1000, l_30000, l_1200, l_65536, l_2147483639, l_2147483647, ob_some, obd_some, q_lt_t, q_lt_f, q_le_t, q_le_f, q_eq_t, q_eq_f, im_ne, im_ne', im_lt, im_le, im_lt', im_le', i_add, i_mul, i_dec, i_dec0, i_sub, i_and, i_shr, i_div, nar_b0, nar_b1, b2i_t, b2i_f, gA1, pA1, gB2, pB2, gA3, pA3, gA4, pA4, gB5, pB5, gA6, pA6, gA7, pA7, gA8, pA8, gA9, pA9, gA10, pA10, gA11, pA11, gA12, pA12, gA13, pA13, gA14, pA14, gA15, pA15, gA16, pA16, gA17, pA17, gA18, pA18, gA19, pA19, gA20, pA20, gA21, pA21, gA40, pA40, gB43, pB43, gA44, pA44, gA45, pA45, gA46, pA46, gA47, pA47, gA48, pA48, gA49, pA49, gA53, pA53, gA54, pA54, gA55, pA55, gA56, pA56, gA58, pA58, gA60, pA60, gA61, pA61, gA62, pA62, gA63, pA63, gA66, pA66, ↓reduceIte, if_true, if_false, mk_A, c1]
    rw [show k = z_nc s q by omega]
  | succ r ih =>
    intro k n hk hn'
    obtain ⟨n, rfl⟩ : ∃ m, n = m + 1 := ⟨n - 1, by omega⟩
    have hu := M_usesMarked h hn hs hq hth (show k < 8 by omega) (hF k (by omega)) (tcp s q rows mk k)
    rw [any_congr' (g := mk) (fun v hv => tcp_lo (hs.2.2.2.1 q hq hth hm k (Or.inl (by omega)) v hv).lt)] at hu
    have hsu := tcp_succ s q rows mk k
    have ih' := ih (k + 1) n (by omega) (by omega)
    have htr : (rows || (us s q k).any mk) = true → tcp s q rows mk (k + 1) = mk_up (tcp s q rows mk k) (8 * q + k) := by
      intro e
      rw [hsu]
      funext i
      rw [e]
      unfold mk_up
      rw [Bool.and_true, Bool.or_comm]
    unfold f_X3_touches_n97 f_X3_touches_n123
    cases hr : rows with
    | true =>
      subst hr
      simp (disch := omega) only [l_m1, l_m2, l_0, l_1, l_2, l_3, l_4, l_5, l_6, l_7, l_8, l_9, l_10, l_11, l_12, l_13, l_14, l_15, l_16, l_17, l_18, l_19, l_20, l_21, l_22, l_23, l_24, l_25, l_26, l_27, l_28, l_29, l_30, l_31, l_32, l_33, l_34, l_35, l_36, l_37, l_38, l_39, l_40, l_41, l_42, l_43, l_44, l_45, l_46, l_47, l_48, l_49, l_50, l_51, l_52, l_53, l_54, l_55, l_56, l_57, l_58, l_59, l_60, l_61, l_62, l_63, l_64, l_97, l_100, l_110, l_115, l_116, l_120, l_122, l_127, l_128, l_136, l_140, l_200, l_255, l_256, l_400, l_1000, l_30000, l_1200, l_65536, l_2147483639, l_2147483647, ob_some, obd_some, q_lt_t, q_lt_f, q_le_t, q_le_f, q_eq_t, q_eq_f, im_ne, im_ne', im_lt, im_le, im_lt', im_le', i_add, i_mul, i_dec, i_dec0, i_sub, i_and, i_shr, i_div, nar_b0, nar_b1, b2i_t, b2i_f, gA1, pA1, gB2, pB2, gA3, pA3, gA4, pA4, gB5, pB5, gA6, pA6, gA7, pA7, gA8, pA8, gA9, pA9, gA10, pA10, gA11, pA11, gA12, pA12, gA13, pA13, gA14, pA14, gA15, pA15, gA16, pA16, gA17, pA17, gA18, pA18, gA19, pA19, gA20, pA20, gA21, pA21, gA40, pA40, gB43, pB43, gA44, pA44, gA45, pA45, gA46, pA46, gA47, pA47, gA48, pA48, gA49, pA49, gA53, pA53, gA54, pA54, gA55, pA55, gA56, pA56, gA58, pA58, gA60, pA60, gA61, pA61, gA62, pA62, gA63, pA63, gA66, pA66, ↓reduceIte, if_true, if_false, mk_A, c1, mk_set]
      rw [← htr rfl]
      exact ih'
    | false =>
      subst hr
      cases ha : (us s q k).any mk with
      | true =>
        rw [ha] at hu
        simp (disch := omega) only [l_m1, l_m2, l_0, l_1, l_2, l_3, l_4, l_5, l_6, l_7, l_8, l_9, l_10, l_11, l_12, l_13, l_14, l_15, l_16, l_17, l_18, l_19, l_20, l_21, l_22, l_23, l_24, l_25, l_26, l_27, l_28, l_29, l_30, l_31, l_32, l_33, l_34, l_35, l_36, l_37, l_38, l_39, l_40, l_41, l_42, l_43, l_44, l_45, l_46, l_47, l_48, l_49, l_50, l_51, l_52, l_53, l_54, l_55, l_56, l_57, l_58, l_59, l_60, l_61, l_62, l_63, l_64, l_97, l_100, l_110, l_115, l_116, l_120, l_122, l_127, l_128, l_136, l_140, l_200, l_255, l_256, l_400, l_1000, l_30000, l_1200, l_65536, l_2147483639, l_2147483647, ob_some, obd_some, q_lt_t, q_lt_f, q_le_t, q_le_f, q_eq_t, q_eq_f, im_ne, im_ne', im_lt, im_le, im_lt', im_le', i_add, i_mul, i_dec, i_dec0, i_sub, i_and, i_shr, i_div, nar_b0, nar_b1, b2i_t, b2i_f, gA1, pA1, gB2, pB2, gA3, pA3, gA4, pA4, gB5, pB5, gA6, pA6, gA7, pA7, gA8, pA8, gA9, pA9, gA10, pA10, gA11, pA11, gA12, pA12, gA13, pA13, gA14, pA14, gA15, pA15, gA16, pA16, gA17, pA17, gA18, pA18, gA19, pA19, gA20, pA20, gA21, pA21, gA40, pA40, gB43, pB43, gA44, pA44, gA45, pA45, gA46, pA46, gA47, pA47, gA48, pA48, gA49, pA49, gA53, pA53, gA54, pA54, gA55, pA55, gA56, pA56, gA58, pA58, gA60, pA60, gA61, pA61, gA62, pA62, gA63, pA63, gA66, pA66, ↓reduceIte, if_true, if_false, mk_A, c1, hu, mk_set]
        rw [← htr (by rw [ha]; rfl)]
        exact ih'
      | false =>
        rw [ha] at hu
        have hsu' : tcp s q false mk (k + 1) = tcp s q false mk k := by
          rw [hsu]
          funext i
          rw [ha]
          simp
        simp (disch := omega) only [l_m1, l_m2, l_0, l_1, l_2, l_3, l_4, l_5, l_6, l_7, l_8, l_9, l_10, l_11, l_12, l_13, l_14, l_15, l_16, l_17, l_18, l_19, l_20, l_21, l_22, l_23, l_24, l_25, l_26, l_27, l_28, l_29, l_30, l_31, l_32, l_33, l_34, l_35, l_36, l_37, l_38, l_39, l_40, l_41, l_42, l_43, l_44, l_45, l_46, l_47, l_48, l_49, l_50, l_51, l_52, l_53, l_54, l_55, l_56, l_57, l_58, l_59, l_60, l_61, l_62, l_63, l_64, l_97, l_100, l_110, l_115, l_116, l_120, l_122, l_127, l_128, l_136, l_140, l_200, l_255, l_256, l_400, l_1000, l_30000, l_1200, l_65536, l_2147483639, l_2147483647, ob_some, obd_some, q_lt_t, q_lt_f, q_le_t, q_le_f, q_eq_t, q_eq_f, im_ne, im_ne', im_lt, im_le, im_lt', im_le', i_add, i_mul, i_dec, i_dec0, i_sub, i_and, i_shr, i_div, nar_b0, nar_b1, b2i_t, b2i_f, gA1, pA1, gB2, pB2, gA3, pA3, gA4, pA4, gB5, pB5, gA6, pA6, gA7, pA7, gA8, pA8, gA9, pA9, gA10, pA10, gA11, pA11, gA12, pA12, gA13, pA13, gA14, pA14, gA15, pA15, gA16, pA16, gA17, pA17, gA18, pA18, gA19, pA19, gA20, pA20, gA21, pA21, gA40, pA40, gB43, pB43, gA44, pA44, gA45, pA45, gA46, pA46, gA47, pA47, gA48, pA48, gA49, pA49, gA53, pA53, gA54, pA54, gA55, pA55, gA56, pA56, gA58, pA58, gA60, pA60, gA61, pA61, gA62, pA62, gA63, pA63, gA66, pA66, ↓reduceIte, if_true, if_false, mk_A, c1, hu]
        rw [← hsu']
        exact ih'
theorem M_hasWhere {M : MS} {s : SP} (h : RMa M s) (hf : RMf M s) {q : Nat} (hq : q < z_n s) (hth : z_th s q = true) (hm : made s q = true) (mk : Nat → Bool) : f_X3_hasWhere (i_ q) (m_mk M mk) = some (b2i (z_hw s q), m_mk M mk) := by
  have h2 := h.2.1
  have hw := (hf q hq hth hm).2
  unfold f_X3_hasWhere
  cases e : z_hw s q with
  | true =>
    rw [e, if_pos rfl] at hw
    obtain ⟨k, k', -, a, b, c, -⟩ := hw.2
    simp (disch := omega) only [l_m1, l_m2, l_0, l_1, l_2, l_3, l_4, l_5, l_6, l_7, l_8, l_9, l_10, l_11, l_12, l_13, l_14, l_15, l_16, l_17, l_18, l_19, l_20, l_21, l_22, l_23, l_24, l_25, l_26, l_27, l_28, l_29, l_30, l_31, l_32, l_33, l_34, l_35, l_36, l_37, l_38, l_39, l_40, l_41, l_42, l_43, l_44, l_45, l_46, l_47, l_48, l_49, l_50, l_51, l_52, l_53, l_54, l_55, l_56, l_57, l_58, l_59, l_60, l_61, l_62, l_63, l_64, l_97, l_100, l_110, l_115, l_116, l_120, l_122, l_127, l_128, l_136, l_140, l_200, l_255, l_256, l_400, l_1000, l_30000, l_1200, l_65536, l_2147483639, l_2147483647, ob_some, obd_some, q_lt_t, q_lt_f, q_le_t, q_le_f, q_eq_t, q_eq_f, im_ne, im_ne', im_lt, im_le, im_lt', im_le', i_add, i_mul, i_dec, i_dec0, i_sub, i_and, i_shr, i_div, nar_b0, nar_b1, b2i_t, b2i_f, gA1, pA1, gB2, pB2, gA3, pA3, gA4, pA4, gB5, pB5, gA6, pA6, gA7, pA7, gA8, pA8, gA9, pA9, gA10, pA10, gA11, pA11, gA12, pA12, gA13, pA13, gA14, pA14, gA15, pA15, gA16, pA16, gA17, pA17, gA18, pA18, gA19, pA19, gA20, pA20, gA21, pA21, gA40, pA40, gB43, pB43, gA44, pA44, gA45, pA45, gA46, pA46, gA47, pA47, gA48, pA48, gA49, pA49, gA53, pA53, gA54, pA54, gA55, pA55, gA56, pA56, gA58, pA58, gA60, pA60, gA61, pA61, gA62, pA62, gA63, pA63, gA66, pA66, ↓reduceIte, if_true, if_false, mk_A, a]
  | false =>
    rw [e, if_neg (by decide)] at hw
    simp (disch := omega) only [l_m1, l_m2, l_0, l_1, l_2, l_3, l_4, l_5, l_6, l_7, l_8, l_9, l_10, l_11, l_12, l_13, l_14, l_15, l_16, l_17, l_18, l_19, l_20, l_21, l_22, l_23, l_24, l_25, l_26, l_27, l_28, l_29, l_30, l_31, l_32, l_33, l_34, l_35, l_36, l_37, l_38, l_39, l_40, l_41, l_42, l_43, l_44, l_45, l_46, l_47, l_48, l_49, l_50, l_51, l_52, l_53, l_54, l_55, l_56, l_57, l_58, l_59, l_60, l_61, l_62, l_63, l_64, l_97, l_100, l_110, l_115, l_116, l_120, l_122, l_127, l_128, l_136, l_140, l_200, l_255, l_256, l_400, l_1000, l_30000, l_1200, l_65536, l_2147483639, l_2147483647, ob_some, obd_some, q_lt_t, q_lt_f, q_le_t, q_le_f, q_eq_t, q_eq_f, im_ne, im_ne', im_lt, im_le, im_lt', im_le', i_add, i_mul, i_dec, i_dec0, i_sub, i_and, i_shr, i_div, nar_b0, nar_b1, b2i_t, b2i_f, gA1, pA1, gB2, pB2, gA3, pA3, gA4, pA4, gB5, pB5, gA6, pA6, gA7, pA7, gA8, pA8, gA9, pA9, gA10, pA10, gA11, pA11, gA12, pA12, gA13, pA13, gA14, pA14, gA15, pA15, gA16, pA16, gA17, pA17, gA18, pA18, gA19, pA19, gA20, pA20, gA21, pA21, gA40, pA40, gB43, pB43, gA44, pA44, gA45, pA45, gA46, pA46, gA47, pA47, gA48, pA48, gA49, pA49, gA53, pA53, gA54, pA54, gA55, pA55, gA56, pA56, gA58, pA58, gA60, pA60, gA61, pA61, gA62, pA62, gA63, pA63, gA66, pA66, ↓reduceIte, if_true, if_false, mk_A, hw]
theorem M_touch_go {M : MS} {s : SP} (h : RMa M s) (hn : RMn M s) (hf : RMf M s) (hs : SI s) : ∀ (r q n : Nat) (mk : Nat → Bool), q + r = z_n s → r < n → f_X3_touches_n20 n (i_ q) (m_mk M mk) = some (m_mk M (tc_go s r q mk)) := by
  have h2 := h.2.1
  have h0 := h.1
  intro r
  induction r with
  | zero =>
    intro q n mk hq hn'
    obtain ⟨n, rfl⟩ : ∃ m, n = m + 1 := ⟨n - 1, by omega⟩
    unfold f_X3_touches_n20
    simp (disch := omega) only [l_m1, l_m2, l_0, l_1, l_2, l_3, l_4, l_5, l_6, l_7, l_8, l_9, l_10, l_11, l_12, l_13, l_14, l_15, l_16, l_17, l_18, l_19, l_20, l_21, l_22, l_23, l_24, l_25, l_26, l_27, l_28, l_29, l_30, l_31, l_32, l_33, l_34, l_35, l_36, l_37, l_38, l_39, l_40, l_41, l_42, l_43, l_44, l_45, l_46, l_47, l_48, l_49, l_50, l_51, l_52, l_53, l_54, l_55, l_56, l_57, l_58, l_59, l_60, l_61, l_62, l_63, l_64, l_97, l_100, l_110, l_115, l_116, l_120, l_122, l_127, l_128, l_136, l_140, l_200, l_255, l_256, l_400, l_1000, l_30000, l_1200, l_65536, l_2147483639, l_2147483647, ob_some, obd_some, q_lt_t, q_lt_f, q_le_t, q_le_f, q_eq_t, q_eq_f, im_ne, im_ne', im_lt, im_le, im_lt', im_le', i_add, i_mul, i_dec, i_dec0, i_sub, i_and, i_shr, i_div, nar_b0, nar_b1, b2i_t, b2i_f, gA1, pA1, gB2, pB2, gA3, pA3, gA4, pA4, gB5, pB5, gA6, pA6, gA7, pA7, gA8, pA8, gA9, pA9, gA10, pA10, gA11, pA11, gA12, pA12, gA13, pA13, gA14, pA14, gA15, pA15, gA16, pA16, gA17, pA17, gA18, pA18, gA19, pA19, gA20, pA20, gA21, pA21, gA40, pA40, gB43, pB43, gA44, pA44, gA45, pA45, gA46, pA46, gA47, pA47, gA48, pA48, gA49, pA49, gA53, pA53, gA54, pA54, gA55, pA55, gA56, pA56, gA58, pA58, gA60, pA60, gA61, pA61, gA62, pA62, gA63, pA63, gA66, pA66, ↓reduceIte, if_true, if_false, mk_I, h0]
    rfl
  | succ r ih =>
    intro q n mk hq hn'
    obtain ⟨n, rfl⟩ : ∃ m, n = m + 1 := ⟨n - 1, by omega⟩
    obtain ⟨t1, ⟨q1, q2⟩, -⟩ := h.2.2 q (by omega)
    have hgo : tc_go s (r + 1) q mk = tc_go s r (q + 1) (if (z_th s q && made s q) = true then tcp s q (tc_r s q mk) mk (z_nc s q) else mk) := rfl
    rw [hgo]
    unfold f_X3_touches_n20
    cases hth : z_th s q with
    | false =>
      rw [hth] at t1
      simp (disch := omega) only [l_m1, l_m2, l_0, l_1, l_2, l_3, l_4, l_5, l_6, l_7, l_8, l_9, l_10, l_11, l_12, l_13, l_14, l_15, l_16, l_17, l_18, l_19, l_20, l_21, l_22, l_23, l_24, l_25, l_26, l_27, l_28, l_29, l_30, l_31, l_32, l_33, l_34, l_35, l_36, l_37, l_38, l_39, l_40, l_41, l_42, l_43, l_44, l_45, l_46, l_47, l_48, l_49, l_50, l_51, l_52, l_53, l_54, l_55, l_56, l_57, l_58, l_59, l_60, l_61, l_62, l_63, l_64, l_97, l_100, l_110, l_115, l_116, l_120, l_122, l_127, l_128, l_136, l_140, l_200, l_255, l_256, l_400, l_1000, l_30000, l_1200, l_65536, l_2147483639, l_2147483647, ob_some, obd_some, q_lt_t, q_lt_f, q_le_t, q_le_f, q_eq_t, q_eq_f, im_ne, im_ne', im_lt, im_le, im_lt', im_le', i_add, i_mul, i_dec, i_dec0, i_sub, i_and, i_shr, i_div, nar_b0, nar_b1, b2i_t, b2i_f, gA1, pA1, gB2, pB2, gA3, pA3, gA4, pA4, gB5, pB5, gA6, pA6, gA7, pA7, gA8, pA8, gA9, pA9, gA10, pA10, gA11, pA11, gA12, pA12, gA13, pA13, gA14, pA14, gA15, pA15, gA16, pA16, gA17, pA17, gA18, pA18, gA19, pA19, gA20, pA20, gA21, pA21, gA40, pA40, gB43, pB43, gA44, pA44, gA45, pA45, gA46, pA46, gA47, pA47, gA48, pA48, gA49, pA49, gA53, pA53, gA54, pA54, gA55, pA55, gA56, pA56, gA58, pA58, gA60, pA60, gA61, pA61, gA62, pA62, gA63, pA63, gA66, pA66, ↓reduceIte, if_true, if_false, mk_I, h0, mk_A, t1]
      rw [ih (q + 1) n mk (by omega) (by omega)]
      simp
    | true =>
      rw [hth] at t1
      by_cases hm : made s q = true
      · have hFF := hf q (by omega) hth hm
        have hwq := M_hasWhere h hf (show q < z_n s by omega) hth hm mk
        have hin := fun rows => M_touch_in h hn hs (show q < z_n s by omega) hth hm hFF.1 (fun x3 M => f_X3_touches_n20 n x3 M) rows mk (z_nc s q) 0 fu_ (by omega) (by have := (hs.2.2.2.2.1 q (by omega)).1.2; rw [fu_eq]; omega)
        simp only [tcp_zero] at hin
        have ih2 := ih (q + 1) n (tcp s q (tc_r s q mk) mk (z_nc s q)) (by omega) (by omega)
        have hres : (if (true && made s q) = true then tcp s q (tc_r s q mk) mk (z_nc s q) else mk) = tcp s q (tc_r s q mk) mk (z_nc s q) := by
          rw [hm]
          rfl
        rw [hres]
        have hm' : z_so s q = 1 ∨ z_so s q = 2 := of_decide_eq_true hm
        unfold f_X3_touches_n91 f_X3_touches_n87
        have hin1 := hin true
        have hin0 := hin false
        rw [b2i_t] at hin1
        rw [b2i_f] at hin0
        have fin1 : tc_r s q mk = true → f_X3_touches_n97 (fun x3 M => f_X3_touches_n20 n x3 M) fu_ (i_ q) (i_ 1) (i_ 0) (m_mk M mk) = some (m_mk M (tc_go s r (q + 1) (tcp s q (tc_r s q mk) mk (z_nc s q)))) := by
          intro e
          rw [hin1, ← ih2, e]
        have fin0 : tc_r s q mk = false → f_X3_touches_n97 (fun x3 M => f_X3_touches_n20 n x3 M) fu_ (i_ q) (i_ 0) (i_ 0) (m_mk M mk) = some (m_mk M (tc_go s r (q + 1) (tcp s q (tc_r s q mk) mk (z_nc s q)))) := by
          intro e
          rw [hin0, ← ih2, e]
        cases ehw : z_hw s q with
        | false =>
          rw [ehw] at hwq
          have e : tc_r s q mk = false := by unfold tc_r; rw [ehw]; rfl
          rcases hm' with e1 | e1 <;> (simp (disch := omega) only [l_m1, l_m2, l_0, l_1, l_2, l_3, l_4, l_5, l_6, l_7, l_8, l_9, l_10, l_11, l_12, l_13, l_14, l_15, l_16, l_17, l_18, l_19, l_20, l_21, l_22, l_23, l_24, l_25, l_26, l_27, l_28, l_29, l_30, l_31, l_32, l_33, l_34, l_35, l_36, l_37, l_38, l_39, l_40, l_41, l_42, l_43, l_44, l_45, l_46, l_47, l_48, l_49, l_50, l_51, l_52, l_53, l_54, l_55, l_56, l_57, l_58, l_59, l_60, l_61, l_62, l_63, l_64, l_97, l_100, l_110, l_115, l_116, l_120, l_122, l_127, l_128, l_136, l_140, l_200, l_255, l_256, l_400, l_1000, l_30000, l_1200, l_65536, l_2147483639, l_2147483647, ob_some, obd_some, q_lt_t, q_lt_f, q_le_t, q_le_f, q_eq_t, q_eq_f, im_ne, im_ne', im_lt, im_le, im_lt', im_le', i_add, i_mul, i_dec, i_dec0, i_sub, i_and, i_shr, i_div, nar_b0, nar_b1, b2i_t, b2i_f, gA1, pA1, gB2, pB2, gA3, pA3, gA4, pA4, gB5, pB5, gA6, pA6, gA7, pA7, gA8, pA8, gA9, pA9, gA10, pA10, gA11, pA11, gA12, pA12, gA13, pA13, gA14, pA14, gA15, pA15, gA16, pA16, gA17, pA17, gA18, pA18, gA19, pA19, gA20, pA20, gA21, pA21, gA40, pA40, gB43, pB43, gA44, pA44, gA45, pA45, gA46, pA46, gA47, pA47, gA48, pA48, gA49, pA49, gA53, pA53, gA54, pA54, gA55, pA55, gA56, pA56, gA58, pA58, gA60, pA60, gA61, pA61, gA62, pA62, gA63, pA63, gA66, pA66, ↓reduceIte, if_true, if_false, mk_I, h0, mk_A, t1, q1, e1, hwq, fin0 e])
        | true =>
          rw [ehw] at hwq
          have hww := hFF.2
          rw [if_pos ehw] at hww
          have hu6 := M_usesMarked h hn hs (show q < z_n s by omega) hth (show 6 < 8 by omega) hww.1 mk
          have hu7 := M_usesMarked h hn hs (show q < z_n s by omega) hth (show 7 < 8 by omega) hww.2 mk
          cases e6 : (us s q 6).any mk with
          | true =>
            rw [e6] at hu6
            have e : tc_r s q mk = true := by unfold tc_r; rw [ehw, e6]; rfl
            rcases hm' with e1 | e1 <;> (simp (disch := omega) only [l_m1, l_m2, l_0, l_1, l_2, l_3, l_4, l_5, l_6, l_7, l_8, l_9, l_10, l_11, l_12, l_13, l_14, l_15, l_16, l_17, l_18, l_19, l_20, l_21, l_22, l_23, l_24, l_25, l_26, l_27, l_28, l_29, l_30, l_31, l_32, l_33, l_34, l_35, l_36, l_37, l_38, l_39, l_40, l_41, l_42, l_43, l_44, l_45, l_46, l_47, l_48, l_49, l_50, l_51, l_52, l_53, l_54, l_55, l_56, l_57, l_58, l_59, l_60, l_61, l_62, l_63, l_64, l_97, l_100, l_110, l_115, l_116, l_120, l_122, l_127, l_128, l_136, l_140, l_200, l_255, l_256, l_400, l_1000, l_30000, l_1200, l_65536, l_2147483639, l_2147483647, ob_some, obd_some, q_lt_t, q_lt_f, q_le_t, q_le_f, q_eq_t, q_eq_f, im_ne, im_ne', im_lt, im_le, im_lt', im_le', i_add, i_mul, i_dec, i_dec0, i_sub, i_and, i_shr, i_div, nar_b0, nar_b1, b2i_t, b2i_f, gA1, pA1, gB2, pB2, gA3, pA3, gA4, pA4, gB5, pB5, gA6, pA6, gA7, pA7, gA8, pA8, gA9, pA9, gA10, pA10, gA11, pA11, gA12, pA12, gA13, pA13, gA14, pA14, gA15, pA15, gA16, pA16, gA17, pA17, gA18, pA18, gA19, pA19, gA20, pA20, gA21, pA21, gA40, pA40, gB43, pB43, gA44, pA44, gA45, pA45, gA46, pA46, gA47, pA47, gA48, pA48, gA49, pA49, gA53, pA53, gA54, pA54, gA55, pA55, gA56, pA56, gA58, pA58, gA60, pA60, gA61, pA61, gA62, pA62, gA63, pA63, gA66, pA66, ↓reduceIte, if_true, if_false, mk_I, h0, mk_A, t1, q1, e1, hwq, hu6, fin1 e])
          | false =>
            rw [e6] at hu6
            cases e7 : (us s q 7).any mk with
            | true =>
              rw [e7] at hu7
              have e : tc_r s q mk = true := by unfold tc_r; rw [ehw, e6, e7]; rfl
              rcases hm' with e1 | e1 <;> (simp (disch := omega) only [l_m1, l_m2, l_0, l_1, l_2, l_3, l_4, l_5, l_6, l_7, l_8, l_9, l_10, l_11, l_12, l_13, l_14, l_15, l_16, l_17, l_18, l_19, l_20, l_21, l_22, l_23, l_24, l_25, l_26, l_27, l_28, l_29, l_30, l_31, l_32, l_33, l_34, l_35, l_36, l_37, l_38, l_39, l_40, l_41, l_42, l_43, l_44, l_45, l_46, l_47, l_48, l_49, l_50, l_51, l_52, l_53, l_54, l_55, l_56, l_57, l_58, l_59, l_60, l_61, l_62, l_63, l_64, l_97, l_100, l_110, l_115, l_116, l_120, l_122, l_127, l_128, l_136, l_140, l_200, l_255, l_256, l_400, l_1000, l_30000, l_1200, l_65536, l_2147483639, l_2147483647, ob_some, obd_some, q_lt_t, q_lt_f, q_le_t, q_le_f, q_eq_t, q_eq_f, im_ne, im_ne', im_lt, im_le, im_lt', im_le', i_add, i_mul, i_dec, i_dec0, i_sub, i_and, i_shr, i_div, nar_b0, nar_b1, b2i_t, b2i_f, gA1, pA1, gB2, pB2, gA3, pA3, gA4, pA4, gB5, pB5, gA6, pA6, gA7, pA7, gA8, pA8, gA9, pA9, gA10, pA10, gA11, pA11, gA12, pA12, gA13, pA13, gA14, pA14, gA15, pA15, gA16, pA16, gA17, pA17, gA18, pA18, gA19, pA19, gA20, pA20, gA21, pA21, gA40, pA40, gB43, pB43, gA44, pA44, gA45, pA45, gA46, pA46, gA47, pA47, gA48, pA48, gA49, pA49, gA53, pA53, gA54, pA54, gA55, pA55, gA56, pA56, gA58, pA58, gA60, pA60, gA61, pA61, gA62, pA62, gA63, pA63, gA66, pA66, ↓reduceIte, if_true, if_false, mk_I, h0, mk_A, t1, q1, e1, hwq, hu6, hu7, fin1 e])
            | false =>
              rw [e7] at hu7
              have e : tc_r s q mk = false := by unfold tc_r; rw [ehw, e6, e7]; rfl
              rcases hm' with e1 | e1 <;> (simp (disch := omega) only [l_m1, l_m2, l_0, l_1, l_2, l_3, l_4, l_5, l_6, l_7, l_8, l_9, l_10, l_11, l_12, l_13, l_14, l_15, l_16, l_17, l_18, l_19, l_20, l_21, l_22, l_23, l_24, l_25, l_26, l_27, l_28, l_29, l_30, l_31, l_32, l_33, l_34, l_35, l_36, l_37, l_38, l_39, l_40, l_41, l_42, l_43, l_44, l_45, l_46, l_47, l_48, l_49, l_50, l_51, l_52, l_53, l_54, l_55, l_56, l_57, l_58, l_59, l_60, l_61, l_62, l_63, l_64, l_97, l_100, l_110, l_115, l_116, l_120, l_122, l_127, l_128, l_136, l_140, l_200, l_255, l_256, l_400, l_1000, l_30000, l_1200, l_65536, l_2147483639, l_2147483647, ob_some, obd_some, q_lt_t, q_lt_f, q_le_t, q_le_f, q_eq_t, q_eq_f, im_ne, im_ne', im_lt, im_le, im_lt', im_le', i_add, i_mul, i_dec, i_dec0, i_sub, i_and, i_shr, i_div, nar_b0, nar_b1, b2i_t, b2i_f, gA1, pA1, gB2, pB2, gA3, pA3, gA4, pA4, gB5, pB5, gA6, pA6, gA7, pA7, gA8, pA8, gA9, pA9, gA10, pA10, gA11, pA11, gA12, pA12, gA13, pA13, gA14, pA14, gA15, pA15, gA16, pA16, gA17, pA17, gA18, pA18, gA19, pA19, gA20, pA20, gA21, pA21, gA40, pA40, gB43, pB43, gA44, pA44, gA45, pA45, gA46, pA46, gA47, pA47, gA48, pA48, gA49, pA49, gA53, pA53, gA54, pA54, gA55, pA55, gA56, pA56, gA58, pA58, gA60, pA60, gA61, pA61, gA62, pA62, gA63, pA63, gA66, pA66, ↓reduceIte, if_true, if_false, mk_I, h0, mk_A, t1, q1, e1, hwq, hu6, hu7, fin0 e])
      · have hm' : ¬ (z_so s q = 1 ∨ z_so s q = 2) := made_f hm
        have : z_so s q = 0 ∨ z_so s q = 3 := by omega
        have hmf : made s q = false := by simpa using hm
        rcases this with e | e <;> (simp (disch := omega) only [l_m1, l_m2, l_0, l_1, l_2, l_3, l_4, l_5, l_6, l_7, l_8, l_9, l_10, l_11, l_12, l_13, l_14, l_15, l_16, l_17, l_18, l_19, l_20, l_21, l_22, l_23, l_24, l_25, l_26, l_27, l_28, l_29, l_30, l_31, l_32, l_33, l_34, l_35, l_36, l_37, l_38, l_39, l_40, l_41, l_42, l_43, l_44, l_45, l_46, l_47, l_48, l_49, l_50, l_51, l_52, l_53, l_54, l_55, l_56, l_57, l_58, l_59, l_60, l_61, l_62, l_63, l_64, l_97, l_100, l_110, l_115, l_116, l_120, l_122, l_127, l_128, l_136, l_140, l_200, l_255, l_256, l_400, l_1000, l_30000, l_1200, l_65536, l_2147483639, l_2147483647, ob_some, obd_some, q_lt_t, q_lt_f, q_le_t, q_le_f, q_eq_t, q_eq_f, im_ne, im_ne', im_lt, im_le, im_lt', im_le', i_add, i_mul, i_dec, i_dec0, i_sub, i_and, i_shr, i_div, nar_b0, nar_b1, b2i_t, b2i_f, gA1, pA1, gB2, pB2, gA3, pA3, gA4, pA4, gB5, pB5, gA6, pA6, gA7, pA7, gA8, pA8, gA9, pA9, gA10, pA10, gA11, pA11, gA12, pA12, gA13, pA13, gA14, pA14, gA15, pA15, gA16, pA16, gA17, pA17, gA18, pA18, gA19, pA19, gA20, pA20, gA21, pA21, gA40, pA40, gB43, pB43, gA44, pA44, gA45, pA45, gA46, pA46, gA47, pA47, gA48, pA48, gA49, pA49, gA53, pA53, gA54, pA54, gA55, pA55, gA56, pA56, gA58, pA58, gA60, pA60, gA61, pA61, gA62, pA62, gA63, pA63, gA66, pA66, ↓reduceIte, if_true, if_false, mk_I, h0, mk_A, t1, q1, e]; rw [ih (q + 1) n mk (by omega) (by omega)]; simp [hmf])
def tc_mk (s : SP) (t c : Nat) : Nat → Bool := tc_go s (z_n s - (t + 1)) (t + 1) (mk_up (fun _ => false) (8 * t + c))
theorem M_touches {M : MS} {s : SP} (h : RMa M s) (hn : RMn M s) (hf : RMf M s) (hs : SI s) {t c : Nat} (ht : t < z_n s) (hc : c < z_nc s t) : f_X3_touches (i_ t) (i_ c) M = some (m_mk M (tc_mk s t c)) := by
  have h2 := h.2.1
  obtain ⟨-, -, ⟨c1, c2, c3⟩, -⟩ := h.2.2 t ht
  have hg := M_touch_go h hn hf hs (z_n s - (t + 1)) (t + 1) fu_ (mk_up (fun _ => false) (8 * t + c)) (by omega) (by rw [fu_eq]; omega)
  unfold f_X3_touches
  simp (disch := omega) only [l_m1, l_m2, l_0, l_1, l_2, l_3, l_4, l_5, l_6, l_7, l_8, l_9, l_10, l_11, l_12, l_13, l_14, l_15, l_16, l_17, l_18, l_19, l_20, l_21, l_22, l_23, l_24, l_25, l_26, l_27, l_28, l_29, l_30, l_31, l_32, l_33, l_34, l_35, l_36, l_37, l_38, l_39, l_40, l_41, l_42, l_43, l_44, l_45, l_46, l_47, l_48, l_49, l_50, l_51, l_52, l_53, l_54, l_55, l_56, l_57, l_58, l_59, l_60, l_61, l_62, l_63, l_64, l_97, l_100, l_110, l_115, l_116, l_120, l_122, l_127, l_128, l_136, l_140, l_200, l_255, l_256, l_400, l_1000, l_30000, l_1200, l_65536, l_2147483639, l_2147483647, ob_some, obd_some, q_lt_t, q_lt_f, q_le_t, q_le_f, q_eq_t, q_eq_f, im_ne, im_ne', im_lt, im_le, im_lt', im_le', i_add, i_mul, i_dec, i_dec0, i_sub, i_and, i_shr, i_div, nar_b0, nar_b1, b2i_t, b2i_f, gA1, pA1, gB2, pB2, gA3, pA3, gA4, pA4, gB5, pB5, gA6, pA6, gA7, pA7, gA8, pA8, gA9, pA9, gA10, pA10, gA11, pA11, gA12, pA12, gA13, pA13, gA14, pA14, gA15, pA15, gA16, pA16, gA17, pA17, gA18, pA18, gA19, pA19, gA20, pA20, gA21, pA21, gA40, pA40, gB43, pB43, gA44, pA44, gA45, pA45, gA46, pA46, gA47, pA47, gA48, pA48, gA49, pA49, gA53, pA53, gA54, pA54, gA55, pA55, gA56, pA56, gA58, pA58, gA60, pA60, gA61, pA61, gA62, pA62, gA63, pA63, gA66, pA66, ↓reduceIte, if_true, if_false, M_clears, mk_set]
  exact hg
theorem Sup.tcp {s : SP} {mk : Nat → Bool} (h : Sup s mk) {q : Nat} (hq : q < z_n s) (hth : z_th s q = true) (h6 : z_nc s q ≤ 6) (rows : Bool) : Sup s (tcp s q rows mk (z_nc s q)) := by
  intro i hi
  have hi2 : (mk i || (List.range (z_nc s q)).any (fun j => decide (i = 8 * q + j) && (rows || (us s q j).any mk))) = true := hi
  rw [Bool.or_eq_true, List.any_eq_true] at hi2
  rcases hi2 with hi2 | ⟨j, hj, hi2⟩
  · exact h i hi2
  · rw [Bool.and_eq_true, decide_eq_true_eq] at hi2
    exact ⟨q, j, hi2.1, hq, hq, hth, List.mem_range.mp hj, h6⟩
theorem Sup.tgo {s : SP} (hs : SI s) : ∀ (r q : Nat) {mk : Nat → Bool}, Sup s mk → q + r ≤ z_n s → Sup s (tc_go s r q mk)
  | 0, _, _, h, _ => h
  | r + 1, q, m, h, hr => by
    unfold tc_go
    refine Sup.tgo hs r (q + 1) ?_ (by omega)
    by_cases e : (z_th s q && made s q) = true
    · rw [if_pos e]
      rw [Bool.and_eq_true] at e
      exact h.tcp (by omega) e.1 (hs.2.2.2.2.1 q (by omega)).1.2 _
    · rw [if_neg e]
      exact h
theorem Sup.tc {s : SP} (hs : SI s) {t c : Nat} (ht : t < z_n s) (hth : z_th s t = true) (hc : c < z_nc s t) : Sup s (tc_mk s t c) := by
  unfold tc_mk
  refine Sup.tgo hs _ _ (fun i hi => ?_) (by omega)
  unfold mk_up at hi
  rw [Bool.or_false, decide_eq_true_eq] at hi
  exact ⟨t, c, hi, ht, ht, hth, hc, (hs.2.2.2.2.1 t ht).1.2⟩
def to_p (s : SP) (t c : Nat) (k : Nat) : Bool := tc_mk s t c k && decide (¬ k = 8 * t + c)
def to_l (s : SP) (t c : Nat) : List Nat := (List.range' 0 128).filter (to_p s t c)
def sp_touch (s : SP) (x y : Int32) : Int32 × SP := if isC s x y = true then (i_ (to_l s x.toNatClampNeg y.toNatClampNeg).length, u_fd s (to_l s x.toNatClampNeg y.toNatClampNeg)) else (i_m, s)
theorem M_touch_out {M : MS} {s : SP} {t c : Nat} (ht : t < 16) (hc : c < 8) : ∀ (r k n : Nat) (l : List Nat), k + r = 136 → r < n → l.length ≤ k → f_X3_touch_n24 n (i_ t) (i_ c) (i_ k) (m_fd (m_mk M (tc_mk s t c)) l) = some (i_ (l ++ (List.range' k r).filter (to_p s t c)).length, m_fd (m_mk M (tc_mk s t c)) (l ++ (List.range' k r).filter (to_p s t c))) := by
  intro r
  induction r with
  | zero =>
    intro k n l hk hn hl
    obtain ⟨n, rfl⟩ : ∃ m, n = m + 1 := ⟨n - 1, by omega⟩
    unfold f_X3_touch_n24
    simp (disch := omega) only [l_m1, l_m2, l_0, l_1, l_2, l_3, l_4, l_5, l_6, l_7, l_8, l_9, l_10, l_11, l_12, l_13, l_14, l_15, l_16, l_17, l_18, l_19, l_20, l_21, l_22, l_23, l_24, l_25, l_26, l_27, l_28, l_29, l_30, l_31, l_32, l_33, l_34, l_35, l_36, l_37, l_38, l_39, l_40, l_41, l_42, l_43, l_44, l_45, l_46, l_47, l_48, l_49, l_50, l_51, l_52, l_53, l_54, l_55, l_56, l_57, l_58, l_59, l_60, l_61, l_62, l_63, l_64, l_97, l_100, l_110, l_115, l_116, l_120, l_122, l_127, l_128, l_136, l_140, l_200, l_255, l_256, l_400, l_1000, l_30000, l_1200, l_65536, l_2147483639, l_2147483647, ob_some, obd_some, q_lt_t, q_lt_f, q_le_t, q_le_f, q_eq_t, q_eq_f, im_ne, im_ne', im_lt, im_le, im_lt', im_le', i_add, i_mul, i_dec, i_dec0, i_sub, i_and, i_shr, i_div, nar_b0, nar_b1, b2i_t, b2i_f, gA1, pA1, gB2, pB2, gA3, pA3, gA4, pA4, gB5, pB5, gA6, pA6, gA7, pA7, gA8, pA8, gA9, pA9, gA10, pA10, gA11, pA11, gA12, pA12, gA13, pA13, gA14, pA14, gA15, pA15, gA16, pA16, gA17, pA17, gA18, pA18, gA19, pA19, gA20, pA20, gA21, pA21, gA40, pA40, gB43, pB43, gA44, pA44, gA45, pA45, gA46, pA46, gA47, pA47, gA48, pA48, gA49, pA49, gA53, pA53, gA54, pA54, gA55, pA55, gA56, pA56, gA58, pA58, gA60, pA60, gA61, pA61, gA62, pA62, gA63, pA63, gA66, pA66, ↓reduceIte, if_true, if_false, fd_57]
    simp
  | succ r ih =>
    intro k n l hk hn hl
    obtain ⟨n, rfl⟩ : ∃ m, n = m + 1 := ⟨n - 1, by omega⟩
    have hmk : m_A (m_fd (m_mk M (tc_mk s t c)) l) 56 k = b2i (tc_mk s t c k) := by rw [fd_A (by decide), mk_get (by omega)]
    unfold f_X3_touch_n24
    rw [filt_succ]
    cases hv : tc_mk s t c k with
    | false =>
      rw [hv] at hmk
      simp (disch := omega) only [l_m1, l_m2, l_0, l_1, l_2, l_3, l_4, l_5, l_6, l_7, l_8, l_9, l_10, l_11, l_12, l_13, l_14, l_15, l_16, l_17, l_18, l_19, l_20, l_21, l_22, l_23, l_24, l_25, l_26, l_27, l_28, l_29, l_30, l_31, l_32, l_33, l_34, l_35, l_36, l_37, l_38, l_39, l_40, l_41, l_42, l_43, l_44, l_45, l_46, l_47, l_48, l_49, l_50, l_51, l_52, l_53, l_54, l_55, l_56, l_57, l_58, l_59, l_60, l_61, l_62, l_63, l_64, l_97, l_100, l_110, l_115, l_116, l_120, l_122, l_127, l_128, l_136, l_140, l_200, l_255, l_256, l_400, l_1000, l_30000, l_1200, l_65536, l_2147483639, l_2147483647, ob_some, obd_some, q_lt_t, q_lt_f, q_le_t, q_le_f, q_eq_t, q_eq_f, im_ne, im_ne', im_lt, im_le, im_lt', im_le', i_add, i_mul, i_dec, i_dec0, i_sub, i_and, i_shr, i_div, nar_b0, nar_b1, b2i_t, b2i_f, gA1, pA1, gB2, pB2, gA3, pA3, gA4, pA4, gB5, pB5, gA6, pA6, gA7, pA7, gA8, pA8, gA9, pA9, gA10, pA10, gA11, pA11, gA12, pA12, gA13, pA13, gA14, pA14, gA15, pA15, gA16, pA16, gA17, pA17, gA18, pA18, gA19, pA19, gA20, pA20, gA21, pA21, gA40, pA40, gB43, pB43, gA44, pA44, gA45, pA45, gA46, pA46, gA47, pA47, gA48, pA48, gA49, pA49, gA53, pA53, gA54, pA54, gA55, pA55, gA56, pA56, gA58, pA58, gA60, pA60, gA61, pA61, gA62, pA62, gA63, pA63, gA66, pA66, ↓reduceIte, if_true, if_false, hmk]
      rw [ih (k + 1) n l (by omega) (by omega) (by omega)]
      simp [to_p, hv]
    | true =>
      rw [hv] at hmk
      by_cases e : k = 8 * t + c
      · simp (disch := omega) only [l_m1, l_m2, l_0, l_1, l_2, l_3, l_4, l_5, l_6, l_7, l_8, l_9, l_10, l_11, l_12, l_13, l_14, l_15, l_16, l_17, l_18, l_19, l_20, l_21, l_22, l_23, l_24, l_25, l_26, l_27, l_28, l_29, l_30, l_31, l_32, l_33, l_34, l_35, l_36, l_37, l_38, l_39, l_40, l_41, l_42, l_43, l_44, l_45, l_46, l_47, l_48, l_49, l_50, l_51, l_52, l_53, l_54, l_55, l_56, l_57, l_58, l_59, l_60, l_61, l_62, l_63, l_64, l_97, l_100, l_110, l_115, l_116, l_120, l_122, l_127, l_128, l_136, l_140, l_200, l_255, l_256, l_400, l_1000, l_30000, l_1200, l_65536, l_2147483639, l_2147483647, ob_some, obd_some, q_lt_t, q_lt_f, q_le_t, q_le_f, q_eq_t, q_eq_f, im_ne, im_ne', im_lt, im_le, im_lt', im_le', i_add, i_mul, i_dec, i_dec0, i_sub, i_and, i_shr, i_div, nar_b0, nar_b1, b2i_t, b2i_f, gA1, pA1, gB2, pB2, gA3, pA3, gA4, pA4, gB5, pB5, gA6, pA6, gA7, pA7, gA8, pA8, gA9, pA9, gA10, pA10, gA11, pA11, gA12, pA12, gA13, pA13, gA14, pA14, gA15, pA15, gA16, pA16, gA17, pA17, gA18, pA18, gA19, pA19, gA20, pA20, gA21, pA21, gA40, pA40, gB43, pB43, gA44, pA44, gA45, pA45, gA46, pA46, gA47, pA47, gA48, pA48, gA49, pA49, gA53, pA53, gA54, pA54, gA55, pA55, gA56, pA56, gA58, pA58, gA60, pA60, gA61, pA61, gA62, pA62, gA63, pA63, gA66, pA66, ↓reduceIte, if_true, if_false, hmk, (q_eq_t e)]
        rw [ih (k + 1) n l (by omega) (by omega) (by omega)]
        simp [to_p, e]
      · simp (disch := omega) only [l_m1, l_m2, l_0, l_1, l_2, l_3, l_4, l_5, l_6, l_7, l_8, l_9, l_10, l_11, l_12, l_13, l_14, l_15, l_16, l_17, l_18, l_19, l_20, l_21, l_22, l_23, l_24, l_25, l_26, l_27, l_28, l_29, l_30, l_31, l_32, l_33, l_34, l_35, l_36, l_37, l_38, l_39, l_40, l_41, l_42, l_43, l_44, l_45, l_46, l_47, l_48, l_49, l_50, l_51, l_52, l_53, l_54, l_55, l_56, l_57, l_58, l_59, l_60, l_61, l_62, l_63, l_64, l_97, l_100, l_110, l_115, l_116, l_120, l_122, l_127, l_128, l_136, l_140, l_200, l_255, l_256, l_400, l_1000, l_30000, l_1200, l_65536, l_2147483639, l_2147483647, ob_some, obd_some, q_lt_t, q_lt_f, q_le_t, q_le_f, q_eq_t, q_eq_f, im_ne, im_ne', im_lt, im_le, im_lt', im_le', i_add, i_mul, i_dec, i_dec0, i_sub, i_and, i_shr, i_div, nar_b0, nar_b1, b2i_t, b2i_f, gA1, pA1, gB2, pB2, gA3, pA3, gA4, pA4, gB5, pB5, gA6, pA6, gA7, pA7, gA8, pA8, gA9, pA9, gA10, pA10, gA11, pA11, gA12, pA12, gA13, pA13, gA14, pA14, gA15, pA15, gA16, pA16, gA17, pA17, gA18, pA18, gA19, pA19, gA20, pA20, gA21, pA21, gA40, pA40, gB43, pB43, gA44, pA44, gA45, pA45, gA46, pA46, gA47, pA47, gA48, pA48, gA49, pA49, gA53, pA53, gA54, pA54, gA55, pA55, gA56, pA56, gA58, pA58, gA60, pA60, gA61, pA61, gA62, pA62, gA63, pA63, gA66, pA66, ↓reduceIte, if_true, if_false, hmk, M_finds]
        rw [ih (k + 1) n (l ++ [k]) (by omega) (by omega) (by simp; omega)]
        simp [to_p, hv, e]
theorem M_touch {M : MS} {s : SP} (h : RMa M s) (hn : RMn M s) (hf : RMf M s) (hs : SI s) (x y : Int32) : ∃ M', f_X3_touch x y M = some ((sp_touch s x y).1, M') ∧ (M' = M ∧ (sp_touch s x y).2 = s ∨ MFd M M' (z_fd (sp_touch s x y).2) ∧ (sp_touch s x y).2 = u_fd s (z_fd (sp_touch s x y).2) ∧ (z_fd (sp_touch s x y).2).length ≤ 128 ∧ ∀ v ∈ z_fd (sp_touch s x y).2, v < 136) := by
  unfold f_X3_touch sp_touch
  rw [M_isColumn h]
  cases hc : isC s x y with
  | false =>
    simp (disch := omega) only [l_m1, l_m2, l_0, l_1, l_2, l_3, l_4, l_5, l_6, l_7, l_8, l_9, l_10, l_11, l_12, l_13, l_14, l_15, l_16, l_17, l_18, l_19, l_20, l_21, l_22, l_23, l_24, l_25, l_26, l_27, l_28, l_29, l_30, l_31, l_32, l_33, l_34, l_35, l_36, l_37, l_38, l_39, l_40, l_41, l_42, l_43, l_44, l_45, l_46, l_47, l_48, l_49, l_50, l_51, l_52, l_53, l_54, l_55, l_56, l_57, l_58, l_59, l_60, l_61, l_62, l_63, l_64, l_97, l_100, l_110, l_115, l_116, l_120, l_122, l_127, l_128, l_136, l_140, l_200, l_255, l_256, l_400, l_1000, l_30000, l_1200, l_65536, l_2147483639, l_2147483647, ob_some, obd_some, q_lt_t, q_lt_f, q_le_t, q_le_f, q_eq_t, q_eq_f, im_ne, im_ne', im_lt, im_le, im_lt', im_le', i_add, i_mul, i_dec, i_dec0, i_sub, i_and, i_shr, i_div, nar_b0, nar_b1, b2i_t, b2i_f, gA1, pA1, gB2, pB2, gA3, pA3, gA4, pA4, gB5, pB5, gA6, pA6, gA7, pA7, gA8, pA8, gA9, pA9, gA10, pA10, gA11, pA11, gA12, pA12, gA13, pA13, gA14, pA14, gA15, pA15, gA16, pA16, gA17, pA17, gA18, pA18, gA19, pA19, gA20, pA20, gA21, pA21, gA40, pA40, gB43, pB43, gA44, pA44, gA45, pA45, gA46, pA46, gA47, pA47, gA48, pA48, gA49, pA49, gA53, pA53, gA54, pA54, gA55, pA55, gA56, pA56, gA58, pA58, gA60, pA60, gA61, pA61, gA62, pA62, gA63, pA63, gA66, pA66, ↓reduceIte, if_true, if_false]
    exact ⟨M, by simp, Or.inl ⟨rfl, by simp⟩⟩
  | true =>
    obtain ⟨t, c, rfl, rfl, ht, hth, hcc⟩ := isC_of hc
    have h2 := h.2.1
    obtain ⟨-, -, ⟨c1, c2, c3⟩, -⟩ := h.2.2 t ht
    rw [i_cl (show t < 2147483648 by omega), i_cl (show c < 2147483648 by omega)]
    have hout := M_touch_out (M := M) (s := s) (show t < 16 by omega) (show c < 8 by omega) 136 0 fu_ [] (by omega) (by rw [fu_eq]; omega) (by simp)
    rw [filt_tail (p := to_p s t c) (fun k hk => by unfold to_p; rw [(Sup.tc hs ht hth hcc).lt h2 hk]; rfl), fd_nil] at hout
    refine ⟨m_fd (m_mk M (tc_mk s t c)) (to_l s t c), ?_, Or.inr ⟨⟨_, rfl⟩, rfl, filt_len _ _, fun v hv => ?_⟩⟩
    · simp (disch := omega) only [l_m1, l_m2, l_0, l_1, l_2, l_3, l_4, l_5, l_6, l_7, l_8, l_9, l_10, l_11, l_12, l_13, l_14, l_15, l_16, l_17, l_18, l_19, l_20, l_21, l_22, l_23, l_24, l_25, l_26, l_27, l_28, l_29, l_30, l_31, l_32, l_33, l_34, l_35, l_36, l_37, l_38, l_39, l_40, l_41, l_42, l_43, l_44, l_45, l_46, l_47, l_48, l_49, l_50, l_51, l_52, l_53, l_54, l_55, l_56, l_57, l_58, l_59, l_60, l_61, l_62, l_63, l_64, l_97, l_100, l_110, l_115, l_116, l_120, l_122, l_127, l_128, l_136, l_140, l_200, l_255, l_256, l_400, l_1000, l_30000, l_1200, l_65536, l_2147483639, l_2147483647, ob_some, obd_some, q_lt_t, q_lt_f, q_le_t, q_le_f, q_eq_t, q_eq_f, im_ne, im_ne', im_lt, im_le, im_lt', im_le', i_add, i_mul, i_dec, i_dec0, i_sub, i_and, i_shr, i_div, nar_b0, nar_b1, b2i_t, b2i_f, gA1, pA1, gB2, pB2, gA3, pA3, gA4, pA4, gB5, pB5, gA6, pA6, gA7, pA7, gA8, pA8, gA9, pA9, gA10, pA10, gA11, pA11, gA12, pA12, gA13, pA13, gA14, pA14, gA15, pA15, gA16, pA16, gA17, pA17, gA18, pA18, gA19, pA19, gA20, pA20, gA21, pA21, gA40, pA40, gB43, pB43, gA44, pA44, gA45, pA45, gA46, pA46, gA47, pA47, gA48, pA48, gA49, pA49, gA53, pA53, gA54, pA54, gA55, pA55, gA56, pA56, gA58, pA58, gA60, pA60, gA61, pA61, gA62, pA62, gA63, pA63, gA66, pA66, ↓reduceIte, if_true, if_false, M_touches h hn hf hs ht hcc]
      exact hout
    · have := (List.mem_range'_1.mp (List.mem_filter.mp hv |>.1)).2
      omega
def as_b (s : SP) (mk : Nat → Bool) (a b : Nat) : Bool := decide (z_ab s a / 2 ^ b &&& 1 = 1) && mk (8 * z_at s a + b)
def as_p (s : SP) (t c : Nat) (a : Nat) : Bool := (List.range' 0 6).any (as_b s (tc_mk s t c) a)
def as_l (s : SP) (t c : Nat) : List Nat := (List.range' 0 (z_na s)).filter (as_p s t c)
def sp_asked (s : SP) (x y : Int32) : Int32 × SP := if isC s x y = true then (i_ (as_l s x.toNatClampNeg y.toNatClampNeg).length, u_fd s (as_l s x.toNatClampNeg y.toNatClampNeg)) else (i_m, s)
theorem and1 (a : Nat) : a &&& 1 = 0 ∨ a &&& 1 = 1 := by
  have : a &&& 1 ≤ 1 := Nat.and_le_right
  omega
theorem M_asked_in {M : MS} {s : SP} {a : Nat} (ha : a < 40) (h61 : m_A M 61 a = i_ (z_at s a)) (hat : z_at s a < 16) (h62 : m_A M 62 a = i_ (z_ab s a)) (hab : z_ab s a < 64) (mk : Nat → Bool) (l : List Nat) (hl : l.length < 140) (K : Int32 → MS → Option (Int32 × MS)) :
    ∀ (r b n : Nat) (is : Bool), b + r = 6 → r < n → f_X3_asked_n38 K n (i_ a) (b2i is) (i_ b) (m_fd (m_mk M mk) l) = K (i_ (a + 1)) (m_fd (m_mk M mk) (if (is || (List.range' b r).any (as_b s mk a)) = true then l ++ [a] else l)) := by
  intro r
  induction r with
  | zero =>
    intro b n is hb hn
    obtain ⟨n, rfl⟩ : ∃ m, n = m + 1 := ⟨n - 1, by omega⟩
    unfold f_X3_asked_n38
    cases is with
    | true =>
      simp (disch := omega) only [l_m1, l_m2, l_0, l_1, l_2, l_3, l_4, l_5, l_6, l_7, l_8, l_9, l_10, l_11, l_12, l_13, l_14, l_15, l_16, l_17, l_18, l_19, l_20, l_21, l_22, l_23, l_24, l_25, l_26, l_27, l_28, l_29, l_30, l_31, l_32, l_33, l_34, l_35, l_36, l_37, l_38, l_39, l_40, l_41, l_42, l_43, l_44, l_45, l_46, l_47, l_48, l_49, l_50, l_51, l_52, l_53, l_54, l_55, l_56, l_57, l_58, l_59, l_60, l_61, l_62, l_63, l_64, l_97, l_100, l_110, l_115, l_116, l_120, l_122, l_127, l_128, l_136, l_140, l_200, l_255, l_256, l_400, l_1000, l_30000, l_1200, l_65536, l_2147483639, l_2147483647, ob_some, obd_some, q_lt_t, q_lt_f, q_le_t, q_le_f, q_eq_t, q_eq_f, im_ne, im_ne', im_lt, im_le, im_lt', im_le', i_add, i_mul, i_dec, i_dec0, i_sub, i_and, i_shr, i_div, nar_b0, nar_b1, b2i_t, b2i_f, gA1, pA1, gB2, pB2, gA3, pA3, gA4, pA4, gB5, pB5, gA6, pA6, gA7, pA7, gA8, pA8, gA9, pA9, gA10, pA10, gA11, pA11, gA12, pA12, gA13, pA13, gA14, pA14, gA15, pA15, gA16, pA16, gA17, pA17, gA18, pA18, gA19, pA19, gA20, pA20, gA21, pA21, gA40, pA40, gB43, pB43, gA44, pA44, gA45, pA45, gA46, pA46, gA47, pA47, gA48, pA48, gA49, pA49, gA53, pA53, gA54, pA54, gA55, pA55, gA56, pA56, gA58, pA58, gA60, pA60, gA61, pA61, gA62, pA62, gA63, pA63, gA66, pA66, ↓reduceIte, if_true, if_false, M_finds]
      simp
    | false =>
      simp (disch := omega) only [l_m1, l_m2, l_0, l_1, l_2, l_3, l_4, l_5, l_6, l_7, l_8, l_9, l_10, l_11, l_12, l_13, l_14, l_15, l_16, l_17, l_18, l_19, l_20, l_21, l_22, l_23, l_24, l_25, l_26, l_27, l_28, l_29, l_30, l_31, l_32, l_33, l_34, l_35, l_36, l_37, l_38, l_39, l_40, l_41, l_42, l_43, l_44, l_45, l_46, l_47, l_48, l_49, l_50, l_51, l_52, l_53, l_54, l_55, l_56, l_57, l_58, l_59, l_60, l_61, l_62, l_63, l_64, l_97, l_100, l_110, l_115, l_116, l_120, l_122, l_127, l_128, l_136, l_140, l_200, l_255, l_256, l_400, l_1000, l_30000, l_1200, l_65536, l_2147483639, l_2147483647, ob_some, obd_some, q_lt_t, q_lt_f, q_le_t, q_le_f, q_eq_t, q_eq_f, im_ne, im_ne', im_lt, im_le, im_lt', im_le', i_add, i_mul, i_dec, i_dec0, i_sub, i_and, i_shr, i_div, nar_b0, nar_b1, b2i_t, b2i_f, gA1, pA1, gB2, pB2, gA3, pA3, gA4, pA4, gB5, pB5, gA6, pA6, gA7, pA7, gA8, pA8, gA9, pA9, gA10, pA10, gA11, pA11, gA12, pA12, gA13, pA13, gA14, pA14, gA15, pA15, gA16, pA16, gA17, pA17, gA18, pA18, gA19, pA19, gA20, pA20, gA21, pA21, gA40, pA40, gB43, pB43, gA44, pA44, gA45, pA45, gA46, pA46, gA47, pA47, gA48, pA48, gA49, pA49, gA53, pA53, gA54, pA54, gA55, pA55, gA56, pA56, gA58, pA58, gA60, pA60, gA61, pA61, gA62, pA62, gA63, pA63, gA66, pA66, ↓reduceIte, if_true, if_false]
      simp
  | succ r ih =>
    intro b n is hb hn
    obtain ⟨n, rfl⟩ : ∃ m, n = m + 1 := ⟨n - 1, by omega⟩
    have e61 : m_A (m_fd (m_mk M mk) l) 61 a = i_ (z_at s a) := by rw [fd_A (by decide), mk_A (by decide), h61]
    have e62 : m_A (m_fd (m_mk M mk) l) 62 a = i_ (z_ab s a) := by rw [fd_A (by decide), mk_A (by decide), h62]
    have e56 : m_A (m_fd (m_mk M mk) l) 56 (8 * z_at s a + b) = b2i (mk (8 * z_at s a + b)) := by rw [fd_A (by decide), mk_get (by omega)]
    have hlt : z_ab s a / 2 ^ b < 64 := Nat.lt_of_le_of_lt (Nat.div_le_self _ _) hab
    have hb31 : b &&& 31 = b := by
      have h9 : ∀ b, b < 6 → b &&& 31 = b := by decide
      exact h9 b (by omega)
    unfold f_X3_asked_n38 f_X3_asked_n89 f_X3_asked_n85
    rw [List.range'_succ, List.any_cons]
    cases is with
    | true =>
      simp (disch := omega) only [l_m1, l_m2, l_0, l_1, l_2, l_3, l_4, l_5, l_6, l_7, l_8, l_9, l_10, l_11, l_12, l_13, l_14, l_15, l_16, l_17, l_18, l_19, l_20, l_21, l_22, l_23, l_24, l_25, l_26, l_27, l_28, l_29, l_30, l_31, l_32, l_33, l_34, l_35, l_36, l_37, l_38, l_39, l_40, l_41, l_42, l_43, l_44, l_45, l_46, l_47, l_48, l_49, l_50, l_51, l_52, l_53, l_54, l_55, l_56, l_57, l_58, l_59, l_60, l_61, l_62, l_63, l_64, l_97, l_100, l_110, l_115, l_116, l_120, l_122, l_127, l_128, l_136, l_140, l_200, l_255, l_256, l_400, l_1000, l_30000, l_1200, l_65536, l_2147483639, l_2147483647, ob_some, obd_some, q_lt_t, q_lt_f, q_le_t, q_le_f, q_eq_t, q_eq_f, im_ne, im_ne', im_lt, im_le, im_lt', im_le', i_add, i_mul, i_dec, i_dec0, i_sub, i_and, i_shr, i_div, nar_b0, nar_b1, b2i_t, b2i_f, gA1, pA1, gB2, pB2, gA3, pA3, gA4, pA4, gB5, pB5, gA6, pA6, gA7, pA7, gA8, pA8, gA9, pA9, gA10, pA10, gA11, pA11, gA12, pA12, gA13, pA13, gA14, pA14, gA15, pA15, gA16, pA16, gA17, pA17, gA18, pA18, gA19, pA19, gA20, pA20, gA21, pA21, gA40, pA40, gB43, pB43, gA44, pA44, gA45, pA45, gA46, pA46, gA47, pA47, gA48, pA48, gA49, pA49, gA53, pA53, gA54, pA54, gA55, pA55, gA56, pA56, gA58, pA58, gA60, pA60, gA61, pA61, gA62, pA62, gA63, pA63, gA66, pA66, ↓reduceIte, if_true, if_false]
      rw [← b2i_t, ih (b + 1) n true (by omega) (by omega)]
      simp
    | false =>
      have ab : as_b s mk a b = (decide (z_ab s a / 2 ^ b &&& 1 = 1) && mk (8 * z_at s a + b)) := rfl
      rcases and1 (z_ab s a / 2 ^ b) with e | e
      · have ab2 : as_b s mk a b = false := by rw [ab, e]; rfl
        simp (disch := omega) only [l_m1, l_m2, l_0, l_1, l_2, l_3, l_4, l_5, l_6, l_7, l_8, l_9, l_10, l_11, l_12, l_13, l_14, l_15, l_16, l_17, l_18, l_19, l_20, l_21, l_22, l_23, l_24, l_25, l_26, l_27, l_28, l_29, l_30, l_31, l_32, l_33, l_34, l_35, l_36, l_37, l_38, l_39, l_40, l_41, l_42, l_43, l_44, l_45, l_46, l_47, l_48, l_49, l_50, l_51, l_52, l_53, l_54, l_55, l_56, l_57, l_58, l_59, l_60, l_61, l_62, l_63, l_64, l_97, l_100, l_110, l_115, l_116, l_120, l_122, l_127, l_128, l_136, l_140, l_200, l_255, l_256, l_400, l_1000, l_30000, l_1200, l_65536, l_2147483639, l_2147483647, ob_some, obd_some, q_lt_t, q_lt_f, q_le_t, q_le_f, q_eq_t, q_eq_f, im_ne, im_ne', im_lt, im_le, im_lt', im_le', i_add, i_mul, i_dec, i_dec0, i_sub, i_and, i_shr, i_div, nar_b0, nar_b1, b2i_t, b2i_f, gA1, pA1, gB2, pB2, gA3, pA3, gA4, pA4, gB5, pB5, gA6, pA6, gA7, pA7, gA8, pA8, gA9, pA9, gA10, pA10, gA11, pA11, gA12, pA12, gA13, pA13, gA14, pA14, gA15, pA15, gA16, pA16, gA17, pA17, gA18, pA18, gA19, pA19, gA20, pA20, gA21, pA21, gA40, pA40, gB43, pB43, gA44, pA44, gA45, pA45, gA46, pA46, gA47, pA47, gA48, pA48, gA49, pA49, gA53, pA53, gA54, pA54, gA55, pA55, gA56, pA56, gA58, pA58, gA60, pA60, gA61, pA61, gA62, pA62, gA63, pA63, gA66, pA66, ↓reduceIte, if_true, if_false, e62, hb31, e]
        rw [← b2i_f, ih (b + 1) n false (by omega) (by omega), ab2, Bool.false_or, Bool.false_or]
      · cases hv : mk (8 * z_at s a + b) with
        | true =>
          rw [hv] at e56
          simp (disch := omega) only [l_m1, l_m2, l_0, l_1, l_2, l_3, l_4, l_5, l_6, l_7, l_8, l_9, l_10, l_11, l_12, l_13, l_14, l_15, l_16, l_17, l_18, l_19, l_20, l_21, l_22, l_23, l_24, l_25, l_26, l_27, l_28, l_29, l_30, l_31, l_32, l_33, l_34, l_35, l_36, l_37, l_38, l_39, l_40, l_41, l_42, l_43, l_44, l_45, l_46, l_47, l_48, l_49, l_50, l_51, l_52, l_53, l_54, l_55, l_56, l_57, l_58, l_59, l_60, l_61, l_62, l_63, l_64, l_97, l_100, l_110, l_115, l_116, l_120, l_122, l_127, l_128, l_136, l_140, l_200, l_255, l_256, l_400, l_1000, l_30000, l_1200, l_65536, l_2147483639, l_2147483647, ob_some, obd_some, q_lt_t, q_lt_f, q_le_t, q_le_f, q_eq_t, q_eq_f, im_ne, im_ne', im_lt, im_le, im_lt', im_le', i_add, i_mul, i_dec, i_dec0, i_sub, i_and, i_shr, i_div, nar_b0, nar_b1, b2i_t, b2i_f, gA1, pA1, gB2, pB2, gA3, pA3, gA4, pA4, gB5, pB5, gA6, pA6, gA7, pA7, gA8, pA8, gA9, pA9, gA10, pA10, gA11, pA11, gA12, pA12, gA13, pA13, gA14, pA14, gA15, pA15, gA16, pA16, gA17, pA17, gA18, pA18, gA19, pA19, gA20, pA20, gA21, pA21, gA40, pA40, gB43, pB43, gA44, pA44, gA45, pA45, gA46, pA46, gA47, pA47, gA48, pA48, gA49, pA49, gA53, pA53, gA54, pA54, gA55, pA55, gA56, pA56, gA58, pA58, gA60, pA60, gA61, pA61, gA62, pA62, gA63, pA63, gA66, pA66, ↓reduceIte, if_true, if_false, e62, hb31, e, e61, e56]
          rw [← b2i_t, ih (b + 1) n true (by omega) (by omega), ab, e, hv]
          simp
        | false =>
          rw [hv] at e56
          simp (disch := omega) only [l_m1, l_m2, l_0, l_1, l_2, l_3, l_4, l_5, l_6, l_7, l_8, l_9, l_10, l_11, l_12, l_13, l_14, l_15, l_16, l_17, l_18, l_19, l_20, l_21, l_22, l_23, l_24, l_25, l_26, l_27, l_28, l_29, l_30, l_31, l_32, l_33, l_34, l_35, l_36, l_37, l_38, l_39, l_40, l_41, l_42, l_43, l_44, l_45, l_46, l_47, l_48, l_49, l_50, l_51, l_52, l_53, l_54, l_55, l_56, l_57, l_58, l_59, l_60, l_61, l_62, l_63, l_64, l_97, l_100, l_110, l_115, l_116, l_120, l_122, l_127, l_128, l_136, l_140, l_200, l_255, l_256, l_400, l_1000, l_30000, l_1200, l_65536, l_2147483639, l_2147483647, ob_some, obd_some, q_lt_t, q_lt_f, q_le_t, q_le_f, q_eq_t, q_eq_f, im_ne, im_ne', im_lt, im_le, im_lt', im_le', i_add, i_mul, i_dec, i_dec0, i_sub, i_and, i_shr, i_div, nar_b0, nar_b1, b2i_t, b2i_f, gA1, pA1, gB2, pB2, gA3, pA3, gA4, pA4, gB5, pB5, gA6, pA6, gA7, pA7, gA8, pA8, gA9, pA9, gA10, pA10, gA11, pA11, gA12, pA12, gA13, pA13, gA14, pA14, gA15, pA15, gA16, pA16, gA17, pA17, gA18, pA18, gA19, pA19, gA20, pA20, gA21, pA21, gA40, pA40, gB43, pB43, gA44, pA44, gA45, pA45, gA46, pA46, gA47, pA47, gA48, pA48, gA49, pA49, gA53, pA53, gA54, pA54, gA55, pA55, gA56, pA56, gA58, pA58, gA60, pA60, gA61, pA61, gA62, pA62, gA63, pA63, gA66, pA66, ↓reduceIte, if_true, if_false, e62, hb31, e, e61, e56]
          have ab2 : as_b s mk a b = false := by rw [ab, hv, Bool.and_false]
          rw [← b2i_f, ih (b + 1) n false (by omega) (by omega), ab2, Bool.false_or, Bool.false_or]
theorem M_asked_out {M : MS} {s : SP} (h : RMa M s) (hk : RMk M s) (t c : Nat) : ∀ (r k n : Nat) (l : List Nat), k + r = z_na s → r < n → l.length ≤ k → f_X3_asked_n24 n (i_ k) (m_fd (m_mk M (tc_mk s t c)) l) = some (i_ (l ++ (List.range' k r).filter (as_p s t c)).length, m_fd (m_mk M (tc_mk s t c)) (l ++ (List.range' k r).filter (as_p s t c))) := by
  have h2 := h.2.1
  obtain ⟨k1, k2, k3⟩ := hk
  intro r
  induction r with
  | zero =>
    intro k n l hk hn hl
    obtain ⟨n, rfl⟩ : ∃ m, n = m + 1 := ⟨n - 1, by omega⟩
    unfold f_X3_asked_n24
    simp (disch := omega) only [l_m1, l_m2, l_0, l_1, l_2, l_3, l_4, l_5, l_6, l_7, l_8, l_9, l_10, l_11, l_12, l_13, l_14, l_15, l_16, l_17, l_18, l_19, l_20, l_21, l_22, l_23, l_24, l_25, l_26, l_27, l_28, l_29, l_30, l_31, l_32, l_33, l_34, l_35, l_36, l_37, l_38, l_39, l_40, l_41, l_42, l_43, l_44, l_45, l_46, l_47, l_48, l_49, l_50, l_51, l_52, l_53, l_54, l_55, l_56, l_57, l_58, l_59, l_60, l_61, l_62, l_63, l_64, l_97, l_100, l_110, l_115, l_116, l_120, l_122, l_127, l_128, l_136, l_140, l_200, l_255, l_256, l_400, l_1000, l_30000, l_1200, l_65536, l_2147483639, l_2147483647, ob_some, obd_some, q_lt_t, q_lt_f, q_le_t, q_le_f, q_eq_t, q_eq_f, im_ne, im_ne', im_lt, im_le, im_lt', im_le', i_add, i_mul, i_dec, i_dec0, i_sub, i_and, i_shr, i_div, nar_b0, nar_b1, b2i_t, b2i_f, gA1, pA1, gB2, pB2, gA3, pA3, gA4, pA4, gB5, pB5, gA6, pA6, gA7, pA7, gA8, pA8, gA9, pA9, gA10, pA10, gA11, pA11, gA12, pA12, gA13, pA13, gA14, pA14, gA15, pA15, gA16, pA16, gA17, pA17, gA18, pA18, gA19, pA19, gA20, pA20, gA21, pA21, gA40, pA40, gB43, pB43, gA44, pA44, gA45, pA45, gA46, pA46, gA47, pA47, gA48, pA48, gA49, pA49, gA53, pA53, gA54, pA54, gA55, pA55, gA56, pA56, gA58, pA58, gA60, pA60, gA61, pA61, gA62, pA62, gA63, pA63, gA66, pA66, ↓reduceIte, if_true, if_false, fd_57, fd_I, mk_I, k1]
    simp
  | succ r ih =>
    intro k n l hk hn hl
    obtain ⟨n, rfl⟩ : ∃ m, n = m + 1 := ⟨n - 1, by omega⟩
    obtain ⟨⟨a1, a2⟩, ⟨b1, b2⟩, -⟩ := k3 k (by omega)
    unfold f_X3_asked_n24
    rw [filt_succ]
    simp (disch := omega) only [l_m1, l_m2, l_0, l_1, l_2, l_3, l_4, l_5, l_6, l_7, l_8, l_9, l_10, l_11, l_12, l_13, l_14, l_15, l_16, l_17, l_18, l_19, l_20, l_21, l_22, l_23, l_24, l_25, l_26, l_27, l_28, l_29, l_30, l_31, l_32, l_33, l_34, l_35, l_36, l_37, l_38, l_39, l_40, l_41, l_42, l_43, l_44, l_45, l_46, l_47, l_48, l_49, l_50, l_51, l_52, l_53, l_54, l_55, l_56, l_57, l_58, l_59, l_60, l_61, l_62, l_63, l_64, l_97, l_100, l_110, l_115, l_116, l_120, l_122, l_127, l_128, l_136, l_140, l_200, l_255, l_256, l_400, l_1000, l_30000, l_1200, l_65536, l_2147483639, l_2147483647, ob_some, obd_some, q_lt_t, q_lt_f, q_le_t, q_le_f, q_eq_t, q_eq_f, im_ne, im_ne', im_lt, im_le, im_lt', im_le', i_add, i_mul, i_dec, i_dec0, i_sub, i_and, i_shr, i_div, nar_b0, nar_b1, b2i_t, b2i_f, gA1, pA1, gB2, pB2, gA3, pA3, gA4, pA4, gB5, pB5, gA6, pA6, gA7, pA7, gA8, pA8, gA9, pA9, gA10, pA10, gA11, pA11, gA12, pA12, gA13, pA13, gA14, pA14, gA15, pA15, gA16, pA16, gA17, pA17, gA18, pA18, gA19, pA19, gA20, pA20, gA21, pA21, gA40, pA40, gB43, pB43, gA44, pA44, gA45, pA45, gA46, pA46, gA47, pA47, gA48, pA48, gA49, pA49, gA53, pA53, gA54, pA54, gA55, pA55, gA56, pA56, gA58, pA58, gA60, pA60, gA61, pA61, gA62, pA62, gA63, pA63, gA66, pA66, ↓reduceIte, if_true, if_false, fd_I, mk_I, k1]
    have hin := M_asked_in (M := M) (show k < 40 by omega) a1 (show z_at s k < 16 by omega) b1 b2 (tc_mk s t c) l (by omega) (fun x3 M => f_X3_asked_n24 n x3 M) 6 0 fu_ false (by omega) (by rw [fu_eq]; omega)
    have e : (List.range' 0 6).any (as_b s (tc_mk s t c) k) = as_p s t c k := rfl
    rw [b2i_f, Bool.false_or, e] at hin
    rw [hin]
    by_cases hp : as_p s t c k = true
    · rw [if_pos hp, if_pos hp]
      rw [ih (k + 1) n (l ++ [k]) (by omega) (by omega) (by simp; omega)]
      simp
    · rw [if_neg hp, if_neg hp]
      rw [ih (k + 1) n l (by omega) (by omega) (by omega)]
      simp
theorem M_asked {M : MS} {s : SP} (h : RMa M s) (hn : RMn M s) (hf : RMf M s) (hs : SI s) (hk : RMk M s) (x y : Int32) : ∃ M', f_X3_asked x y M = some ((sp_asked s x y).1, M') ∧ (M' = M ∧ (sp_asked s x y).2 = s ∨ MFd M M' (z_fd (sp_asked s x y).2) ∧ (sp_asked s x y).2 = u_fd s (z_fd (sp_asked s x y).2) ∧ (z_fd (sp_asked s x y).2).length ≤ 128 ∧ ∀ v ∈ z_fd (sp_asked s x y).2, v < 136) := by
  unfold f_X3_asked sp_asked
  rw [M_isColumn h]
  cases hc : isC s x y with
  | false =>
    simp (disch := omega) only [l_m1, l_m2, l_0, l_1, l_2, l_3, l_4, l_5, l_6, l_7, l_8, l_9, l_10, l_11, l_12, l_13, l_14, l_15, l_16, l_17, l_18, l_19, l_20, l_21, l_22, l_23, l_24, l_25, l_26, l_27, l_28, l_29, l_30, l_31, l_32, l_33, l_34, l_35, l_36, l_37, l_38, l_39, l_40, l_41, l_42, l_43, l_44, l_45, l_46, l_47, l_48, l_49, l_50, l_51, l_52, l_53, l_54, l_55, l_56, l_57, l_58, l_59, l_60, l_61, l_62, l_63, l_64, l_97, l_100, l_110, l_115, l_116, l_120, l_122, l_127, l_128, l_136, l_140, l_200, l_255, l_256, l_400, l_1000, l_30000, l_1200, l_65536, l_2147483639, l_2147483647, ob_some, obd_some, q_lt_t, q_lt_f, q_le_t, q_le_f, q_eq_t, q_eq_f, im_ne, im_ne', im_lt, im_le, im_lt', im_le', i_add, i_mul, i_dec, i_dec0, i_sub, i_and, i_shr, i_div, nar_b0, nar_b1, b2i_t, b2i_f, gA1, pA1, gB2, pB2, gA3, pA3, gA4, pA4, gB5, pB5, gA6, pA6, gA7, pA7, gA8, pA8, gA9, pA9, gA10, pA10, gA11, pA11, gA12, pA12, gA13, pA13, gA14, pA14, gA15, pA15, gA16, pA16, gA17, pA17, gA18, pA18, gA19, pA19, gA20, pA20, gA21, pA21, gA40, pA40, gB43, pB43, gA44, pA44, gA45, pA45, gA46, pA46, gA47, pA47, gA48, pA48, gA49, pA49, gA53, pA53, gA54, pA54, gA55, pA55, gA56, pA56, gA58, pA58, gA60, pA60, gA61, pA61, gA62, pA62, gA63, pA63, gA66, pA66, ↓reduceIte, if_true, if_false]
    exact ⟨M, by simp, Or.inl ⟨rfl, by simp⟩⟩
  | true =>
    obtain ⟨t, c, rfl, rfl, ht, hth, hcc⟩ := isC_of hc
    have h2 := h.2.1
    have hk2 := hk.2.1
    obtain ⟨-, -, ⟨c1, c2, c3⟩, -⟩ := h.2.2 t ht
    rw [i_cl (show t < 2147483648 by omega), i_cl (show c < 2147483648 by omega)]
    have hout := M_asked_out h hk t c (z_na s) 0 fu_ [] (by omega) (by rw [fu_eq]; omega) (by simp)
    rw [fd_nil] at hout
    refine ⟨m_fd (m_mk M (tc_mk s t c)) (as_l s t c), ?_, Or.inr ⟨⟨_, rfl⟩, rfl, Nat.le_trans (filt_len _ _) (by omega), fun v hv => ?_⟩⟩
    · simp (disch := omega) only [l_m1, l_m2, l_0, l_1, l_2, l_3, l_4, l_5, l_6, l_7, l_8, l_9, l_10, l_11, l_12, l_13, l_14, l_15, l_16, l_17, l_18, l_19, l_20, l_21, l_22, l_23, l_24, l_25, l_26, l_27, l_28, l_29, l_30, l_31, l_32, l_33, l_34, l_35, l_36, l_37, l_38, l_39, l_40, l_41, l_42, l_43, l_44, l_45, l_46, l_47, l_48, l_49, l_50, l_51, l_52, l_53, l_54, l_55, l_56, l_57, l_58, l_59, l_60, l_61, l_62, l_63, l_64, l_97, l_100, l_110, l_115, l_116, l_120, l_122, l_127, l_128, l_136, l_140, l_200, l_255, l_256, l_400, l_1000, l_30000, l_1200, l_65536, l_2147483639, l_2147483647, ob_some, obd_some, q_lt_t, q_lt_f, q_le_t, q_le_f, q_eq_t, q_eq_f, im_ne, im_ne', im_lt, im_le, im_lt', im_le', i_add, i_mul, i_dec, i_dec0, i_sub, i_and, i_shr, i_div, nar_b0, nar_b1, b2i_t, b2i_f, gA1, pA1, gB2, pB2, gA3, pA3, gA4, pA4, gB5, pB5, gA6, pA6, gA7, pA7, gA8, pA8, gA9, pA9, gA10, pA10, gA11, pA11, gA12, pA12, gA13, pA13, gA14, pA14, gA15, pA15, gA16, pA16, gA17, pA17, gA18, pA18, gA19, pA19, gA20, pA20, gA21, pA21, gA40, pA40, gB43, pB43, gA44, pA44, gA45, pA45, gA46, pA46, gA47, pA47, gA48, pA48, gA49, pA49, gA53, pA53, gA54, pA54, gA55, pA55, gA56, pA56, gA58, pA58, gA60, pA60, gA61, pA61, gA62, pA62, gA63, pA63, gA66, pA66, ↓reduceIte, if_true, if_false, M_touches h hn hf hs ht hcc]
      exact hout
    · have := (List.mem_range'_1.mp (List.mem_filter.mp hv |>.1)).2
      omega
