/-! what a reading leaves of the tables that are there *-/
theorem RMa.gr {M N : MS} {s : SP} {ka kb ki : List Nat} (h : RMa M s) (g : Gr ka kb ki (z_n s) M N) (h0 : 0 ∉ ki) : RMa N s := by
  obtain ⟨h1, h2, h3⟩ := h
  obtain ⟨-, g2, -, -, g5, -⟩ := g
  refine ⟨by rw [g5 0 h0]; exact h1, h2, fun t ht => ?_⟩
  obtain ⟨r1, r2, r3, r4, r5, ⟨r6, r7, r8, r9⟩, r10⟩ := h3 t ht
  refine ⟨by rw [g2 1 t ht]; exact r1, by rw [g2 3 t ht]; exact r2, by rw [g2 4 t ht]; exact r3, by rw [g2 7 t ht]; exact r4, fun k hk => ?_, ⟨by rw [g2 9 t ht]; exact r6, by rw [g2 10 t ht]; exact r7, by rw [g2 11 t ht]; exact r8, by rw [g2 12 t ht]; exact r9⟩, fun c hc => ?_⟩
  · have := r4.2
    rw [g2 8 (3 * t + k) (show 3 * t + k < 3 * z_n s by omega)]
    exact r5 k hk
  · have := r3.2.2
    rw [g2 6 (8 * t + c) (show 8 * t + c < 8 * z_n s by omega)]
    exact r10 c hc
theorem RMn.gr {M N : MS} {s : SP} {ka kb ki : List Nat} (h : RMn M s) (ha : RMa M s) (g : Gr ka kb ki (z_n s) M N) : RMn N s := fun t ht => by
  obtain ⟨h1, h2⟩ := h t ht
  obtain ⟨-, -, ⟨-, -, r3⟩, -⟩ := ha.2.2 t ht
  refine ⟨⟨by rw [g.2.2.2.1 2 t ht]; exact h1.1, h1.2⟩, fun c hc => ?_⟩
  rw [g.2.2.2.1 5 (8 * t + c) (show 8 * t + c < 8 * z_n s by omega)]
  exact h2 c hc
theorem Wd_.gr {M N : MS} {t n k : Nat} {w : List Nat} {ka kb ki : List Nat} (h : Wd_ M t k w) (g : Gr ka kb ki n M N) (ht : t < n) (hk : k < 400) : Wd_ N t k w := by
  obtain ⟨h1, h2, p, h3, h4, h5⟩ := h
  refine ⟨by rw [g.2.1 16 (400 * t + k) (show 400 * t + k < 400 * n by omega)]; exact h1, h2, p, by rw [g.2.1 15 (400 * t + k) (show 400 * t + k < 400 * n by omega)]; exact h3, h4, fun i hi => ?_⟩
  rw [g.2.1 17 (400 * t + p + i) (show 400 * t + p + i < 400 * n by omega)]
  exact h5 i hi
theorem FT1.gr {M N : MS} {s : SP} {t n k k1 : Nat} {x : Tk} {ka kb ki : List Nat} (h : FT1 M s t k x k1) (g : Gr ka kb ki n M N) (ht : t < n) (hk : k1 ≤ 400) : FT1 N s t k x k1 := by
  have e : ∀ a i, (a = 14 ∨ a = 15) → i < 400 → m_A N a (400 * t + i) = m_A M a (400 * t + i) := fun a i ha hi => by
    rcases ha with rfl | rfl
    · exact g.2.1 14 _ (show 400 * t + i < 400 * n by omega)
    · exact g.2.1 15 _ (show 400 * t + i < 400 * n by omega)
  rcases h with ⟨h1, h2, h3⟩ | ⟨h1, h2, h3⟩ | ⟨h1, h2, h3, h4, q, c, h5, h6, h7, h8, h9, h10, h11⟩ | ⟨h1, h2, h3, h4, h5, h6⟩ | ⟨h1, h2, h3⟩ | ⟨h1, h2, h3, h4, h5⟩
  · exact Or.inl ⟨h1, by rw [e 14 k (Or.inl rfl) (by omega)]; exact h2, h3⟩
  · exact Or.inr (Or.inl ⟨h1, by rw [e 14 k (Or.inl rfl) (by omega)]; exact h2, h3⟩)
  · refine Or.inr (Or.inr (Or.inl ⟨h1, by rw [e 14 k (Or.inl rfl) (by omega)]; exact h2, ?_, h4, q, c, h5, h6, h7, h8, h9, h10.gr g ht (by omega), h11.gr g ht (by omega)⟩))
    rw [Nat.add_assoc, e 14 (k + 1) (Or.inl rfl) (by omega)]
    exact h3
  · refine Or.inr (Or.inr (Or.inr (Or.inl ⟨h1, by rw [e 14 k (Or.inl rfl) (by omega)]; exact h2, ?_, h4, by rw [e 15 k (Or.inr rfl) (by omega)]; exact h5, ?_⟩)))
    · rw [Nat.add_assoc, e 14 (k + 1) (Or.inl rfl) (by omega)]
      exact h3
    · rcases h6 with ⟨h6, h7⟩ | ⟨h6, h7⟩
      · exact Or.inl ⟨h6, h7.gr g ht (by omega)⟩
      · exact Or.inr ⟨h6, h7.gr g ht (by omega)⟩
  · exact Or.inr (Or.inr (Or.inr (Or.inr (Or.inl ⟨h1, by rw [e 14 k (Or.inl rfl) (by omega)]; exact h2, h3⟩))))
  · exact Or.inr (Or.inr (Or.inr (Or.inr (Or.inr ⟨h1, by rw [e 14 k (Or.inl rfl) (by omega)]; exact h2, h3, by rw [e 15 k (Or.inr rfl) (by omega)]; exact h4, h5⟩))))
theorem FT.gr {M N : MS} {s : SP} {t n : Nat} {ka kb ki : List Nat} (g : Gr ka kb ki n M N) (ht : t < n) : ∀ {l : List Tk} {k k' : Nat}, FT M s t k l k' → k' ≤ 400 → FT N s t k l k'
  | [], _, _, h, _ => h
  | x :: l, k, k', ⟨k1, h1, h2, h3⟩, hk => ⟨k1, h1.gr g ht (by have := FT_le _ _ _ h3; omega), h2, FT.gr g ht h3 hk⟩
theorem FF.gr {M N : MS} {s : SP} {t n c : Nat} {ka kb ki : List Nat} (h : FF M s t c) (g : Gr ka kb ki n M N) (ht : t < n) (hc : c < 8) : FF N s t c := by
  obtain ⟨k, k', h1, h2, h3, h4, h5⟩ := h
  exact ⟨k, k', by rw [g.2.1 18 (8 * t + c) (show 8 * t + c < 8 * n by omega)]; exact h1, by rw [g.2.1 19 (8 * t + c) (show 8 * t + c < 8 * n by omega)]; exact h2, h3, h4, h5.gr g ht h4⟩
theorem RMf.gr {M N : MS} {s : SP} {ka kb ki : List Nat} (h : RMf M s) (ha : RMa M s) (g : Gr ka kb ki (z_n s) M N) : RMf N s := fun t ht hth hm => by
  obtain ⟨h1, h2⟩ := h t ht hth hm
  obtain ⟨-, -, ⟨-, -, r3⟩, -⟩ := ha.2.2 t ht
  refine ⟨fun c hc => (h1 c hc).gr g ht (by omega), ?_⟩
  by_cases e : z_hw s t = true
  · rw [if_pos e] at h2 ⊢
    exact ⟨h2.1.gr g ht (by decide), h2.2.gr g ht (by decide)⟩
  · rw [if_neg e] at h2 ⊢
    rw [g.2.1 19 (8 * t + 7) (show 8 * t + 7 < 8 * z_n s by omega)]
    exact h2
theorem RMx.gr {M N : MS} {s : SP} {ka kb ki : List Nat} (h : RMx M s) (g : Gr ka kb ki (z_n s) M N) : RMx N s := fun t ht hth hm => by
  obtain ⟨e, h1, h2, h3, h4⟩ := h t ht hth hm
  refine ⟨e, by rw [g.2.1 20 t ht]; exact h1, by rw [g.2.1 13 t ht]; exact h2, h3, fun i hi => ?_⟩
  obtain ⟨r1, r2, r3, p, r4, r5, r6⟩ := h4 i hi
  refine ⟨by rw [g.2.1 14 _ (show 400 * t + (e + i) < 400 * z_n s by omega)]; exact r1, r2, by rw [g.2.1 16 _ (show 400 * t + (e + i) < 400 * z_n s by omega)]; exact r3, p, by rw [g.2.1 15 _ (show 400 * t + (e + i) < 400 * z_n s by omega)]; exact r4, r5, fun j hj => ?_⟩
  rw [g.2.1 17 _ (show 400 * t + p + j < 400 * z_n s by omega)]
  exact r6 j hj
/-! a table by its name; events as they are kept *-/
theorem M_tnf_l {M : MS} {s : SP} (h : RMa M s) (hn : RMn M s) {w : List Nat} (hw : nmok w) : ∀ (r k f : Nat), k + r = z_n s → r < f → f_X3_tableNamed_n2 f (enc w) (i_ k) M = some (oi (tnf_ s w k r), M) := by
  have h1 := h.1
  have h2 := h.2.1
  intro r
  induction r with
  | zero =>
    intro k f hk hf
    obtain ⟨f, rfl⟩ : ∃ m, f = m + 1 := ⟨f - 1, by omega⟩
    unfold f_X3_tableNamed_n2
    simp (disch := omega) only [l_m1, l_m2, l_0, l_1, l_2, l_3, l_4, l_5, l_6, l_7, l_8, l_9, l_10, l_11, l_12, l_13, l_14, l_15, l_16, l_17, l_18, l_19, l_20, l_21, l_22, l_23, l_24, l_25, l_26, l_27, l_28, l_29, l_30, l_31, l_32, l_33, l_34, l_35, l_36, l_37, l_38, l_39, l_40, l_41, l_42, l_43, l_44, l_45, l_46, l_47, l_48, l_49, l_50, l_51, l_52, l_53, l_54, l_55, l_56, l_57, l_58, l_59, l_60, l_61, l_62, l_63, l_64, l_97, l_100, l_110, l_115, l_116, l_120, l_122, l_127, l_128, l_136, l_140, l_200, l_255, l_256, l_400, l_1000, l_30000, l_1200, l_65536, l_2147483639, l_2147483647, ob_some, obd_some, q_lt_t, q_lt_f, q_le_t, q_le_f, q_eq_t, q_eq_f, im_ne, im_ne', im_lt, im_le, im_lt', im_le', i_add, i_mul, i_dec, i_dec0, i_sub, i_and, i_shr, i_div, nar_b0, nar_b1, b2i_t, b2i_f, gA1, pA1, gB2, pB2, gA3, pA3, gA4, pA4, gB5, pB5, gA6, pA6, gA7, pA7, gA8, pA8, gA9, pA9, gA10, pA10, gA11, pA11, gA12, pA12, gA13, pA13, gA14, pA14, gA15, pA15, gA16, pA16, gA17, pA17, gA18, pA18, gA19, pA19, gA20, pA20, gA21, pA21, gA40, pA40, gB43, pB43, gA44, pA44, gA45, pA45, gA46, pA46, gA47, pA47, gA48, pA48, gA49, pA49, gA53, pA53, gA54, pA54, gA55, pA55, gA56, pA56, gA58, pA58, gA60, pA60, gA61, pA61, gA62, pA62, gA63, pA63, gA66, pA66, ↓reduceIte, if_true, if_false, R_mI_sJ, R_mI_sA, R_mI_sB, R_mJ_sI, R_mJ_sA, R_mJ_sB, R_mA_sI, R_mA_sJ, R_mA_sB, R_mB_sI, R_mB_sJ, R_mB_sA, mI_on, mI_off, mJ_on, mJ_off, mA_on, mA_same, mA_off, mB_on, mB_same, mB_off, up_on, up_off, h1]
    rfl
  | succ r ih =>
    intro k f hk hf
    obtain ⟨f, rfl⟩ : ∃ m, f = m + 1 := ⟨f - 1, by omega⟩
    have r1 := (h.2.2 k (by omega)).1
    obtain ⟨n1, n2⟩ := (hn k (by omega)).1
    have ih' := ih (k + 1) f (by omega) (by omega)
    unfold f_X3_tableNamed_n2
    cases hth : z_th s k with
    | false =>
      rw [hth] at r1
      rw [show tnf_ s w k (r + 1) = tnf_ s w (k + 1) r from if_neg (fun q => by rw [hth] at q; cases q.1)]
      simp (disch := omega) only [l_m1, l_m2, l_0, l_1, l_2, l_3, l_4, l_5, l_6, l_7, l_8, l_9, l_10, l_11, l_12, l_13, l_14, l_15, l_16, l_17, l_18, l_19, l_20, l_21, l_22, l_23, l_24, l_25, l_26, l_27, l_28, l_29, l_30, l_31, l_32, l_33, l_34, l_35, l_36, l_37, l_38, l_39, l_40, l_41, l_42, l_43, l_44, l_45, l_46, l_47, l_48, l_49, l_50, l_51, l_52, l_53, l_54, l_55, l_56, l_57, l_58, l_59, l_60, l_61, l_62, l_63, l_64, l_97, l_100, l_110, l_115, l_116, l_120, l_122, l_127, l_128, l_136, l_140, l_200, l_255, l_256, l_400, l_1000, l_30000, l_1200, l_65536, l_2147483639, l_2147483647, ob_some, obd_some, q_lt_t, q_lt_f, q_le_t, q_le_f, q_eq_t, q_eq_f, im_ne, im_ne', im_lt, im_le, im_lt', im_le', i_add, i_mul, i_dec, i_dec0, i_sub, i_and, i_shr, i_div, nar_b0, nar_b1, b2i_t, b2i_f, gA1, pA1, gB2, pB2, gA3, pA3, gA4, pA4, gB5, pB5, gA6, pA6, gA7, pA7, gA8, pA8, gA9, pA9, gA10, pA10, gA11, pA11, gA12, pA12, gA13, pA13, gA14, pA14, gA15, pA15, gA16, pA16, gA17, pA17, gA18, pA18, gA19, pA19, gA20, pA20, gA21, pA21, gA40, pA40, gB43, pB43, gA44, pA44, gA45, pA45, gA46, pA46, gA47, pA47, gA48, pA48, gA49, pA49, gA53, pA53, gA54, pA54, gA55, pA55, gA56, pA56, gA58, pA58, gA60, pA60, gA61, pA61, gA62, pA62, gA63, pA63, gA66, pA66, ↓reduceIte, if_true, if_false, R_mI_sJ, R_mI_sA, R_mI_sB, R_mJ_sI, R_mJ_sA, R_mJ_sB, R_mA_sI, R_mA_sJ, R_mA_sB, R_mB_sI, R_mB_sJ, R_mB_sA, mI_on, mI_off, mJ_on, mJ_off, mA_on, mA_same, mA_off, mB_on, mB_same, mB_off, up_on, up_off, h1, r1]
      exact ih'
    | true =>
      rw [hth] at r1
      by_cases e : z_nm s k = w
      · rw [show tnf_ s w k (r + 1) = some k from if_pos ⟨hth, e⟩]
        rw [e] at n1
        simp (disch := omega) only [l_m1, l_m2, l_0, l_1, l_2, l_3, l_4, l_5, l_6, l_7, l_8, l_9, l_10, l_11, l_12, l_13, l_14, l_15, l_16, l_17, l_18, l_19, l_20, l_21, l_22, l_23, l_24, l_25, l_26, l_27, l_28, l_29, l_30, l_31, l_32, l_33, l_34, l_35, l_36, l_37, l_38, l_39, l_40, l_41, l_42, l_43, l_44, l_45, l_46, l_47, l_48, l_49, l_50, l_51, l_52, l_53, l_54, l_55, l_56, l_57, l_58, l_59, l_60, l_61, l_62, l_63, l_64, l_97, l_100, l_110, l_115, l_116, l_120, l_122, l_127, l_128, l_136, l_140, l_200, l_255, l_256, l_400, l_1000, l_30000, l_1200, l_65536, l_2147483639, l_2147483647, ob_some, obd_some, q_lt_t, q_lt_f, q_le_t, q_le_f, q_eq_t, q_eq_f, im_ne, im_ne', im_lt, im_le, im_lt', im_le', i_add, i_mul, i_dec, i_dec0, i_sub, i_and, i_shr, i_div, nar_b0, nar_b1, b2i_t, b2i_f, gA1, pA1, gB2, pB2, gA3, pA3, gA4, pA4, gB5, pB5, gA6, pA6, gA7, pA7, gA8, pA8, gA9, pA9, gA10, pA10, gA11, pA11, gA12, pA12, gA13, pA13, gA14, pA14, gA15, pA15, gA16, pA16, gA17, pA17, gA18, pA18, gA19, pA19, gA20, pA20, gA21, pA21, gA40, pA40, gB43, pB43, gA44, pA44, gA45, pA45, gA46, pA46, gA47, pA47, gA48, pA48, gA49, pA49, gA53, pA53, gA54, pA54, gA55, pA55, gA56, pA56, gA58, pA58, gA60, pA60, gA61, pA61, gA62, pA62, gA63, pA63, gA66, pA66, ↓reduceIte, if_true, if_false, R_mI_sJ, R_mI_sA, R_mI_sB, R_mJ_sI, R_mJ_sA, R_mJ_sB, R_mA_sI, R_mA_sJ, R_mA_sB, R_mB_sI, R_mB_sJ, R_mB_sA, mI_on, mI_off, mJ_on, mJ_off, mA_on, mA_same, mA_off, mB_on, mB_same, mB_off, up_on, up_off, h1, r1, n1, cmp_0]
        rfl
      · rw [show tnf_ s w k (r + 1) = tnf_ s w (k + 1) r from if_neg (fun q => e q.2)]
        have e' : (enc (z_nm s k) = enc w) = False := eq_false (fun q => e ((enc_inj n2.1 hw.1 n2.2 hw.2).mp q))
        simp (disch := omega) only [l_m1, l_m2, l_0, l_1, l_2, l_3, l_4, l_5, l_6, l_7, l_8, l_9, l_10, l_11, l_12, l_13, l_14, l_15, l_16, l_17, l_18, l_19, l_20, l_21, l_22, l_23, l_24, l_25, l_26, l_27, l_28, l_29, l_30, l_31, l_32, l_33, l_34, l_35, l_36, l_37, l_38, l_39, l_40, l_41, l_42, l_43, l_44, l_45, l_46, l_47, l_48, l_49, l_50, l_51, l_52, l_53, l_54, l_55, l_56, l_57, l_58, l_59, l_60, l_61, l_62, l_63, l_64, l_97, l_100, l_110, l_115, l_116, l_120, l_122, l_127, l_128, l_136, l_140, l_200, l_255, l_256, l_400, l_1000, l_30000, l_1200, l_65536, l_2147483639, l_2147483647, ob_some, obd_some, q_lt_t, q_lt_f, q_le_t, q_le_f, q_eq_t, q_eq_f, im_ne, im_ne', im_lt, im_le, im_lt', im_le', i_add, i_mul, i_dec, i_dec0, i_sub, i_and, i_shr, i_div, nar_b0, nar_b1, b2i_t, b2i_f, gA1, pA1, gB2, pB2, gA3, pA3, gA4, pA4, gB5, pB5, gA6, pA6, gA7, pA7, gA8, pA8, gA9, pA9, gA10, pA10, gA11, pA11, gA12, pA12, gA13, pA13, gA14, pA14, gA15, pA15, gA16, pA16, gA17, pA17, gA18, pA18, gA19, pA19, gA20, pA20, gA21, pA21, gA40, pA40, gB43, pB43, gA44, pA44, gA45, pA45, gA46, pA46, gA47, pA47, gA48, pA48, gA49, pA49, gA53, pA53, gA54, pA54, gA55, pA55, gA56, pA56, gA58, pA58, gA60, pA60, gA61, pA61, gA62, pA62, gA63, pA63, gA66, pA66, ↓reduceIte, if_true, if_false, R_mI_sJ, R_mI_sA, R_mI_sB, R_mJ_sI, R_mJ_sA, R_mJ_sB, R_mA_sI, R_mA_sJ, R_mA_sB, R_mB_sI, R_mB_sJ, R_mB_sA, mI_on, mI_off, mJ_on, mJ_off, mA_on, mA_same, mA_off, mB_on, mB_same, mB_off, up_on, up_off, h1, r1, n1, cmp_0, e']
        exact ih'
theorem M_tableNamed {M : MS} {s : SP} (h : RMa M s) (hn : RMn M s) {w : List Nat} (hw : nmok w) : f_X3_tableNamed (enc w) M = some (oi (tnf s w), M) := by
  have h2 := h.2.1
  unfold f_X3_tableNamed
  exact M_tnf_l h hn hw (z_n s) 0 fu_ (by omega) (by rw [fu_eq]; omega)
/-- what was found bad, as it is kept *-/
def EO (M : MS) (o : Option (Nat × Nat)) : Prop := match o with
  | none => m_I M 25 = i_ 0 ∧ m_I M 26 = i_m
  | some b => m_I M 25 = i_ b.1 ∧ m_I M 26 = i_ b.2 ∧ (1 ≤ b.1 ∧ b.1 < 10) ∧ b.2 < 1000
theorem EO.mn {M N : MS} {o : Option (Nat × Nat)} (h : EO M o) {e : Nat × Nat} (h1 : 1 ≤ e.1 ∧ e.1 < 10) (h2 : e.2 < 1000) (k : (m_I N 25, m_I N 26) = mn1 (m_I M 25, m_I M 26) e) : EO N (mw1 o e) := by
  cases o with
  | none =>
    obtain ⟨a1, a2⟩ := h
    have : mn1 (m_I M 25, m_I M 26) e = (i_ e.1, i_ e.2) := if_pos (Or.inl a1)
    rw [this] at k
    exact ⟨congrArg Prod.fst k, congrArg Prod.snd k, h1, h2⟩
  | some b =>
    obtain ⟨a1, a2, a3, a4⟩ := h
    show EO N (if e.2 < b.2 then some e else some b)
    by_cases c : e.2 < b.2
    · rw [if_pos c]
      have : mn1 (m_I M 25, m_I M 26) e = (i_ e.1, i_ e.2) := if_pos (Or.inr (by
        show i_ e.2 < m_I M 26
        rw [a2]
        exact (i_lt (by omega) (by omega)).mpr c))
      rw [this] at k
      exact ⟨congrArg Prod.fst k, congrArg Prod.snd k, h1, h2⟩
    · rw [if_neg c]
      have : mn1 (m_I M 25, m_I M 26) e = (m_I M 25, m_I M 26) := if_neg (fun q => by
        rcases q with q | q
        · rw [show (m_I M 25, m_I M 26).1 = i_ b.1 from a1] at q
          have := (i_inj (by omega) (by omega)).mp q
          omega
        · rw [show (m_I M 25, m_I M 26).2 = i_ b.2 from a2] at q
          exact c ((i_lt (by omega) (by omega)).mp q))
      rw [this] at k
      exact ⟨(congrArg Prod.fst k).trans a1, (congrArg Prod.snd k).trans a2, a3, a4⟩
theorem EO.ml : ∀ {l : Ev2} {M N : MS} {o : Option (Nat × Nat)}, EO M o → (∀ e ∈ l, (1 ≤ e.1 ∧ e.1 < 10) ∧ e.2 < 1000) → (m_I N 25, m_I N 26) = mnl (m_I M 25, m_I M 26) l → EO N (mwl o l)
  | [], M, N, o, h, _, k => by
    have k' : (m_I N 25, m_I N 26) = (m_I M 25, m_I M 26) := k
    have k1 := congrArg Prod.fst k'
    have k2 := congrArg Prod.snd k'
    cases o with
    | none => exact ⟨k1.trans h.1, k2.trans h.2⟩
    | some b => exact ⟨k1.trans h.1, k2.trans h.2.1, h.2.2⟩
  | e :: l, M, N, o, h, hl, k => by
    have he := hl e List.mem_cons_self
    have h1 : EO (m_sI (m_sI M 25 (mn1 (m_I M 25, m_I M 26) e).1) 26 (mn1 (m_I M 25, m_I M 26) e).2) (mw1 o e) := h.mn he.1 he.2 (by rw [mI_on, mI_off (by decide), mI_on])
    have h2 := EO.ml (N := N) h1 (fun x hx => hl x (List.mem_cons_of_mem _ hx)) (by
      rw [k]
      show mnl (mn1 (m_I M 25, m_I M 26) e) l = _
      rw [mI_on, mI_off (by decide), mI_on])
    exact h2
theorem M_means' {M : MS} {o : Option (Nat × Nat)} (h : EO M o) {k p : Nat} (hk : 1 ≤ k ∧ k < 10) (hp : p < 1000) (t : Nat) : ∃ N, f_X3_means (i_ k) (i_ p) M = some N ∧ Gr [] [] [25, 26] t M N ∧ EO N (mw1 o (k, p)) := by
  obtain ⟨N, h1, h2, h3, h4, h5, h6⟩ := M_means k p M
  refine ⟨N, h1, ?_, h.mn hk hp h6⟩
  obtain ⟨g1, g2, g3, g4⟩ := h2
  refine ⟨fun j _ => by rw [h3], fun j i _ => by rw [h3], fun j _ => by rw [g2], fun j i _ => by rw [g2], fun j hj => ?_, fun j _ => by rw [g3]⟩
  by_cases e50 : j = 50
  · rw [e50, h5]
  · by_cases e51 : j = 51
    · rw [e51, h4]
    · exact g4 j (fun q => by
        simp only [List.mem_cons, List.not_mem_nil, or_false] at q hj
        omega)
