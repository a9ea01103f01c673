/-! what a statement means, the reference's way: names *-/
def evC1 (ns : List (List Nat × Nat)) (c : Nat) (l : List Nat) : Ev2 := l.flatMap (fun k => if fnm ns k = fnm ns c then [(4, fpl ns c)] else [])
theorem evC1_cons (ns : List (List Nat × Nat)) (c k : Nat) (l : List Nat) : evC1 ns c (k :: l) = (if fnm ns k = fnm ns c then [(4, fpl ns c)] else []) ++ evC1 ns c l := List.flatMap_cons
def evC2 (ns : List (List Nat × Nat)) (l : List Nat) : Ev2 := l.flatMap (fun c => evC1 ns c (List.range' 0 c))
theorem evC2_cons (ns : List (List Nat × Nat)) (c : Nat) (l : List Nat) : evC2 ns (c :: l) = evC1 ns c (List.range' 0 c) ++ evC2 ns l := List.flatMap_cons
theorem evC1_m {ns : List (List Nat × Nat)} {c : Nat} {l : List Nat} {e : Nat × Nat} (h : e ∈ evC1 ns c l) : e = (4, fpl ns c) ∧ ∃ k ∈ l, fnm ns k = fnm ns c := by
  obtain ⟨k, hk, h⟩ := List.mem_flatMap.mp h
  split at h
  · rename_i q
    exact ⟨List.mem_singleton.mp h, k, hk, q⟩
  · cases h
theorem evC2_m {ns : List (List Nat × Nat)} {e : Nat × Nat} : e ∈ evC2 ns (List.range' 0 ns.length) ↔ e ∈ evD ns := by
  rw [evD_m]
  refine ⟨fun h => ?_, fun ⟨i, h1, h2, h3⟩ => ?_⟩
  · obtain ⟨c, hc, h⟩ := List.mem_flatMap.mp h
    obtain ⟨h1, k, hk, h2⟩ := evC1_m h
    rw [List.mem_range'_1] at hc hk
    refine ⟨c, by omega, ?_, h1⟩
    unfold dupk
    rw [List.any_eq_true]
    exact ⟨k, List.mem_range.mpr (by omega), decide_eq_true h2⟩
  · unfold dupk at h2
    rw [List.any_eq_true] at h2
    obtain ⟨k, hk, h2⟩ := h2
    rw [List.mem_range] at hk
    rw [decide_eq_true_eq] at h2
    refine List.mem_flatMap.mpr ⟨i, List.mem_range'_1.mpr (by omega), List.mem_flatMap.mpr ⟨k, List.mem_range'_1.mpr (by omega), ?_⟩⟩
    rw [if_pos h2, h3]
    exact List.mem_singleton.mpr rfl
theorem Gr.bad {ka kb ki : List Nat} {t : Nat} {M N : MS} (g : Gr [] [] [25, 26] t M N) (h : 25 ∈ ki ∧ 26 ∈ ki) : Gr ka kb ki t M N := g.mono (fun k q => by cases q) (fun k q => by cases q) (fun k q => by
  simp only [List.mem_cons, List.not_mem_nil, or_false] at q
  rcases q with rfl | rfl
  · exact h.1
  · exact h.2)
theorem M_mc1 {t c x2 : Nat} {ns : List (List Nat × Nat)} (ht : t ≤ 16) (hc : c < 8) (hx2 : x2 < 400) (hN : ∀ k, k < ns.length → nmok (fnm ns k)) (hcn : c < ns.length) (hp : fpl ns c < 1000) (K : Int32 → Int32 → Int32 → MS → Option MS) :
    ∀ (r k f : Nat) (M : MS) (o : Option (Nat × Nat)), k + r = c → r < f → m_I M 0 = i_ t → (∀ j, j < ns.length → m_B M 5 (8 * t + j) = enc (fnm ns j)) → m_A M 15 (400 * t + x2) = i_ (fpl ns c) → EO M o → ∃ N, f_X3_meant_n53 K f (i_ t) (i_ x2) (i_ c) (i_ k) M = f_X3_meant_n53 K (f - r) (i_ t) (i_ x2) (i_ c) (i_ c) N ∧ Gr [] [] [25, 26] t M N ∧ EO N (mwl o (evC1 ns c (List.range' k r))) := by
  intro r
  induction r with
  | zero =>
    intro k f M o hk hf h0 hB hA hE
    have : k = c := by omega
    subst this
    exact ⟨M, rfl, Gr.rf _ _ _ _ _, hE⟩
  | succ r ih =>
    intro k f M o hk hf h0 hB hA hE
    obtain ⟨f, rfl⟩ : ∃ m, f = m + 1 := ⟨f - 1, by omega⟩
    rw [List.range'_succ, evC1_cons, mwl_app, show f + 1 - (r + 1) = f - r by omega]
    have b1 := hB k (by omega)
    have b2 := hB c hcn
    have n1 := hN k (by omega)
    have n2 := hN c hcn
    conv => enter [1, N, 1]; lhs; unfold f_X3_meant_n53
    by_cases e : fnm ns k = fnm ns c
    · rw [if_pos e]
      obtain ⟨N1, a1, a2, a3⟩ := M_means' hE (k := 4) (by decide) hp t
      obtain ⟨N, c1, c2, c3⟩ := ih (k + 1) f N1 (mwl o [(4, fpl ns c)]) (by omega) (by omega) (by rw [a2.2.2.2.2.1 0 (by decide)]; exact h0) (by rw [a2.2.2.1 5 List.not_mem_nil]; exact hB) (by rw [a2.1 15 List.not_mem_nil]; exact hA) a3
      refine ⟨N, ?_, a2.tr c2, c3⟩
      rw [e] at b1
      simp (disch := omega) only [l_m1, l_m2, l_0, l_1, l_2, l_3, l_4, l_5, l_6, l_7, l_8, l_9, l_10, l_11, l_12, l_13, l_14, l_15, l_16, l_17, l_18, l_19, l_20, l_21, l_22, l_23, l_24, l_25, l_26, l_27, l_28, l_29, l_30, l_31, l_32, l_33, l_34, l_35, l_36, l_37, l_38, l_39, l_40, l_41, l_42, l_43, l_44, l_45, l_46, l_47, l_48, l_49, l_50, l_51, l_52, l_53, l_54, l_55, l_56, l_57, l_58, l_59, l_60, l_61, l_62, l_63, l_64, l_97, l_100, l_110, l_115, l_116, l_120, l_122, l_127, l_128, l_136, l_140, l_200, l_255, l_256, l_400, l_1000, l_30000, l_1200, l_65536, l_2147483639, l_2147483647, ob_some, obd_some, q_lt_t, q_lt_f, q_le_t, q_le_f, q_eq_t, q_eq_f, im_ne, im_ne', im_lt, im_le, im_lt', im_le', i_add, i_mul, i_dec, i_dec0, i_sub, i_and, i_shr, i_div, nar_b0, nar_b1, b2i_t, b2i_f, gA1, pA1, gB2, pB2, gA3, pA3, gA4, pA4, gB5, pB5, gA6, pA6, gA7, pA7, gA8, pA8, gA9, pA9, gA10, pA10, gA11, pA11, gA12, pA12, gA13, pA13, gA14, pA14, gA15, pA15, gA16, pA16, gA17, pA17, gA18, pA18, gA19, pA19, gA20, pA20, gA21, pA21, gA40, pA40, gB43, pB43, gA44, pA44, gA45, pA45, gA46, pA46, gA47, pA47, gA48, pA48, gA49, pA49, gA53, pA53, gA54, pA54, gA55, pA55, gA56, pA56, gA58, pA58, gA60, pA60, gA61, pA61, gA62, pA62, gA63, pA63, gA66, pA66, ↓reduceIte, if_true, if_false, R_mI_sJ, R_mI_sA, R_mI_sB, R_mJ_sI, R_mJ_sA, R_mJ_sB, R_mA_sI, R_mA_sJ, R_mA_sB, R_mB_sI, R_mB_sJ, R_mB_sA, mI_on, mI_off, mJ_on, mJ_off, mA_on, mA_same, mA_off, mB_on, mB_same, mB_off, up_on, up_off, b1, b2, cmp_0, hA, a1]
      exact c1
    · rw [if_neg e]
      obtain ⟨N, c1, c2, c3⟩ := ih (k + 1) f M o (by omega) (by omega) h0 hB hA hE
      have e' : (enc (fnm ns k) = enc (fnm ns c)) = False := eq_false (fun q => e ((enc_inj n1.1 n2.1 n1.2 n2.2).mp q))
      refine ⟨N, ?_, c2, c3⟩
      simp (disch := omega) only [l_m1, l_m2, l_0, l_1, l_2, l_3, l_4, l_5, l_6, l_7, l_8, l_9, l_10, l_11, l_12, l_13, l_14, l_15, l_16, l_17, l_18, l_19, l_20, l_21, l_22, l_23, l_24, l_25, l_26, l_27, l_28, l_29, l_30, l_31, l_32, l_33, l_34, l_35, l_36, l_37, l_38, l_39, l_40, l_41, l_42, l_43, l_44, l_45, l_46, l_47, l_48, l_49, l_50, l_51, l_52, l_53, l_54, l_55, l_56, l_57, l_58, l_59, l_60, l_61, l_62, l_63, l_64, l_97, l_100, l_110, l_115, l_116, l_120, l_122, l_127, l_128, l_136, l_140, l_200, l_255, l_256, l_400, l_1000, l_30000, l_1200, l_65536, l_2147483639, l_2147483647, ob_some, obd_some, q_lt_t, q_lt_f, q_le_t, q_le_f, q_eq_t, q_eq_f, im_ne, im_ne', im_lt, im_le, im_lt', im_le', i_add, i_mul, i_dec, i_dec0, i_sub, i_and, i_shr, i_div, nar_b0, nar_b1, b2i_t, b2i_f, gA1, pA1, gB2, pB2, gA3, pA3, gA4, pA4, gB5, pB5, gA6, pA6, gA7, pA7, gA8, pA8, gA9, pA9, gA10, pA10, gA11, pA11, gA12, pA12, gA13, pA13, gA14, pA14, gA15, pA15, gA16, pA16, gA17, pA17, gA18, pA18, gA19, pA19, gA20, pA20, gA21, pA21, gA40, pA40, gB43, pB43, gA44, pA44, gA45, pA45, gA46, pA46, gA47, pA47, gA48, pA48, gA49, pA49, gA53, pA53, gA54, pA54, gA55, pA55, gA56, pA56, gA58, pA58, gA60, pA60, gA61, pA61, gA62, pA62, gA63, pA63, gA66, pA66, ↓reduceIte, if_true, if_false, R_mI_sJ, R_mI_sA, R_mI_sB, R_mJ_sI, R_mJ_sA, R_mJ_sB, R_mA_sI, R_mA_sJ, R_mA_sB, R_mB_sI, R_mB_sJ, R_mB_sA, mI_on, mI_off, mJ_on, mJ_off, mA_on, mA_same, mA_off, mB_on, mB_same, mB_off, up_on, up_off, b1, b2, cmp_0, e']
      exact c1
theorem M_mc2 {t so : Nat} {ns : List (List Nat × Nat)} {tk : Nat → Nat} (ht : t ≤ 16) (hso : so ≤ 3) (hns : ns.length ≤ 6) (hN : ∀ k, k < ns.length → nmok (fnm ns k)) (hp : ∀ c, c < ns.length → fpl ns c < 1000 ∧ tk c < 400) :
    ∀ (r c f : Nat) (M : MS) (o : Option (Nat × Nat)), c + r = ns.length → r < f → m_I M 0 = i_ t → m_A M 4 t = i_ ns.length → m_A M 3 t = i_ so → (∀ j, j < ns.length → m_B M 5 (8 * t + j) = enc (fnm ns j) ∧ m_A M 15 (400 * t + tk j) = i_ (fpl ns j) ∧ (if so = 0 then tk (j + 1) = tk j + 3 else ∃ v, m_A M 19 (8 * t + j) = i_ v ∧ tk (j + 1) = v + 1)) → EO M o →
      ∃ N, f_X3_meant_n40 f (i_ t) (i_ (tk c)) (i_ c) M = f_X3_meant_n146 fu_ (i_ t) (i_ 0) N ∧ Gr [] [] [25, 26] t M N ∧ EO N (mwl o (evC2 ns (List.range' c r))) := by
  intro r
  induction r with
  | zero =>
    intro c f M o hc hf h0 h4 h3 hR hE
    obtain ⟨f, rfl⟩ : ∃ m, f = m + 1 := ⟨f - 1, by omega⟩
    refine ⟨M, ?_, Gr.rf _ _ _ _ _, hE⟩
    unfold f_X3_meant_n40
    simp (disch := omega) only [l_m1, l_m2, l_0, l_1, l_2, l_3, l_4, l_5, l_6, l_7, l_8, l_9, l_10, l_11, l_12, l_13, l_14, l_15, l_16, l_17, l_18, l_19, l_20, l_21, l_22, l_23, l_24, l_25, l_26, l_27, l_28, l_29, l_30, l_31, l_32, l_33, l_34, l_35, l_36, l_37, l_38, l_39, l_40, l_41, l_42, l_43, l_44, l_45, l_46, l_47, l_48, l_49, l_50, l_51, l_52, l_53, l_54, l_55, l_56, l_57, l_58, l_59, l_60, l_61, l_62, l_63, l_64, l_97, l_100, l_110, l_115, l_116, l_120, l_122, l_127, l_128, l_136, l_140, l_200, l_255, l_256, l_400, l_1000, l_30000, l_1200, l_65536, l_2147483639, l_2147483647, ob_some, obd_some, q_lt_t, q_lt_f, q_le_t, q_le_f, q_eq_t, q_eq_f, im_ne, im_ne', im_lt, im_le, im_lt', im_le', i_add, i_mul, i_dec, i_dec0, i_sub, i_and, i_shr, i_div, nar_b0, nar_b1, b2i_t, b2i_f, gA1, pA1, gB2, pB2, gA3, pA3, gA4, pA4, gB5, pB5, gA6, pA6, gA7, pA7, gA8, pA8, gA9, pA9, gA10, pA10, gA11, pA11, gA12, pA12, gA13, pA13, gA14, pA14, gA15, pA15, gA16, pA16, gA17, pA17, gA18, pA18, gA19, pA19, gA20, pA20, gA21, pA21, gA40, pA40, gB43, pB43, gA44, pA44, gA45, pA45, gA46, pA46, gA47, pA47, gA48, pA48, gA49, pA49, gA53, pA53, gA54, pA54, gA55, pA55, gA56, pA56, gA58, pA58, gA60, pA60, gA61, pA61, gA62, pA62, gA63, pA63, gA66, pA66, ↓reduceIte, if_true, if_false, R_mI_sJ, R_mI_sA, R_mI_sB, R_mJ_sI, R_mJ_sA, R_mJ_sB, R_mA_sI, R_mA_sJ, R_mA_sB, R_mB_sI, R_mB_sJ, R_mB_sA, mI_on, mI_off, mJ_on, mJ_off, mA_on, mA_same, mA_off, mB_on, mB_same, mB_off, up_on, up_off, h4]
  | succ r ih =>
    intro c f M o hc hf h0 h4 h3 hR hE
    obtain ⟨f, rfl⟩ : ∃ m, f = m + 1 := ⟨f - 1, by omega⟩
    rw [List.range'_succ, evC2_cons, mwl_app]
    obtain ⟨r1, r2, r3⟩ := hR c (by omega)
    obtain ⟨p1, p2⟩ := hp c (by omega)
    obtain ⟨N1, a1, a2, a3⟩ := M_mc1 ht (show c < 8 by omega) p2 hN (by omega) p1 (fun x1 x2 x3 M => f_X3_meant_n40 f x1 x2 x3 M) c 0 fu_ M o (by omega) (by rw [fu_eq]; omega) h0 (fun j hj => (hR j hj).1) r2 hE
    obtain ⟨g, hg⟩ : ∃ g, fu_ - c = g + 1 := ⟨fu_ - c - 1, by rw [fu_eq]; omega⟩
    rw [hg] at a1
    have x3 : m_A N1 3 t = i_ so := by
      rw [a2.1 3 List.not_mem_nil]
      exact h3
    have s1 : f_X3_meant_n40 (f + 1) (i_ t) (i_ (tk c)) (i_ c) M = f_X3_meant_n40 f (i_ t) (i_ (tk (c + 1))) (i_ (c + 1)) N1 := by
      conv => lhs; unfold f_X3_meant_n40
      simp (disch := omega) only [l_m1, l_m2, l_0, l_1, l_2, l_3, l_4, l_5, l_6, l_7, l_8, l_9, l_10, l_11, l_12, l_13, l_14, l_15, l_16, l_17, l_18, l_19, l_20, l_21, l_22, l_23, l_24, l_25, l_26, l_27, l_28, l_29, l_30, l_31, l_32, l_33, l_34, l_35, l_36, l_37, l_38, l_39, l_40, l_41, l_42, l_43, l_44, l_45, l_46, l_47, l_48, l_49, l_50, l_51, l_52, l_53, l_54, l_55, l_56, l_57, l_58, l_59, l_60, l_61, l_62, l_63, l_64, l_97, l_100, l_110, l_115, l_116, l_120, l_122, l_127, l_128, l_136, l_140, l_200, l_255, l_256, l_400, l_1000, l_30000, l_1200, l_65536, l_2147483639, l_2147483647, ob_some, obd_some, q_lt_t, q_lt_f, q_le_t, q_le_f, q_eq_t, q_eq_f, im_ne, im_ne', im_lt, im_le, im_lt', im_le', i_add, i_mul, i_dec, i_dec0, i_sub, i_and, i_shr, i_div, nar_b0, nar_b1, b2i_t, b2i_f, gA1, pA1, gB2, pB2, gA3, pA3, gA4, pA4, gB5, pB5, gA6, pA6, gA7, pA7, gA8, pA8, gA9, pA9, gA10, pA10, gA11, pA11, gA12, pA12, gA13, pA13, gA14, pA14, gA15, pA15, gA16, pA16, gA17, pA17, gA18, pA18, gA19, pA19, gA20, pA20, gA21, pA21, gA40, pA40, gB43, pB43, gA44, pA44, gA45, pA45, gA46, pA46, gA47, pA47, gA48, pA48, gA49, pA49, gA53, pA53, gA54, pA54, gA55, pA55, gA56, pA56, gA58, pA58, gA60, pA60, gA61, pA61, gA62, pA62, gA63, pA63, gA66, pA66, ↓reduceIte, if_true, if_false, R_mI_sJ, R_mI_sA, R_mI_sB, R_mJ_sI, R_mJ_sA, R_mJ_sB, R_mA_sI, R_mA_sJ, R_mA_sB, R_mB_sI, R_mB_sJ, R_mB_sA, mI_on, mI_off, mJ_on, mJ_off, mA_on, mA_same, mA_off, mB_on, mB_same, mB_off, up_on, up_off, h4]
      rw [a1]
      conv => lhs; unfold f_X3_meant_n53
      by_cases e0 : so = 0
      · rw [if_pos e0] at r3
        rw [e0] at x3
        rw [r3]
        simp (disch := omega) only [l_m1, l_m2, l_0, l_1, l_2, l_3, l_4, l_5, l_6, l_7, l_8, l_9, l_10, l_11, l_12, l_13, l_14, l_15, l_16, l_17, l_18, l_19, l_20, l_21, l_22, l_23, l_24, l_25, l_26, l_27, l_28, l_29, l_30, l_31, l_32, l_33, l_34, l_35, l_36, l_37, l_38, l_39, l_40, l_41, l_42, l_43, l_44, l_45, l_46, l_47, l_48, l_49, l_50, l_51, l_52, l_53, l_54, l_55, l_56, l_57, l_58, l_59, l_60, l_61, l_62, l_63, l_64, l_97, l_100, l_110, l_115, l_116, l_120, l_122, l_127, l_128, l_136, l_140, l_200, l_255, l_256, l_400, l_1000, l_30000, l_1200, l_65536, l_2147483639, l_2147483647, ob_some, obd_some, q_lt_t, q_lt_f, q_le_t, q_le_f, q_eq_t, q_eq_f, im_ne, im_ne', im_lt, im_le, im_lt', im_le', i_add, i_mul, i_dec, i_dec0, i_sub, i_and, i_shr, i_div, nar_b0, nar_b1, b2i_t, b2i_f, gA1, pA1, gB2, pB2, gA3, pA3, gA4, pA4, gB5, pB5, gA6, pA6, gA7, pA7, gA8, pA8, gA9, pA9, gA10, pA10, gA11, pA11, gA12, pA12, gA13, pA13, gA14, pA14, gA15, pA15, gA16, pA16, gA17, pA17, gA18, pA18, gA19, pA19, gA20, pA20, gA21, pA21, gA40, pA40, gB43, pB43, gA44, pA44, gA45, pA45, gA46, pA46, gA47, pA47, gA48, pA48, gA49, pA49, gA53, pA53, gA54, pA54, gA55, pA55, gA56, pA56, gA58, pA58, gA60, pA60, gA61, pA61, gA62, pA62, gA63, pA63, gA66, pA66, ↓reduceIte, if_true, if_false, R_mI_sJ, R_mI_sA, R_mI_sB, R_mJ_sI, R_mJ_sA, R_mJ_sB, R_mA_sI, R_mA_sJ, R_mA_sB, R_mB_sI, R_mB_sJ, R_mB_sA, mI_on, mI_off, mJ_on, mJ_off, mA_on, mA_same, mA_off, mB_on, mB_same, mB_off, up_on, up_off, x3]
      · rw [if_neg e0] at r3
        obtain ⟨v, v1, v2⟩ := r3
        have v3 : m_A N1 19 (8 * t + c) = i_ v := by
          rw [a2.1 19 List.not_mem_nil]
          exact v1
        rw [v2]
        simp (disch := omega) only [l_m1, l_m2, l_0, l_1, l_2, l_3, l_4, l_5, l_6, l_7, l_8, l_9, l_10, l_11, l_12, l_13, l_14, l_15, l_16, l_17, l_18, l_19, l_20, l_21, l_22, l_23, l_24, l_25, l_26, l_27, l_28, l_29, l_30, l_31, l_32, l_33, l_34, l_35, l_36, l_37, l_38, l_39, l_40, l_41, l_42, l_43, l_44, l_45, l_46, l_47, l_48, l_49, l_50, l_51, l_52, l_53, l_54, l_55, l_56, l_57, l_58, l_59, l_60, l_61, l_62, l_63, l_64, l_97, l_100, l_110, l_115, l_116, l_120, l_122, l_127, l_128, l_136, l_140, l_200, l_255, l_256, l_400, l_1000, l_30000, l_1200, l_65536, l_2147483639, l_2147483647, ob_some, obd_some, q_lt_t, q_lt_f, q_le_t, q_le_f, q_eq_t, q_eq_f, im_ne, im_ne', im_lt, im_le, im_lt', im_le', i_add, i_mul, i_dec, i_dec0, i_sub, i_and, i_shr, i_div, nar_b0, nar_b1, b2i_t, b2i_f, gA1, pA1, gB2, pB2, gA3, pA3, gA4, pA4, gB5, pB5, gA6, pA6, gA7, pA7, gA8, pA8, gA9, pA9, gA10, pA10, gA11, pA11, gA12, pA12, gA13, pA13, gA14, pA14, gA15, pA15, gA16, pA16, gA17, pA17, gA18, pA18, gA19, pA19, gA20, pA20, gA21, pA21, gA40, pA40, gB43, pB43, gA44, pA44, gA45, pA45, gA46, pA46, gA47, pA47, gA48, pA48, gA49, pA49, gA53, pA53, gA54, pA54, gA55, pA55, gA56, pA56, gA58, pA58, gA60, pA60, gA61, pA61, gA62, pA62, gA63, pA63, gA66, pA66, ↓reduceIte, if_true, if_false, R_mI_sJ, R_mI_sA, R_mI_sB, R_mJ_sI, R_mJ_sA, R_mJ_sB, R_mA_sI, R_mA_sJ, R_mA_sB, R_mB_sI, R_mB_sJ, R_mB_sA, mI_on, mI_off, mJ_on, mJ_off, mA_on, mA_same, mA_off, mB_on, mB_same, mB_off, up_on, up_off, x3, v3]
    obtain ⟨N, c1, c2, c3⟩ := ih (c + 1) f N1 _ (by omega) (by omega) (by rw [a2.2.2.2.2.1 0 (by decide)]; exact h0) (by rw [a2.1 4 List.not_mem_nil]; exact h4) x3 (by rw [a2.2.2.1 5 List.not_mem_nil, a2.1 15 List.not_mem_nil, a2.1 19 List.not_mem_nil]; exact hR) a3
    exact ⟨N, by rw [s1]; exact c1, a2.tr c2, c3⟩
/-- names behind from *-/
def evF1 (s : SP) (fs : List (List Nat × Nat)) (l : List Nat) : Ev2 := l.flatMap (fun k => (if tnf s (fnm fs k) = none then [(2, fpl fs k)] else []) ++ evC1 fs k (List.range' 0 k))
theorem evF1_cons (s : SP) (fs : List (List Nat × Nat)) (k : Nat) (l : List Nat) : evF1 s fs (k :: l) = (if tnf s (fnm fs k) = none then [(2, fpl fs k)] else []) ++ evC1 fs k (List.range' 0 k) ++ evF1 s fs l := List.flatMap_cons
theorem evF1_m {s : SP} {fs : List (List Nat × Nat)} {e : Nat × Nat} : e ∈ evF1 s fs (List.range' 0 fs.length) ↔ e ∈ evD fs ∨ e ∈ evX s fs := by
  rw [← evC2_m, evX_m]
  refine ⟨fun h => ?_, fun h => ?_⟩
  · obtain ⟨k, hk, h⟩ := List.mem_flatMap.mp h
    rcases List.mem_append.mp h with h | h
    · split at h
      · rename_i q
        rw [List.mem_range'_1] at hk
        exact Or.inr ⟨k, by omega, q, List.mem_singleton.mp h⟩
      · cases h
    · exact Or.inl (List.mem_flatMap.mpr ⟨k, hk, h⟩)
  · rcases h with h | ⟨i, h1, h2, h3⟩
    · obtain ⟨k, hk, h⟩ := List.mem_flatMap.mp h
      exact List.mem_flatMap.mpr ⟨k, hk, List.mem_append_right _ h⟩
    · refine List.mem_flatMap.mpr ⟨i, List.mem_range'_1.mpr (by omega), List.mem_append_left _ ?_⟩
      rw [if_pos h2, h3]
      exact List.mem_singleton.mpr rfl
theorem M_mf1 {t k : Nat} {fs : List (List Nat × Nat)} (hk3 : k < 3) (hN : ∀ k, k < fs.length → nmok (fnm fs k)) (hkn : k < fs.length) (hp : fpl fs k < 1000) (K : Int32 → Int32 → MS → Option MS) :
    ∀ (r i f : Nat) (M : MS) (o : Option (Nat × Nat)), i + r = k → r < f → (∀ j, j < fs.length → m_B M 43 j = enc (fnm fs j) ∧ m_A M 44 j = i_ (fpl fs j)) → EO M o → ∃ N, f_X3_meant_n204 K f (i_ t) (i_ k) (i_ i) M = K (i_ t) (i_ (k + 1)) N ∧ Gr [] [] [25, 26] t M N ∧ EO N (mwl o (evC1 fs k (List.range' i r))) := by
  intro r
  induction r with
  | zero =>
    intro i f M o hi hf hB hE
    obtain ⟨f, rfl⟩ : ∃ m, f = m + 1 := ⟨f - 1, by omega⟩
    refine ⟨M, ?_, Gr.rf _ _ _ _ _, hE⟩
    unfold f_X3_meant_n204
    simp (disch := omega) only [l_m1, l_m2, l_0, l_1, l_2, l_3, l_4, l_5, l_6, l_7, l_8, l_9, l_10, l_11, l_12, l_13, l_14, l_15, l_16, l_17, l_18, l_19, l_20, l_21, l_22, l_23, l_24, l_25, l_26, l_27, l_28, l_29, l_30, l_31, l_32, l_33, l_34, l_35, l_36, l_37, l_38, l_39, l_40, l_41, l_42, l_43, l_44, l_45, l_46, l_47, l_48, l_49, l_50, l_51, l_52, l_53, l_54, l_55, l_56, l_57, l_58, l_59, l_60, l_61, l_62, l_63, l_64, l_97, l_100, l_110, l_115, l_116, l_120, l_122, l_127, l_128, l_136, l_140, l_200, l_255, l_256, l_400, l_1000, l_30000, l_1200, l_65536, l_2147483639, l_2147483647, ob_some, obd_some, q_lt_t, q_lt_f, q_le_t, q_le_f, q_eq_t, q_eq_f, im_ne, im_ne', im_lt, im_le, im_lt', im_le', i_add, i_mul, i_dec, i_dec0, i_sub, i_and, i_shr, i_div, nar_b0, nar_b1, b2i_t, b2i_f, gA1, pA1, gB2, pB2, gA3, pA3, gA4, pA4, gB5, pB5, gA6, pA6, gA7, pA7, gA8, pA8, gA9, pA9, gA10, pA10, gA11, pA11, gA12, pA12, gA13, pA13, gA14, pA14, gA15, pA15, gA16, pA16, gA17, pA17, gA18, pA18, gA19, pA19, gA20, pA20, gA21, pA21, gA40, pA40, gB43, pB43, gA44, pA44, gA45, pA45, gA46, pA46, gA47, pA47, gA48, pA48, gA49, pA49, gA53, pA53, gA54, pA54, gA55, pA55, gA56, pA56, gA58, pA58, gA60, pA60, gA61, pA61, gA62, pA62, gA63, pA63, gA66, pA66, ↓reduceIte, if_true, if_false, R_mI_sJ, R_mI_sA, R_mI_sB, R_mJ_sI, R_mJ_sA, R_mJ_sB, R_mA_sI, R_mA_sJ, R_mA_sB, R_mB_sI, R_mB_sJ, R_mB_sA, mI_on, mI_off, mJ_on, mJ_off, mA_on, mA_same, mA_off, mB_on, mB_same, mB_off, up_on, up_off]
  | succ r ih =>
    intro i f M o hi hf hB hE
    obtain ⟨f, rfl⟩ : ∃ m, f = m + 1 := ⟨f - 1, by omega⟩
    rw [List.range'_succ, evC1_cons, mwl_app]
    obtain ⟨b1, -⟩ := hB i (by omega)
    obtain ⟨b2, b3⟩ := hB k hkn
    have n1 := hN i (by omega)
    have n2 := hN k hkn
    conv => enter [1, N, 1]; lhs; unfold f_X3_meant_n204
    by_cases e : fnm fs i = fnm fs k
    · rw [if_pos e]
      obtain ⟨N1, a1, a2, a3⟩ := M_means' hE (k := 4) (by decide) hp t
      obtain ⟨N, c1, c2, c3⟩ := ih (i + 1) f N1 (mwl o [(4, fpl fs k)]) (by omega) (by omega) (by rw [a2.2.2.1 43 List.not_mem_nil, a2.1 44 List.not_mem_nil]; exact hB) a3
      refine ⟨N, ?_, a2.tr c2, c3⟩
      rw [e] at b1
      simp (disch := omega) only [l_m1, l_m2, l_0, l_1, l_2, l_3, l_4, l_5, l_6, l_7, l_8, l_9, l_10, l_11, l_12, l_13, l_14, l_15, l_16, l_17, l_18, l_19, l_20, l_21, l_22, l_23, l_24, l_25, l_26, l_27, l_28, l_29, l_30, l_31, l_32, l_33, l_34, l_35, l_36, l_37, l_38, l_39, l_40, l_41, l_42, l_43, l_44, l_45, l_46, l_47, l_48, l_49, l_50, l_51, l_52, l_53, l_54, l_55, l_56, l_57, l_58, l_59, l_60, l_61, l_62, l_63, l_64, l_97, l_100, l_110, l_115, l_116, l_120, l_122, l_127, l_128, l_136, l_140, l_200, l_255, l_256, l_400, l_1000, l_30000, l_1200, l_65536, l_2147483639, l_2147483647, ob_some, obd_some, q_lt_t, q_lt_f, q_le_t, q_le_f, q_eq_t, q_eq_f, im_ne, im_ne', im_lt, im_le, im_lt', im_le', i_add, i_mul, i_dec, i_dec0, i_sub, i_and, i_shr, i_div, nar_b0, nar_b1, b2i_t, b2i_f, gA1, pA1, gB2, pB2, gA3, pA3, gA4, pA4, gB5, pB5, gA6, pA6, gA7, pA7, gA8, pA8, gA9, pA9, gA10, pA10, gA11, pA11, gA12, pA12, gA13, pA13, gA14, pA14, gA15, pA15, gA16, pA16, gA17, pA17, gA18, pA18, gA19, pA19, gA20, pA20, gA21, pA21, gA40, pA40, gB43, pB43, gA44, pA44, gA45, pA45, gA46, pA46, gA47, pA47, gA48, pA48, gA49, pA49, gA53, pA53, gA54, pA54, gA55, pA55, gA56, pA56, gA58, pA58, gA60, pA60, gA61, pA61, gA62, pA62, gA63, pA63, gA66, pA66, ↓reduceIte, if_true, if_false, R_mI_sJ, R_mI_sA, R_mI_sB, R_mJ_sI, R_mJ_sA, R_mJ_sB, R_mA_sI, R_mA_sJ, R_mA_sB, R_mB_sI, R_mB_sJ, R_mB_sA, mI_on, mI_off, mJ_on, mJ_off, mA_on, mA_same, mA_off, mB_on, mB_same, mB_off, up_on, up_off, b1, b2, b3, cmp_0, a1]
      exact c1
    · rw [if_neg e]
      obtain ⟨N, c1, c2, c3⟩ := ih (i + 1) f M o (by omega) (by omega) hB hE
      have e' : (enc (fnm fs i) = enc (fnm fs k)) = False := eq_false (fun q => e ((enc_inj n1.1 n2.1 n1.2 n2.2).mp q))
      refine ⟨N, ?_, c2, c3⟩
      simp (disch := omega) only [l_m1, l_m2, l_0, l_1, l_2, l_3, l_4, l_5, l_6, l_7, l_8, l_9, l_10, l_11, l_12, l_13, l_14, l_15, l_16, l_17, l_18, l_19, l_20, l_21, l_22, l_23, l_24, l_25, l_26, l_27, l_28, l_29, l_30, l_31, l_32, l_33, l_34, l_35, l_36, l_37, l_38, l_39, l_40, l_41, l_42, l_43, l_44, l_45, l_46, l_47, l_48, l_49, l_50, l_51, l_52, l_53, l_54, l_55, l_56, l_57, l_58, l_59, l_60, l_61, l_62, l_63, l_64, l_97, l_100, l_110, l_115, l_116, l_120, l_122, l_127, l_128, l_136, l_140, l_200, l_255, l_256, l_400, l_1000, l_30000, l_1200, l_65536, l_2147483639, l_2147483647, ob_some, obd_some, q_lt_t, q_lt_f, q_le_t, q_le_f, q_eq_t, q_eq_f, im_ne, im_ne', im_lt, im_le, im_lt', im_le', i_add, i_mul, i_dec, i_dec0, i_sub, i_and, i_shr, i_div, nar_b0, nar_b1, b2i_t, b2i_f, gA1, pA1, gB2, pB2, gA3, pA3, gA4, pA4, gB5, pB5, gA6, pA6, gA7, pA7, gA8, pA8, gA9, pA9, gA10, pA10, gA11, pA11, gA12, pA12, gA13, pA13, gA14, pA14, gA15, pA15, gA16, pA16, gA17, pA17, gA18, pA18, gA19, pA19, gA20, pA20, gA21, pA21, gA40, pA40, gB43, pB43, gA44, pA44, gA45, pA45, gA46, pA46, gA47, pA47, gA48, pA48, gA49, pA49, gA53, pA53, gA54, pA54, gA55, pA55, gA56, pA56, gA58, pA58, gA60, pA60, gA61, pA61, gA62, pA62, gA63, pA63, gA66, pA66, ↓reduceIte, if_true, if_false, R_mI_sJ, R_mI_sA, R_mI_sB, R_mJ_sI, R_mJ_sA, R_mJ_sB, R_mA_sI, R_mA_sJ, R_mA_sB, R_mB_sI, R_mB_sJ, R_mB_sA, mI_on, mI_off, mJ_on, mJ_off, mA_on, mA_same, mA_off, mB_on, mB_same, mB_off, up_on, up_off, b1, b2, cmp_0, e']
      exact c1
def A_types (x1 : Int32) (M : MS) : Option MS :=
      (some (m_sI M 52 (1))).bind fun N2 =>
      (g_mA N2 3 x1).bind fun v3 =>
      if v3 ≤ 0 then
        f_X3_meant_n299 x1 N2
      else
        f_X3_meant_n266 fu_ x1 (0) N2
theorem M_mf2 {t : Nat} {s : SP} {fs : List (List Nat × Nat)} (hts : t = z_n s) (hfs : fs.length ≤ 3) (hN : ∀ k, k < fs.length → nmok (fnm fs k)) (hp : ∀ c, c < fs.length → fpl fs c < 1000) :
    ∀ (r k f : Nat) (M : MS) (o : Option (Nat × Nat)), k + r = fs.length → r < f → RMa M s → RMn M s → m_A M 7 t = i_ fs.length → (∀ j, j < fs.length → m_B M 43 j = enc (fnm fs j) ∧ m_A M 44 j = i_ (fpl fs j)) → EO M o → (∀ j, j < k → m_A M 8 (3 * t + j) = oi (tnf s (fnm fs j))) →
      ∃ N, f_X3_meant_n146 f (i_ t) (i_ k) M = A_types (i_ t) N ∧ Gr [8] [] [25, 26] t M N ∧ EO N (mwl o (evF1 s fs (List.range' k r))) ∧ ∀ j, j < fs.length → m_A N 8 (3 * t + j) = oi (tnf s (fnm fs j)) := by
  intro r
  induction r with
  | zero =>
    intro k f M o hk hf ha hn h7 hB hE h8
    obtain ⟨f, rfl⟩ : ∃ m, f = m + 1 := ⟨f - 1, by omega⟩
    have ht := ha.2.1
    refine ⟨M, ?_, Gr.rf _ _ _ _ _, hE, fun j hj => h8 j (by omega)⟩
    unfold f_X3_meant_n146 A_types
    simp (disch := omega) only [l_m1, l_m2, l_0, l_1, l_2, l_3, l_4, l_5, l_6, l_7, l_8, l_9, l_10, l_11, l_12, l_13, l_14, l_15, l_16, l_17, l_18, l_19, l_20, l_21, l_22, l_23, l_24, l_25, l_26, l_27, l_28, l_29, l_30, l_31, l_32, l_33, l_34, l_35, l_36, l_37, l_38, l_39, l_40, l_41, l_42, l_43, l_44, l_45, l_46, l_47, l_48, l_49, l_50, l_51, l_52, l_53, l_54, l_55, l_56, l_57, l_58, l_59, l_60, l_61, l_62, l_63, l_64, l_97, l_100, l_110, l_115, l_116, l_120, l_122, l_127, l_128, l_136, l_140, l_200, l_255, l_256, l_400, l_1000, l_30000, l_1200, l_65536, l_2147483639, l_2147483647, ob_some, obd_some, q_lt_t, q_lt_f, q_le_t, q_le_f, q_eq_t, q_eq_f, im_ne, im_ne', im_lt, im_le, im_lt', im_le', i_add, i_mul, i_dec, i_dec0, i_sub, i_and, i_shr, i_div, nar_b0, nar_b1, b2i_t, b2i_f, gA1, pA1, gB2, pB2, gA3, pA3, gA4, pA4, gB5, pB5, gA6, pA6, gA7, pA7, gA8, pA8, gA9, pA9, gA10, pA10, gA11, pA11, gA12, pA12, gA13, pA13, gA14, pA14, gA15, pA15, gA16, pA16, gA17, pA17, gA18, pA18, gA19, pA19, gA20, pA20, gA21, pA21, gA40, pA40, gB43, pB43, gA44, pA44, gA45, pA45, gA46, pA46, gA47, pA47, gA48, pA48, gA49, pA49, gA53, pA53, gA54, pA54, gA55, pA55, gA56, pA56, gA58, pA58, gA60, pA60, gA61, pA61, gA62, pA62, gA63, pA63, gA66, pA66, ↓reduceIte, if_true, if_false, R_mI_sJ, R_mI_sA, R_mI_sB, R_mJ_sI, R_mJ_sA, R_mJ_sB, R_mA_sI, R_mA_sJ, R_mA_sB, R_mB_sI, R_mB_sJ, R_mB_sA, mI_on, mI_off, mJ_on, mJ_off, mA_on, mA_same, mA_off, mB_on, mB_same, mB_off, up_on, up_off, h7]
  | succ r ih =>
    intro k f M o hk hf ha hn h7 hB hE h8
    obtain ⟨f, rfl⟩ : ∃ m, f = m + 1 := ⟨f - 1, by omega⟩
    have ht := ha.2.1
    rw [List.range'_succ, evF1_cons, mwl_app, mwl_app]
    obtain ⟨b1, b2⟩ := hB k (by omega)
    have n1 := hN k (by omega)
    have hT := M_tableNamed ha hn n1
    have g1 : Gr [8] [] [25, 26] t M (m_sA M 8 (3 * t + k) (oi (tnf s (fnm fs k)))) := Gr.sA (by decide) (show 3 * t ≤ _ by omega)
    have key : ∀ (N1 : MS) (o1 : Option (Nat × Nat)), Gr [] [] [25, 26] t (m_sA M 8 (3 * t + k) (oi (tnf s (fnm fs k)))) N1 → EO N1 o1 → ∃ N, f_X3_meant_n204 (fun x1 x3 M => f_X3_meant_n146 f x1 x3 M) fu_ (i_ t) (i_ k) (i_ 0) N1 = A_types (i_ t) N ∧ Gr [8] [] [25, 26] t M N ∧ EO N (mwl (mwl o1 (evC1 fs k (List.range' 0 k))) (evF1 s fs (List.range' (k + 1) r))) ∧ ∀ j, j < fs.length → m_A N 8 (3 * t + j) = oi (tnf s (fnm fs j)) := by
      intro N1 o1 g2 hE1
      obtain ⟨N2, c1, c2, c3⟩ := M_mf1 (t := t) (show k < 3 by omega) hN (by omega) (hp k (by omega)) (fun x1 x3 M => f_X3_meant_n146 f x1 x3 M) k 0 fu_ N1 o1 (by omega) (by rw [fu_eq]; omega) (by rw [g2.2.2.1 43 List.not_mem_nil, g2.1 44 List.not_mem_nil]; exact hB) hE1
      have g3 : Gr [8] [] [25, 26] t M N2 := (g1.tr (g2.bad (by decide))).tr (c2.bad (by decide))
      subst hts
      obtain ⟨N, d1, d2, d3, d4⟩ := ih (k + 1) f N2 _ (by omega) (by omega) (ha.gr g3 (by decide)) (hn.gr ha g3) (by rw [g3.1 7 (by decide)]; exact h7) (by rw [g3.2.2.1 43 List.not_mem_nil, g3.1 44 (by decide)]; exact hB) c3 (fun j hj => by
        rw [c2.1 8 List.not_mem_nil, g2.1 8 List.not_mem_nil]
        by_cases e : j = k
        · rw [e, mA_on]
        · rw [mA_off (by omega)]
          exact h8 j (by omega))
      exact ⟨N, by rw [c1]; exact d1, g3.tr d2, d3, d4⟩
    conv => enter [1, N, 1]; lhs; unfold f_X3_meant_n146
    have h0 := ha.1
    cases hq : tnf s (fnm fs k) with
    | none =>
      rw [if_pos rfl]
      rw [hq] at hT key
      have hT' : f_X3_tableNamed (enc (fnm fs k)) M = some (i_m, M) := hT
      have hE0 : EO (m_sA M 8 (3 * t + k) i_m) o := hE
      obtain ⟨N1, a1, a2, a3⟩ := M_means' hE0 (k := 2) (by decide) (hp k (by omega)) t
      obtain ⟨N, d1, d2, d3, d4⟩ := key N1 _ a2 a3
      refine ⟨N, ?_, d2, d3, d4⟩
      simp (disch := omega) only [l_m1, l_m2, l_0, l_1, l_2, l_3, l_4, l_5, l_6, l_7, l_8, l_9, l_10, l_11, l_12, l_13, l_14, l_15, l_16, l_17, l_18, l_19, l_20, l_21, l_22, l_23, l_24, l_25, l_26, l_27, l_28, l_29, l_30, l_31, l_32, l_33, l_34, l_35, l_36, l_37, l_38, l_39, l_40, l_41, l_42, l_43, l_44, l_45, l_46, l_47, l_48, l_49, l_50, l_51, l_52, l_53, l_54, l_55, l_56, l_57, l_58, l_59, l_60, l_61, l_62, l_63, l_64, l_97, l_100, l_110, l_115, l_116, l_120, l_122, l_127, l_128, l_136, l_140, l_200, l_255, l_256, l_400, l_1000, l_30000, l_1200, l_65536, l_2147483639, l_2147483647, ob_some, obd_some, q_lt_t, q_lt_f, q_le_t, q_le_f, q_eq_t, q_eq_f, im_ne, im_ne', im_lt, im_le, im_lt', im_le', i_add, i_mul, i_dec, i_dec0, i_sub, i_and, i_shr, i_div, nar_b0, nar_b1, b2i_t, b2i_f, gA1, pA1, gB2, pB2, gA3, pA3, gA4, pA4, gB5, pB5, gA6, pA6, gA7, pA7, gA8, pA8, gA9, pA9, gA10, pA10, gA11, pA11, gA12, pA12, gA13, pA13, gA14, pA14, gA15, pA15, gA16, pA16, gA17, pA17, gA18, pA18, gA19, pA19, gA20, pA20, gA21, pA21, gA40, pA40, gB43, pB43, gA44, pA44, gA45, pA45, gA46, pA46, gA47, pA47, gA48, pA48, gA49, pA49, gA53, pA53, gA54, pA54, gA55, pA55, gA56, pA56, gA58, pA58, gA60, pA60, gA61, pA61, gA62, pA62, gA63, pA63, gA66, pA66, ↓reduceIte, if_true, if_false, R_mI_sJ, R_mI_sA, R_mI_sB, R_mJ_sI, R_mJ_sA, R_mJ_sB, R_mA_sI, R_mA_sJ, R_mA_sB, R_mB_sI, R_mB_sJ, R_mB_sA, mI_on, mI_off, mJ_on, mJ_off, mA_on, mA_same, mA_off, mB_on, mB_same, mB_off, up_on, up_off, h7, b1, hT', b2, a1]
      exact d1
    | some q =>
      rw [if_neg (fun e => by cases e)]
      rw [hq] at hT key
      have hT' : f_X3_tableNamed (enc (fnm fs k)) M = some (i_ q, M) := hT
      have hq16 := (tnf_some hq).1
      obtain ⟨N, d1, d2, d3, d4⟩ := key (m_sA M 8 (3 * t + k) (i_ q)) o (Gr.rf _ _ _ _ _) hE
      refine ⟨N, ?_, d2, d3, d4⟩
      simp (disch := omega) only [l_m1, l_m2, l_0, l_1, l_2, l_3, l_4, l_5, l_6, l_7, l_8, l_9, l_10, l_11, l_12, l_13, l_14, l_15, l_16, l_17, l_18, l_19, l_20, l_21, l_22, l_23, l_24, l_25, l_26, l_27, l_28, l_29, l_30, l_31, l_32, l_33, l_34, l_35, l_36, l_37, l_38, l_39, l_40, l_41, l_42, l_43, l_44, l_45, l_46, l_47, l_48, l_49, l_50, l_51, l_52, l_53, l_54, l_55, l_56, l_57, l_58, l_59, l_60, l_61, l_62, l_63, l_64, l_97, l_100, l_110, l_115, l_116, l_120, l_122, l_127, l_128, l_136, l_140, l_200, l_255, l_256, l_400, l_1000, l_30000, l_1200, l_65536, l_2147483639, l_2147483647, ob_some, obd_some, q_lt_t, q_lt_f, q_le_t, q_le_f, q_eq_t, q_eq_f, im_ne, im_ne', im_lt, im_le, im_lt', im_le', i_add, i_mul, i_dec, i_dec0, i_sub, i_and, i_shr, i_div, nar_b0, nar_b1, b2i_t, b2i_f, gA1, pA1, gB2, pB2, gA3, pA3, gA4, pA4, gB5, pB5, gA6, pA6, gA7, pA7, gA8, pA8, gA9, pA9, gA10, pA10, gA11, pA11, gA12, pA12, gA13, pA13, gA14, pA14, gA15, pA15, gA16, pA16, gA17, pA17, gA18, pA18, gA19, pA19, gA20, pA20, gA21, pA21, gA40, pA40, gB43, pB43, gA44, pA44, gA45, pA45, gA46, pA46, gA47, pA47, gA48, pA48, gA49, pA49, gA53, pA53, gA54, pA54, gA55, pA55, gA56, pA56, gA58, pA58, gA60, pA60, gA61, pA61, gA62, pA62, gA63, pA63, gA66, pA66, ↓reduceIte, if_true, if_false, R_mI_sJ, R_mI_sA, R_mI_sB, R_mJ_sI, R_mJ_sA, R_mJ_sB, R_mA_sI, R_mA_sJ, R_mA_sB, R_mB_sI, R_mB_sJ, R_mB_sA, mI_on, mI_off, mJ_on, mJ_off, mA_on, mA_same, mA_off, mB_on, mB_same, mB_off, up_on, up_off, h7, b1, hT', b2]
      exact d1
