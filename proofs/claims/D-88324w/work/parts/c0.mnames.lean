/-! what a statement means, the reference's way: names in formulas *-/
theorem bnf_none {s : SP} {fs : List (List Nat × Nat)} {w : List Nat} (h : tnf s w = none) : ∀ (r k : Nat), bnf (z_nm s) (fun k => tnf s (fnm fs k)) w k r = none
  | 0, _ => rfl
  | r + 1, k => by
    have ih := bnf_none (fs := fs) h r (k + 1)
    unfold bnf
    cases hq : tnf s (fnm fs k) with
    | none => simpa [hq] using ih
    | some q =>
      have hn := (tnf_some hq).2.2
      have : ¬ z_nm s q = w := fun e => by
        rw [← hn, e, h] at hq
        cases hq
      simp only [hq]
      rw [if_neg this]
      exact ih
theorem bnf_res {s : SP} {fs : List (List Nat × Nat)} {w : List Nat} : ∀ (r k : Nat), bnf (z_nm s) (fun k => tnf s (fnm fs k)) w k r = (match cnf (fnm fs) w k r with
    | none => none
    | some j => tnf s (fnm fs j))
  | 0, _ => rfl
  | r + 1, k => by
    have ih := bnf_res (s := s) (fs := fs) (w := w) r (k + 1)
    by_cases e : fnm fs k = w
    · have hc : cnf (fnm fs) w k (r + 1) = some k := if_pos e
      rw [hc]
      unfold bnf
      cases hq : tnf s (fnm fs k) with
      | none =>
        simp only [hq]
        exact bnf_none (by rw [← e]; exact hq) r (k + 1)
      | some q =>
        simp only [hq]
        rw [if_pos ((tnf_some hq).2.2.trans e)]
    · have hc : cnf (fnm fs) w k (r + 1) = cnf (fnm fs) w (k + 1) r := if_neg e
      rw [hc, ← ih]
      conv => lhs; unfold bnf
      cases hq : tnf s (fnm fs k) with
      | none => simp only [hq]
      | some q =>
        simp only [hq]
        rw [if_neg (fun z => e ((tnf_some hq).2.2.symm.trans z))]
/-- the reference while types are looked at *-/
def MT (t n : Nat) (T : Nat → Nat) (s : SP) (fs : List (List Nat × Nat)) (ks : List Rk) (M : MS) : Prop := (m_I M 0 = i_ t ∧ t ≤ 16 ∧ t = z_n s ∧ n ≤ 400) ∧ RMa M s ∧ RMn M s ∧ TK M t ks ∧ TXT M t n T ∧ (m_A M 7 t = i_ fs.length ∧ fs.length ≤ 3 ∧ ∀ k, k < fs.length → m_A M 8 (3 * t + k) = oi (tnf s (fnm fs k)) ∧ m_B M 43 k = enc (fnm fs k) ∧ nmok (fnm fs k)) ∧ m_J M 38 = enc [108, 101, 110] ∧ m_I M 52 = i_ 1
theorem MT.gr {t n : Nat} {T : Nat → Nat} {s : SP} {fs : List (List Nat × Nat)} {ks : List Rk} {M N : MS} {ka kb ki : List Nat} (h : MT t n T s fs ks M) (g : Gr ka kb ki t M N) (a : 7 ∉ ka ∧ 8 ∉ ka ∧ 17 ∉ ka) (a' : 13 ∉ ka ∧ 14 ∉ ka ∧ 15 ∉ ka ∧ 16 ∉ ka) (b : 43 ∉ kb) (c : 0 ∉ ki ∧ 52 ∉ ki) : MT t n T s fs ks N := by
  obtain ⟨⟨h1, h2, h3, h4⟩, h5, h6, h7, h8, ⟨h9, h10, h11⟩, h12, h13⟩ := h
  have g' := g
  rw [h3] at g'
  refine ⟨⟨by rw [g.2.2.2.2.1 0 c.1]; exact h1, h2, h3, h4⟩, h5.gr g' c.1, h6.gr h5 g', h7.gr g a', ?_, ⟨by rw [g.1 7 a.1]; exact h9, h10, ?_⟩, by rw [g.2.2.2.2.2 38 (by decide)]; exact h12, by rw [g.2.2.2.2.1 52 c.2]; exact h13⟩
  · unfold TXT
    rw [g.1 17 a.2.2]
    exact h8
  · rw [g.1 8 a.2.1, g.2.2.1 43 b]
    exact h11
theorem MTy.gr {M N : MS} (m : MTy M N) (t : Nat) : Gr [45, 46, 47, 48, 49] [] [25, 26, 50, 51] t M N := by
  obtain ⟨m1, m2, m3, m4⟩ := m
  refine ⟨m1, fun k i hi => ?_, fun k _ => by rw [m2], fun k i _ => by rw [m2], m4, fun k _ => by rw [m3]⟩
  by_cases e : k ∈ [45, 46, 47, 48, 49]
  · simp only [List.mem_cons, List.not_mem_nil, or_false] at e
    rcases e with rfl | rfl | rfl | rfl | rfl <;> exact absurd hi (Nat.not_lt_zero i)
  · rw [m1 k e]
theorem MT.ty {t n : Nat} {T : Nat → Nat} {s : SP} {fs : List (List Nat × Nat)} {ks : List Rk} {M N : MS} (h : MT t n T s fs ks M) (m : MTy M N) : MT t n T s fs ks N := h.gr (m.gr t) (by decide) (by decide) (by decide) (by decide)
theorem M_told {t k : Nat} {s : SP} {n : Nat} {T : Nat → Nat} {fs : List (List Nat × Nat)} {ks : List Rk} {M : MS} (hM : MT t n T s fs ks M) {w : List Nat} (hw : nmok w) (hW : f_X3_wordOf (i_ t) (i_ k) M = some (enc w, M)) : ∀ (r i f : Nat) (told : Bool), i + r = fs.length → r < f → f_X3_typeOfName_n23 f (i_ t) (i_ k) (b2i told) (i_ i) M = f_X3_typeOfName_n76 (i_ t) (i_ k) (b2i (told || (cnf (fnm fs) w i r).isSome)) M := by
  obtain ⟨⟨h1, h2, -⟩, -, -, -, -, ⟨h9, h10, h11⟩, -, h13⟩ := hM
  intro r
  induction r with
  | zero =>
    intro i f told hi hf
    obtain ⟨f, rfl⟩ : ∃ m, f = m + 1 := ⟨f - 1, by omega⟩
    rw [show (told || (cnf (fnm fs) w i 0).isSome) = told from Bool.or_false told]
    unfold f_X3_typeOfName_n23
    simp (disch := omega) only [l_m1, l_m2, l_0, l_1, l_2, l_3, l_4, l_5, l_6, l_7, l_8, l_9, l_10, l_11, l_12, l_13, l_14, l_15, l_16, l_17, l_18, l_19, l_20, l_21, l_22, l_23, l_24, l_25, l_26, l_27, l_28, l_29, l_30, l_31, l_32, l_33, l_34, l_35, l_36, l_37, l_38, l_39, l_40, l_41, l_42, l_43, l_44, l_45, l_46, l_47, l_48, l_49, l_50, l_51, l_52, l_53, l_54, l_55, l_56, l_57, l_58, l_59, l_60, l_61, l_62, l_63, l_64, l_97, l_100, l_110, l_115, l_116, l_120, l_122, l_127, l_128, l_136, l_140, l_200, l_255, l_256, l_400, l_1000, l_30000, l_1200, l_65536, l_2147483639, l_2147483647, ob_some, obd_some, q_lt_t, q_lt_f, q_le_t, q_le_f, q_eq_t, q_eq_f, im_ne, im_ne', im_lt, im_le, im_lt', im_le', i_add, i_mul, i_dec, i_dec0, i_sub, i_and, i_shr, i_div, nar_b0, nar_b1, b2i_t, b2i_f, gA1, pA1, gB2, pB2, gA3, pA3, gA4, pA4, gB5, pB5, gA6, pA6, gA7, pA7, gA8, pA8, gA9, pA9, gA10, pA10, gA11, pA11, gA12, pA12, gA13, pA13, gA14, pA14, gA15, pA15, gA16, pA16, gA17, pA17, gA18, pA18, gA19, pA19, gA20, pA20, gA21, pA21, gA40, pA40, gB43, pB43, gA44, pA44, gA45, pA45, gA46, pA46, gA47, pA47, gA48, pA48, gA49, pA49, gA53, pA53, gA54, pA54, gA55, pA55, gA56, pA56, gA58, pA58, gA60, pA60, gA61, pA61, gA62, pA62, gA63, pA63, gA66, pA66, ↓reduceIte, if_true, if_false, R_mI_sJ, R_mI_sA, R_mI_sB, R_mJ_sI, R_mJ_sA, R_mJ_sB, R_mA_sI, R_mA_sJ, R_mA_sB, R_mB_sI, R_mB_sJ, R_mB_sA, mI_on, mI_off, mJ_on, mJ_off, mA_on, mA_same, mA_off, mB_on, mB_same, mB_off, up_on, up_off, h9]
  | succ r ih =>
    intro i f told hi hf
    obtain ⟨f, rfl⟩ : ∃ m, f = m + 1 := ⟨f - 1, by omega⟩
    obtain ⟨-, b2, b3⟩ := h11 i (by omega)
    conv => lhs; unfold f_X3_typeOfName_n23 f_X3_typeOfName_n63
    cases told with
    | true =>
      have ih' := ih (i + 1) f true (by omega) (by omega)
      rw [Bool.true_or] at ih' ⊢
      simp (disch := omega) only [l_m1, l_m2, l_0, l_1, l_2, l_3, l_4, l_5, l_6, l_7, l_8, l_9, l_10, l_11, l_12, l_13, l_14, l_15, l_16, l_17, l_18, l_19, l_20, l_21, l_22, l_23, l_24, l_25, l_26, l_27, l_28, l_29, l_30, l_31, l_32, l_33, l_34, l_35, l_36, l_37, l_38, l_39, l_40, l_41, l_42, l_43, l_44, l_45, l_46, l_47, l_48, l_49, l_50, l_51, l_52, l_53, l_54, l_55, l_56, l_57, l_58, l_59, l_60, l_61, l_62, l_63, l_64, l_97, l_100, l_110, l_115, l_116, l_120, l_122, l_127, l_128, l_136, l_140, l_200, l_255, l_256, l_400, l_1000, l_30000, l_1200, l_65536, l_2147483639, l_2147483647, ob_some, obd_some, q_lt_t, q_lt_f, q_le_t, q_le_f, q_eq_t, q_eq_f, im_ne, im_ne', im_lt, im_le, im_lt', im_le', i_add, i_mul, i_dec, i_dec0, i_sub, i_and, i_shr, i_div, nar_b0, nar_b1, b2i_t, b2i_f, gA1, pA1, gB2, pB2, gA3, pA3, gA4, pA4, gB5, pB5, gA6, pA6, gA7, pA7, gA8, pA8, gA9, pA9, gA10, pA10, gA11, pA11, gA12, pA12, gA13, pA13, gA14, pA14, gA15, pA15, gA16, pA16, gA17, pA17, gA18, pA18, gA19, pA19, gA20, pA20, gA21, pA21, gA40, pA40, gB43, pB43, gA44, pA44, gA45, pA45, gA46, pA46, gA47, pA47, gA48, pA48, gA49, pA49, gA53, pA53, gA54, pA54, gA55, pA55, gA56, pA56, gA58, pA58, gA60, pA60, gA61, pA61, gA62, pA62, gA63, pA63, gA66, pA66, ↓reduceIte, if_true, if_false, R_mI_sJ, R_mI_sA, R_mI_sB, R_mJ_sI, R_mJ_sA, R_mJ_sB, R_mA_sI, R_mA_sJ, R_mA_sB, R_mB_sI, R_mB_sJ, R_mB_sA, mI_on, mI_off, mJ_on, mJ_off, mA_on, mA_same, mA_off, mB_on, mB_same, mB_off, up_on, up_off, h9, h13]
      exact ih'
    | false =>
      by_cases e : fnm fs i = w
      · have ih' := ih (i + 1) f true (by omega) (by omega)
        rw [show cnf (fnm fs) w i (r + 1) = some i from if_pos e]
        rw [Bool.true_or] at ih'
        rw [e] at b2
        simp (disch := omega) only [l_m1, l_m2, l_0, l_1, l_2, l_3, l_4, l_5, l_6, l_7, l_8, l_9, l_10, l_11, l_12, l_13, l_14, l_15, l_16, l_17, l_18, l_19, l_20, l_21, l_22, l_23, l_24, l_25, l_26, l_27, l_28, l_29, l_30, l_31, l_32, l_33, l_34, l_35, l_36, l_37, l_38, l_39, l_40, l_41, l_42, l_43, l_44, l_45, l_46, l_47, l_48, l_49, l_50, l_51, l_52, l_53, l_54, l_55, l_56, l_57, l_58, l_59, l_60, l_61, l_62, l_63, l_64, l_97, l_100, l_110, l_115, l_116, l_120, l_122, l_127, l_128, l_136, l_140, l_200, l_255, l_256, l_400, l_1000, l_30000, l_1200, l_65536, l_2147483639, l_2147483647, ob_some, obd_some, q_lt_t, q_lt_f, q_le_t, q_le_f, q_eq_t, q_eq_f, im_ne, im_ne', im_lt, im_le, im_lt', im_le', i_add, i_mul, i_dec, i_dec0, i_sub, i_and, i_shr, i_div, nar_b0, nar_b1, b2i_t, b2i_f, gA1, pA1, gB2, pB2, gA3, pA3, gA4, pA4, gB5, pB5, gA6, pA6, gA7, pA7, gA8, pA8, gA9, pA9, gA10, pA10, gA11, pA11, gA12, pA12, gA13, pA13, gA14, pA14, gA15, pA15, gA16, pA16, gA17, pA17, gA18, pA18, gA19, pA19, gA20, pA20, gA21, pA21, gA40, pA40, gB43, pB43, gA44, pA44, gA45, pA45, gA46, pA46, gA47, pA47, gA48, pA48, gA49, pA49, gA53, pA53, gA54, pA54, gA55, pA55, gA56, pA56, gA58, pA58, gA60, pA60, gA61, pA61, gA62, pA62, gA63, pA63, gA66, pA66, ↓reduceIte, if_true, if_false, R_mI_sJ, R_mI_sA, R_mI_sB, R_mJ_sI, R_mJ_sA, R_mJ_sB, R_mA_sI, R_mA_sJ, R_mA_sB, R_mB_sI, R_mB_sJ, R_mB_sA, mI_on, mI_off, mJ_on, mJ_off, mA_on, mA_same, mA_off, mB_on, mB_same, mB_off, up_on, up_off, h9, h13, b2, hW, cmp_0]
        exact ih'
      · have ih' := ih (i + 1) f false (by omega) (by omega)
        rw [show cnf (fnm fs) w i (r + 1) = cnf (fnm fs) w (i + 1) r from if_neg e]
        have e' : (enc (fnm fs i) = enc w) = False := eq_false (fun q => e ((enc_inj b3.1 hw.1 b3.2 hw.2).mp q))
        simp (disch := omega) only [l_m1, l_m2, l_0, l_1, l_2, l_3, l_4, l_5, l_6, l_7, l_8, l_9, l_10, l_11, l_12, l_13, l_14, l_15, l_16, l_17, l_18, l_19, l_20, l_21, l_22, l_23, l_24, l_25, l_26, l_27, l_28, l_29, l_30, l_31, l_32, l_33, l_34, l_35, l_36, l_37, l_38, l_39, l_40, l_41, l_42, l_43, l_44, l_45, l_46, l_47, l_48, l_49, l_50, l_51, l_52, l_53, l_54, l_55, l_56, l_57, l_58, l_59, l_60, l_61, l_62, l_63, l_64, l_97, l_100, l_110, l_115, l_116, l_120, l_122, l_127, l_128, l_136, l_140, l_200, l_255, l_256, l_400, l_1000, l_30000, l_1200, l_65536, l_2147483639, l_2147483647, ob_some, obd_some, q_lt_t, q_lt_f, q_le_t, q_le_f, q_eq_t, q_eq_f, im_ne, im_ne', im_lt, im_le, im_lt', im_le', i_add, i_mul, i_dec, i_dec0, i_sub, i_and, i_shr, i_div, nar_b0, nar_b1, b2i_t, b2i_f, gA1, pA1, gB2, pB2, gA3, pA3, gA4, pA4, gB5, pB5, gA6, pA6, gA7, pA7, gA8, pA8, gA9, pA9, gA10, pA10, gA11, pA11, gA12, pA12, gA13, pA13, gA14, pA14, gA15, pA15, gA16, pA16, gA17, pA17, gA18, pA18, gA19, pA19, gA20, pA20, gA21, pA21, gA40, pA40, gB43, pB43, gA44, pA44, gA45, pA45, gA46, pA46, gA47, pA47, gA48, pA48, gA49, pA49, gA53, pA53, gA54, pA54, gA55, pA55, gA56, pA56, gA58, pA58, gA60, pA60, gA61, pA61, gA62, pA62, gA63, pA63, gA66, pA66, ↓reduceIte, if_true, if_false, R_mI_sJ, R_mI_sA, R_mI_sB, R_mJ_sI, R_mJ_sA, R_mJ_sB, R_mA_sI, R_mA_sJ, R_mA_sB, R_mB_sI, R_mB_sJ, R_mB_sA, mI_on, mI_off, mJ_on, mJ_off, mA_on, mA_same, mA_off, mB_on, mB_same, mB_off, up_on, up_off, h9, h13, b2, hW, cmp_0, e']
        exact ih'
theorem cnf_some {cn : Nat → List Nat} {w : List Nat} : ∀ (r k j : Nat), cnf cn w k r = some j → k ≤ j ∧ j < k + r ∧ cn j = w
  | 0, _, _, h => by cases h
  | r + 1, k, j, h => by
    unfold cnf at h
    by_cases e : cn k = w
    · rw [if_pos e] at h
      cases h
      exact ⟨Nat.le_refl _, by omega, e⟩
    · rw [if_neg e] at h
      obtain ⟨h1, h2, h3⟩ := cnf_some r (k + 1) j h
      exact ⟨by omega, by omega, h3⟩
theorem M_typeOfName1 {t k : Nat} {s : SP} {n : Nat} {T : Nat → Nat} {fs : List (List Nat × Nat)} {ks : List Rk} {M : MS} (hM : MT t n T s fs ks M) (hk : k + 2 < 400) {x : Nk} (hx : x.1 = 2) (w1 : Wd_ M t k x.2.2.2.1) (w2 : Wd_ M t (k + 2) x.2.2.2.2) (a1 : m_A M 15 (400 * t + k) = i_ x.2.2.1) (a2 : m_A M 15 (400 * t + (k + 2)) = i_ x.2.1) (hp1 : x.2.2.1 < 1000) (hp2 : x.2.1 < 1000) :
    ∃ N', f_X3_typeOfName (i_ t) (i_ k) M = some (i_ (tt (tys s) (res s fs x)).2.1, N') ∧ MTy M N' ∧ m_A N' = m_A M ∧ m_I N' 51 = m_I M 51 ∧ ErR M N' (tt (tys s) (res s fs x)).2.2.2 := by
  have hM0 := hM
  obtain ⟨⟨h1, h2, h3, h4⟩, h5, h6, h7, h8, ⟨h9, h10, h11⟩, h12, h13⟩ := hM
  have hw1 : nmok x.2.2.2.1 := w1.2.1
  have hw2 : nmok x.2.2.2.2 := w2.2.1
  have hW1 := M_wordOf (show t < 17 by omega) (show k < 400 by omega) w1
  have hW2 := M_wordOf (show t < 17 by omega) (show k + 2 < 400 by omega) w2
  have hb := M_behindNamed (M := M) (t := t) (nb := fs.length) (nm := z_nm s) (fx := fun k => tnf s (fnm fs k)) (w := x.2.2.2.1) (by omega) h9 h10 (fun k hk => (h11 k hk).1) (fun k q _ hq => by
    have hq' : tnf s (fnm fs k) = some q := hq
    have hqn := (tnf_some hq').1
    exact ⟨by omega, (h6 q hqn).1⟩) hw1
  rw [bnf_res] at hb
  have hev : ∀ p, p < 1000 → ∃ N', f_X3_means (i_ 2) (i_ p) M = some N' ∧ MTy M N' ∧ m_A N' = m_A M ∧ m_I N' 51 = m_I M 51 ∧ ErR M N' [(2, p)] := fun p hp => by
    obtain ⟨N, c1, c2, c3, c4, c5, c6⟩ := M_means 2 p M
    refine ⟨N, c1, c2, c3, c4, ?_, ?_⟩
    · rw [c5]
      exact (Int32.add_zero _).symm
    · rw [c6, if_neg (by rw [h13]; decide)]
      rfl
  have hnil : ErR M M [] := ErR.rf M
  unfold f_X3_typeOfName
  unfold res
  rw [if_pos hx]
  cases hc : cnf (fnm fs) x.2.2.2.1 0 fs.length with
  | none =>
    rw [hc] at hb
    have hb' : f_X3_behindNamed (i_ t) (enc x.2.2.2.1) M = some (i_m, M) := hb
    have ht := M_told hM0 hw1 hW1 fs.length 0 fu_ false (by omega) (by rw [fu_eq]; omega)
    rw [hc] at ht
    obtain ⟨N, c1, c2, c3, c4, c5⟩ := hev x.2.2.1 (by omega)
    refine ⟨N, ?_, c2, c3, c4, c5⟩
    have ht' : f_X3_typeOfName_n23 fu_ (i_ t) (i_ k) (i_ 0) (i_ 0) M = f_X3_typeOfName_n76 (i_ t) (i_ k) (i_ 0) M := ht
    have ht2 : f_X3_typeOfName_n76 (i_ t) (i_ k) (i_ 0) M = some (i_ 0, N) := by
      unfold f_X3_typeOfName_n76
      simp (disch := omega) only [l_m1, l_m2, l_0, l_1, l_2, l_3, l_4, l_5, l_6, l_7, l_8, l_9, l_10, l_11, l_12, l_13, l_14, l_15, l_16, l_17, l_18, l_19, l_20, l_21, l_22, l_23, l_24, l_25, l_26, l_27, l_28, l_29, l_30, l_31, l_32, l_33, l_34, l_35, l_36, l_37, l_38, l_39, l_40, l_41, l_42, l_43, l_44, l_45, l_46, l_47, l_48, l_49, l_50, l_51, l_52, l_53, l_54, l_55, l_56, l_57, l_58, l_59, l_60, l_61, l_62, l_63, l_64, l_97, l_100, l_110, l_115, l_116, l_120, l_122, l_127, l_128, l_136, l_140, l_200, l_255, l_256, l_400, l_1000, l_30000, l_1200, l_65536, l_2147483639, l_2147483647, ob_some, obd_some, q_lt_t, q_lt_f, q_le_t, q_le_f, q_eq_t, q_eq_f, im_ne, im_ne', im_lt, im_le, im_lt', im_le', i_add, i_mul, i_dec, i_dec0, i_sub, i_and, i_shr, i_div, nar_b0, nar_b1, b2i_t, b2i_f, gA1, pA1, gB2, pB2, gA3, pA3, gA4, pA4, gB5, pB5, gA6, pA6, gA7, pA7, gA8, pA8, gA9, pA9, gA10, pA10, gA11, pA11, gA12, pA12, gA13, pA13, gA14, pA14, gA15, pA15, gA16, pA16, gA17, pA17, gA18, pA18, gA19, pA19, gA20, pA20, gA21, pA21, gA40, pA40, gB43, pB43, gA44, pA44, gA45, pA45, gA46, pA46, gA47, pA47, gA48, pA48, gA49, pA49, gA53, pA53, gA54, pA54, gA55, pA55, gA56, pA56, gA58, pA58, gA60, pA60, gA61, pA61, gA62, pA62, gA63, pA63, gA66, pA66, ↓reduceIte, if_true, if_false, R_mI_sJ, R_mI_sA, R_mI_sB, R_mJ_sI, R_mJ_sA, R_mJ_sB, R_mA_sI, R_mA_sJ, R_mA_sB, R_mB_sI, R_mB_sJ, R_mB_sA, mI_on, mI_off, mJ_on, mJ_off, mA_on, mA_same, mA_off, mB_on, mB_same, mB_off, up_on, up_off, h13, a1, c1]
    simp (disch := omega) only [l_m1, l_m2, l_0, l_1, l_2, l_3, l_4, l_5, l_6, l_7, l_8, l_9, l_10, l_11, l_12, l_13, l_14, l_15, l_16, l_17, l_18, l_19, l_20, l_21, l_22, l_23, l_24, l_25, l_26, l_27, l_28, l_29, l_30, l_31, l_32, l_33, l_34, l_35, l_36, l_37, l_38, l_39, l_40, l_41, l_42, l_43, l_44, l_45, l_46, l_47, l_48, l_49, l_50, l_51, l_52, l_53, l_54, l_55, l_56, l_57, l_58, l_59, l_60, l_61, l_62, l_63, l_64, l_97, l_100, l_110, l_115, l_116, l_120, l_122, l_127, l_128, l_136, l_140, l_200, l_255, l_256, l_400, l_1000, l_30000, l_1200, l_65536, l_2147483639, l_2147483647, ob_some, obd_some, q_lt_t, q_lt_f, q_le_t, q_le_f, q_eq_t, q_eq_f, im_ne, im_ne', im_lt, im_le, im_lt', im_le', i_add, i_mul, i_dec, i_dec0, i_sub, i_and, i_shr, i_div, nar_b0, nar_b1, b2i_t, b2i_f, gA1, pA1, gB2, pB2, gA3, pA3, gA4, pA4, gB5, pB5, gA6, pA6, gA7, pA7, gA8, pA8, gA9, pA9, gA10, pA10, gA11, pA11, gA12, pA12, gA13, pA13, gA14, pA14, gA15, pA15, gA16, pA16, gA17, pA17, gA18, pA18, gA19, pA19, gA20, pA20, gA21, pA21, gA40, pA40, gB43, pB43, gA44, pA44, gA45, pA45, gA46, pA46, gA47, pA47, gA48, pA48, gA49, pA49, gA53, pA53, gA54, pA54, gA55, pA55, gA56, pA56, gA58, pA58, gA60, pA60, gA61, pA61, gA62, pA62, gA63, pA63, gA66, pA66, ↓reduceIte, if_true, if_false, R_mI_sJ, R_mI_sA, R_mI_sB, R_mJ_sI, R_mJ_sA, R_mJ_sB, R_mA_sI, R_mA_sJ, R_mA_sB, R_mB_sI, R_mB_sJ, R_mB_sA, mI_on, mI_off, mJ_on, mJ_off, mA_on, mA_same, mA_off, mB_on, mB_same, mB_off, up_on, up_off, hW1, hb', ht', ht2]
    rfl
  | some j =>
    rw [hc] at hb
    have hb2 : f_X3_behindNamed (i_ t) (enc x.2.2.2.1) M = some (oi (tnf s (fnm fs j)), M) := hb
    cases hq : tnf s (fnm fs j) with
    | none =>
      rw [hq] at hb2
      have hb' : f_X3_behindNamed (i_ t) (enc x.2.2.2.1) M = some (i_m, M) := hb2
      have ht := M_told hM0 hw1 hW1 fs.length 0 fu_ false (by omega) (by rw [fu_eq]; omega)
      rw [hc] at ht
      have ht' : f_X3_typeOfName_n23 fu_ (i_ t) (i_ k) (i_ 0) (i_ 0) M = f_X3_typeOfName_n76 (i_ t) (i_ k) (i_ 1) M := ht
      have ht2 : f_X3_typeOfName_n76 (i_ t) (i_ k) (i_ 1) M = some (i_ 0, M) := by
        unfold f_X3_typeOfName_n76
        simp (disch := omega) only [l_m1, l_m2, l_0, l_1, l_2, l_3, l_4, l_5, l_6, l_7, l_8, l_9, l_10, l_11, l_12, l_13, l_14, l_15, l_16, l_17, l_18, l_19, l_20, l_21, l_22, l_23, l_24, l_25, l_26, l_27, l_28, l_29, l_30, l_31, l_32, l_33, l_34, l_35, l_36, l_37, l_38, l_39, l_40, l_41, l_42, l_43, l_44, l_45, l_46, l_47, l_48, l_49, l_50, l_51, l_52, l_53, l_54, l_55, l_56, l_57, l_58, l_59, l_60, l_61, l_62, l_63, l_64, l_97, l_100, l_110, l_115, l_116, l_120, l_122, l_127, l_128, l_136, l_140, l_200, l_255, l_256, l_400, l_1000, l_30000, l_1200, l_65536, l_2147483639, l_2147483647, ob_some, obd_some, q_lt_t, q_lt_f, q_le_t, q_le_f, q_eq_t, q_eq_f, im_ne, im_ne', im_lt, im_le, im_lt', im_le', i_add, i_mul, i_dec, i_dec0, i_sub, i_and, i_shr, i_div, nar_b0, nar_b1, b2i_t, b2i_f, gA1, pA1, gB2, pB2, gA3, pA3, gA4, pA4, gB5, pB5, gA6, pA6, gA7, pA7, gA8, pA8, gA9, pA9, gA10, pA10, gA11, pA11, gA12, pA12, gA13, pA13, gA14, pA14, gA15, pA15, gA16, pA16, gA17, pA17, gA18, pA18, gA19, pA19, gA20, pA20, gA21, pA21, gA40, pA40, gB43, pB43, gA44, pA44, gA45, pA45, gA46, pA46, gA47, pA47, gA48, pA48, gA49, pA49, gA53, pA53, gA54, pA54, gA55, pA55, gA56, pA56, gA58, pA58, gA60, pA60, gA61, pA61, gA62, pA62, gA63, pA63, gA66, pA66, ↓reduceIte, if_true, if_false, R_mI_sJ, R_mI_sA, R_mI_sB, R_mJ_sI, R_mJ_sA, R_mJ_sB, R_mA_sI, R_mA_sJ, R_mA_sB, R_mB_sI, R_mB_sJ, R_mB_sA, mI_on, mI_off, mJ_on, mJ_off, mA_on, mA_same, mA_off, mB_on, mB_same, mB_off, up_on, up_off, h13]
      refine ⟨M, ?_, MTy.rf M, rfl, rfl, ?_⟩
      · simp only [hq]
        simp (disch := omega) only [l_m1, l_m2, l_0, l_1, l_2, l_3, l_4, l_5, l_6, l_7, l_8, l_9, l_10, l_11, l_12, l_13, l_14, l_15, l_16, l_17, l_18, l_19, l_20, l_21, l_22, l_23, l_24, l_25, l_26, l_27, l_28, l_29, l_30, l_31, l_32, l_33, l_34, l_35, l_36, l_37, l_38, l_39, l_40, l_41, l_42, l_43, l_44, l_45, l_46, l_47, l_48, l_49, l_50, l_51, l_52, l_53, l_54, l_55, l_56, l_57, l_58, l_59, l_60, l_61, l_62, l_63, l_64, l_97, l_100, l_110, l_115, l_116, l_120, l_122, l_127, l_128, l_136, l_140, l_200, l_255, l_256, l_400, l_1000, l_30000, l_1200, l_65536, l_2147483639, l_2147483647, ob_some, obd_some, q_lt_t, q_lt_f, q_le_t, q_le_f, q_eq_t, q_eq_f, im_ne, im_ne', im_lt, im_le, im_lt', im_le', i_add, i_mul, i_dec, i_dec0, i_sub, i_and, i_shr, i_div, nar_b0, nar_b1, b2i_t, b2i_f, gA1, pA1, gB2, pB2, gA3, pA3, gA4, pA4, gB5, pB5, gA6, pA6, gA7, pA7, gA8, pA8, gA9, pA9, gA10, pA10, gA11, pA11, gA12, pA12, gA13, pA13, gA14, pA14, gA15, pA15, gA16, pA16, gA17, pA17, gA18, pA18, gA19, pA19, gA20, pA20, gA21, pA21, gA40, pA40, gB43, pB43, gA44, pA44, gA45, pA45, gA46, pA46, gA47, pA47, gA48, pA48, gA49, pA49, gA53, pA53, gA54, pA54, gA55, pA55, gA56, pA56, gA58, pA58, gA60, pA60, gA61, pA61, gA62, pA62, gA63, pA63, gA66, pA66, ↓reduceIte, if_true, if_false, R_mI_sJ, R_mI_sA, R_mI_sB, R_mJ_sI, R_mJ_sA, R_mJ_sB, R_mA_sI, R_mA_sJ, R_mA_sB, R_mB_sI, R_mB_sJ, R_mB_sA, mI_on, mI_off, mJ_on, mJ_off, mA_on, mA_same, mA_off, mB_on, mB_same, mB_off, up_on, up_off, hW1, hb', ht', ht2]
        rfl
      · simp only [hq]
        exact hnil
    | some q =>
      rw [hq] at hb2
      have hb' : f_X3_behindNamed (i_ t) (enc x.2.2.2.1) M = some (i_ q, M) := hb2
      have hqn := (tnf_some hq).1
      have r4 := (h5.2.2 q hqn).2.2.1
      have hcn := M_columnNamed (M := M) (t := q) (nc := z_nc s q) (cn := z_cn s q) (w := x.2.2.2.2) (by omega) r4.1 r4.2.2 (fun c hc => (h6 q hqn).2 c hc) hw2
      simp only [hq]
      cases hd : cnf (z_cn s q) x.2.2.2.2 0 (z_nc s q) with
      | none =>
        rw [hd] at hcn
        have hcn' : f_X3_columnNamed (i_ q) (enc x.2.2.2.2) M = some (i_m, M) := hcn
        obtain ⟨N, c1, c2, c3, c4, c5⟩ := hev x.2.1 hp2
        refine ⟨N, ?_, c2, c3, c4, c5⟩
        rw [← Nat.add_assoc] at a2
        simp (disch := omega) only [l_m1, l_m2, l_0, l_1, l_2, l_3, l_4, l_5, l_6, l_7, l_8, l_9, l_10, l_11, l_12, l_13, l_14, l_15, l_16, l_17, l_18, l_19, l_20, l_21, l_22, l_23, l_24, l_25, l_26, l_27, l_28, l_29, l_30, l_31, l_32, l_33, l_34, l_35, l_36, l_37, l_38, l_39, l_40, l_41, l_42, l_43, l_44, l_45, l_46, l_47, l_48, l_49, l_50, l_51, l_52, l_53, l_54, l_55, l_56, l_57, l_58, l_59, l_60, l_61, l_62, l_63, l_64, l_97, l_100, l_110, l_115, l_116, l_120, l_122, l_127, l_128, l_136, l_140, l_200, l_255, l_256, l_400, l_1000, l_30000, l_1200, l_65536, l_2147483639, l_2147483647, ob_some, obd_some, q_lt_t, q_lt_f, q_le_t, q_le_f, q_eq_t, q_eq_f, im_ne, im_ne', im_lt, im_le, im_lt', im_le', i_add, i_mul, i_dec, i_dec0, i_sub, i_and, i_shr, i_div, nar_b0, nar_b1, b2i_t, b2i_f, gA1, pA1, gB2, pB2, gA3, pA3, gA4, pA4, gB5, pB5, gA6, pA6, gA7, pA7, gA8, pA8, gA9, pA9, gA10, pA10, gA11, pA11, gA12, pA12, gA13, pA13, gA14, pA14, gA15, pA15, gA16, pA16, gA17, pA17, gA18, pA18, gA19, pA19, gA20, pA20, gA21, pA21, gA40, pA40, gB43, pB43, gA44, pA44, gA45, pA45, gA46, pA46, gA47, pA47, gA48, pA48, gA49, pA49, gA53, pA53, gA54, pA54, gA55, pA55, gA56, pA56, gA58, pA58, gA60, pA60, gA61, pA61, gA62, pA62, gA63, pA63, gA66, pA66, ↓reduceIte, if_true, if_false, R_mI_sJ, R_mI_sA, R_mI_sB, R_mJ_sI, R_mJ_sA, R_mJ_sB, R_mA_sI, R_mA_sJ, R_mA_sB, R_mB_sI, R_mB_sJ, R_mB_sA, mI_on, mI_off, mJ_on, mJ_off, mA_on, mA_same, mA_off, mB_on, mB_same, mB_off, up_on, up_off, hW1, hb', hW2, hcn', h13, a2, c1]
        rfl
      | some c =>
        rw [hd] at hcn
        have hcn' : f_X3_columnNamed (i_ q) (enc x.2.2.2.2) M = some (i_ c, M) := hcn
        have hclt := (cnf_some _ _ _ hd).2.1
        have r10 := ((h5.2.2 q hqn).2.2.2.2.2.2 c (by omega)).1
        refine ⟨M, ?_, MTy.rf M, rfl, rfl, hnil⟩
        have hv : (tt (tys s) (2, 8 * q + c, x.2.2.1)).2.1 = z_ty s q c := by
          show tys s (8 * q + c) = _
          unfold tys
          rw [show (8 * q + c) / 8 = q by omega, show (8 * q + c) % 8 = c by omega]
        rw [hv]
        simp (disch := omega) only [l_m1, l_m2, l_0, l_1, l_2, l_3, l_4, l_5, l_6, l_7, l_8, l_9, l_10, l_11, l_12, l_13, l_14, l_15, l_16, l_17, l_18, l_19, l_20, l_21, l_22, l_23, l_24, l_25, l_26, l_27, l_28, l_29, l_30, l_31, l_32, l_33, l_34, l_35, l_36, l_37, l_38, l_39, l_40, l_41, l_42, l_43, l_44, l_45, l_46, l_47, l_48, l_49, l_50, l_51, l_52, l_53, l_54, l_55, l_56, l_57, l_58, l_59, l_60, l_61, l_62, l_63, l_64, l_97, l_100, l_110, l_115, l_116, l_120, l_122, l_127, l_128, l_136, l_140, l_200, l_255, l_256, l_400, l_1000, l_30000, l_1200, l_65536, l_2147483639, l_2147483647, ob_some, obd_some, q_lt_t, q_lt_f, q_le_t, q_le_f, q_eq_t, q_eq_f, im_ne, im_ne', im_lt, im_le, im_lt', im_le', i_add, i_mul, i_dec, i_dec0, i_sub, i_and, i_shr, i_div, nar_b0, nar_b1, b2i_t, b2i_f, gA1, pA1, gB2, pB2, gA3, pA3, gA4, pA4, gB5, pB5, gA6, pA6, gA7, pA7, gA8, pA8, gA9, pA9, gA10, pA10, gA11, pA11, gA12, pA12, gA13, pA13, gA14, pA14, gA15, pA15, gA16, pA16, gA17, pA17, gA18, pA18, gA19, pA19, gA20, pA20, gA21, pA21, gA40, pA40, gB43, pB43, gA44, pA44, gA45, pA45, gA46, pA46, gA47, pA47, gA48, pA48, gA49, pA49, gA53, pA53, gA54, pA54, gA55, pA55, gA56, pA56, gA58, pA58, gA60, pA60, gA61, pA61, gA62, pA62, gA63, pA63, gA66, pA66, ↓reduceIte, if_true, if_false, R_mI_sJ, R_mI_sA, R_mI_sB, R_mJ_sI, R_mJ_sA, R_mJ_sB, R_mA_sI, R_mA_sJ, R_mA_sB, R_mB_sI, R_mB_sJ, R_mB_sA, mI_on, mI_off, mJ_on, mJ_off, mA_on, mA_same, mA_off, mB_on, mB_same, mB_off, up_on, up_off, hW1, hb', hW2, hcn', h13, r10]
