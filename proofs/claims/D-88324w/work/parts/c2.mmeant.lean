/-! what a statement means, the reference's way: the whole *-/
theorem CL.at {M : MS} {t : Nat} {ks : List Rk} : ∀ {cs : List Cs} {i a : Nat}, CL M t ks i a cs → ∀ j, j < cs.length → ∃ b, m_B M 5 (8 * t + (i + j)) = enc (cs.getD j ([], 0, [], [])).1 ∧ m_A M 18 (8 * t + (i + j)) = i_ (b + 2) ∧ m_A M 19 (8 * t + (i + j)) = i_ (b + 2 + (cs.getD j ([], 0, [], [])).2.2.1.length) ∧ ∃ o, Sg ks b ((1, (cs.getD j ([], 0, [], [])).2.1, (cs.getD j ([], 0, [], [])).1) :: (58, o, [58]) :: (cs.getD j ([], 0, [], [])).2.2.1)
  | [], _, _, _, j, hj => absurd hj (Nat.not_lt_zero j)
  | c :: cs, i, a, ⟨h1, h2, h3, h4, h5⟩, j, hj => by
    cases j with
    | zero => exact ⟨a, h1, h2, h3, h4⟩
    | succ j =>
      have := CL.at h5 j (by have hj' : j + 1 < cs.length + 1 := hj; omega)
      rw [show i + 1 + j = i + (j + 1) by omega] at this
      exact this
/-- where a column's name lies among the tokens *-/
def ctk : Nat → List Cs → Nat → Nat
  | a, [], _ => a
  | a, _ :: _, 0 => a
  | a, c :: cs, j + 1 => ctk (a + 2 + c.2.2.1.length + 1) cs j
theorem CL.tk {M : MS} {t : Nat} {ks : List Rk} : ∀ {cs : List Cs} {i a : Nat}, CL M t ks i a cs → ∀ j, j < cs.length → (∃ o, Sg ks (ctk a cs j) ((1, (cs.getD j ([], 0, [], [])).2.1, (cs.getD j ([], 0, [], [])).1) :: (58, o, [58]) :: (cs.getD j ([], 0, [], [])).2.2.1)) ∧ ∃ v, m_A M 19 (8 * t + (i + j)) = i_ v ∧ ctk a cs (j + 1) = v + 1
  | [], _, _, _, j, hj => absurd hj (Nat.not_lt_zero j)
  | c :: cs, i, a, ⟨h1, h2, h3, h4, h5⟩, j, hj => by
    cases j with
    | zero =>
      refine ⟨h4, _, h3, ?_⟩
      show ctk (a + 2 + c.2.2.1.length + 1) cs 0 = _
      cases cs <;> rfl
    | succ j =>
      have := CL.tk h5 j (by have hj' : j + 1 < cs.length + 1 := hj; omega)
      rw [show i + 1 + j = i + (j + 1) by omega] at this
      exact this
theorem SL.at {M : MS} {t : Nat} {ks : List Rk} : ∀ {cs : List (List Nat × Nat × Nat)} {i a : Nat}, SL M t ks i a cs → ∀ j, j < cs.length → m_B M 5 (8 * t + (i + j)) = enc (cs.getD j ([], 0, 0)).1 ∧ m_A M 6 (8 * t + (i + j)) = i_ (cs.getD j ([], 0, 0)).2.2 ∧ Sg ks (a + 3 * j) [(1, (cs.getD j ([], 0, 0)).2.1, (cs.getD j ([], 0, 0)).1)]
  | [], _, _, _, j, hj => absurd hj (Nat.not_lt_zero j)
  | c :: cs, i, a, ⟨h1, h2, h3, h5⟩, j, hj => by
    cases j with
    | zero => exact ⟨h1, h2, h3⟩
    | succ j =>
      have := SL.at h5 j (by have hj' : j + 1 < cs.length + 1 := hj; omega)
      rw [show i + 1 + j = i + (j + 1) by omega, show a + 3 + 3 * j = a + 3 * (j + 1) by omega] at this
      exact this
theorem getD_map' {α β : Type} {f : α → β} {l : List α} {d : α} {d' : β} {i : Nat} (h : i < l.length) : (l.map f).getD i d' = f (l.getD i d) := by
  rw [List.getD_eq_getElem?_getD, List.getD_eq_getElem?_getD, List.getElem?_map, List.getElem?_eq_getElem h]
  rfl
theorem getD_mem' {α : Type} {l : List α} {d : α} {i : Nat} (h : i < l.length) : l.getD i d ∈ l := by
  rw [List.getD_eq_getElem?_getD, List.getElem?_eq_getElem h]
  exact List.getElem_mem h
/-- columns' types *-/
theorem M_mt {t n : Nat} {T : Nat → Nat} {s : SP} {st : St} {ks : List Rk} {cs : List Cs} (hD : StD T n st) (hn : n ≤ 400) (hB : ∀ y ∈ ks, BT T n y ∧ y.2.1 < n) (hks : ks.length ≤ 400) (h6 : cs.length ≤ 6)
    (hp : ∀ j, j < cs.length → ∃ p p', pform T n 3 p = .inr ((cs.getD j ([], 0, [], [])).2.2.1, (cs.getD j ([], 0, [], [])).2.2.2, p')) (hl : ∀ j, j < cs.length → (cs.getD j ([], 0, [], [])).2.2.2 ∈ allf st) :
    ∀ (r c f : Nat) (M : MS) (o : Option (Nat × Nat)), c + r = cs.length → r < f → MT t n T s (frs st) ks M → m_A M 4 t = i_ cs.length → CL M t ks 0 3 cs → EO M o → (∀ j, j < c → m_A M 6 (8 * t + j) = i_ (tyF s st (cs.getD j ([], 0, [], [])).2.2.2)) →
      ∃ N, f_X3_meant_n266 f (i_ t) (i_ c) M = f_X3_meant_n299 (i_ t) N ∧ Gr [6, 45, 46, 47, 48, 49] [] [25, 26, 50, 51] t M N ∧ EO N (mwl o ((List.range' c r).flatMap (fun j => evF s st (cs.getD j ([], 0, [], [])).2.2.2))) ∧ ∀ j, j < cs.length → m_A N 6 (8 * t + j) = i_ (tyF s st (cs.getD j ([], 0, [], [])).2.2.2) ∧ tyF s st (cs.getD j ([], 0, [], [])).2.2.2 < 128 := by
  have h128 : ∀ (M : MS) j, MT t n T s (frs st) ks M → CL M t ks 0 3 cs → j < cs.length → ∃ N', f_X3_typeOf (i_ t) (i_ j) M = some (i_ (tyF s st (cs.getD j ([], 0, [], [])).2.2.2), N') ∧ MTy M N' ∧ ErR M N' (evF s st (cs.getD j ([], 0, [], [])).2.2.2) ∧ tyF s st (cs.getD j ([], 0, [], [])).2.2.2 < 128 := by
    intro M j hM hC hj
    obtain ⟨b, b1, b2, b3, o, b4⟩ := hC.at j hj
    obtain ⟨p, p', hpj⟩ := hp j hj
    rw [Nat.zero_add] at b2 b3
    have b5 : Sg ks (b + 2) (cs.getD j ([], 0, [], [])).2.2.1 := (Sg.left (k1 := [(1, (cs.getD j ([], 0, [], [])).2.1, (cs.getD j ([], 0, [], [])).1), (58, o, [58])]) b4).2
    exact M_ftype hM hB hks (show j < 8 by omega) b2 b3 b5 hpj
  intro r
  induction r with
  | zero =>
    intro c f M o hc hf hM h4 hC hE hT
    obtain ⟨f, rfl⟩ : ∃ m, f = m + 1 := ⟨f - 1, by omega⟩
    have ht := hM.1.2.1
    refine ⟨M, ?_, Gr.rf _ _ _ _ _, hE, fun j hj => ⟨hT j (by omega), ?_⟩⟩
    · unfold f_X3_meant_n266
      simp (disch := omega) only [l_m1, l_m2, l_0, l_1, l_2, l_3, l_4, l_5, l_6, l_7, l_8, l_9, l_10, l_11, l_12, l_13, l_14, l_15, l_16, l_17, l_18, l_19, l_20, l_21, l_22, l_23, l_24, l_25, l_26, l_27, l_28, l_29, l_30, l_31, l_32, l_33, l_34, l_35, l_36, l_37, l_38, l_39, l_40, l_41, l_42, l_43, l_44, l_45, l_46, l_47, l_48, l_49, l_50, l_51, l_52, l_53, l_54, l_55, l_56, l_57, l_58, l_59, l_60, l_61, l_62, l_63, l_64, l_97, l_100, l_110, l_115, l_116, l_120, l_122, l_127, l_128, l_136, l_140, l_200, l_255, l_256, l_400, l_1000, l_30000, l_1200, l_65536, l_2147483639, l_2147483647, ob_some, obd_some, q_lt_t, q_lt_f, q_le_t, q_le_f, q_eq_t, q_eq_f, im_ne, im_ne', im_lt, im_le, im_lt', im_le', i_add, i_mul, i_dec, i_dec0, i_sub, i_and, i_shr, i_div, nar_b0, nar_b1, b2i_t, b2i_f, gA1, pA1, gB2, pB2, gA3, pA3, gA4, pA4, gB5, pB5, gA6, pA6, gA7, pA7, gA8, pA8, gA9, pA9, gA10, pA10, gA11, pA11, gA12, pA12, gA13, pA13, gA14, pA14, gA15, pA15, gA16, pA16, gA17, pA17, gA18, pA18, gA19, pA19, gA20, pA20, gA21, pA21, gA40, pA40, gB43, pB43, gA44, pA44, gA45, pA45, gA46, pA46, gA47, pA47, gA48, pA48, gA49, pA49, gA53, pA53, gA54, pA54, gA55, pA55, gA56, pA56, gA58, pA58, gA60, pA60, gA61, pA61, gA62, pA62, gA63, pA63, gA66, pA66, ↓reduceIte, if_true, if_false, R_mI_sJ, R_mI_sA, R_mI_sB, R_mJ_sI, R_mJ_sA, R_mJ_sB, R_mA_sI, R_mA_sJ, R_mA_sB, R_mB_sI, R_mB_sJ, R_mB_sA, mI_on, mI_off, mJ_on, mJ_off, mA_on, mA_same, mA_off, mB_on, mB_same, mB_off, up_on, up_off, h4]
    · obtain ⟨N', -, -, -, h⟩ := h128 M j hM hC hj
      exact h
  | succ r ih =>
    intro c f M o hc hf hM h4 hC hE hT
    obtain ⟨f, rfl⟩ : ∃ m, f = m + 1 := ⟨f - 1, by omega⟩
    have ht := hM.1.2.1
    obtain ⟨N1, a1, a2, a3, a4⟩ := h128 M c hM hC (by omega)
    have hpl : ∀ x ∈ (cs.getD c ([], 0, [], [])).2.2.2, x.2.2.1 < n := by
      obtain ⟨p, p', hpc⟩ := hp c (by omega)
      exact (pform_KS _ _ _ _ _ hpc).2.2.2
    have hE1 := a3.eo hM.2.2.2.2.2.2.2 hE (evF_b hD hn (hl c (by omega)) hpl)
    have g1 : Gr [6, 45, 46, 47, 48, 49] [] [25, 26, 50, 51] t M (m_sA N1 6 (8 * t + c) (i_ (tyF s st (cs.getD c ([], 0, [], [])).2.2.2))) := ((a2.gr t).mono (by decide) (by decide) (by decide)).tr (Gr.sA (by decide) (show 8 * t ≤ _ by omega))
    obtain ⟨N, c1, c2, c3, c4⟩ := ih (c + 1) f _ (mwl o (evF s st (cs.getD c ([], 0, [], [])).2.2.2)) (by omega) (by omega) (hM.gr g1 (by decide) (by decide) (by decide) (by decide)) (by rw [g1.1 4 (by decide)]; exact h4) (by
      have := hC.of (N := m_sA N1 6 (8 * t + c) (i_ (tyF s st (cs.getD c ([], 0, [], [])).2.2.2))) [] (fun j _ _ => by rw [g1.2.2.1 5 List.not_mem_nil, g1.1 18 (by decide), g1.1 19 (by decide)]; exact ⟨rfl, rfl, rfl⟩)
      rw [List.append_nil] at this
      exact this) hE1 (fun j hj => by
      by_cases e : j = c
      · rw [e, mA_on]
      · rw [mA_off (by omega), a2.1 6 (by decide)]
        exact hT j (by omega))
    refine ⟨N, ?_, g1.tr c2, ?_, c4⟩
    · conv => lhs; unfold f_X3_meant_n266
      simp (disch := omega) only [l_m1, l_m2, l_0, l_1, l_2, l_3, l_4, l_5, l_6, l_7, l_8, l_9, l_10, l_11, l_12, l_13, l_14, l_15, l_16, l_17, l_18, l_19, l_20, l_21, l_22, l_23, l_24, l_25, l_26, l_27, l_28, l_29, l_30, l_31, l_32, l_33, l_34, l_35, l_36, l_37, l_38, l_39, l_40, l_41, l_42, l_43, l_44, l_45, l_46, l_47, l_48, l_49, l_50, l_51, l_52, l_53, l_54, l_55, l_56, l_57, l_58, l_59, l_60, l_61, l_62, l_63, l_64, l_97, l_100, l_110, l_115, l_116, l_120, l_122, l_127, l_128, l_136, l_140, l_200, l_255, l_256, l_400, l_1000, l_30000, l_1200, l_65536, l_2147483639, l_2147483647, ob_some, obd_some, q_lt_t, q_lt_f, q_le_t, q_le_f, q_eq_t, q_eq_f, im_ne, im_ne', im_lt, im_le, im_lt', im_le', i_add, i_mul, i_dec, i_dec0, i_sub, i_and, i_shr, i_div, nar_b0, nar_b1, b2i_t, b2i_f, gA1, pA1, gB2, pB2, gA3, pA3, gA4, pA4, gB5, pB5, gA6, pA6, gA7, pA7, gA8, pA8, gA9, pA9, gA10, pA10, gA11, pA11, gA12, pA12, gA13, pA13, gA14, pA14, gA15, pA15, gA16, pA16, gA17, pA17, gA18, pA18, gA19, pA19, gA20, pA20, gA21, pA21, gA40, pA40, gB43, pB43, gA44, pA44, gA45, pA45, gA46, pA46, gA47, pA47, gA48, pA48, gA49, pA49, gA53, pA53, gA54, pA54, gA55, pA55, gA56, pA56, gA58, pA58, gA60, pA60, gA61, pA61, gA62, pA62, gA63, pA63, gA66, pA66, ↓reduceIte, if_true, if_false, R_mI_sJ, R_mI_sA, R_mI_sB, R_mJ_sI, R_mJ_sA, R_mJ_sB, R_mA_sI, R_mA_sJ, R_mA_sB, R_mB_sI, R_mB_sJ, R_mB_sA, mI_on, mI_off, mJ_on, mJ_off, mA_on, mA_same, mA_off, mB_on, mB_same, mB_off, up_on, up_off, h4, a1]
      exact c1
    · rw [List.range'_succ, List.flatMap_cons, mwl_app]
      exact c3
/-- events in the reference's order *-/
def evM (s : SP) (st : St) : Ev2 := evN s st.1.2.1 st.1.2.2 ++ (evC2 (cns st) (List.range' 0 (cns st).length) ++ (evF1 s (frs st) (List.range' 0 (frs st).length) ++ ((List.range' 0 (fms st).length).flatMap (fun j => evF s st ((fms st).getD j [])) ++ ((whl (whr st)).flatMap (evF s st) ++ evW s st))))
theorem flat_range {α : Type} {g : α → Ev2} {d : α} {l : List α} {e : Nat × Nat} : e ∈ (List.range' 0 l.length).flatMap (fun j => g (l.getD j d)) ↔ e ∈ l.flatMap g := by
  rw [List.mem_flatMap, List.mem_flatMap]
  refine ⟨fun ⟨j, hj, h⟩ => ?_, fun ⟨x, hx, h⟩ => ?_⟩
  · rw [List.mem_range'_1] at hj
    exact ⟨_, getD_mem' (by omega), h⟩
  · obtain ⟨j, hj, rfl⟩ := List.getElem_of_mem hx
    refine ⟨j, List.mem_range'_1.mpr (by omega), ?_⟩
    rw [List.getD_eq_getElem?_getD, List.getElem?_eq_getElem hj]
    exact h
theorem evM_m {s : SP} {st : St} {e : Nat × Nat} : e ∈ evA s st ↔ e ∈ evM s st := by
  unfold evM evA allf
  rw [List.mem_append, List.mem_append, List.mem_append, List.mem_append, List.mem_append, List.mem_append, List.mem_append, List.mem_append, List.mem_append, List.mem_append, evC2_m, evF1_m, flat_range, List.flatMap_append, List.mem_append]
  constructor
  · rintro (h | h | h | h | (h | h) | h)
    · exact Or.inl h
    · exact Or.inr (Or.inl h)
    · exact Or.inr (Or.inr (Or.inl (Or.inl h)))
    · exact Or.inr (Or.inr (Or.inl (Or.inr h)))
    · exact Or.inr (Or.inr (Or.inr (Or.inl h)))
    · exact Or.inr (Or.inr (Or.inr (Or.inr (Or.inl h))))
    · exact Or.inr (Or.inr (Or.inr (Or.inr (Or.inr h))))
  · rintro (h | h | (h | h) | h | h | h)
    · exact Or.inl h
    · exact Or.inr (Or.inl h)
    · exact Or.inr (Or.inr (Or.inl h))
    · exact Or.inr (Or.inr (Or.inr (Or.inl h)))
    · exact Or.inr (Or.inr (Or.inr (Or.inr (Or.inl (Or.inl h)))))
    · exact Or.inr (Or.inr (Or.inr (Or.inr (Or.inl (Or.inr h)))))
    · exact Or.inr (Or.inr (Or.inr (Or.inr (Or.inr h))))
/-- how formulas of a statement were read *-/
theorem pcol_F {T : Nat → Nat} {n : Nat} : ∀ (r p : Nat) (ks : List Rk) (cs : List Cs) (p' : Nat), pcol T n r p = .inr (ks, cs, p') → ∀ j, j < cs.length → ∃ p p', pform T n 3 p = .inr ((cs.getD j ([], 0, [], [])).2.2.1, (cs.getD j ([], 0, [], [])).2.2.2, p') := by
  intro r
  induction r with
  | zero => intro p ks cs p' h; cases h
  | succ r ih =>
    intro p ks cs p' h j hj
    obtain ⟨w, q, e, k1, l1, p1, h1, h4, h3, h⟩ := pcol_r h
    rcases h with ⟨e44, rfl, rfl, rfl⟩ | ⟨e44, k2', c2, h5, rfl, rfl⟩
    · have : j = 0 := by have hj' : j < 1 := hj; omega
      subst this
      exact ⟨_, _, h3⟩
    · cases j with
      | zero => exact ⟨_, _, h3⟩
      | succ j => exact ih _ _ _ _ h5 j (by have hj' : j + 1 < c2.length + 1 := hj; omega)
/-- what a select is made of, once more *-/
theorem pstat_S {T : Nat → Nat} {n : Nat} {st : St} (h : pstat T n = .inr st) : KS T n 0 n (hdr T n st ++ st.2.2) ∧ (∀ y, st.2.1 = .inr y → 1 ≤ st.1.1 ∧ (∀ j, j < y.1.length → ∃ p p', pform T n 3 p = .inr ((y.1.getD j ([], 0, [], [])).2.2.1, (y.1.getD j ([], 0, [], [])).2.2.2, p')) ∧ (∀ w, y.2.2 = some w → (∃ p p', pform T n 3 p = .inr (w.1.1, w.1.2, p')) ∧ (∃ p p', pform T n 3 p = .inr (w.2.2.1, w.2.2.2, p')) ∧ w.2.1.2 < n)) ∧ (∀ cs, st.2.1 = .inl cs → st.1.1 = 0) := by
  obtain ⟨k, a, ⟨q, e⟩, h1, h2, h3, h⟩ := pstat_r h
  obtain ⟨v1, v2, -⟩ := psort_0 h1
  obtain ⟨r1, r2, r3, r4⟩ := isLb_lt v1
  have k0 := sk_ge T n 0
  have n1 : KS T n 0 (lw T n (sk T n 0)) [(1, sk T n 0, sl T (sk T n 0) (lw T n (sk T n 0)))] := KS.one (by decide) k0 r3 r4
  obtain ⟨n2, n3, n4⟩ := KS.name h3
  rcases h with ⟨rfl, b, c, h4, h5, rfl⟩ | ⟨hk, b, c, h4, h5, rfl⟩
  · obtain ⟨k1, c1, p1, g1, g2, g3, rfl⟩ := psrc_r h4
    obtain ⟨i1, ⟨i2, i3⟩, ⟨i4, i5⟩, i6⟩ := psr_D _ _ _ _ _ g2
    obtain ⟨j1, j2, rfl⟩ := pend_r h5
    obtain ⟨c1', c2'⟩ := chp_c j1 (by decide)
    have s1 := sk_ge T n e
    have s2 := sk_ge T n p1
    have s3 := sk_ge T n (sk T n p1 + 1)
    have i2' : sk T n e + 1 < p1 := i2
    refine ⟨?_, fun y hy => (by cases hy), fun cs _ => rfl⟩
    have g1' : chp T n (sk T n e) = 40 := g1
    have g3' : chp T n (sk T n p1) = 41 := g3
    have j1' : chp T n (sk T n (sk T n p1 + 1)) = 59 := j1
    have c1'' : sk T n (sk T n p1 + 1) < n := c1'
    have hh : KS T n 0 (sk T n (sk T n p1 + 1) + 1) ((1, sk T n 0, sl T (sk T n 0) (lw T n (sk T n 0))) :: (1, q, a) :: (40, sk T n e, [40]) :: (k1 ++ ((41, sk T n p1, [41]) :: [(59, sk T n (sk T n p1 + 1), [59])]))) :=
      n1.cons (n2.cons ((KS.sign g1' (by decide)).cons (i1.app ((KS.sign g3' (by decide)).cons (KS.sign j1' (by decide)) (by omega) (by omega)) (by omega) (by omega)) (by omega) (by omega)) (by omega) (by omega)) (by omega) (by omega)
    have := hh.mono (p' := 0) (q' := n) (Nat.le_refl _) (by omega) (Nat.zero_le _)
    show KS T n 0 n ([_, _] ++ ((40, sk T n e, [40]) :: (k1 ++ [(41, sk T n p1, [41])]) ++ [(59, sk T n (sk T n p1 + 1), [59])]))
    simp only [List.append_assoc, List.cons_append, List.nil_append] at this ⊢
    exact this
  · obtain ⟨b1, b2, b3⟩ := psel_KG h4
    obtain ⟨j1, j2, rfl⟩ := pend_r h5
    obtain ⟨c1', c2'⟩ := chp_c j1 (by decide)
    have k2 := sk_ge T n b.2.2.2.2
    have e' : e < b.2.2.2.2 := b2
    refine ⟨?_, fun y hy => ?_, fun cs hcs => (by cases hcs)⟩
    · have hh : KS T n 0 (sk T n b.2.2.2.2 + 1) ((1, sk T n 0, sl T (sk T n 0) (lw T n (sk T n 0))) :: (1, q, a) :: (b.1 ++ [(59, sk T n b.2.2.2.2, [59])])) :=
        n1.cons (n2.cons (b1.1.app (KS.sign j1 (by decide)) (by omega) (by omega)) (by omega) (by omega)) (by omega) (by omega)
      exact hh.mono (Nat.le_refl _) (by omega) (Nat.zero_le _)
    · obtain ⟨k1, c1, p1, k2, c2, p2, k3, w, p3, g1, g2, g3, g4, g5, rfl⟩ := psel_r h4
      cases hy
      refine ⟨hk, pcol_F _ _ _ _ _ g2, fun w' hw' => ?_⟩
      have hw2 : w = some w' := hw'
      rcases pwh_r g5 with ⟨-, -, z, -⟩ | ⟨e5, k1', l1, p1', c', k2', l2, z1, z2, z3, z4, -, z⟩
      · rw [z] at hw2
        cases hw2
      · rw [z] at hw2
        cases hw2
        exact ⟨⟨_, _, z1⟩, ⟨_, _, z4⟩, (chp_c z2.symm (by omega)).1⟩
