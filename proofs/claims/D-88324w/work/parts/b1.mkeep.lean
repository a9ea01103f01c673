/-! the reference's reader: a token kept, a sign, a name, a term *-/
def TR (M : MS) (t k : Nat) (y : Rk) : Prop := m_A M 14 (400 * t + k) = i_ y.1 ∧ m_A M 15 (400 * t + k) = i_ y.2.1 ∧ m_A M 16 (400 * t + k) = i_ y.2.2.length
def TK (M : MS) (t : Nat) (ks : List Rk) : Prop := m_A M 13 t = i_ ks.length ∧ ∀ i, i < ks.length → TR M t i (ks.getD i (0, 0, []))
theorem TK.gr {M N : MS} {t : Nat} {ks : List Rk} {ka kb ki : List Nat} (h : TK M t ks) (g : Gr ka kb ki t M N) (a : 13 ∉ ka ∧ 14 ∉ ka ∧ 15 ∉ ka ∧ 16 ∉ ka) : TK N t ks := by
  unfold TK TR
  rw [g.1 13 a.1, g.1 14 a.2.1, g.1 15 a.2.2.1, g.1 16 a.2.2.2]
  exact h
theorem gD_snoc {α : Type} {l : List α} {x d : α} : (l ++ [x]).getD l.length d = x := by
  rw [List.getD_eq_getElem?_getD, List.getElem?_append_right (Nat.le_refl _), Nat.sub_self]
  rfl
theorem gD_app {α : Type} {l m : List α} {d : α} {i : Nat} (h : i < l.length) : (l ++ m).getD i d = l.getD i d := by
  rw [List.getD_eq_getElem?_getD, List.getD_eq_getElem?_getD, List.getElem?_append_left h]
theorem M_keeps {t n : Nat} {T : Nat → Nat} {M : MS} {ks : List Rk} (hP : PM t n T M) (hT : TK M t ks) (hl : ks.length < 400) {c q e : Nat} (h29 : m_I M 29 = i_ c) (h30 : m_I M 30 = i_ q) (h23 : m_I M 23 = i_ e) (hq : q ≤ e) (he : e ≤ n) :
    ∃ N, f_X3_keeps M = some N ∧ Gr [13, 14, 15, 16] [] kiT t M N ∧ LA T n N e ∧ TK N t (ks ++ [(c, q, sl T q e)]) := by
  have hn := hP.1
  have ht := hn.2.1
  obtain ⟨hT1, hT2⟩ := hT
  let N6 := m_sA (m_sA (m_sA (m_sA M 14 (400 * t + ks.length) (i_ c)) 15 (400 * t + ks.length) (i_ q)) 16 (400 * t + ks.length) (i_ (e - q))) 13 t (i_ (ks.length + 1))
  have hN6 : N6 = m_sA (m_sA (m_sA (m_sA M 14 (400 * t + ks.length) (i_ c)) 15 (400 * t + ks.length) (i_ q)) 16 (400 * t + ks.length) (i_ (e - q))) 13 t (i_ (ks.length + 1)) := rfl
  have g6 : Gr [13, 14, 15, 16] [] kiT t M N6 := (((Gr.sA (by decide) (show 400 * t ≤ _ by omega)).tr (Gr.sA (by decide) (show 400 * t ≤ _ by omega))).tr (Gr.sA (by decide) (show 400 * t ≤ _ by omega))).tr (Gr.sA (by decide) (show t ≤ t by omega))
  have hP6 : PM t n T N6 := hP.gr g6 (by decide) (by decide)
  have a23 : m_I N6 23 = i_ e := h23
  have hT6 : TK N6 t (ks ++ [(c, q, sl T q e)]) := by
    refine ⟨?_, fun i hi => ?_⟩
    · rw [hN6, mA_on, List.length_append]
      rfl
    · rw [List.length_append] at hi
      have hi' : i < ks.length + 1 := hi
      have key : ∀ x, (ks ++ [(c, q, sl T q e)]).getD i (0, 0, []) = x → (i = ks.length ∧ x = (c, q, sl T q e)) ∨ (i < ks.length ∧ x = ks.getD i (0, 0, [])) := by
        intro x hx
        by_cases ei : i = ks.length
        · subst ei
          rw [gD_snoc] at hx
          exact Or.inl ⟨rfl, hx.symm⟩
        · rw [gD_app (by omega)] at hx
          exact Or.inr ⟨by omega, hx.symm⟩
      rcases key _ rfl with ⟨ei, ex⟩ | ⟨ei, ex⟩
      · rw [ex, ei]
        refine ⟨?_, ?_, ?_⟩
        · rw [hN6, mA_same (show 14 ≠ 13 by decide), mA_same (show 14 ≠ 16 by decide), mA_same (show 14 ≠ 15 by decide), mA_on]
        · rw [hN6, mA_same (show 15 ≠ 13 by decide), mA_same (show 15 ≠ 16 by decide), mA_on]
        · rw [hN6, mA_same (show 16 ≠ 13 by decide), mA_on, sl_len]
      · rw [ex]
        obtain ⟨r1, r2, r3⟩ := hT2 i ei
        refine ⟨?_, ?_, ?_⟩
        · rw [hN6, mA_same (show 14 ≠ 13 by decide), mA_same (show 14 ≠ 16 by decide), mA_same (show 14 ≠ 15 by decide), mA_off (by omega)]
          exact r1
        · rw [hN6, mA_same (show 15 ≠ 13 by decide), mA_same (show 15 ≠ 16 by decide), mA_off (by omega), mA_same (show 15 ≠ 14 by decide)]
          exact r2
        · rw [hN6, mA_same (show 16 ≠ 13 by decide), mA_off (by omega), mA_same (show 16 ≠ 15 by decide), mA_same (show 16 ≠ 14 by decide)]
          exact r3
  obtain ⟨N, e1, e2, e3⟩ := M_next hP6 he a23
  refine ⟨N, ?_, g6.tr (e2.mono (by decide) (by decide) (by decide)), e3, hT6.gr e2 (by decide)⟩
  unfold f_X3_keeps
  rw [hN6] at e1
  simp (disch := omega) only [l_m1, l_m2, l_0, l_1, l_2, l_3, l_4, l_5, l_6, l_7, l_8, l_9, l_10, l_11, l_12, l_13, l_14, l_15, l_16, l_17, l_18, l_19, l_20, l_21, l_22, l_23, l_24, l_25, l_26, l_27, l_28, l_29, l_30, l_31, l_32, l_33, l_34, l_35, l_36, l_37, l_38, l_39, l_40, l_41, l_42, l_43, l_44, l_45, l_46, l_47, l_48, l_49, l_50, l_51, l_52, l_53, l_54, l_55, l_56, l_57, l_58, l_59, l_60, l_61, l_62, l_63, l_64, l_97, l_100, l_110, l_115, l_116, l_120, l_122, l_127, l_128, l_136, l_140, l_200, l_255, l_256, l_400, l_1000, l_30000, l_1200, l_65536, l_2147483639, l_2147483647, ob_some, obd_some, q_lt_t, q_lt_f, q_le_t, q_le_f, q_eq_t, q_eq_f, im_ne, im_ne', im_lt, im_le, im_lt', im_le', i_add, i_mul, i_dec, i_dec0, i_sub, i_and, i_shr, i_div, nar_b0, nar_b1, b2i_t, b2i_f, gA1, pA1, gB2, pB2, gA3, pA3, gA4, pA4, gB5, pB5, gA6, pA6, gA7, pA7, gA8, pA8, gA9, pA9, gA10, pA10, gA11, pA11, gA12, pA12, gA13, pA13, gA14, pA14, gA15, pA15, gA16, pA16, gA17, pA17, gA18, pA18, gA19, pA19, gA20, pA20, gA21, pA21, gA40, pA40, gB43, pB43, gA44, pA44, gA45, pA45, gA46, pA46, gA47, pA47, gA48, pA48, gA49, pA49, gA53, pA53, gA54, pA54, gA55, pA55, gA56, pA56, gA58, pA58, gA60, pA60, gA61, pA61, gA62, pA62, gA63, pA63, gA66, pA66, ↓reduceIte, if_true, if_false, R_mI_sJ, R_mI_sA, R_mI_sB, R_mJ_sI, R_mJ_sA, R_mJ_sB, R_mA_sI, R_mA_sJ, R_mA_sB, R_mB_sI, R_mB_sJ, R_mB_sA, mI_on, mI_off, mJ_on, mJ_off, mA_on, mA_same, mA_off, mB_on, mB_same, mB_off, up_on, up_off, hn.1, hT1, h29, h30, h23, e1]
/-- the reader stands well before a place: tokens kept, nothing bad *-/
def PS (t n : Nat) (T : Nat → Nat) (ks : List Rk) (M : MS) (p : Nat) : Prop := PM t n T M ∧ LA T n M p ∧ TK M t ks ∧ m_I M 25 = i_ 0 ∧ ks.length ≤ p ∧ p ≤ n ∧ m_I M 26 = i_m
def BD (M : MS) (e : Nat) : Prop := m_I M 25 = i_ 1 ∧ m_I M 26 = i_ e
abbrev kaK : List Nat := [13, 14, 15, 16]
abbrev kiP : List Nat := [23, 25, 26, 29, 30, 31]
theorem M_fail {t : Nat} {M : MS} (h25 : m_I M 25 = i_ 0) (e : Nat) : ∃ N, f_X3_fail (i_ 1) (i_ e) M = some N ∧ Gr [] [] [25, 26] t M N ∧ BD N e := by
  refine ⟨m_sI (m_sI M 25 (i_ 1)) 26 (i_ e), ?_, (Gr.sI (by decide)).tr (Gr.sI (by decide)), by rw [mI_off (by decide), mI_on], mI_on⟩
  unfold f_X3_fail
  simp (disch := omega) only [l_m1, l_m2, l_0, l_1, l_2, l_3, l_4, l_5, l_6, l_7, l_8, l_9, l_10, l_11, l_12, l_13, l_14, l_15, l_16, l_17, l_18, l_19, l_20, l_21, l_22, l_23, l_24, l_25, l_26, l_27, l_28, l_29, l_30, l_31, l_32, l_33, l_34, l_35, l_36, l_37, l_38, l_39, l_40, l_41, l_42, l_43, l_44, l_45, l_46, l_47, l_48, l_49, l_50, l_51, l_52, l_53, l_54, l_55, l_56, l_57, l_58, l_59, l_60, l_61, l_62, l_63, l_64, l_97, l_100, l_110, l_115, l_116, l_120, l_122, l_127, l_128, l_136, l_140, l_200, l_255, l_256, l_400, l_1000, l_30000, l_1200, l_65536, l_2147483639, l_2147483647, ob_some, obd_some, q_lt_t, q_lt_f, q_le_t, q_le_f, q_eq_t, q_eq_f, im_ne, im_ne', im_lt, im_le, im_lt', im_le', i_add, i_mul, i_dec, i_dec0, i_sub, i_and, i_shr, i_div, nar_b0, nar_b1, b2i_t, b2i_f, gA1, pA1, gB2, pB2, gA3, pA3, gA4, pA4, gB5, pB5, gA6, pA6, gA7, pA7, gA8, pA8, gA9, pA9, gA10, pA10, gA11, pA11, gA12, pA12, gA13, pA13, gA14, pA14, gA15, pA15, gA16, pA16, gA17, pA17, gA18, pA18, gA19, pA19, gA20, pA20, gA21, pA21, gA40, pA40, gB43, pB43, gA44, pA44, gA45, pA45, gA46, pA46, gA47, pA47, gA48, pA48, gA49, pA49, gA53, pA53, gA54, pA54, gA55, pA55, gA56, pA56, gA58, pA58, gA60, pA60, gA61, pA61, gA62, pA62, gA63, pA63, gA66, pA66, ↓reduceIte, if_true, if_false, R_mI_sJ, R_mI_sA, R_mI_sB, R_mJ_sI, R_mJ_sA, R_mJ_sB, R_mA_sI, R_mA_sJ, R_mA_sB, R_mB_sI, R_mB_sJ, R_mB_sA, mI_on, mI_off, mJ_on, mJ_off, mA_on, mA_same, mA_off, mB_on, mB_same, mB_off, up_on, up_off, h25]
/-- a token is kept where the reader stands *-/
theorem PS.keep {t n : Nat} {T : Nat → Nat} {ks : List Rk} {M : MS} {p c : Nat} (h : PS t n T ks M p) (hc : knd T n (sk T n p) = i_ c) (hq : sk T n p < n) :
    ∃ N, f_X3_keeps M = some N ∧ Gr kaK [] kiP t M N ∧ PS t n T (ks ++ [(c, sk T n p, sl T (sk T n p) (tnx T n (sk T n p)))]) N (tnx T n (sk T n p)) := by
  obtain ⟨hP, ⟨l1, l2, l3, l4, l5⟩, hT, hb, hk, hp, h26⟩ := h
  have hn := hP.1.2.2.1
  have k0 := sk_ge T n p
  have hx : sk T n p < tnx T n (sk T n p) ∧ tnx T n (sk T n p) ≤ n := by
    unfold tnx
    rw [if_pos hq]
    by_cases e1 : isLb (T (sk T n p)) = true
    · rw [if_pos e1]
      have := isLb_lt (T := T) (n := n) (q := sk T n p) (by rw [chp_T hq]; exact e1)
      exact ⟨this.2.2.1, this.2.2.2⟩
    · rw [if_neg e1]
      by_cases e2 : isDb (T (sk T n p)) = true
      · rw [if_pos e2]
        have := isDb_lt (T := T) (n := n) (q := sk T n p) (by rw [chp_T hq]; exact e2)
        exact ⟨this.2.2.1, this.2.2.2⟩
      · rw [if_neg e2]
        omega
  obtain ⟨N, e1, e2, e3, e4⟩ := M_keeps hP hT (by omega) (l1.trans hc) l2 l3 (by omega) hx.2
  refine ⟨N, e1, e2.mono (by decide) (by decide) (by decide), hP.gr e2 (by decide) (by decide), e3, e4, ?_, ?_, hx.2, ?_⟩
  · rw [e2.2.2.2.2.1 25 (by decide)]
    exact hb
  · rw [List.length_append]
    show ks.length + 1 ≤ _
    omega
  · rw [e2.2.2.2.2.1 26 (by decide)]
    exact h26
theorem PS.fail {t n : Nat} {T : Nat → Nat} {ks : List Rk} {M : MS} {p : Nat} (h : PS t n T ks M p) (e : Nat) : ∃ N, f_X3_fail (i_ 1) (i_ e) M = some N ∧ Gr kaK [] kiP t M N ∧ BD N e := by
  obtain ⟨N, e1, e2, e3⟩ := M_fail (t := t) h.2.2.2.1 e
  exact ⟨N, e1, e2.mono (by decide) (by decide) (by decide), e3⟩
def isSn (c : Nat) : Prop := 32 ≤ c ∧ c < 256 ∧ isLb c = false ∧ isDb c = false ∧ c ≠ 39
theorem knd_sn {T : Nat → Nat} {n q c : Nat} (hT : ∀ k, k < n → T k < 256) (hc : isSn c) : (knd T n q = i_ c) = (chp T n q = c) := by
  obtain ⟨c1, c2, c3, c4, c5⟩ := hc
  unfold knd chp
  by_cases hq : q < n
  · have ht := hT q hq
    rw [if_pos hq, if_pos hq]
    by_cases e1 : isLb (T q) = true
    · rw [if_pos e1, q_eq_f (by omega) (by omega) (by omega)]
      exact (eq_false (fun e => by rw [e, c3] at e1; cases e1)).symm
    · rw [if_neg e1]
      by_cases e2 : isDb (T q) = true
      · rw [if_pos e2, q_eq_f (by omega) (by omega) (by omega)]
        exact (eq_false (fun e => by rw [e, c4] at e2; cases e2)).symm
      · rw [if_neg e2]
        by_cases e3 : T q = 39
        · rw [if_pos e3, q_eq_f (by omega) (by omega) (by omega)]
          exact (eq_false (fun e => by omega)).symm
        · rw [if_neg e3]
          by_cases e4 : T q < 32
          · rw [if_pos e4, im_ne' (by omega)]
            exact (eq_false (fun e => by omega)).symm
          · rw [if_neg e4]
            exact propext (i_inj (by omega) (by omega))
  · rw [if_neg hq, if_neg hq, q_eq_f (by omega) (by omega) (by omega)]
    exact (eq_false (fun e => by omega)).symm
theorem tnx_sn {T : Nat → Nat} {n q c : Nat} (hc : isSn c) (h : chp T n q = c) : q < n ∧ T q = c ∧ tnx T n q = q + 1 ∧ sl T q (q + 1) = [c] := by
  obtain ⟨c1, c2, c3, c4, c5⟩ := hc
  obtain ⟨h1, h2⟩ := chp_c h (by omega)
  refine ⟨h1, h2, ?_, by rw [sl_1, h2]⟩
  unfold tnx
  rw [if_pos h1, h2, c3, c4]
  rfl
/-- a sign is kept where it stands *-/
theorem PS.ksg {t n : Nat} {T : Nat → Nat} {ks : List Rk} {M : MS} {p c : Nat} (h : PS t n T ks M p) (hc : isSn c) (e : chp T n (sk T n p) = c) :
    ∃ N, f_X3_keeps M = some N ∧ Gr kaK [] kiP t M N ∧ PS t n T (ks ++ [(c, sk T n p, [c])]) N (sk T n p + 1) := by
  obtain ⟨h1, h2, h3, h4⟩ := tnx_sn hc e
  obtain ⟨N, e1, e2, e3⟩ := h.keep ((knd_sn (fun k hk => (h.1.2.1 k hk).2) hc).mpr e) h1
  rw [h3, h4] at e3
  exact ⟨N, e1, e2, e3⟩
theorem M_sign {t n : Nat} {T : Nat → Nat} {ks : List Rk} {M : MS} {p : Nat} (h : PS t n T ks M p) (c : Nat) (hc : isSn c) : ∃ N, f_X3_sign (i_ c) M = some N ∧ Gr kaK [] kiP t M N ∧ match psg c T n p with
    | .inl e => BD N e
    | .inr a => PS t n T (ks ++ [a.1]) N a.2 := by
  have hk := knd_sn (q := sk T n p) (fun k hk => (h.1.2.1 k hk).2) hc
  have l1 := h.2.1.1
  have l2 := h.2.1.2.1
  unfold f_X3_sign psg
  by_cases e : chp T n (sk T n p) = c
  · obtain ⟨N, e1, e2, e3⟩ := h.ksg hc e
    refine ⟨N, ?_, e2, by rw [if_pos e]; exact e3⟩
    simp (disch := omega) only [l_m1, l_m2, l_0, l_1, l_2, l_3, l_4, l_5, l_6, l_7, l_8, l_9, l_10, l_11, l_12, l_13, l_14, l_15, l_16, l_17, l_18, l_19, l_20, l_21, l_22, l_23, l_24, l_25, l_26, l_27, l_28, l_29, l_30, l_31, l_32, l_33, l_34, l_35, l_36, l_37, l_38, l_39, l_40, l_41, l_42, l_43, l_44, l_45, l_46, l_47, l_48, l_49, l_50, l_51, l_52, l_53, l_54, l_55, l_56, l_57, l_58, l_59, l_60, l_61, l_62, l_63, l_64, l_97, l_100, l_110, l_115, l_116, l_120, l_122, l_127, l_128, l_136, l_140, l_200, l_255, l_256, l_400, l_1000, l_30000, l_1200, l_65536, l_2147483639, l_2147483647, ob_some, obd_some, q_lt_t, q_lt_f, q_le_t, q_le_f, q_eq_t, q_eq_f, im_ne, im_ne', im_lt, im_le, im_lt', im_le', i_add, i_mul, i_dec, i_dec0, i_sub, i_and, i_shr, i_div, nar_b0, nar_b1, b2i_t, b2i_f, gA1, pA1, gB2, pB2, gA3, pA3, gA4, pA4, gB5, pB5, gA6, pA6, gA7, pA7, gA8, pA8, gA9, pA9, gA10, pA10, gA11, pA11, gA12, pA12, gA13, pA13, gA14, pA14, gA15, pA15, gA16, pA16, gA17, pA17, gA18, pA18, gA19, pA19, gA20, pA20, gA21, pA21, gA40, pA40, gB43, pB43, gA44, pA44, gA45, pA45, gA46, pA46, gA47, pA47, gA48, pA48, gA49, pA49, gA53, pA53, gA54, pA54, gA55, pA55, gA56, pA56, gA58, pA58, gA60, pA60, gA61, pA61, gA62, pA62, gA63, pA63, gA66, pA66, ↓reduceIte, if_true, if_false, R_mI_sJ, R_mI_sA, R_mI_sB, R_mJ_sI, R_mJ_sA, R_mJ_sB, R_mA_sI, R_mA_sJ, R_mA_sB, R_mB_sI, R_mB_sJ, R_mB_sA, mI_on, mI_off, mJ_on, mJ_off, mA_on, mA_same, mA_off, mB_on, mB_same, mB_off, up_on, up_off, l1, hk, e, e1]
  · obtain ⟨N, e1, e2, e3⟩ := h.fail (sk T n p)
    refine ⟨N, ?_, e2, by rw [if_neg e]; exact e3⟩
    simp (disch := omega) only [l_m1, l_m2, l_0, l_1, l_2, l_3, l_4, l_5, l_6, l_7, l_8, l_9, l_10, l_11, l_12, l_13, l_14, l_15, l_16, l_17, l_18, l_19, l_20, l_21, l_22, l_23, l_24, l_25, l_26, l_27, l_28, l_29, l_30, l_31, l_32, l_33, l_34, l_35, l_36, l_37, l_38, l_39, l_40, l_41, l_42, l_43, l_44, l_45, l_46, l_47, l_48, l_49, l_50, l_51, l_52, l_53, l_54, l_55, l_56, l_57, l_58, l_59, l_60, l_61, l_62, l_63, l_64, l_97, l_100, l_110, l_115, l_116, l_120, l_122, l_127, l_128, l_136, l_140, l_200, l_255, l_256, l_400, l_1000, l_30000, l_1200, l_65536, l_2147483639, l_2147483647, ob_some, obd_some, q_lt_t, q_lt_f, q_le_t, q_le_f, q_eq_t, q_eq_f, im_ne, im_ne', im_lt, im_le, im_lt', im_le', i_add, i_mul, i_dec, i_dec0, i_sub, i_and, i_shr, i_div, nar_b0, nar_b1, b2i_t, b2i_f, gA1, pA1, gB2, pB2, gA3, pA3, gA4, pA4, gB5, pB5, gA6, pA6, gA7, pA7, gA8, pA8, gA9, pA9, gA10, pA10, gA11, pA11, gA12, pA12, gA13, pA13, gA14, pA14, gA15, pA15, gA16, pA16, gA17, pA17, gA18, pA18, gA19, pA19, gA20, pA20, gA21, pA21, gA40, pA40, gB43, pB43, gA44, pA44, gA45, pA45, gA46, pA46, gA47, pA47, gA48, pA48, gA49, pA49, gA53, pA53, gA54, pA54, gA55, pA55, gA56, pA56, gA58, pA58, gA60, pA60, gA61, pA61, gA62, pA62, gA63, pA63, gA66, pA66, ↓reduceIte, if_true, if_false, R_mI_sJ, R_mI_sA, R_mI_sB, R_mJ_sI, R_mJ_sA, R_mJ_sB, R_mA_sI, R_mA_sJ, R_mA_sB, R_mB_sI, R_mB_sJ, R_mB_sA, mI_on, mI_off, mJ_on, mJ_off, mA_on, mA_same, mA_off, mB_on, mB_same, mB_off, up_on, up_off, l1, l2, hk, e, e1]
def isNm (T : Nat → Nat) (n p : Nat) : Bool := isLb (chp T n (sk T n p)) && decide (lw T n (sk T n p) ≤ sk T n p + 8) && !decide (sl T (sk T n p) (lw T n (sk T n p)) ∈ kwl)
theorem knd_L {T : Nat → Nat} {n q : Nat} (hT : ∀ k, k < n → T k < 256) : (knd T n q = i_ 1) = (isLb (chp T n q) = true) := by
  unfold knd chp
  by_cases hq : q < n
  · have ht := hT q hq
    rw [if_pos hq, if_pos hq]
    by_cases e1 : isLb (T q) = true
    · rw [if_pos e1]
      exact (eq_true rfl).trans (eq_true e1).symm
    · rw [if_neg e1, eq_false e1]
      by_cases e2 : isDb (T q) = true
      · rw [if_pos e2, q_eq_f (by omega) (by omega) (by omega)]
      · rw [if_neg e2]
        by_cases e3 : T q = 39
        · rw [if_pos e3, q_eq_f (by omega) (by omega) (by omega)]
        · rw [if_neg e3]
          by_cases e4 : T q < 32
          · rw [if_pos e4, im_ne' (by omega)]
          · rw [if_neg e4, q_eq_f (by omega) (by omega) (by omega)]
  · rw [if_neg hq, if_neg hq, q_eq_f (by omega) (by omega) (by omega)]
    exact (eq_false (by decide)).symm
theorem enc_kw {w : List Nat} (hw : nmok w) {k : List Nat} (hk : k ∈ kwl) : (enc w = enc k) = (w = k) := by
  have h8 : k.length ≤ 8 ∧ ∀ x ∈ k, isL x := by
    unfold kwl at hk
    simp only [List.mem_cons, List.not_mem_nil, or_false] at hk
    unfold isL
    rcases hk with rfl | rfl | rfl | rfl | rfl | rfl | rfl <;> exact ⟨by decide, by decide⟩
  exact propext (enc_inj hw.1 h8.1 hw.2 h8.2)
theorem M_isName {t n : Nat} {T : Nat → Nat} {M : MS} {p : Nat} (hP : PM t n T M) (hL : LA T n M p) : f_X3_isName M = some (b2i (isNm T n p), M) := by
  obtain ⟨l1, l2, l3, l4, l5⟩ := hL
  have hk := knd_L (q := sk T n p) (fun k hk => (hP.2.1 k hk).2)
  obtain ⟨-, -, j1, j2, j3, j4, j5, j6, j7⟩ := hP.2.2
  unfold f_X3_isName isNm
  cases hb : isLb (chp T n (sk T n p)) with
  | false =>
    rw [hb] at hk
    have hk' : (knd T n (sk T n p) = i_ 1) = False := hk.trans (eq_false (by decide))
    simp (disch := omega) only [l_m1, l_m2, l_0, l_1, l_2, l_3, l_4, l_5, l_6, l_7, l_8, l_9, l_10, l_11, l_12, l_13, l_14, l_15, l_16, l_17, l_18, l_19, l_20, l_21, l_22, l_23, l_24, l_25, l_26, l_27, l_28, l_29, l_30, l_31, l_32, l_33, l_34, l_35, l_36, l_37, l_38, l_39, l_40, l_41, l_42, l_43, l_44, l_45, l_46, l_47, l_48, l_49, l_50, l_51, l_52, l_53, l_54, l_55, l_56, l_57, l_58, l_59, l_60, l_61, l_62, l_63, l_64, l_97, l_100, l_110, l_115, l_116, l_120, l_122, l_127, l_128, l_136, l_140, l_200, l_255, l_256, l_400, l_1000, l_30000, l_1200, l_65536, l_2147483639, l_2147483647, ob_some, obd_some, q_lt_t, q_lt_f, q_le_t, q_le_f, q_eq_t, q_eq_f, im_ne, im_ne', im_lt, im_le, im_lt', im_le', i_add, i_mul, i_dec, i_dec0, i_sub, i_and, i_shr, i_div, nar_b0, nar_b1, b2i_t, b2i_f, gA1, pA1, gB2, pB2, gA3, pA3, gA4, pA4, gB5, pB5, gA6, pA6, gA7, pA7, gA8, pA8, gA9, pA9, gA10, pA10, gA11, pA11, gA12, pA12, gA13, pA13, gA14, pA14, gA15, pA15, gA16, pA16, gA17, pA17, gA18, pA18, gA19, pA19, gA20, pA20, gA21, pA21, gA40, pA40, gB43, pB43, gA44, pA44, gA45, pA45, gA46, pA46, gA47, pA47, gA48, pA48, gA49, pA49, gA53, pA53, gA54, pA54, gA55, pA55, gA56, pA56, gA58, pA58, gA60, pA60, gA61, pA61, gA62, pA62, gA63, pA63, gA66, pA66, ↓reduceIte, if_true, if_false, R_mI_sJ, R_mI_sA, R_mI_sB, R_mJ_sI, R_mJ_sA, R_mJ_sB, R_mA_sI, R_mA_sJ, R_mA_sB, R_mB_sI, R_mB_sJ, R_mB_sA, mI_on, mI_off, mJ_on, mJ_off, mA_on, mA_same, mA_off, mB_on, mB_same, mB_off, up_on, up_off, l1, hk']
    rfl
  | true =>
    rw [hb] at hk
    have hk' : (knd T n (sk T n p) = i_ 1) = True := hk.trans (eq_true rfl)
    have l4' : m_I M 31 = if lw T n (sk T n p) ≤ sk T n p + 8 then i_m else i_ (sk T n p + 8) := by
      rw [l4]
      unfold tov
      rw [hb, if_pos rfl]
    have l5' : m_J M 32 = if lw T n (sk T n p) ≤ sk T n p + 8 then enc (sl T (sk T n p) (lw T n (sk T n p))) else 0 := by
      rw [l5]
      unfold twd
      rw [hb]
      by_cases h8 : lw T n (sk T n p) ≤ sk T n p + 8
      · rw [if_pos h8, if_pos ⟨rfl, h8⟩]
      · rw [if_neg h8, if_neg (fun k => h8 k.2)]
    have hq := (isLb_lt hb).1
    have hn := hP.1.2.2.1
    by_cases h8 : lw T n (sk T n p) ≤ sk T n p + 8
    · rw [if_pos h8] at l4' l5'
      have hw : nmok (sl T (sk T n p) (lw T n (sk T n p))) := ⟨by rw [sl_len]; omega, sl_lw⟩
      rw [decide_eq_true h8]
      generalize sl T (sk T n p) (lw T n (sk T n p)) = w at l5' hw
      have k1 := enc_kw hw (k := [118, 105, 101, 119]) (by decide)
      have k2 := enc_kw hw (k := [99, 111, 112, 121]) (by decide)
      have k3 := enc_kw hw (k := [116, 97, 98, 108, 101]) (by decide)
      have k4 := enc_kw hw (k := [102, 114, 111, 109]) (by decide)
      have k5 := enc_kw hw (k := [119, 104, 101, 114, 101]) (by decide)
      have k6 := enc_kw hw (k := [108, 101, 110]) (by decide)
      have k7 := enc_kw hw (k := [115, 116, 114]) (by decide)
      by_cases hm : w ∈ kwl
      · rw [decide_eq_true hm]
        unfold kwl at hm
        simp only [List.mem_cons, List.not_mem_nil, or_false] at hm
        rcases hm with rfl | rfl | rfl | rfl | rfl | rfl | rfl
        · simp (disch := omega) only [l_m1, l_m2, l_0, l_1, l_2, l_3, l_4, l_5, l_6, l_7, l_8, l_9, l_10, l_11, l_12, l_13, l_14, l_15, l_16, l_17, l_18, l_19, l_20, l_21, l_22, l_23, l_24, l_25, l_26, l_27, l_28, l_29, l_30, l_31, l_32, l_33, l_34, l_35, l_36, l_37, l_38, l_39, l_40, l_41, l_42, l_43, l_44, l_45, l_46, l_47, l_48, l_49, l_50, l_51, l_52, l_53, l_54, l_55, l_56, l_57, l_58, l_59, l_60, l_61, l_62, l_63, l_64, l_97, l_100, l_110, l_115, l_116, l_120, l_122, l_127, l_128, l_136, l_140, l_200, l_255, l_256, l_400, l_1000, l_30000, l_1200, l_65536, l_2147483639, l_2147483647, ob_some, obd_some, q_lt_t, q_lt_f, q_le_t, q_le_f, q_eq_t, q_eq_f, im_ne, im_ne', im_lt, im_le, im_lt', im_le', i_add, i_mul, i_dec, i_dec0, i_sub, i_and, i_shr, i_div, nar_b0, nar_b1, b2i_t, b2i_f, gA1, pA1, gB2, pB2, gA3, pA3, gA4, pA4, gB5, pB5, gA6, pA6, gA7, pA7, gA8, pA8, gA9, pA9, gA10, pA10, gA11, pA11, gA12, pA12, gA13, pA13, gA14, pA14, gA15, pA15, gA16, pA16, gA17, pA17, gA18, pA18, gA19, pA19, gA20, pA20, gA21, pA21, gA40, pA40, gB43, pB43, gA44, pA44, gA45, pA45, gA46, pA46, gA47, pA47, gA48, pA48, gA49, pA49, gA53, pA53, gA54, pA54, gA55, pA55, gA56, pA56, gA58, pA58, gA60, pA60, gA61, pA61, gA62, pA62, gA63, pA63, gA66, pA66, ↓reduceIte, if_true, if_false, R_mI_sJ, R_mI_sA, R_mI_sB, R_mJ_sI, R_mJ_sA, R_mJ_sB, R_mA_sI, R_mA_sJ, R_mA_sB, R_mB_sI, R_mB_sJ, R_mB_sA, mI_on, mI_off, mJ_on, mJ_off, mA_on, mA_same, mA_off, mB_on, mB_same, mB_off, up_on, up_off, l1, hk', l4', l5', j1, j2, j3, j4, j5, j6, j7, cmp_0]
          rfl
        · have z1 : (enc [99, 111, 112, 121] = enc [118, 105, 101, 119]) = False := k1.trans (eq_false (by decide))
          simp (disch := omega) only [l_m1, l_m2, l_0, l_1, l_2, l_3, l_4, l_5, l_6, l_7, l_8, l_9, l_10, l_11, l_12, l_13, l_14, l_15, l_16, l_17, l_18, l_19, l_20, l_21, l_22, l_23, l_24, l_25, l_26, l_27, l_28, l_29, l_30, l_31, l_32, l_33, l_34, l_35, l_36, l_37, l_38, l_39, l_40, l_41, l_42, l_43, l_44, l_45, l_46, l_47, l_48, l_49, l_50, l_51, l_52, l_53, l_54, l_55, l_56, l_57, l_58, l_59, l_60, l_61, l_62, l_63, l_64, l_97, l_100, l_110, l_115, l_116, l_120, l_122, l_127, l_128, l_136, l_140, l_200, l_255, l_256, l_400, l_1000, l_30000, l_1200, l_65536, l_2147483639, l_2147483647, ob_some, obd_some, q_lt_t, q_lt_f, q_le_t, q_le_f, q_eq_t, q_eq_f, im_ne, im_ne', im_lt, im_le, im_lt', im_le', i_add, i_mul, i_dec, i_dec0, i_sub, i_and, i_shr, i_div, nar_b0, nar_b1, b2i_t, b2i_f, gA1, pA1, gB2, pB2, gA3, pA3, gA4, pA4, gB5, pB5, gA6, pA6, gA7, pA7, gA8, pA8, gA9, pA9, gA10, pA10, gA11, pA11, gA12, pA12, gA13, pA13, gA14, pA14, gA15, pA15, gA16, pA16, gA17, pA17, gA18, pA18, gA19, pA19, gA20, pA20, gA21, pA21, gA40, pA40, gB43, pB43, gA44, pA44, gA45, pA45, gA46, pA46, gA47, pA47, gA48, pA48, gA49, pA49, gA53, pA53, gA54, pA54, gA55, pA55, gA56, pA56, gA58, pA58, gA60, pA60, gA61, pA61, gA62, pA62, gA63, pA63, gA66, pA66, ↓reduceIte, if_true, if_false, R_mI_sJ, R_mI_sA, R_mI_sB, R_mJ_sI, R_mJ_sA, R_mJ_sB, R_mA_sI, R_mA_sJ, R_mA_sB, R_mB_sI, R_mB_sJ, R_mB_sA, mI_on, mI_off, mJ_on, mJ_off, mA_on, mA_same, mA_off, mB_on, mB_same, mB_off, up_on, up_off, l1, hk', l4', l5', j1, j2, j3, j4, j5, j6, j7, cmp_0, z1]
          rfl
        · have z1 := k1.trans (eq_false (by decide))
          have z2 := k2.trans (eq_false (by decide))
          simp (disch := omega) only [l_m1, l_m2, l_0, l_1, l_2, l_3, l_4, l_5, l_6, l_7, l_8, l_9, l_10, l_11, l_12, l_13, l_14, l_15, l_16, l_17, l_18, l_19, l_20, l_21, l_22, l_23, l_24, l_25, l_26, l_27, l_28, l_29, l_30, l_31, l_32, l_33, l_34, l_35, l_36, l_37, l_38, l_39, l_40, l_41, l_42, l_43, l_44, l_45, l_46, l_47, l_48, l_49, l_50, l_51, l_52, l_53, l_54, l_55, l_56, l_57, l_58, l_59, l_60, l_61, l_62, l_63, l_64, l_97, l_100, l_110, l_115, l_116, l_120, l_122, l_127, l_128, l_136, l_140, l_200, l_255, l_256, l_400, l_1000, l_30000, l_1200, l_65536, l_2147483639, l_2147483647, ob_some, obd_some, q_lt_t, q_lt_f, q_le_t, q_le_f, q_eq_t, q_eq_f, im_ne, im_ne', im_lt, im_le, im_lt', im_le', i_add, i_mul, i_dec, i_dec0, i_sub, i_and, i_shr, i_div, nar_b0, nar_b1, b2i_t, b2i_f, gA1, pA1, gB2, pB2, gA3, pA3, gA4, pA4, gB5, pB5, gA6, pA6, gA7, pA7, gA8, pA8, gA9, pA9, gA10, pA10, gA11, pA11, gA12, pA12, gA13, pA13, gA14, pA14, gA15, pA15, gA16, pA16, gA17, pA17, gA18, pA18, gA19, pA19, gA20, pA20, gA21, pA21, gA40, pA40, gB43, pB43, gA44, pA44, gA45, pA45, gA46, pA46, gA47, pA47, gA48, pA48, gA49, pA49, gA53, pA53, gA54, pA54, gA55, pA55, gA56, pA56, gA58, pA58, gA60, pA60, gA61, pA61, gA62, pA62, gA63, pA63, gA66, pA66, ↓reduceIte, if_true, if_false, R_mI_sJ, R_mI_sA, R_mI_sB, R_mJ_sI, R_mJ_sA, R_mJ_sB, R_mA_sI, R_mA_sJ, R_mA_sB, R_mB_sI, R_mB_sJ, R_mB_sA, mI_on, mI_off, mJ_on, mJ_off, mA_on, mA_same, mA_off, mB_on, mB_same, mB_off, up_on, up_off, l1, hk', l4', l5', j1, j2, j3, j4, j5, j6, j7, cmp_0, z1, z2]
          rfl
        · have z1 := k1.trans (eq_false (by decide))
          have z2 := k2.trans (eq_false (by decide))
          have z3 := k3.trans (eq_false (by decide))
          simp (disch := omega) only [l_m1, l_m2, l_0, l_1, l_2, l_3, l_4, l_5, l_6, l_7, l_8, l_9, l_10, l_11, l_12, l_13, l_14, l_15, l_16, l_17, l_18, l_19, l_20, l_21, l_22, l_23, l_24, l_25, l_26, l_27, l_28, l_29, l_30, l_31, l_32, l_33, l_34, l_35, l_36, l_37, l_38, l_39, l_40, l_41, l_42, l_43, l_44, l_45, l_46, l_47, l_48, l_49, l_50, l_51, l_52, l_53, l_54, l_55, l_56, l_57, l_58, l_59, l_60, l_61, l_62, l_63, l_64, l_97, l_100, l_110, l_115, l_116, l_120, l_122, l_127, l_128, l_136, l_140, l_200, l_255, l_256, l_400, l_1000, l_30000, l_1200, l_65536, l_2147483639, l_2147483647, ob_some, obd_some, q_lt_t, q_lt_f, q_le_t, q_le_f, q_eq_t, q_eq_f, im_ne, im_ne', im_lt, im_le, im_lt', im_le', i_add, i_mul, i_dec, i_dec0, i_sub, i_and, i_shr, i_div, nar_b0, nar_b1, b2i_t, b2i_f, gA1, pA1, gB2, pB2, gA3, pA3, gA4, pA4, gB5, pB5, gA6, pA6, gA7, pA7, gA8, pA8, gA9, pA9, gA10, pA10, gA11, pA11, gA12, pA12, gA13, pA13, gA14, pA14, gA15, pA15, gA16, pA16, gA17, pA17, gA18, pA18, gA19, pA19, gA20, pA20, gA21, pA21, gA40, pA40, gB43, pB43, gA44, pA44, gA45, pA45, gA46, pA46, gA47, pA47, gA48, pA48, gA49, pA49, gA53, pA53, gA54, pA54, gA55, pA55, gA56, pA56, gA58, pA58, gA60, pA60, gA61, pA61, gA62, pA62, gA63, pA63, gA66, pA66, ↓reduceIte, if_true, if_false, R_mI_sJ, R_mI_sA, R_mI_sB, R_mJ_sI, R_mJ_sA, R_mJ_sB, R_mA_sI, R_mA_sJ, R_mA_sB, R_mB_sI, R_mB_sJ, R_mB_sA, mI_on, mI_off, mJ_on, mJ_off, mA_on, mA_same, mA_off, mB_on, mB_same, mB_off, up_on, up_off, l1, hk', l4', l5', j1, j2, j3, j4, j5, j6, j7, cmp_0, z1, z2, z3]
          rfl
        · have z1 := k1.trans (eq_false (by decide))
          have z2 := k2.trans (eq_false (by decide))
          have z3 := k3.trans (eq_false (by decide))
          have z4 := k4.trans (eq_false (by decide))
          simp (disch := omega) only [l_m1, l_m2, l_0, l_1, l_2, l_3, l_4, l_5, l_6, l_7, l_8, l_9, l_10, l_11, l_12, l_13, l_14, l_15, l_16, l_17, l_18, l_19, l_20, l_21, l_22, l_23, l_24, l_25, l_26, l_27, l_28, l_29, l_30, l_31, l_32, l_33, l_34, l_35, l_36, l_37, l_38, l_39, l_40, l_41, l_42, l_43, l_44, l_45, l_46, l_47, l_48, l_49, l_50, l_51, l_52, l_53, l_54, l_55, l_56, l_57, l_58, l_59, l_60, l_61, l_62, l_63, l_64, l_97, l_100, l_110, l_115, l_116, l_120, l_122, l_127, l_128, l_136, l_140, l_200, l_255, l_256, l_400, l_1000, l_30000, l_1200, l_65536, l_2147483639, l_2147483647, ob_some, obd_some, q_lt_t, q_lt_f, q_le_t, q_le_f, q_eq_t, q_eq_f, im_ne, im_ne', im_lt, im_le, im_lt', im_le', i_add, i_mul, i_dec, i_dec0, i_sub, i_and, i_shr, i_div, nar_b0, nar_b1, b2i_t, b2i_f, gA1, pA1, gB2, pB2, gA3, pA3, gA4, pA4, gB5, pB5, gA6, pA6, gA7, pA7, gA8, pA8, gA9, pA9, gA10, pA10, gA11, pA11, gA12, pA12, gA13, pA13, gA14, pA14, gA15, pA15, gA16, pA16, gA17, pA17, gA18, pA18, gA19, pA19, gA20, pA20, gA21, pA21, gA40, pA40, gB43, pB43, gA44, pA44, gA45, pA45, gA46, pA46, gA47, pA47, gA48, pA48, gA49, pA49, gA53, pA53, gA54, pA54, gA55, pA55, gA56, pA56, gA58, pA58, gA60, pA60, gA61, pA61, gA62, pA62, gA63, pA63, gA66, pA66, ↓reduceIte, if_true, if_false, R_mI_sJ, R_mI_sA, R_mI_sB, R_mJ_sI, R_mJ_sA, R_mJ_sB, R_mA_sI, R_mA_sJ, R_mA_sB, R_mB_sI, R_mB_sJ, R_mB_sA, mI_on, mI_off, mJ_on, mJ_off, mA_on, mA_same, mA_off, mB_on, mB_same, mB_off, up_on, up_off, l1, hk', l4', l5', j1, j2, j3, j4, j5, j6, j7, cmp_0, z1, z2, z3, z4]
          rfl
        · have z1 := k1.trans (eq_false (by decide))
          have z2 := k2.trans (eq_false (by decide))
          have z3 := k3.trans (eq_false (by decide))
          have z4 := k4.trans (eq_false (by decide))
          have z5 := k5.trans (eq_false (by decide))
          simp (disch := omega) only [l_m1, l_m2, l_0, l_1, l_2, l_3, l_4, l_5, l_6, l_7, l_8, l_9, l_10, l_11, l_12, l_13, l_14, l_15, l_16, l_17, l_18, l_19, l_20, l_21, l_22, l_23, l_24, l_25, l_26, l_27, l_28, l_29, l_30, l_31, l_32, l_33, l_34, l_35, l_36, l_37, l_38, l_39, l_40, l_41, l_42, l_43, l_44, l_45, l_46, l_47, l_48, l_49, l_50, l_51, l_52, l_53, l_54, l_55, l_56, l_57, l_58, l_59, l_60, l_61, l_62, l_63, l_64, l_97, l_100, l_110, l_115, l_116, l_120, l_122, l_127, l_128, l_136, l_140, l_200, l_255, l_256, l_400, l_1000, l_30000, l_1200, l_65536, l_2147483639, l_2147483647, ob_some, obd_some, q_lt_t, q_lt_f, q_le_t, q_le_f, q_eq_t, q_eq_f, im_ne, im_ne', im_lt, im_le, im_lt', im_le', i_add, i_mul, i_dec, i_dec0, i_sub, i_and, i_shr, i_div, nar_b0, nar_b1, b2i_t, b2i_f, gA1, pA1, gB2, pB2, gA3, pA3, gA4, pA4, gB5, pB5, gA6, pA6, gA7, pA7, gA8, pA8, gA9, pA9, gA10, pA10, gA11, pA11, gA12, pA12, gA13, pA13, gA14, pA14, gA15, pA15, gA16, pA16, gA17, pA17, gA18, pA18, gA19, pA19, gA20, pA20, gA21, pA21, gA40, pA40, gB43, pB43, gA44, pA44, gA45, pA45, gA46, pA46, gA47, pA47, gA48, pA48, gA49, pA49, gA53, pA53, gA54, pA54, gA55, pA55, gA56, pA56, gA58, pA58, gA60, pA60, gA61, pA61, gA62, pA62, gA63, pA63, gA66, pA66, ↓reduceIte, if_true, if_false, R_mI_sJ, R_mI_sA, R_mI_sB, R_mJ_sI, R_mJ_sA, R_mJ_sB, R_mA_sI, R_mA_sJ, R_mA_sB, R_mB_sI, R_mB_sJ, R_mB_sA, mI_on, mI_off, mJ_on, mJ_off, mA_on, mA_same, mA_off, mB_on, mB_same, mB_off, up_on, up_off, l1, hk', l4', l5', j1, j2, j3, j4, j5, j6, j7, cmp_0, z1, z2, z3, z4, z5]
          rfl
        · have z1 := k1.trans (eq_false (by decide))
          have z2 := k2.trans (eq_false (by decide))
          have z3 := k3.trans (eq_false (by decide))
          have z4 := k4.trans (eq_false (by decide))
          have z5 := k5.trans (eq_false (by decide))
          have z6 := k6.trans (eq_false (by decide))
          simp (disch := omega) only [l_m1, l_m2, l_0, l_1, l_2, l_3, l_4, l_5, l_6, l_7, l_8, l_9, l_10, l_11, l_12, l_13, l_14, l_15, l_16, l_17, l_18, l_19, l_20, l_21, l_22, l_23, l_24, l_25, l_26, l_27, l_28, l_29, l_30, l_31, l_32, l_33, l_34, l_35, l_36, l_37, l_38, l_39, l_40, l_41, l_42, l_43, l_44, l_45, l_46, l_47, l_48, l_49, l_50, l_51, l_52, l_53, l_54, l_55, l_56, l_57, l_58, l_59, l_60, l_61, l_62, l_63, l_64, l_97, l_100, l_110, l_115, l_116, l_120, l_122, l_127, l_128, l_136, l_140, l_200, l_255, l_256, l_400, l_1000, l_30000, l_1200, l_65536, l_2147483639, l_2147483647, ob_some, obd_some, q_lt_t, q_lt_f, q_le_t, q_le_f, q_eq_t, q_eq_f, im_ne, im_ne', im_lt, im_le, im_lt', im_le', i_add, i_mul, i_dec, i_dec0, i_sub, i_and, i_shr, i_div, nar_b0, nar_b1, b2i_t, b2i_f, gA1, pA1, gB2, pB2, gA3, pA3, gA4, pA4, gB5, pB5, gA6, pA6, gA7, pA7, gA8, pA8, gA9, pA9, gA10, pA10, gA11, pA11, gA12, pA12, gA13, pA13, gA14, pA14, gA15, pA15, gA16, pA16, gA17, pA17, gA18, pA18, gA19, pA19, gA20, pA20, gA21, pA21, gA40, pA40, gB43, pB43, gA44, pA44, gA45, pA45, gA46, pA46, gA47, pA47, gA48, pA48, gA49, pA49, gA53, pA53, gA54, pA54, gA55, pA55, gA56, pA56, gA58, pA58, gA60, pA60, gA61, pA61, gA62, pA62, gA63, pA63, gA66, pA66, ↓reduceIte, if_true, if_false, R_mI_sJ, R_mI_sA, R_mI_sB, R_mJ_sI, R_mJ_sA, R_mJ_sB, R_mA_sI, R_mA_sJ, R_mA_sB, R_mB_sI, R_mB_sJ, R_mB_sA, mI_on, mI_off, mJ_on, mJ_off, mA_on, mA_same, mA_off, mB_on, mB_same, mB_off, up_on, up_off, l1, hk', l4', l5', j1, j2, j3, j4, j5, j6, j7, cmp_0, z1, z2, z3, z4, z5, z6]
          rfl
      · rw [decide_eq_false hm]
        have z1 := k1.trans (eq_false (fun e => hm (by rw [e]; decide)))
        have z2 := k2.trans (eq_false (fun e => hm (by rw [e]; decide)))
        have z3 := k3.trans (eq_false (fun e => hm (by rw [e]; decide)))
        have z4 := k4.trans (eq_false (fun e => hm (by rw [e]; decide)))
        have z5 := k5.trans (eq_false (fun e => hm (by rw [e]; decide)))
        have z6 := k6.trans (eq_false (fun e => hm (by rw [e]; decide)))
        have z7 := k7.trans (eq_false (fun e => hm (by rw [e]; decide)))
        simp (disch := omega) only [l_m1, l_m2, l_0, l_1, l_2, l_3, l_4, l_5, l_6, l_7, l_8, l_9, l_10, l_11, l_12, l_13, l_14, l_15, l_16, l_17, l_18, l_19, l_20, l_21, l_22, l_23, l_24, l_25, l_26, l_27, l_28, l_29, l_30, l_31, l_32, l_33, l_34, l_35, l_36, l_37, l_38, l_39, l_40, l_41, l_42, l_43, l_44, l_45, l_46, l_47, l_48, l_49, l_50, l_51, l_52, l_53, l_54, l_55, l_56, l_57, l_58, l_59, l_60, l_61, l_62, l_63, l_64, l_97, l_100, l_110, l_115, l_116, l_120, l_122, l_127, l_128, l_136, l_140, l_200, l_255, l_256, l_400, l_1000, l_30000, l_1200, l_65536, l_2147483639, l_2147483647, ob_some, obd_some, q_lt_t, q_lt_f, q_le_t, q_le_f, q_eq_t, q_eq_f, im_ne, im_ne', im_lt, im_le, im_lt', im_le', i_add, i_mul, i_dec, i_dec0, i_sub, i_and, i_shr, i_div, nar_b0, nar_b1, b2i_t, b2i_f, gA1, pA1, gB2, pB2, gA3, pA3, gA4, pA4, gB5, pB5, gA6, pA6, gA7, pA7, gA8, pA8, gA9, pA9, gA10, pA10, gA11, pA11, gA12, pA12, gA13, pA13, gA14, pA14, gA15, pA15, gA16, pA16, gA17, pA17, gA18, pA18, gA19, pA19, gA20, pA20, gA21, pA21, gA40, pA40, gB43, pB43, gA44, pA44, gA45, pA45, gA46, pA46, gA47, pA47, gA48, pA48, gA49, pA49, gA53, pA53, gA54, pA54, gA55, pA55, gA56, pA56, gA58, pA58, gA60, pA60, gA61, pA61, gA62, pA62, gA63, pA63, gA66, pA66, ↓reduceIte, if_true, if_false, R_mI_sJ, R_mI_sA, R_mI_sB, R_mJ_sI, R_mJ_sA, R_mJ_sB, R_mA_sI, R_mA_sJ, R_mA_sB, R_mB_sI, R_mB_sJ, R_mB_sA, mI_on, mI_off, mJ_on, mJ_off, mA_on, mA_same, mA_off, mB_on, mB_same, mB_off, up_on, up_off, l1, hk', l4', l5', j1, j2, j3, j4, j5, j6, j7, cmp_0, z1, z2, z3, z4, z5, z6, z7]
        rfl
    · rw [if_neg h8] at l4'
      rw [decide_eq_false h8]
      simp (disch := omega) only [l_m1, l_m2, l_0, l_1, l_2, l_3, l_4, l_5, l_6, l_7, l_8, l_9, l_10, l_11, l_12, l_13, l_14, l_15, l_16, l_17, l_18, l_19, l_20, l_21, l_22, l_23, l_24, l_25, l_26, l_27, l_28, l_29, l_30, l_31, l_32, l_33, l_34, l_35, l_36, l_37, l_38, l_39, l_40, l_41, l_42, l_43, l_44, l_45, l_46, l_47, l_48, l_49, l_50, l_51, l_52, l_53, l_54, l_55, l_56, l_57, l_58, l_59, l_60, l_61, l_62, l_63, l_64, l_97, l_100, l_110, l_115, l_116, l_120, l_122, l_127, l_128, l_136, l_140, l_200, l_255, l_256, l_400, l_1000, l_30000, l_1200, l_65536, l_2147483639, l_2147483647, ob_some, obd_some, q_lt_t, q_lt_f, q_le_t, q_le_f, q_eq_t, q_eq_f, im_ne, im_ne', im_lt, im_le, im_lt', im_le', i_add, i_mul, i_dec, i_dec0, i_sub, i_and, i_shr, i_div, nar_b0, nar_b1, b2i_t, b2i_f, gA1, pA1, gB2, pB2, gA3, pA3, gA4, pA4, gB5, pB5, gA6, pA6, gA7, pA7, gA8, pA8, gA9, pA9, gA10, pA10, gA11, pA11, gA12, pA12, gA13, pA13, gA14, pA14, gA15, pA15, gA16, pA16, gA17, pA17, gA18, pA18, gA19, pA19, gA20, pA20, gA21, pA21, gA40, pA40, gB43, pB43, gA44, pA44, gA45, pA45, gA46, pA46, gA47, pA47, gA48, pA48, gA49, pA49, gA53, pA53, gA54, pA54, gA55, pA55, gA56, pA56, gA58, pA58, gA60, pA60, gA61, pA61, gA62, pA62, gA63, pA63, gA66, pA66, ↓reduceIte, if_true, if_false, R_mI_sJ, R_mI_sA, R_mI_sB, R_mJ_sI, R_mJ_sA, R_mJ_sB, R_mA_sI, R_mA_sJ, R_mA_sB, R_mB_sI, R_mB_sJ, R_mB_sA, mI_on, mI_off, mJ_on, mJ_off, mA_on, mA_same, mA_off, mB_on, mB_same, mB_off, up_on, up_off, l1, hk', l4']
      rfl
theorem M_name {t n : Nat} {T : Nat → Nat} {ks : List Rk} {M : MS} {p : Nat} (h : PS t n T ks M p) : ∃ N, f_X3_name M = some N ∧ Gr kaK [] kiP t M N ∧ match pname T n p with
    | .inl e => BD N e
    | .inr a => PS t n T (ks ++ [(1, a.2.1, a.1)]) N a.2.2 := by
  have hP := h.1
  have hN := M_isName hP h.2.1
  obtain ⟨l1, l2, l3, l4, l5⟩ := h.2.1
  have hk := knd_L (q := sk T n p) (fun k hk => (hP.2.1 k hk).2)
  have hn := hP.1.2.2.1
  unfold f_X3_name pname
  cases hb : isLb (chp T n (sk T n p)) with
  | false =>
    rw [hb] at hk
    have hk' : (knd T n (sk T n p) = i_ 1) = False := hk.trans (eq_false (by decide))
    have hf : isNm T n p = false := by unfold isNm; rw [hb]; rfl
    rw [hf] at hN
    obtain ⟨N, e1, e2, e3⟩ := h.fail (sk T n p)
    refine ⟨N, ?_, e2, by rw [if_neg (by decide)]; exact e3⟩
    unfold f_X3_name_n28
    simp (disch := omega) only [l_m1, l_m2, l_0, l_1, l_2, l_3, l_4, l_5, l_6, l_7, l_8, l_9, l_10, l_11, l_12, l_13, l_14, l_15, l_16, l_17, l_18, l_19, l_20, l_21, l_22, l_23, l_24, l_25, l_26, l_27, l_28, l_29, l_30, l_31, l_32, l_33, l_34, l_35, l_36, l_37, l_38, l_39, l_40, l_41, l_42, l_43, l_44, l_45, l_46, l_47, l_48, l_49, l_50, l_51, l_52, l_53, l_54, l_55, l_56, l_57, l_58, l_59, l_60, l_61, l_62, l_63, l_64, l_97, l_100, l_110, l_115, l_116, l_120, l_122, l_127, l_128, l_136, l_140, l_200, l_255, l_256, l_400, l_1000, l_30000, l_1200, l_65536, l_2147483639, l_2147483647, ob_some, obd_some, q_lt_t, q_lt_f, q_le_t, q_le_f, q_eq_t, q_eq_f, im_ne, im_ne', im_lt, im_le, im_lt', im_le', i_add, i_mul, i_dec, i_dec0, i_sub, i_and, i_shr, i_div, nar_b0, nar_b1, b2i_t, b2i_f, gA1, pA1, gB2, pB2, gA3, pA3, gA4, pA4, gB5, pB5, gA6, pA6, gA7, pA7, gA8, pA8, gA9, pA9, gA10, pA10, gA11, pA11, gA12, pA12, gA13, pA13, gA14, pA14, gA15, pA15, gA16, pA16, gA17, pA17, gA18, pA18, gA19, pA19, gA20, pA20, gA21, pA21, gA40, pA40, gB43, pB43, gA44, pA44, gA45, pA45, gA46, pA46, gA47, pA47, gA48, pA48, gA49, pA49, gA53, pA53, gA54, pA54, gA55, pA55, gA56, pA56, gA58, pA58, gA60, pA60, gA61, pA61, gA62, pA62, gA63, pA63, gA66, pA66, ↓reduceIte, if_true, if_false, R_mI_sJ, R_mI_sA, R_mI_sB, R_mJ_sI, R_mJ_sA, R_mJ_sB, R_mA_sI, R_mA_sJ, R_mA_sB, R_mB_sI, R_mB_sJ, R_mB_sA, mI_on, mI_off, mJ_on, mJ_off, mA_on, mA_same, mA_off, mB_on, mB_same, mB_off, up_on, up_off, l1, hk', hN, l2, e1]
  | true =>
    rw [hb] at hk
    have hk' : (knd T n (sk T n p) = i_ 1) = True := hk.trans (eq_true rfl)
    obtain ⟨q1, q2, q3, q4⟩ := isLb_lt hb
    rw [if_pos rfl]
    by_cases h8 : lw T n (sk T n p) ≤ sk T n p + 8
    · rw [if_pos h8]
      have l4' : m_I M 31 = i_m := by
        rw [l4]
        unfold tov
        rw [hb, if_pos rfl, if_pos h8]
      by_cases hm : sl T (sk T n p) (lw T n (sk T n p)) ∈ kwl
      · have hf : isNm T n p = false := by unfold isNm; rw [hb, decide_eq_true h8, decide_eq_true hm]; rfl
        rw [hf] at hN
        obtain ⟨N, e1, e2, e3⟩ := h.fail (sk T n p)
        refine ⟨N, ?_, e2, by rw [if_pos hm]; exact e3⟩
        unfold f_X3_name_n28
        simp (disch := omega) only [l_m1, l_m2, l_0, l_1, l_2, l_3, l_4, l_5, l_6, l_7, l_8, l_9, l_10, l_11, l_12, l_13, l_14, l_15, l_16, l_17, l_18, l_19, l_20, l_21, l_22, l_23, l_24, l_25, l_26, l_27, l_28, l_29, l_30, l_31, l_32, l_33, l_34, l_35, l_36, l_37, l_38, l_39, l_40, l_41, l_42, l_43, l_44, l_45, l_46, l_47, l_48, l_49, l_50, l_51, l_52, l_53, l_54, l_55, l_56, l_57, l_58, l_59, l_60, l_61, l_62, l_63, l_64, l_97, l_100, l_110, l_115, l_116, l_120, l_122, l_127, l_128, l_136, l_140, l_200, l_255, l_256, l_400, l_1000, l_30000, l_1200, l_65536, l_2147483639, l_2147483647, ob_some, obd_some, q_lt_t, q_lt_f, q_le_t, q_le_f, q_eq_t, q_eq_f, im_ne, im_ne', im_lt, im_le, im_lt', im_le', i_add, i_mul, i_dec, i_dec0, i_sub, i_and, i_shr, i_div, nar_b0, nar_b1, b2i_t, b2i_f, gA1, pA1, gB2, pB2, gA3, pA3, gA4, pA4, gB5, pB5, gA6, pA6, gA7, pA7, gA8, pA8, gA9, pA9, gA10, pA10, gA11, pA11, gA12, pA12, gA13, pA13, gA14, pA14, gA15, pA15, gA16, pA16, gA17, pA17, gA18, pA18, gA19, pA19, gA20, pA20, gA21, pA21, gA40, pA40, gB43, pB43, gA44, pA44, gA45, pA45, gA46, pA46, gA47, pA47, gA48, pA48, gA49, pA49, gA53, pA53, gA54, pA54, gA55, pA55, gA56, pA56, gA58, pA58, gA60, pA60, gA61, pA61, gA62, pA62, gA63, pA63, gA66, pA66, ↓reduceIte, if_true, if_false, R_mI_sJ, R_mI_sA, R_mI_sB, R_mJ_sI, R_mJ_sA, R_mJ_sB, R_mA_sI, R_mA_sJ, R_mA_sB, R_mB_sI, R_mB_sJ, R_mB_sA, mI_on, mI_off, mJ_on, mJ_off, mA_on, mA_same, mA_off, mB_on, mB_same, mB_off, up_on, up_off, l1, hk', l4', hN, l2, e1]
      · have hf : isNm T n p = true := by unfold isNm; rw [hb, decide_eq_true h8, decide_eq_false hm]; rfl
        rw [hf] at hN
        have hx : tnx T n (sk T n p) = lw T n (sk T n p) := by
          unfold tnx
          rw [if_pos q1, if_pos q2]
        obtain ⟨N, e1, e2, e3⟩ := h.keep (c := 1) (by rw [hk']; trivial) q1
        rw [hx] at e3
        refine ⟨N, ?_, e2, by rw [if_neg hm]; exact e3⟩
        unfold f_X3_name_n28
        simp (disch := omega) only [l_m1, l_m2, l_0, l_1, l_2, l_3, l_4, l_5, l_6, l_7, l_8, l_9, l_10, l_11, l_12, l_13, l_14, l_15, l_16, l_17, l_18, l_19, l_20, l_21, l_22, l_23, l_24, l_25, l_26, l_27, l_28, l_29, l_30, l_31, l_32, l_33, l_34, l_35, l_36, l_37, l_38, l_39, l_40, l_41, l_42, l_43, l_44, l_45, l_46, l_47, l_48, l_49, l_50, l_51, l_52, l_53, l_54, l_55, l_56, l_57, l_58, l_59, l_60, l_61, l_62, l_63, l_64, l_97, l_100, l_110, l_115, l_116, l_120, l_122, l_127, l_128, l_136, l_140, l_200, l_255, l_256, l_400, l_1000, l_30000, l_1200, l_65536, l_2147483639, l_2147483647, ob_some, obd_some, q_lt_t, q_lt_f, q_le_t, q_le_f, q_eq_t, q_eq_f, im_ne, im_ne', im_lt, im_le, im_lt', im_le', i_add, i_mul, i_dec, i_dec0, i_sub, i_and, i_shr, i_div, nar_b0, nar_b1, b2i_t, b2i_f, gA1, pA1, gB2, pB2, gA3, pA3, gA4, pA4, gB5, pB5, gA6, pA6, gA7, pA7, gA8, pA8, gA9, pA9, gA10, pA10, gA11, pA11, gA12, pA12, gA13, pA13, gA14, pA14, gA15, pA15, gA16, pA16, gA17, pA17, gA18, pA18, gA19, pA19, gA20, pA20, gA21, pA21, gA40, pA40, gB43, pB43, gA44, pA44, gA45, pA45, gA46, pA46, gA47, pA47, gA48, pA48, gA49, pA49, gA53, pA53, gA54, pA54, gA55, pA55, gA56, pA56, gA58, pA58, gA60, pA60, gA61, pA61, gA62, pA62, gA63, pA63, gA66, pA66, ↓reduceIte, if_true, if_false, R_mI_sJ, R_mI_sA, R_mI_sB, R_mJ_sI, R_mJ_sA, R_mJ_sB, R_mA_sI, R_mA_sJ, R_mA_sB, R_mB_sI, R_mB_sJ, R_mB_sA, mI_on, mI_off, mJ_on, mJ_off, mA_on, mA_same, mA_off, mB_on, mB_same, mB_off, up_on, up_off, l1, hk', l4', hN, l2, e1]
    · rw [if_neg h8]
      have l4' : m_I M 31 = i_ (sk T n p + 8) := by
        rw [l4]
        unfold tov
        rw [hb, if_pos rfl, if_neg h8]
      obtain ⟨N, e1, e2, e3⟩ := h.fail (sk T n p + 8)
      refine ⟨N, ?_, e2, e3⟩
      simp (disch := omega) only [l_m1, l_m2, l_0, l_1, l_2, l_3, l_4, l_5, l_6, l_7, l_8, l_9, l_10, l_11, l_12, l_13, l_14, l_15, l_16, l_17, l_18, l_19, l_20, l_21, l_22, l_23, l_24, l_25, l_26, l_27, l_28, l_29, l_30, l_31, l_32, l_33, l_34, l_35, l_36, l_37, l_38, l_39, l_40, l_41, l_42, l_43, l_44, l_45, l_46, l_47, l_48, l_49, l_50, l_51, l_52, l_53, l_54, l_55, l_56, l_57, l_58, l_59, l_60, l_61, l_62, l_63, l_64, l_97, l_100, l_110, l_115, l_116, l_120, l_122, l_127, l_128, l_136, l_140, l_200, l_255, l_256, l_400, l_1000, l_30000, l_1200, l_65536, l_2147483639, l_2147483647, ob_some, obd_some, q_lt_t, q_lt_f, q_le_t, q_le_f, q_eq_t, q_eq_f, im_ne, im_ne', im_lt, im_le, im_lt', im_le', i_add, i_mul, i_dec, i_dec0, i_sub, i_and, i_shr, i_div, nar_b0, nar_b1, b2i_t, b2i_f, gA1, pA1, gB2, pB2, gA3, pA3, gA4, pA4, gB5, pB5, gA6, pA6, gA7, pA7, gA8, pA8, gA9, pA9, gA10, pA10, gA11, pA11, gA12, pA12, gA13, pA13, gA14, pA14, gA15, pA15, gA16, pA16, gA17, pA17, gA18, pA18, gA19, pA19, gA20, pA20, gA21, pA21, gA40, pA40, gB43, pB43, gA44, pA44, gA45, pA45, gA46, pA46, gA47, pA47, gA48, pA48, gA49, pA49, gA53, pA53, gA54, pA54, gA55, pA55, gA56, pA56, gA58, pA58, gA60, pA60, gA61, pA61, gA62, pA62, gA63, pA63, gA66, pA66, ↓reduceIte, if_true, if_false, R_mI_sJ, R_mI_sA, R_mI_sB, R_mJ_sI, R_mJ_sA, R_mJ_sB, R_mA_sI, R_mA_sJ, R_mA_sB, R_mB_sI, R_mB_sJ, R_mB_sA, mI_on, mI_off, mJ_on, mJ_off, mA_on, mA_same, mA_off, mB_on, mB_same, mB_off, up_on, up_off, l1, hk', l4', e1]
