/-! retype, the rest *-/
def rtE (s : SP) (σ : RtS) : Int32 × SP := if σ.2.2 = [] then (i_ σ.2.1, u_ty s (fun q c => σ.1 (8 * q + c))) else (i_m2, u_fd s σ.2.2)
def MRt (M M' : MS) (s : SP) (σ : RtS) : Prop := RMa M' (rtE s σ).2 ∧ MKp [6, 45, 46, 47, 48, 49, 53, 58, 66] [25, 26, 50, 51, 57, 65] M M' ∧ m_I M' 65 = i_ 0 ∧ (if σ.2.2 = [] then m_I M' 57 = m_I M 57 ∧ m_A M' 58 = m_A M 58 else RMo M' (rtE s σ).2)
theorem M_retype_cp {M : MS} : ∀ (r k n : Nat) (x5 : Int32) (N : MS), k + r = 136 → r < n → (∀ j, j ≠ 6 → m_A N j = m_A M j) → m_I N = m_I M → m_J N = m_J M → m_B N = m_B M →
    ∃ N', f_X3_retype_n379 n x5 (i_ k) N = some (x5, N') ∧ (∀ j, j ≠ 6 → m_A N' j = m_A M j) ∧ m_I N' = m_I M ∧ m_J N' = m_J M ∧ m_B N' = m_B M ∧ (∀ i, i < k → m_A N' 6 i = m_A N 6 i) ∧ ∀ i, k ≤ i → i < 136 → m_A N' 6 i = m_A M 53 i := by
  intro r
  induction r with
  | zero =>
    intro k n x5 N hk hn a b c d
    obtain ⟨n, rfl⟩ : ∃ m, n = m + 1 := ⟨n - 1, by omega⟩
    unfold f_X3_retype_n379
    simp (disch := omega) only [l_m1, l_m2, l_0, l_1, l_2, l_3, l_4, l_5, l_6, l_7, l_8, l_9, l_10, l_11, l_12, l_13, l_14, l_15, l_16, l_17, l_18, l_19, l_20, l_21, l_22, l_23, l_24, l_25, l_26, l_27, l_28, l_29, l_30, l_31, l_32, l_33, l_34, l_35, l_36, l_37, l_38, l_39, l_40, l_41, l_42, l_43, l_44, l_45, l_46, l_47, l_48, l_49, l_50, l_51, l_52, l_53, l_54, l_55, l_56, l_57, l_58, l_59, l_60, l_61, l_62, l_63, l_64, l_97, l_100, l_110, l_115, l_116, l_120, l_122, l_127, l_128, l_136, l_140, l_200, l_255, l_256, l_400, l_1000, l_30000, l_1200, l_65536, l_2147483639, l_2147483647, ob_some, obd_some, q_lt_t, q_lt_f, q_le_t, q_le_f, q_eq_t, q_eq_f, im_ne, im_ne', im_lt, im_le, im_lt', im_le', i_add, i_mul, i_dec, i_dec0, i_sub, i_and, i_shr, i_div, nar_b0, nar_b1, b2i_t, b2i_f, gA1, pA1, gB2, pB2, gA3, pA3, gA4, pA4, gB5, pB5, gA6, pA6, gA7, pA7, gA8, pA8, gA9, pA9, gA10, pA10, gA11, pA11, gA12, pA12, gA13, pA13, gA14, pA14, gA15, pA15, gA16, pA16, gA17, pA17, gA18, pA18, gA19, pA19, gA20, pA20, gA21, pA21, gA40, pA40, gB43, pB43, gA44, pA44, gA45, pA45, gA46, pA46, gA47, pA47, gA48, pA48, gA49, pA49, gA53, pA53, gA54, pA54, gA55, pA55, gA56, pA56, gA58, pA58, gA60, pA60, gA61, pA61, gA62, pA62, gA63, pA63, gA66, pA66, ↓reduceIte, if_true, if_false]
    exact ⟨N, rfl, a, b, c, d, fun _ _ => rfl, fun i h1 h2 => by omega⟩
  | succ r ih =>
    intro k n x5 N hk hn a b c d
    obtain ⟨n, rfl⟩ : ∃ m, n = m + 1 := ⟨n - 1, by omega⟩
    unfold f_X3_retype_n379
    have a53 := a 53 (by decide)
    obtain ⟨N', g1, g2, g3, g4, g5, g6, g7⟩ := ih (k + 1) n x5 (m_sA N 6 k (m_A M 53 k)) (by omega) (by omega) (fun j hj => by rw [mA_same hj]; exact a j hj) b c d
    simp (disch := omega) only [l_m1, l_m2, l_0, l_1, l_2, l_3, l_4, l_5, l_6, l_7, l_8, l_9, l_10, l_11, l_12, l_13, l_14, l_15, l_16, l_17, l_18, l_19, l_20, l_21, l_22, l_23, l_24, l_25, l_26, l_27, l_28, l_29, l_30, l_31, l_32, l_33, l_34, l_35, l_36, l_37, l_38, l_39, l_40, l_41, l_42, l_43, l_44, l_45, l_46, l_47, l_48, l_49, l_50, l_51, l_52, l_53, l_54, l_55, l_56, l_57, l_58, l_59, l_60, l_61, l_62, l_63, l_64, l_97, l_100, l_110, l_115, l_116, l_120, l_122, l_127, l_128, l_136, l_140, l_200, l_255, l_256, l_400, l_1000, l_30000, l_1200, l_65536, l_2147483639, l_2147483647, ob_some, obd_some, q_lt_t, q_lt_f, q_le_t, q_le_f, q_eq_t, q_eq_f, im_ne, im_ne', im_lt, im_le, im_lt', im_le', i_add, i_mul, i_dec, i_dec0, i_sub, i_and, i_shr, i_div, nar_b0, nar_b1, b2i_t, b2i_f, gA1, pA1, gB2, pB2, gA3, pA3, gA4, pA4, gB5, pB5, gA6, pA6, gA7, pA7, gA8, pA8, gA9, pA9, gA10, pA10, gA11, pA11, gA12, pA12, gA13, pA13, gA14, pA14, gA15, pA15, gA16, pA16, gA17, pA17, gA18, pA18, gA19, pA19, gA20, pA20, gA21, pA21, gA40, pA40, gB43, pB43, gA44, pA44, gA45, pA45, gA46, pA46, gA47, pA47, gA48, pA48, gA49, pA49, gA53, pA53, gA54, pA54, gA55, pA55, gA56, pA56, gA58, pA58, gA60, pA60, gA61, pA61, gA62, pA62, gA63, pA63, gA66, pA66, ↓reduceIte, if_true, if_false, a53]
    refine ⟨N', g1, g2, g3, g4, g5, fun i hi => ?_, fun i h1 h2 => ?_⟩
    · rw [g6 i (by omega), mA_off (by omega)]
    · by_cases e : i = k
      · subst e
        rw [g6 i (by omega), mA_on]
      · exact g7 i (by omega) h2
theorem M_retype_w {M : MS} {w : Nat} (hw : w ≤ 136) (h65 : m_I M 65 = i_ w) : ∀ (r k n : Nat) (N : MS), k + r = w → r < n → (∀ j, j ≠ 58 → m_A N j = m_A M j) → m_I N = m_I M → m_J N = m_J M → m_B N = m_B M →
    ∃ N', f_X3_retype_n333 n (i_ k) N = some (i_m2, N') ∧ (∀ j, j ≠ 58 → m_A N' j = m_A M j) ∧ m_I N' = h_up (m_I M) 65 (i_ 0) ∧ m_J N' = m_J M ∧ m_B N' = m_B M ∧ (∀ i, i < k → m_A N' 58 i = m_A N 58 i) ∧ ∀ i, k ≤ i → i < w → m_A N' 58 i = m_A M 66 i := by
  intro r
  induction r with
  | zero =>
    intro k n N hk hn a b c d
    obtain ⟨n, rfl⟩ : ∃ m, n = m + 1 := ⟨n - 1, by omega⟩
    unfold f_X3_retype_n333
    simp (disch := omega) only [l_m1, l_m2, l_0, l_1, l_2, l_3, l_4, l_5, l_6, l_7, l_8, l_9, l_10, l_11, l_12, l_13, l_14, l_15, l_16, l_17, l_18, l_19, l_20, l_21, l_22, l_23, l_24, l_25, l_26, l_27, l_28, l_29, l_30, l_31, l_32, l_33, l_34, l_35, l_36, l_37, l_38, l_39, l_40, l_41, l_42, l_43, l_44, l_45, l_46, l_47, l_48, l_49, l_50, l_51, l_52, l_53, l_54, l_55, l_56, l_57, l_58, l_59, l_60, l_61, l_62, l_63, l_64, l_97, l_100, l_110, l_115, l_116, l_120, l_122, l_127, l_128, l_136, l_140, l_200, l_255, l_256, l_400, l_1000, l_30000, l_1200, l_65536, l_2147483639, l_2147483647, ob_some, obd_some, q_lt_t, q_lt_f, q_le_t, q_le_f, q_eq_t, q_eq_f, im_ne, im_ne', im_lt, im_le, im_lt', im_le', i_add, i_mul, i_dec, i_dec0, i_sub, i_and, i_shr, i_div, nar_b0, nar_b1, b2i_t, b2i_f, gA1, pA1, gB2, pB2, gA3, pA3, gA4, pA4, gB5, pB5, gA6, pA6, gA7, pA7, gA8, pA8, gA9, pA9, gA10, pA10, gA11, pA11, gA12, pA12, gA13, pA13, gA14, pA14, gA15, pA15, gA16, pA16, gA17, pA17, gA18, pA18, gA19, pA19, gA20, pA20, gA21, pA21, gA40, pA40, gB43, pB43, gA44, pA44, gA45, pA45, gA46, pA46, gA47, pA47, gA48, pA48, gA49, pA49, gA53, pA53, gA54, pA54, gA55, pA55, gA56, pA56, gA58, pA58, gA60, pA60, gA61, pA61, gA62, pA62, gA63, pA63, gA66, pA66, ↓reduceIte, if_true, if_false, b, h65]
    exact ⟨m_sI N 65 (i_ 0), rfl, a, by show h_up (m_I N) 65 (i_ 0) = _; rw [b], c, d, fun _ _ => rfl, fun i h1 h2 => by omega⟩
  | succ r ih =>
    intro k n N hk hn a b c d
    obtain ⟨n, rfl⟩ : ∃ m, n = m + 1 := ⟨n - 1, by omega⟩
    unfold f_X3_retype_n333
    have a66 := a 66 (by decide)
    obtain ⟨N', g1, g2, g3, g4, g5, g6, g7⟩ := ih (k + 1) n (m_sA N 58 k (m_A M 66 k)) (by omega) (by omega) (fun j hj => by rw [mA_same hj]; exact a j hj) b c d
    simp (disch := omega) only [l_m1, l_m2, l_0, l_1, l_2, l_3, l_4, l_5, l_6, l_7, l_8, l_9, l_10, l_11, l_12, l_13, l_14, l_15, l_16, l_17, l_18, l_19, l_20, l_21, l_22, l_23, l_24, l_25, l_26, l_27, l_28, l_29, l_30, l_31, l_32, l_33, l_34, l_35, l_36, l_37, l_38, l_39, l_40, l_41, l_42, l_43, l_44, l_45, l_46, l_47, l_48, l_49, l_50, l_51, l_52, l_53, l_54, l_55, l_56, l_57, l_58, l_59, l_60, l_61, l_62, l_63, l_64, l_97, l_100, l_110, l_115, l_116, l_120, l_122, l_127, l_128, l_136, l_140, l_200, l_255, l_256, l_400, l_1000, l_30000, l_1200, l_65536, l_2147483639, l_2147483647, ob_some, obd_some, q_lt_t, q_lt_f, q_le_t, q_le_f, q_eq_t, q_eq_f, im_ne, im_ne', im_lt, im_le, im_lt', im_le', i_add, i_mul, i_dec, i_dec0, i_sub, i_and, i_shr, i_div, nar_b0, nar_b1, b2i_t, b2i_f, gA1, pA1, gB2, pB2, gA3, pA3, gA4, pA4, gB5, pB5, gA6, pA6, gA7, pA7, gA8, pA8, gA9, pA9, gA10, pA10, gA11, pA11, gA12, pA12, gA13, pA13, gA14, pA14, gA15, pA15, gA16, pA16, gA17, pA17, gA18, pA18, gA19, pA19, gA20, pA20, gA21, pA21, gA40, pA40, gB43, pB43, gA44, pA44, gA45, pA45, gA46, pA46, gA47, pA47, gA48, pA48, gA49, pA49, gA53, pA53, gA54, pA54, gA55, pA55, gA56, pA56, gA58, pA58, gA60, pA60, gA61, pA61, gA62, pA62, gA63, pA63, gA66, pA66, ↓reduceIte, if_true, if_false, b, h65, a66]
    refine ⟨N', g1, g2, g3, g4, g5, fun i hi => ?_, fun i h1 h2 => ?_⟩
    · rw [g6 i (by omega), mA_off (by omega)]
    · by_cases e : i = k
      · subst e
        rw [g6 i (by omega), mA_on]
      · exact g7 i (by omega) h2
theorem rt_o {s : SP} (q : Nat) : ∀ (r k : Nat) (σ : RtS), (rt_cs s q r k σ).2.1 ≤ σ.2.1 + r
  | 0, k, σ => Nat.le_refl _
  | r + 1, k, σ => by
    have h := rt_o (s := s) q r (k + 1) (rt_c s q k σ)
    have h2 : (rt_c s q k σ).2.1 ≤ σ.2.1 + 1 := by
      unfold rt_c rt_n
      repeat' split
      all_goals simp
    show (rt_cs s q r (k + 1) (rt_c s q k σ)).2.1 ≤ _
    omega
theorem rt_cs_mem {s : SP} {q : Nat} (h6 : z_nc s q ≤ 6) : ∀ (r k : Nat) (σ : RtS), k + r ≤ z_nc s q → ∀ v ∈ (rt_cs s q r k σ).2.2, v ∈ σ.2.2 ∨ v < 8 * q + 8
  | 0, k, σ, _, v, hv => Or.inl hv
  | r + 1, k, σ, hk, v, hv => by
    rcases rt_cs_mem h6 r (k + 1) (rt_c s q k σ) (by omega) v hv with h | h
    · unfold rt_c at h
      split at h
      · exact Or.inl h
      · rcases List.mem_append.mp h with h | h
        · exact Or.inl h
        · rw [List.mem_singleton] at h
          exact Or.inr (by omega)
    · exact Or.inr h
theorem rt_w_mem {s : SP} {q : Nat} (σ : RtS) : ∀ v ∈ (rt_w s q σ).2.2, v ∈ σ.2.2 ∨ v < 8 * q + 8 := by
  intro v hv
  unfold rt_w at hv
  split at hv
  · split at hv
    · exact Or.inl hv
    · rcases List.mem_append.mp hv with h | h
      · exact Or.inl h
      · rw [List.mem_singleton] at h
        exact Or.inr (by omega)
  · exact Or.inl hv
theorem M_retype_go {M0 : MS} {s : SP} (ha : RMa M0 s) (hn : RMn M0 s) (hf : RMf M0 s) (hs : SI s) (hlen : m_J M0 38 = enc [108, 101, 110]) (h52 : m_I M0 52 = i_ 0) (h57 : m_I M0 57 = m_I M0 57) :
    ∀ (r q n : Nat) (M : MS) (σ : RtS), RTs M0 M s σ → σ.2.2.length ≤ 7 * q → q + r = z_n s → r < n → (∀ v ∈ σ.2.2, v < 128) →
      ∃ M', f_X3_retype_n98 n (m_I M0 57) (i_ σ.2.1) (i_ q) M = some ((rtE s (rt_go s r q σ)).1, M') ∧ MRt M0 M' s (rt_go s r q σ) := by
  have a2 := ha.2.1
  intro r
  induction r with
  | zero =>
    intro q n M σ h hw hq hn' hv
    obtain ⟨n, rfl⟩ : ∃ m, n = m + 1 := ⟨n - 1, by omega⟩
    obtain ⟨T, o, ws⟩ := σ
    obtain ⟨h1, h2, h3, h4, h5⟩ := h
    have hM := h1.rma ha
    have h0 := hM.1
    have h4' : m_I M 65 = i_ ws.length := h4
    have hwl : ws.length ≤ 7 * q := hw
    unfold f_X3_retype_n98
    show ∃ M', _ = some ((rtE s (T, o, ws)).1, M') ∧ MRt M0 M' s (T, o, ws)
    by_cases e : ws = []
    · have e65 : m_I M 65 = i_ 0 := by rw [h4', e]; rfl
      obtain ⟨N', g1, g2, g3, g4, g5, g6, g7⟩ := M_retype_cp (M := m_sI M 57 (m_I M0 57)) 136 0 fu_ (i_ o) (m_sI M 57 (m_I M0 57)) (by omega) (by rw [fu_eq]; omega) (fun _ _ => rfl) rfl rfl rfl
      have hE : rtE s (T, o, ws) = (i_ o, u_ty s (fun q c => T (8 * q + c))) := if_pos e
      refine ⟨N', ?_, ?_, ⟨fun k hk => ?_, ?_, ?_, fun k hk => ?_⟩, ?_, ?_⟩
      · simp (disch := omega) only [l_m1, l_m2, l_0, l_1, l_2, l_3, l_4, l_5, l_6, l_7, l_8, l_9, l_10, l_11, l_12, l_13, l_14, l_15, l_16, l_17, l_18, l_19, l_20, l_21, l_22, l_23, l_24, l_25, l_26, l_27, l_28, l_29, l_30, l_31, l_32, l_33, l_34, l_35, l_36, l_37, l_38, l_39, l_40, l_41, l_42, l_43, l_44, l_45, l_46, l_47, l_48, l_49, l_50, l_51, l_52, l_53, l_54, l_55, l_56, l_57, l_58, l_59, l_60, l_61, l_62, l_63, l_64, l_97, l_100, l_110, l_115, l_116, l_120, l_122, l_127, l_128, l_136, l_140, l_200, l_255, l_256, l_400, l_1000, l_30000, l_1200, l_65536, l_2147483639, l_2147483647, ob_some, obd_some, q_lt_t, q_lt_f, q_le_t, q_le_f, q_eq_t, q_eq_f, im_ne, im_ne', im_lt, im_le, im_lt', im_le', i_add, i_mul, i_dec, i_dec0, i_sub, i_and, i_shr, i_div, nar_b0, nar_b1, b2i_t, b2i_f, gA1, pA1, gB2, pB2, gA3, pA3, gA4, pA4, gB5, pB5, gA6, pA6, gA7, pA7, gA8, pA8, gA9, pA9, gA10, pA10, gA11, pA11, gA12, pA12, gA13, pA13, gA14, pA14, gA15, pA15, gA16, pA16, gA17, pA17, gA18, pA18, gA19, pA19, gA20, pA20, gA21, pA21, gA40, pA40, gB43, pB43, gA44, pA44, gA45, pA45, gA46, pA46, gA47, pA47, gA48, pA48, gA49, pA49, gA53, pA53, gA54, pA54, gA55, pA55, gA56, pA56, gA58, pA58, gA60, pA60, gA61, pA61, gA62, pA62, gA63, pA63, gA66, pA66, ↓reduceIte, if_true, if_false, h0, e65, g1]
        rw [hE]
      · rw [hE]
        refine hM.upd (by rw [g3]; exact mI_off (by decide)) rfl fun t ht rr => ?_
        obtain ⟨r1, r2, r3, r4, r5, r6, r10⟩ := rr
        have ge : ∀ j, j ≠ 6 → m_A N' j = m_A M j := fun j hj => g2 j hj
        refine ⟨by rw [ge 1 (by decide)]; exact r1, by rw [ge 3 (by decide)]; exact r2, by rw [ge 4 (by decide)]; exact r3, by rw [ge 7 (by decide)]; exact r4, by rw [ge 8 (by decide)]; exact r5, by rw [ge 9 (by decide), ge 10 (by decide), ge 11 (by decide), ge 12 (by decide)]; exact r6, fun c hc => ?_⟩
        have hc' : c < z_nc s t := hc
        have hc6 := r3.2.2
        show m_A N' 6 (8 * t + c) = i_ (T (8 * t + c)) ∧ T (8 * t + c) < 128
        rw [g7 (8 * t + c) (by omega) (by omega)]
        exact ⟨h3 t c ht hc', h2 _⟩
      · have hk6 : k ≠ 6 := by rintro rfl; exact hk (by decide)
        rw [g2 k hk6]
        refine h1.1 k (fun h => hk ?_)
        have h9 : ∀ j, j ∈ kaR → j ∈ [6, 45, 46, 47, 48, 49, 53, 58, 66] := by decide
        exact h9 k h
      · rw [g5]
        exact h1.2.1
      · rw [g4]
        exact h1.2.2.1
      · rw [g3]
        have hk57 : k ≠ 57 := by rintro rfl; exact hk (by decide)
        rw [mI_off hk57]
        exact h1.2.2.2 k hk
      · rw [g3, mI_off (by decide)]
        exact e65
      · rw [if_pos (show (T, o, ws).2.2 = [] from e), g3, mI_on, g2 58 (by decide)]
        exact ⟨rfl, h1.1 58 (by decide)⟩
    · have hpos : 0 < ws.length := List.length_pos_iff.mpr e
      obtain ⟨N', g1, g2, g3, g4, g5, g6, g7⟩ := M_retype_w (M := m_sI M 57 (i_ ws.length)) (w := ws.length) (by omega) (by rw [mI_off (by decide)]; exact h4') ws.length 0 fu_ (m_sI M 57 (i_ ws.length)) (by omega) (by rw [fu_eq]; omega) (fun _ _ => rfl) rfl rfl rfl
      have hE : rtE s (T, o, ws) = (i_m2, u_fd s ws) := if_neg e
      refine ⟨N', ?_, ?_, ⟨fun k hk => ?_, ?_, ?_, fun k hk => ?_⟩, ?_, ?_⟩
      · simp (disch := omega) only [l_m1, l_m2, l_0, l_1, l_2, l_3, l_4, l_5, l_6, l_7, l_8, l_9, l_10, l_11, l_12, l_13, l_14, l_15, l_16, l_17, l_18, l_19, l_20, l_21, l_22, l_23, l_24, l_25, l_26, l_27, l_28, l_29, l_30, l_31, l_32, l_33, l_34, l_35, l_36, l_37, l_38, l_39, l_40, l_41, l_42, l_43, l_44, l_45, l_46, l_47, l_48, l_49, l_50, l_51, l_52, l_53, l_54, l_55, l_56, l_57, l_58, l_59, l_60, l_61, l_62, l_63, l_64, l_97, l_100, l_110, l_115, l_116, l_120, l_122, l_127, l_128, l_136, l_140, l_200, l_255, l_256, l_400, l_1000, l_30000, l_1200, l_65536, l_2147483639, l_2147483647, ob_some, obd_some, q_lt_t, q_lt_f, q_le_t, q_le_f, q_eq_t, q_eq_f, im_ne, im_ne', im_lt, im_le, im_lt', im_le', i_add, i_mul, i_dec, i_dec0, i_sub, i_and, i_shr, i_div, nar_b0, nar_b1, b2i_t, b2i_f, gA1, pA1, gB2, pB2, gA3, pA3, gA4, pA4, gB5, pB5, gA6, pA6, gA7, pA7, gA8, pA8, gA9, pA9, gA10, pA10, gA11, pA11, gA12, pA12, gA13, pA13, gA14, pA14, gA15, pA15, gA16, pA16, gA17, pA17, gA18, pA18, gA19, pA19, gA20, pA20, gA21, pA21, gA40, pA40, gB43, pB43, gA44, pA44, gA45, pA45, gA46, pA46, gA47, pA47, gA48, pA48, gA49, pA49, gA53, pA53, gA54, pA54, gA55, pA55, gA56, pA56, gA58, pA58, gA60, pA60, gA61, pA61, gA62, pA62, gA63, pA63, gA66, pA66, ↓reduceIte, if_true, if_false, h0, h4', g1]
        rw [hE]
      · rw [hE]
        have ge : ∀ j, j ≠ 58 → m_A N' j = m_A M j := fun j hj => g2 j hj
        refine RMa.upd (s' := u_fd s ws) (hM.of (M' := N') (by rw [g3]; exact (up_off (by decide)).trans (mI_off (by decide))) fun j hj => ge j (ne_of_mem hj (by decide))) rfl rfl fun t ht rr => rr
      · have hk58 : k ≠ 58 := by rintro rfl; exact hk (by decide)
        rw [g2 k hk58]
        refine h1.1 k (fun h => hk ?_)
        have h9 : ∀ j, j ∈ kaR → j ∈ [6, 45, 46, 47, 48, 49, 53, 58, 66] := by decide
        exact h9 k h
      · rw [g5]
        exact h1.2.1
      · rw [g4]
        exact h1.2.2.1
      · rw [g3]
        have hk57 : k ≠ 57 := by rintro rfl; exact hk (by decide)
        have hk65 : k ≠ 65 := by rintro rfl; exact hk (by decide)
        rw [up_off hk65, mI_off hk57]
        exact h1.2.2.2 k hk
      · rw [g3, up_on]
      · rw [if_neg (show ¬ (T, o, ws).2.2 = [] from e), hE]
        refine ⟨by rw [g3, up_off (by decide), mI_on]; rfl, by show ws.length ≤ 128; omega, fun k hk => ?_⟩
        have hk' : k < ws.length := hk
        show m_A N' 58 k = i_ (ws.getD k 0) ∧ ws.getD k 0 < 136
        rw [g7 k (by omega) hk']
        exact ⟨h5 k hk', Nat.lt_trans (hv _ (getD_mem hk')) (by decide)⟩
  | succ r ih =>
    intro q n M σ h hw hq hn' hv
    obtain ⟨n, rfl⟩ : ∃ m, n = m + 1 := ⟨n - 1, by omega⟩
    have h1 := h.1
    have hM := h1.rma ha
    have h0 := hM.1
    obtain ⟨t1, ⟨q1, q2⟩, -⟩ := hM.2.2 q (by omega)
    have hgo : rt_go s (r + 1) q σ = rt_go s r (q + 1) (rt_q s q σ) := rfl
    rw [hgo]
    unfold f_X3_retype_n98
    have skip : rt_q s q σ = σ → ∃ M', f_X3_retype_n98 n (m_I M0 57) (i_ σ.2.1) (i_ (q + 1)) M = some ((rtE s (rt_go s r (q + 1) (rt_q s q σ))).1, M') ∧ MRt M0 M' s (rt_go s r (q + 1) (rt_q s q σ)) := by
      intro e
      rw [e]
      exact ih (q + 1) n M σ h (by omega) (by omega) (by omega) hv
    cases hth : z_th s q with
    | false =>
      rw [hth] at t1
      obtain ⟨M', r1, r2⟩ := skip (by unfold rt_q; rw [hth]; rfl)
      refine ⟨M', ?_, r2⟩
      simp (disch := omega) only [l_m1, l_m2, l_0, l_1, l_2, l_3, l_4, l_5, l_6, l_7, l_8, l_9, l_10, l_11, l_12, l_13, l_14, l_15, l_16, l_17, l_18, l_19, l_20, l_21, l_22, l_23, l_24, l_25, l_26, l_27, l_28, l_29, l_30, l_31, l_32, l_33, l_34, l_35, l_36, l_37, l_38, l_39, l_40, l_41, l_42, l_43, l_44, l_45, l_46, l_47, l_48, l_49, l_50, l_51, l_52, l_53, l_54, l_55, l_56, l_57, l_58, l_59, l_60, l_61, l_62, l_63, l_64, l_97, l_100, l_110, l_115, l_116, l_120, l_122, l_127, l_128, l_136, l_140, l_200, l_255, l_256, l_400, l_1000, l_30000, l_1200, l_65536, l_2147483639, l_2147483647, ob_some, obd_some, q_lt_t, q_lt_f, q_le_t, q_le_f, q_eq_t, q_eq_f, im_ne, im_ne', im_lt, im_le, im_lt', im_le', i_add, i_mul, i_dec, i_dec0, i_sub, i_and, i_shr, i_div, nar_b0, nar_b1, b2i_t, b2i_f, gA1, pA1, gB2, pB2, gA3, pA3, gA4, pA4, gB5, pB5, gA6, pA6, gA7, pA7, gA8, pA8, gA9, pA9, gA10, pA10, gA11, pA11, gA12, pA12, gA13, pA13, gA14, pA14, gA15, pA15, gA16, pA16, gA17, pA17, gA18, pA18, gA19, pA19, gA20, pA20, gA21, pA21, gA40, pA40, gB43, pB43, gA44, pA44, gA45, pA45, gA46, pA46, gA47, pA47, gA48, pA48, gA49, pA49, gA53, pA53, gA54, pA54, gA55, pA55, gA56, pA56, gA58, pA58, gA60, pA60, gA61, pA61, gA62, pA62, gA63, pA63, gA66, pA66, ↓reduceIte, if_true, if_false, h0, t1]
      exact r1
    | true =>
      rw [hth] at t1
      by_cases hm : made s q = true
      · have hm' : z_so s q = 1 ∨ z_so s q = 2 := of_decide_eq_true hm
        have hrq : rt_q s q σ = rt_w s q (rt_cs s q (z_nc s q) 0 σ) := by unfold rt_q; rw [hth, hm]; rfl
        obtain ⟨T, o, ws⟩ := σ
        obtain ⟨N1, g1, g2, g3⟩ := M_retype_c ha hn hf hs hlen h52 (show q < z_n s by omega) hth hm (fun x4 x5 x6 M => f_X3_retype_n98 n x4 x5 x6 M) (m_I M0 57) (z_nc s q) 0 fu_ M T o ws h (by have : ws.length ≤ 7 * q := hw; omega) (by omega) (by have := (hs.2.2.2.2.1 q (by omega)).1.2; rw [fu_eq]; omega)
        obtain ⟨M', r1, r2⟩ := ih (q + 1) n N1 _ g1 g2 (by omega) (by omega) (fun v hv2 => by
          rcases rt_w_mem _ v hv2 with h | h
          · rcases rt_cs_mem (hs.2.2.2.2.1 q (by omega)).1.2 _ _ _ (by omega) v h with h | h
            · exact hv v h
            · omega
          · omega)
        rw [hrq]
        refine ⟨M', ?_, r2⟩
        rcases hm' with e | e <;> (simp (disch := omega) only [l_m1, l_m2, l_0, l_1, l_2, l_3, l_4, l_5, l_6, l_7, l_8, l_9, l_10, l_11, l_12, l_13, l_14, l_15, l_16, l_17, l_18, l_19, l_20, l_21, l_22, l_23, l_24, l_25, l_26, l_27, l_28, l_29, l_30, l_31, l_32, l_33, l_34, l_35, l_36, l_37, l_38, l_39, l_40, l_41, l_42, l_43, l_44, l_45, l_46, l_47, l_48, l_49, l_50, l_51, l_52, l_53, l_54, l_55, l_56, l_57, l_58, l_59, l_60, l_61, l_62, l_63, l_64, l_97, l_100, l_110, l_115, l_116, l_120, l_122, l_127, l_128, l_136, l_140, l_200, l_255, l_256, l_400, l_1000, l_30000, l_1200, l_65536, l_2147483639, l_2147483647, ob_some, obd_some, q_lt_t, q_lt_f, q_le_t, q_le_f, q_eq_t, q_eq_f, im_ne, im_ne', im_lt, im_le, im_lt', im_le', i_add, i_mul, i_dec, i_dec0, i_sub, i_and, i_shr, i_div, nar_b0, nar_b1, b2i_t, b2i_f, gA1, pA1, gB2, pB2, gA3, pA3, gA4, pA4, gB5, pB5, gA6, pA6, gA7, pA7, gA8, pA8, gA9, pA9, gA10, pA10, gA11, pA11, gA12, pA12, gA13, pA13, gA14, pA14, gA15, pA15, gA16, pA16, gA17, pA17, gA18, pA18, gA19, pA19, gA20, pA20, gA21, pA21, gA40, pA40, gB43, pB43, gA44, pA44, gA45, pA45, gA46, pA46, gA47, pA47, gA48, pA48, gA49, pA49, gA53, pA53, gA54, pA54, gA55, pA55, gA56, pA56, gA58, pA58, gA60, pA60, gA61, pA61, gA62, pA62, gA63, pA63, gA66, pA66, ↓reduceIte, if_true, if_false, h0, t1, q1, e, g3]; exact r1)
      · have hm' : ¬ (z_so s q = 1 ∨ z_so s q = 2) := made_f hm
        have : z_so s q = 0 ∨ z_so s q = 3 := by omega
        have hmf : made s q = false := by simpa using hm
        obtain ⟨M', r1, r2⟩ := skip (by unfold rt_q; rw [hmf, Bool.and_false]; rfl)
        refine ⟨M', ?_, r2⟩
        rcases this with e | e <;> (simp (disch := omega) only [l_m1, l_m2, l_0, l_1, l_2, l_3, l_4, l_5, l_6, l_7, l_8, l_9, l_10, l_11, l_12, l_13, l_14, l_15, l_16, l_17, l_18, l_19, l_20, l_21, l_22, l_23, l_24, l_25, l_26, l_27, l_28, l_29, l_30, l_31, l_32, l_33, l_34, l_35, l_36, l_37, l_38, l_39, l_40, l_41, l_42, l_43, l_44, l_45, l_46, l_47, l_48, l_49, l_50, l_51, l_52, l_53, l_54, l_55, l_56, l_57, l_58, l_59, l_60, l_61, l_62, l_63, l_64, l_97, l_100, l_110, l_115, l_116, l_120, l_122, l_127, l_128, l_136, l_140, l_200, l_255, l_256, l_400, l_1000, l_30000, l_1200, l_65536, l_2147483639, l_2147483647, ob_some, obd_some, q_lt_t, q_lt_f, q_le_t, q_le_f, q_eq_t, q_eq_f, im_ne, im_ne', im_lt, im_le, im_lt', im_le', i_add, i_mul, i_dec, i_dec0, i_sub, i_and, i_shr, i_div, nar_b0, nar_b1, b2i_t, b2i_f, gA1, pA1, gB2, pB2, gA3, pA3, gA4, pA4, gB5, pB5, gA6, pA6, gA7, pA7, gA8, pA8, gA9, pA9, gA10, pA10, gA11, pA11, gA12, pA12, gA13, pA13, gA14, pA14, gA15, pA15, gA16, pA16, gA17, pA17, gA18, pA18, gA19, pA19, gA20, pA20, gA21, pA21, gA40, pA40, gB43, pB43, gA44, pA44, gA45, pA45, gA46, pA46, gA47, pA47, gA48, pA48, gA49, pA49, gA53, pA53, gA54, pA54, gA55, pA55, gA56, pA56, gA58, pA58, gA60, pA60, gA61, pA61, gA62, pA62, gA63, pA63, gA66, pA66, ↓reduceIte, if_true, if_false, h0, t1, q1, e]; exact r1)
theorem M_retype_i {M : MS} (x1 x2 x3 : Int32) (o : Nat) (h136 : (8 * x1 + x2) = i_ o) (ho2 : o < 136) : ∀ (r k n : Nat) (N : MS), k + r = 136 → r < n → (∀ j, j ≠ 53 → m_A N j = m_A M j) → m_I N = m_I M → m_J N = m_J M → m_B N = m_B M → (∀ i, i < k → m_A N 53 i = m_A M 6 i) →
    ∃ N', f_X3_retype_n41 n x1 x2 x3 (i_ k) N = f_X3_retype_n98 fu_ (m_I M 57) (i_ 0) (i_ 0) N' ∧ MKp kaR kiR M N' ∧ m_I N' 65 = m_I M 65 ∧ ∀ i, i < 136 → m_A N' 53 i = if i = o then x3 else m_A M 6 i := by
  intro r
  induction r with
  | zero =>
    intro k n N hk hn a b c d e
    obtain ⟨n, rfl⟩ : ∃ m, n = m + 1 := ⟨n - 1, by omega⟩
    unfold f_X3_retype_n41
    rw [l_8] at h136
    simp (disch := omega) only [l_m1, l_m2, l_0, l_1, l_2, l_3, l_4, l_5, l_6, l_7, l_8, l_9, l_10, l_11, l_12, l_13, l_14, l_15, l_16, l_17, l_18, l_19, l_20, l_21, l_22, l_23, l_24, l_25, l_26, l_27, l_28, l_29, l_30, l_31, l_32, l_33, l_34, l_35, l_36, l_37, l_38, l_39, l_40, l_41, l_42, l_43, l_44, l_45, l_46, l_47, l_48, l_49, l_50, l_51, l_52, l_53, l_54, l_55, l_56, l_57, l_58, l_59, l_60, l_61, l_62, l_63, l_64, l_97, l_100, l_110, l_115, l_116, l_120, l_122, l_127, l_128, l_136, l_140, l_200, l_255, l_256, l_400, l_1000, l_30000, l_1200, l_65536, l_2147483639, l_2147483647, ob_some, obd_some, q_lt_t, q_lt_f, q_le_t, q_le_f, q_eq_t, q_eq_f, im_ne, im_ne', im_lt, im_le, im_lt', im_le', i_add, i_mul, i_dec, i_dec0, i_sub, i_and, i_shr, i_div, nar_b0, nar_b1, b2i_t, b2i_f, gA1, pA1, gB2, pB2, gA3, pA3, gA4, pA4, gB5, pB5, gA6, pA6, gA7, pA7, gA8, pA8, gA9, pA9, gA10, pA10, gA11, pA11, gA12, pA12, gA13, pA13, gA14, pA14, gA15, pA15, gA16, pA16, gA17, pA17, gA18, pA18, gA19, pA19, gA20, pA20, gA21, pA21, gA40, pA40, gB43, pB43, gA44, pA44, gA45, pA45, gA46, pA46, gA47, pA47, gA48, pA48, gA49, pA49, gA53, pA53, gA54, pA54, gA55, pA55, gA56, pA56, gA58, pA58, gA60, pA60, gA61, pA61, gA62, pA62, gA63, pA63, gA66, pA66, ↓reduceIte, if_true, if_false, h136, r_mI_sA, b]
    refine ⟨_, rfl, ⟨fun j hj => ?_, d, c, fun j hj => ?_⟩, by rw [mI_off (by decide), r_mI_sA, b], fun i hi => ?_⟩
    · have : j ≠ 53 := by rintro rfl; exact hj (by decide)
      rw [r_mA_sI, mA_same this]
      exact a j this
    · have : j ≠ 57 := by rintro rfl; exact hj (by decide)
      rw [mI_off this, r_mI_sA, b]
    · rw [r_mA_sI]
      by_cases ei : i = o
      · rw [if_pos ei, ei, mA_on]
      · rw [if_neg ei, mA_off ei]
        exact e i (by omega)
  | succ r ih =>
    intro k n N hk hn a b c d e
    obtain ⟨n, rfl⟩ : ∃ m, n = m + 1 := ⟨n - 1, by omega⟩
    unfold f_X3_retype_n41
    have a6 := a 6 (by decide)
    obtain ⟨N', g1, g2, g4, g3⟩ := ih (k + 1) n (m_sA N 53 k (m_A M 6 k)) (by omega) (by omega) (fun j hj => by rw [mA_same hj]; exact a j hj) b c d (fun i hi => by
      by_cases ei : i = k
      · rw [ei, mA_on]
      · rw [mA_off ei]
        exact e i (by omega))
    simp (disch := omega) only [l_m1, l_m2, l_0, l_1, l_2, l_3, l_4, l_5, l_6, l_7, l_8, l_9, l_10, l_11, l_12, l_13, l_14, l_15, l_16, l_17, l_18, l_19, l_20, l_21, l_22, l_23, l_24, l_25, l_26, l_27, l_28, l_29, l_30, l_31, l_32, l_33, l_34, l_35, l_36, l_37, l_38, l_39, l_40, l_41, l_42, l_43, l_44, l_45, l_46, l_47, l_48, l_49, l_50, l_51, l_52, l_53, l_54, l_55, l_56, l_57, l_58, l_59, l_60, l_61, l_62, l_63, l_64, l_97, l_100, l_110, l_115, l_116, l_120, l_122, l_127, l_128, l_136, l_140, l_200, l_255, l_256, l_400, l_1000, l_30000, l_1200, l_65536, l_2147483639, l_2147483647, ob_some, obd_some, q_lt_t, q_lt_f, q_le_t, q_le_f, q_eq_t, q_eq_f, im_ne, im_ne', im_lt, im_le, im_lt', im_le', i_add, i_mul, i_dec, i_dec0, i_sub, i_and, i_shr, i_div, nar_b0, nar_b1, b2i_t, b2i_f, gA1, pA1, gB2, pB2, gA3, pA3, gA4, pA4, gB5, pB5, gA6, pA6, gA7, pA7, gA8, pA8, gA9, pA9, gA10, pA10, gA11, pA11, gA12, pA12, gA13, pA13, gA14, pA14, gA15, pA15, gA16, pA16, gA17, pA17, gA18, pA18, gA19, pA19, gA20, pA20, gA21, pA21, gA40, pA40, gB43, pB43, gA44, pA44, gA45, pA45, gA46, pA46, gA47, pA47, gA48, pA48, gA49, pA49, gA53, pA53, gA54, pA54, gA55, pA55, gA56, pA56, gA58, pA58, gA60, pA60, gA61, pA61, gA62, pA62, gA63, pA63, gA66, pA66, ↓reduceIte, if_true, if_false, a6]
    exact ⟨N', g1, g2, g4, g3⟩
def rt_0 (s : SP) (t c w : Nat) : Nat → Nat := fun v => if v = 8 * t + c then w else if v / 8 < z_n s ∧ v % 8 < z_nc s (v / 8) then z_ty s (v / 8) (v % 8) else 0
def rt_s (s : SP) (t c w : Nat) : RtS := rt_go s (z_n s) 0 (rt_0 s t c w, 0, [])
def sp_retype (s : SP) (x y w : Int32) : Int32 × SP := if isC s x y = true ∧ z_so s x.toNatClampNeg = 0 ∧ (w = i_ 110 ∨ w = i_ 116 ∨ w = i_ 100) then rtE s (rt_s s x.toNatClampNeg y.toNatClampNeg w.toNatClampNeg) else (i_m, s)
theorem M_retype {M : MS} {s : SP} (h : RMa M s) (hn : RMn M s) (hf : RMf M s) (hs : SI s) (hlen : m_J M 38 = enc [108, 101, 110]) (h52 : m_I M 52 = i_ 0) (h65 : m_I M 65 = i_ 0) (x y w : Int32) :
    ∃ M', f_X3_retype x y w M = some ((sp_retype s x y w).1, M') ∧ (M' = M ∧ (sp_retype s x y w).2 = s ∨ ∃ σ, (sp_retype s x y w) = rtE s σ ∧ MRt M M' s σ) := by
  unfold f_X3_retype sp_retype
  rw [M_isColumn h]
  cases hc : isC s x y with
  | false =>
    simp (disch := omega) only [l_m1, l_m2, l_0, l_1, l_2, l_3, l_4, l_5, l_6, l_7, l_8, l_9, l_10, l_11, l_12, l_13, l_14, l_15, l_16, l_17, l_18, l_19, l_20, l_21, l_22, l_23, l_24, l_25, l_26, l_27, l_28, l_29, l_30, l_31, l_32, l_33, l_34, l_35, l_36, l_37, l_38, l_39, l_40, l_41, l_42, l_43, l_44, l_45, l_46, l_47, l_48, l_49, l_50, l_51, l_52, l_53, l_54, l_55, l_56, l_57, l_58, l_59, l_60, l_61, l_62, l_63, l_64, l_97, l_100, l_110, l_115, l_116, l_120, l_122, l_127, l_128, l_136, l_140, l_200, l_255, l_256, l_400, l_1000, l_30000, l_1200, l_65536, l_2147483639, l_2147483647, ob_some, obd_some, q_lt_t, q_lt_f, q_le_t, q_le_f, q_eq_t, q_eq_f, im_ne, im_ne', im_lt, im_le, im_lt', im_le', i_add, i_mul, i_dec, i_dec0, i_sub, i_and, i_shr, i_div, nar_b0, nar_b1, b2i_t, b2i_f, gA1, pA1, gB2, pB2, gA3, pA3, gA4, pA4, gB5, pB5, gA6, pA6, gA7, pA7, gA8, pA8, gA9, pA9, gA10, pA10, gA11, pA11, gA12, pA12, gA13, pA13, gA14, pA14, gA15, pA15, gA16, pA16, gA17, pA17, gA18, pA18, gA19, pA19, gA20, pA20, gA21, pA21, gA40, pA40, gB43, pB43, gA44, pA44, gA45, pA45, gA46, pA46, gA47, pA47, gA48, pA48, gA49, pA49, gA53, pA53, gA54, pA54, gA55, pA55, gA56, pA56, gA58, pA58, gA60, pA60, gA61, pA61, gA62, pA62, gA63, pA63, gA66, pA66, ↓reduceIte, if_true, if_false]
    exact ⟨M, by simp, Or.inl ⟨rfl, by simp⟩⟩
  | true =>
    obtain ⟨t, c, rfl, rfl, ht, hth, hcc⟩ := isC_of hc
    have h2 := h.2.1
    obtain ⟨-, ⟨q1, q2⟩, ⟨c1, c2, c6⟩, -, -, -, r10⟩ := h.2.2 t ht
    rw [i_cl (show t < 2147483648 by omega), i_cl (show c < 2147483648 by omega)]
    by_cases h0 : z_so s t = 0
    · by_cases hw : w = i_ 110 ∨ w = i_ 116 ∨ w = i_ 100
      · obtain ⟨v, rfl, hv⟩ : ∃ v, w = i_ v ∧ v < 128 := by
          rcases hw with e | e | e
          · exact ⟨110, e, by decide⟩
          · exact ⟨116, e, by decide⟩
          · exact ⟨100, e, by decide⟩
        obtain ⟨N, g1, g2, g4, g3⟩ := M_retype_i (M := M) (i_ t) (i_ c) (i_ v) (8 * t + c) (by rw [l_8, i_mul, i_add]) (by omega) 136 0 fu_ M (by omega) (by rw [fu_eq]; omega) (fun _ _ => rfl) rfl rfl rfl (fun i hi => by omega)
        have hRT : RTs M N s (rt_0 s t c v, 0, []) := by
          refine ⟨g2, fun u => ?_, fun q d hq hd => ?_, ?_, fun i hi => by cases hi⟩
          · show rt_0 s t c v u < 128
            unfold rt_0
            split
            · exact hv
            · split
              · rename_i hh
                obtain ⟨-, -, -, -, -, -, z10⟩ := h.2.2 (u / 8) hh.1
                exact (z10 _ hh.2).2
              · decide
          · obtain ⟨-, -, ⟨-, -, d6⟩, -, -, -, z10⟩ := h.2.2 q hq
            rw [g3 (8 * q + d) (by omega)]
            show _ = i_ (rt_0 s t c v (8 * q + d))
            unfold rt_0
            by_cases e : 8 * q + d = 8 * t + c
            · rw [if_pos e, if_pos e]
            · rw [if_neg e, if_neg e, show (8 * q + d) / 8 = q by omega, show (8 * q + d) % 8 = d by omega, if_pos ⟨hq, hd⟩]
              exact (z10 d hd).1
          · exact g4.trans h65
        obtain ⟨M', r1, r2⟩ := M_retype_go h hn hf hs hlen h52 rfl (z_n s) 0 fu_ N _ hRT (by simp) (by omega) (by rw [fu_eq]; omega) (by simp)
        refine ⟨M', ?_, Or.inr ⟨rt_s s t c v, ?_, r2⟩⟩
        · rw [i_cl (show v < 2147483648 by omega)]
          rw [if_pos ⟨rfl, h0, hw⟩]
          rcases hw with e | e | e
          · have e' := (i_inj (show v < 2147483648 by omega) (by decide)).mp e
            subst e'
            simp (disch := omega) only [l_m1, l_m2, l_0, l_1, l_2, l_3, l_4, l_5, l_6, l_7, l_8, l_9, l_10, l_11, l_12, l_13, l_14, l_15, l_16, l_17, l_18, l_19, l_20, l_21, l_22, l_23, l_24, l_25, l_26, l_27, l_28, l_29, l_30, l_31, l_32, l_33, l_34, l_35, l_36, l_37, l_38, l_39, l_40, l_41, l_42, l_43, l_44, l_45, l_46, l_47, l_48, l_49, l_50, l_51, l_52, l_53, l_54, l_55, l_56, l_57, l_58, l_59, l_60, l_61, l_62, l_63, l_64, l_97, l_100, l_110, l_115, l_116, l_120, l_122, l_127, l_128, l_136, l_140, l_200, l_255, l_256, l_400, l_1000, l_30000, l_1200, l_65536, l_2147483639, l_2147483647, ob_some, obd_some, q_lt_t, q_lt_f, q_le_t, q_le_f, q_eq_t, q_eq_f, im_ne, im_ne', im_lt, im_le, im_lt', im_le', i_add, i_mul, i_dec, i_dec0, i_sub, i_and, i_shr, i_div, nar_b0, nar_b1, b2i_t, b2i_f, gA1, pA1, gB2, pB2, gA3, pA3, gA4, pA4, gB5, pB5, gA6, pA6, gA7, pA7, gA8, pA8, gA9, pA9, gA10, pA10, gA11, pA11, gA12, pA12, gA13, pA13, gA14, pA14, gA15, pA15, gA16, pA16, gA17, pA17, gA18, pA18, gA19, pA19, gA20, pA20, gA21, pA21, gA40, pA40, gB43, pB43, gA44, pA44, gA45, pA45, gA46, pA46, gA47, pA47, gA48, pA48, gA49, pA49, gA53, pA53, gA54, pA54, gA55, pA55, gA56, pA56, gA58, pA58, gA60, pA60, gA61, pA61, gA62, pA62, gA63, pA63, gA66, pA66, ↓reduceIte, if_true, if_false, q1, h0, g1]
            exact r1
          · have e' := (i_inj (show v < 2147483648 by omega) (by decide)).mp e
            subst e'
            simp (disch := omega) only [l_m1, l_m2, l_0, l_1, l_2, l_3, l_4, l_5, l_6, l_7, l_8, l_9, l_10, l_11, l_12, l_13, l_14, l_15, l_16, l_17, l_18, l_19, l_20, l_21, l_22, l_23, l_24, l_25, l_26, l_27, l_28, l_29, l_30, l_31, l_32, l_33, l_34, l_35, l_36, l_37, l_38, l_39, l_40, l_41, l_42, l_43, l_44, l_45, l_46, l_47, l_48, l_49, l_50, l_51, l_52, l_53, l_54, l_55, l_56, l_57, l_58, l_59, l_60, l_61, l_62, l_63, l_64, l_97, l_100, l_110, l_115, l_116, l_120, l_122, l_127, l_128, l_136, l_140, l_200, l_255, l_256, l_400, l_1000, l_30000, l_1200, l_65536, l_2147483639, l_2147483647, ob_some, obd_some, q_lt_t, q_lt_f, q_le_t, q_le_f, q_eq_t, q_eq_f, im_ne, im_ne', im_lt, im_le, im_lt', im_le', i_add, i_mul, i_dec, i_dec0, i_sub, i_and, i_shr, i_div, nar_b0, nar_b1, b2i_t, b2i_f, gA1, pA1, gB2, pB2, gA3, pA3, gA4, pA4, gB5, pB5, gA6, pA6, gA7, pA7, gA8, pA8, gA9, pA9, gA10, pA10, gA11, pA11, gA12, pA12, gA13, pA13, gA14, pA14, gA15, pA15, gA16, pA16, gA17, pA17, gA18, pA18, gA19, pA19, gA20, pA20, gA21, pA21, gA40, pA40, gB43, pB43, gA44, pA44, gA45, pA45, gA46, pA46, gA47, pA47, gA48, pA48, gA49, pA49, gA53, pA53, gA54, pA54, gA55, pA55, gA56, pA56, gA58, pA58, gA60, pA60, gA61, pA61, gA62, pA62, gA63, pA63, gA66, pA66, ↓reduceIte, if_true, if_false, q1, h0, g1]
            exact r1
          · have e' := (i_inj (show v < 2147483648 by omega) (by decide)).mp e
            subst e'
            simp (disch := omega) only [l_m1, l_m2, l_0, l_1, l_2, l_3, l_4, l_5, l_6, l_7, l_8, l_9, l_10, l_11, l_12, l_13, l_14, l_15, l_16, l_17, l_18, l_19, l_20, l_21, l_22, l_23, l_24, l_25, l_26, l_27, l_28, l_29, l_30, l_31, l_32, l_33, l_34, l_35, l_36, l_37, l_38, l_39, l_40, l_41, l_42, l_43, l_44, l_45, l_46, l_47, l_48, l_49, l_50, l_51, l_52, l_53, l_54, l_55, l_56, l_57, l_58, l_59, l_60, l_61, l_62, l_63, l_64, l_97, l_100, l_110, l_115, l_116, l_120, l_122, l_127, l_128, l_136, l_140, l_200, l_255, l_256, l_400, l_1000, l_30000, l_1200, l_65536, l_2147483639, l_2147483647, ob_some, obd_some, q_lt_t, q_lt_f, q_le_t, q_le_f, q_eq_t, q_eq_f, im_ne, im_ne', im_lt, im_le, im_lt', im_le', i_add, i_mul, i_dec, i_dec0, i_sub, i_and, i_shr, i_div, nar_b0, nar_b1, b2i_t, b2i_f, gA1, pA1, gB2, pB2, gA3, pA3, gA4, pA4, gB5, pB5, gA6, pA6, gA7, pA7, gA8, pA8, gA9, pA9, gA10, pA10, gA11, pA11, gA12, pA12, gA13, pA13, gA14, pA14, gA15, pA15, gA16, pA16, gA17, pA17, gA18, pA18, gA19, pA19, gA20, pA20, gA21, pA21, gA40, pA40, gB43, pB43, gA44, pA44, gA45, pA45, gA46, pA46, gA47, pA47, gA48, pA48, gA49, pA49, gA53, pA53, gA54, pA54, gA55, pA55, gA56, pA56, gA58, pA58, gA60, pA60, gA61, pA61, gA62, pA62, gA63, pA63, gA66, pA66, ↓reduceIte, if_true, if_false, q1, h0, g1]
            exact r1
        · rw [i_cl (show v < 2147483648 by omega)]
          rw [if_pos ⟨rfl, h0, hw⟩]
      · have e1 : ¬ w = i_ 110 := fun e => hw (Or.inl e)
        have e2 : ¬ w = i_ 116 := fun e => hw (Or.inr (Or.inl e))
        have e3 : ¬ w = i_ 100 := fun e => hw (Or.inr (Or.inr e))
        simp (disch := omega) only [l_m1, l_m2, l_0, l_1, l_2, l_3, l_4, l_5, l_6, l_7, l_8, l_9, l_10, l_11, l_12, l_13, l_14, l_15, l_16, l_17, l_18, l_19, l_20, l_21, l_22, l_23, l_24, l_25, l_26, l_27, l_28, l_29, l_30, l_31, l_32, l_33, l_34, l_35, l_36, l_37, l_38, l_39, l_40, l_41, l_42, l_43, l_44, l_45, l_46, l_47, l_48, l_49, l_50, l_51, l_52, l_53, l_54, l_55, l_56, l_57, l_58, l_59, l_60, l_61, l_62, l_63, l_64, l_97, l_100, l_110, l_115, l_116, l_120, l_122, l_127, l_128, l_136, l_140, l_200, l_255, l_256, l_400, l_1000, l_30000, l_1200, l_65536, l_2147483639, l_2147483647, ob_some, obd_some, q_lt_t, q_lt_f, q_le_t, q_le_f, q_eq_t, q_eq_f, im_ne, im_ne', im_lt, im_le, im_lt', im_le', i_add, i_mul, i_dec, i_dec0, i_sub, i_and, i_shr, i_div, nar_b0, nar_b1, b2i_t, b2i_f, gA1, pA1, gB2, pB2, gA3, pA3, gA4, pA4, gB5, pB5, gA6, pA6, gA7, pA7, gA8, pA8, gA9, pA9, gA10, pA10, gA11, pA11, gA12, pA12, gA13, pA13, gA14, pA14, gA15, pA15, gA16, pA16, gA17, pA17, gA18, pA18, gA19, pA19, gA20, pA20, gA21, pA21, gA40, pA40, gB43, pB43, gA44, pA44, gA45, pA45, gA46, pA46, gA47, pA47, gA48, pA48, gA49, pA49, gA53, pA53, gA54, pA54, gA55, pA55, gA56, pA56, gA58, pA58, gA60, pA60, gA61, pA61, gA62, pA62, gA63, pA63, gA66, pA66, ↓reduceIte, if_true, if_false, q1, h0, e1, e2, e3]
        exact ⟨M, by simp, Or.inl ⟨rfl, by simp⟩⟩
    · simp (disch := omega) only [l_m1, l_m2, l_0, l_1, l_2, l_3, l_4, l_5, l_6, l_7, l_8, l_9, l_10, l_11, l_12, l_13, l_14, l_15, l_16, l_17, l_18, l_19, l_20, l_21, l_22, l_23, l_24, l_25, l_26, l_27, l_28, l_29, l_30, l_31, l_32, l_33, l_34, l_35, l_36, l_37, l_38, l_39, l_40, l_41, l_42, l_43, l_44, l_45, l_46, l_47, l_48, l_49, l_50, l_51, l_52, l_53, l_54, l_55, l_56, l_57, l_58, l_59, l_60, l_61, l_62, l_63, l_64, l_97, l_100, l_110, l_115, l_116, l_120, l_122, l_127, l_128, l_136, l_140, l_200, l_255, l_256, l_400, l_1000, l_30000, l_1200, l_65536, l_2147483639, l_2147483647, ob_some, obd_some, q_lt_t, q_lt_f, q_le_t, q_le_f, q_eq_t, q_eq_f, im_ne, im_ne', im_lt, im_le, im_lt', im_le', i_add, i_mul, i_dec, i_dec0, i_sub, i_and, i_shr, i_div, nar_b0, nar_b1, b2i_t, b2i_f, gA1, pA1, gB2, pB2, gA3, pA3, gA4, pA4, gB5, pB5, gA6, pA6, gA7, pA7, gA8, pA8, gA9, pA9, gA10, pA10, gA11, pA11, gA12, pA12, gA13, pA13, gA14, pA14, gA15, pA15, gA16, pA16, gA17, pA17, gA18, pA18, gA19, pA19, gA20, pA20, gA21, pA21, gA40, pA40, gB43, pB43, gA44, pA44, gA45, pA45, gA46, pA46, gA47, pA47, gA48, pA48, gA49, pA49, gA53, pA53, gA54, pA54, gA55, pA55, gA56, pA56, gA58, pA58, gA60, pA60, gA61, pA61, gA62, pA62, gA63, pA63, gA66, pA66, ↓reduceIte, if_true, if_false, q1, h0]
      exact ⟨M, by simp, Or.inl ⟨rfl, by simp⟩⟩
