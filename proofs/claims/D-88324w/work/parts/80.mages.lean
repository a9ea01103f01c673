theorem M_agesBehind {M : MS} {s : SP} (h : RMa M s) {t : Nat} (ht : t < z_n s) (G : Nat → Int32 × Int32) (hG : ∀ j, j < z_nb s t → m_A M 54 (z_fr s t j) = (G (z_fr s t j)).1 ∧ m_A M 55 (z_fr s t j) = (G (z_fr s t j)).2) :
    ∃ M', f_X3_agesBehind (i_ t) M = some M' ∧ MKeep [54, 55] M M' ∧ (∀ u, u ≠ t → m_A M' 54 u = m_A M 54 u ∧ m_A M' 55 u = m_A M 55 u) ∧ m_A M' 54 t = (ygl G (frl s t 0 (z_nb s t)) (-1, -1)).1 ∧ m_A M' 55 t = (ygl G (frl s t 0 (z_nb s t)) (-1, -1)).2 := by
  have h2 := h.2.1
  obtain ⟨-, -, -, ⟨r4, r4'⟩, r5, -⟩ := h.2.2 t ht
  unfold f_X3_agesBehind
  rw [p_mA_i (show t < 17 by omega) (by omega)]
  simp only [Option.bind_some]
  rw [p_mA_i (show t < 17 by omega) (by omega)]
  simp only [Option.bind_some]
  obtain ⟨M', f1, f2, f3, f4, f5⟩ := M_agesBehind_l (s := s) (t := t) (by omega) r4' G (z_nb s t) 0 fu_ (m_sA (m_sA M 54 t (-1)) 55 t (-1)) (-1, -1) (by rw [mA_same (by decide), mA_same (by decide)]; exact r4) (fun j hj => by rw [mA_same (by decide), mA_same (by decide)]; exact r5 j hj) (fun j hj => by
    have := (r5 j hj).2
    rw [mA_same (by decide), mA_off (by omega), mA_off (by omega), mA_same (by decide)]
    exact hG j hj) (by rw [mA_same (by decide), mA_on]) mA_on (by omega) (by rw [fu_eq]; omega)
  refine ⟨M', f1, ((MKeep.set (by decide)).tr (MKeep.set (by decide))).tr f2, fun u hu => ?_, f4, f5⟩
  obtain ⟨g1, g2⟩ := f3 u hu
  rw [g1, g2, mA_same (by decide), mA_off hu, mA_off hu, mA_same (by decide)]
  exact ⟨rfl, rfl⟩
theorem RMa.keep {M M' : MS} {s : SP} {ks : List Nat} (h : RMa M s) (k : MKeep ks M M') (hk : ∀ j ∈ ks, j ∉ [1, 3, 4, 6, 7, 8, 9, 10, 11, 12]) : RMa M' s := by
  have e : ∀ j, j ∈ [1, 3, 4, 6, 7, 8, 9, 10, 11, 12] → m_A M' j = m_A M j := fun j hj => k.2.2.2 j (fun h => hk j h hj)
  refine h.upd (by rw [k.1]) rfl fun t _ r => ?_
  unfold RMt
  rw [e 1 (by decide), e 3 (by decide), e 4 (by decide), e 7 (by decide), e 8 (by decide), e 9 (by decide), e 10 (by decide), e 11 (by decide), e 12 (by decide), e 6 (by decide)]
  exact r
theorem M_ages_l {s : SP} : ∀ (r k n : Nat) (M : MS), RMa M s → k + r = z_n s → r < n → (∀ u, u < k → m_A M 54 u = (yg s (u + 1) u).1 ∧ m_A M 55 u = (yg s (u + 1) u).2) →
    ∃ M', f_X3_ages_n2 n (i_ k) M = some M' ∧ MKeep [54, 55] M M' ∧ ∀ u, u < z_n s → m_A M' 54 u = (yg s (u + 1) u).1 ∧ m_A M' 55 u = (yg s (u + 1) u).2 := by
  intro r
  induction r with
  | zero =>
    intro k n M h hk hn hG
    have h2 := h.2.1
    obtain ⟨n, rfl⟩ : ∃ m, n = m + 1 := ⟨n - 1, by omega⟩
    unfold f_X3_ages_n2
    rw [h.1, if_pos (by rw [i_le (by omega) (by omega)]; omega)]
    exact ⟨M, rfl, MKeep.rf _ _, fun u hu => hG u (by omega)⟩
  | succ r ih =>
    intro k n M h hk hn hG
    have h2 := h.2.1
    obtain ⟨n, rfl⟩ : ∃ m, n = m + 1 := ⟨n - 1, by omega⟩
    obtain ⟨-, ⟨q1, q2⟩, -, ⟨-, q4⟩, q5, ⟨-, -, q8, q9⟩, -⟩ := h.2.2 k (by omega)
    unfold f_X3_ages_n2
    rw [h.1, if_neg (by rw [i_le (by omega) (by omega)]; omega), g_mA_i (show k < 17 by omega) (by omega), q8]
    simp only [Option.bind_some]
    rw [p_mA_i (show k < 17 by omega) (by omega)]
    simp only [Option.bind_some]
    rw [g_mA_i (show k < 17 by omega) (by omega), mA_same (by decide), q9]
    simp only [Option.bind_some]
    rw [p_mA_i (show k < 17 by omega) (by omega)]
    simp only [Option.bind_some]
    rw [g_mA_i (show k < 17 by omega) (by omega), mA_same (by decide), mA_same (by decide), q1]
    simp only [Option.bind_some]
    have kp : MKeep [54, 55] M (m_sA (m_sA M 54 k (z_ol s k)) 55 k (z_nw s k)) := (MKeep.set (by decide)).tr (MKeep.set (by decide))
    have hN := h.keep kp (by decide)
    have off : ∀ u, u ≠ k → m_A (m_sA (m_sA M 54 k (z_ol s k)) 55 k (z_nw s k)) 54 u = m_A M 54 u ∧ m_A (m_sA (m_sA M 54 k (z_ol s k)) 55 k (z_nw s k)) 55 u = m_A M 55 u := fun u hu => by
      rw [mA_same (by decide), mA_off hu, mA_off hu, mA_same (by decide)]
      exact ⟨rfl, rfl⟩
    have on1 : m_A (m_sA (m_sA M 54 k (z_ol s k)) 55 k (z_nw s k)) 54 k = z_ol s k := by rw [mA_same (by decide), mA_on]
    have on2 : m_A (m_sA (m_sA M 54 k (z_ol s k)) 55 k (z_nw s k)) 55 k = z_nw s k := mA_on
    generalize (m_sA (m_sA M 54 k (z_ol s k)) 55 k (z_nw s k)) = N at kp hN off on1 on2
    by_cases e : z_so s k = 1
    · rw [if_pos (by rw [e]; rfl)]
      have hfr : ∀ t, t < z_n s → ∀ j, j < z_nb s t → z_fr s t j < t := fun t ht j hj => ((h.2.2 t ht).2.2.2.2.1 j hj).2
      obtain ⟨N', f1, f2, f3, f4, f5⟩ := M_agesBehind hN (show k < z_n s by omega) (yg s k) (fun j hj => by
        have := (q5 j hj).2
        rw [(off _ (by omega)).1, (off _ (by omega)).2, yg_stable hfr k (z_fr s k j + 1) _ (by omega) (by omega) (by omega)]
        exact hG _ (by omega))
      rw [f1]
      simp only [Option.bind_some]
      rw [i_lit 1, i_add]
      obtain ⟨M', g1, g2, g3⟩ := ih (k + 1) n N' (hN.keep f2 (by decide)) (by omega) (by omega) (fun u hu => by
        by_cases eu : u = k
        · subst eu
          rw [f4, f5, yg, if_pos e]
          exact ⟨rfl, rfl⟩
        · rw [(f3 u eu).1, (f3 u eu).2, (off u eu).1, (off u eu).2]
          exact hG u (by omega))
      exact ⟨M', g1, (kp.tr f2).tr g2, g3⟩
    · rw [if_neg (by rw [show (1 : Int32) = i_ 1 from rfl, i_inj (by omega) (by omega)]; exact e), i_lit 1, i_add]
      obtain ⟨M', g1, g2, g3⟩ := ih (k + 1) n N hN (by omega) (by omega) (fun u hu => by
        by_cases eu : u = k
        · subst eu
          rw [on1, on2, yg, if_neg e]
          exact ⟨rfl, rfl⟩
        · rw [(off u eu).1, (off u eu).2]
          exact hG u (by omega))
      exact ⟨M', g1, kp.tr g2, g3⟩
theorem M_ages {M : MS} {s : SP} (h : RMa M s) : ∃ M', f_X3_ages M = some M' ∧ MKeep [54, 55] M M' ∧ ∀ u, u < z_n s → m_A M' 54 u = (yg s (u + 1) u).1 ∧ m_A M' 55 u = (yg s (u + 1) u).2 := by
  have h2 := h.2.1
  unfold f_X3_ages
  exact M_ages_l (z_n s) 0 fu_ M h (by omega) (by rw [fu_eq]; omega) (fun u hu => absurd hu (Nat.not_lt_zero u))
