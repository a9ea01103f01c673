def sp_fed (s : SP) (x a b : Int32) : Int32 × SP := if isT s x = true ∧ z_so s x.toNatClampNeg = 0 ∧ ¬ a < 0 ∧ ¬ b < a ∧ b ≤ z_td s then (1, u_nw (u_ol s (h_up (z_ol s) x.toNatClampNeg a)) (h_up (z_nw s) x.toNatClampNeg b)) else (0, s)
def sp_freeze (s : SP) (x : Int32) : Int32 × SP := if isT s x = true ∧ z_so s x.toNatClampNeg = 2 then (1, u_nb (u_so s (h_up (z_so s) x.toNatClampNeg 3)) (h_up (z_nb s) x.toNatClampNeg 0)) else (0, s)
theorem M_fed {M : MS} {s : SP} (h : RMa M s) (htd : m_I M 64 = z_td s) (x a b : Int32) : ∃ M', f_X3_fed x a b M = some ((sp_fed s x a b).1, M') ∧ RMa M' (sp_fed s x a b).2 ∧ MKeep [11, 12] M M' := by
  unfold f_X3_fed sp_fed
  rw [M_isTable h]
  unfold o_bd
  simp only [Option.bind_some]
  cases hT : isT s x with
  | false => exact ⟨M, by simp [b2i], by simpa using h, MKeep.rf _ _⟩
  | true =>
    obtain ⟨t, rfl, ht, hth⟩ := isT_of hT
    have h2 := h.2.1
    obtain ⟨-, ⟨r2, r2'⟩, -⟩ := h.2.2 t ht
    rw [if_neg (by simp [b2i]), g_mA_i (show t < 17 by omega) (by omega), i_cl (by omega), r2]
    simp only [Option.bind_some]
    by_cases h0 : z_so s t = 0
    · rw [if_pos (by rw [h0]; rfl)]
      by_cases h1 : a < 0
      · rw [if_pos h1, if_neg (by simp [h1])]
        exact ⟨M, rfl, h, MKeep.rf _ _⟩
      · rw [if_neg h1]
        by_cases h3 : b < a
        · rw [if_pos h3, if_neg (by simp [h3])]
          exact ⟨M, rfl, h, MKeep.rf _ _⟩
        · rw [if_neg h3, htd]
          by_cases h4 : b ≤ z_td s
          · rw [if_pos h4, if_pos ⟨trivial, h0, h1, h3, h4⟩, p_mA_i (show t < 17 by omega) (by omega)]
            simp only [Option.bind_some]
            rw [p_mA_i (show t < 17 by omega) (by omega)]
            refine ⟨_, rfl, h.upd rfl rfl fun u hu r => ?_, (MKeep.set (by decide)).tr (MKeep.set (by decide))⟩
            obtain ⟨r1, r2, r3, r4, r5, ⟨r6, r7, r8, r9⟩, r10⟩ := r
            refine ⟨r1, r2, r3, r4, r5, ⟨r6, r7, ?_, ?_⟩, r10⟩
            · show m_A (m_sA (m_sA M 11 t a) 12 t b) 11 u = h_up (z_ol s) t a u
              rw [mA_same (by decide)]
              by_cases e : u = t
              · subst e
                rw [mA_on, up_on]
              · rw [mA_off e, r8, up_off e]
            · show m_A (m_sA (m_sA M 11 t a) 12 t b) 12 u = h_up (z_nw s) t b u
              by_cases e : u = t
              · subst e
                rw [mA_on, up_on]
              · rw [mA_off e, mA_same (by decide), r9, up_off e]
          · rw [if_neg h4, if_neg (by simp [h4])]
            exact ⟨M, rfl, h, MKeep.rf _ _⟩
    · rw [if_neg (by rw [show (0 : Int32) = i_ 0 from rfl, i_inj (by omega) (by omega)]; exact h0), if_neg (by simp [h0])]
      exact ⟨M, rfl, h, MKeep.rf _ _⟩
theorem M_freeze {M : MS} {s : SP} (h : RMa M s) (x : Int32) : ∃ M', f_X3_freeze x M = some ((sp_freeze s x).1, M') ∧ RMa M' (sp_freeze s x).2 ∧ MKeep [3, 7] M M' := by
  unfold f_X3_freeze sp_freeze
  rw [M_isTable h]
  unfold o_bd
  simp only [Option.bind_some]
  cases hT : isT s x with
  | false => exact ⟨M, by simp [b2i], by simpa using h, MKeep.rf _ _⟩
  | true =>
    obtain ⟨t, rfl, ht, hth⟩ := isT_of hT
    have h2 := h.2.1
    obtain ⟨-, ⟨r2, r2'⟩, -⟩ := h.2.2 t ht
    rw [if_neg (by simp [b2i]), g_mA_i (show t < 17 by omega) (by omega), i_cl (by omega), r2]
    simp only [Option.bind_some]
    by_cases h0 : z_so s t = 2
    · rw [if_pos (by rw [h0]; rfl), if_pos ⟨trivial, h0⟩, p_mA_i (show t < 17 by omega) (by omega)]
      simp only [Option.bind_some]
      rw [p_mA_i (show t < 17 by omega) (by omega)]
      refine ⟨_, rfl, h.upd rfl rfl fun u hu r => ?_, (MKeep.set (by decide)).tr (MKeep.set (by decide))⟩
      obtain ⟨r1, r2, r3, r4, r5, r6, r10⟩ := r
      refine ⟨r1, ?_, r3, ?_, ?_, r6, r10⟩
      · show m_A (m_sA (m_sA M 3 t 3) 7 t 0) 3 u = i_ (h_up (z_so s) t 3 u) ∧ h_up (z_so s) t 3 u ≤ 3
        rw [mA_same (by decide)]
        by_cases e : u = t
        · subst e
          rw [mA_on, up_on]
          exact ⟨rfl, Nat.le_refl _⟩
        · rw [mA_off e, up_off e]
          exact r2
      · show m_A (m_sA (m_sA M 3 t 3) 7 t 0) 7 u = i_ (h_up (z_nb s) t 0 u) ∧ h_up (z_nb s) t 0 u ≤ 3
        by_cases e : u = t
        · subst e
          rw [mA_on, up_on]
          exact ⟨rfl, by omega⟩
        · rw [mA_off e, mA_same (by decide), up_off e]
          exact r4
      · intro k hk
        have hk' : k < h_up (z_nb s) t 0 u := hk
        by_cases e : u = t
        · subst e
          rw [up_on] at hk'
          exact absurd hk' (Nat.not_lt_zero k)
        · rw [up_off e] at hk'
          exact r5 k hk'
    · rw [if_neg (by rw [show (2 : Int32) = i_ 2 from rfl, i_inj (by omega) (by omega)]; exact h0), if_neg (by simp [h0])]
      exact ⟨M, rfl, h, MKeep.rf _ _⟩
