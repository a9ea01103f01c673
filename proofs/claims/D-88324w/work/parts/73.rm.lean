/-! the reference's state against the spec -/
theorem g_mA_i {M : MS} {k n : Nat} (h : n < m_le k) (hn : n < 2147483648) : g_mA M k (i_ n) = some (m_A M k n) := by
  unfold g_mA
  rw [i_cl hn, if_pos ⟨i_nn hn, h⟩]
theorem g_mB_i {M : MS} {k n : Nat} (h : n < m_le k) (hn : n < 2147483648) : g_mB M k (i_ n) = some (m_B M k n) := by
  unfold g_mB
  rw [i_cl hn, if_pos ⟨i_nn hn, h⟩]
theorem p_mA_i {M : MS} {k n : Nat} {x : Int32} (h : n < m_le k) (hn : n < 2147483648) : p_mA M k (i_ n) x = some (m_sA M k n x) := by
  unfold p_mA
  rw [i_cl hn, if_pos ⟨i_nn hn, h⟩]
theorem p_mB_i {M : MS} {k n : Nat} {x : Int64} (h : n < m_le k) (hn : n < 2147483648) : p_mB M k (i_ n) x = some (m_sB M k n x) := by
  unfold p_mB
  rw [i_cl hn, if_pos ⟨i_nn hn, h⟩]
def b2i (b : Bool) : Int32 := if b = true then 1 else 0
def RMt (M : MS) (s : SP) (t : Nat) : Prop :=
  (m_A M 1 t = b2i (z_th s t)) ∧ (m_A M 3 t = i_ (z_so s t) ∧ z_so s t ≤ 3) ∧ (m_A M 4 t = i_ (z_nc s t) ∧ 1 ≤ z_nc s t ∧ z_nc s t ≤ 6) ∧ (m_A M 7 t = i_ (z_nb s t) ∧ z_nb s t ≤ 3) ∧
  (∀ k, k < z_nb s t → m_A M 8 (3 * t + k) = i_ (z_fr s t k) ∧ z_fr s t k < t) ∧ (m_A M 9 t = z_ow s t ∧ m_A M 10 t = z_lg s t ∧ m_A M 11 t = z_ol s t ∧ m_A M 12 t = z_nw s t) ∧
  (∀ c, c < z_nc s t → m_A M 6 (8 * t + c) = i_ (z_ty s t c) ∧ z_ty s t c < 128)
def RMa (M : MS) (s : SP) : Prop := m_I M 0 = i_ (z_n s) ∧ z_n s ≤ 16 ∧ ∀ t, t < z_n s → RMt M s t
def isT (s : SP) (x : Int32) : Bool := decide (¬ x < 0 ∧ x.toNatClampNeg < z_n s) && z_th s x.toNatClampNeg
def isC (s : SP) (x y : Int32) : Bool := isT s x && decide (¬ y < 0 ∧ y.toNatClampNeg < z_nc s x.toNatClampNeg)
theorem isT_of {s : SP} {x : Int32} (h : isT s x = true) : ∃ t, x = i_ t ∧ t < z_n s ∧ z_th s t = true := by
  unfold isT at h
  rw [Bool.and_eq_true, decide_eq_true_eq] at h
  exact ⟨x.toNatClampNeg, (i_of h.1.1).1, h.1.2, h.2⟩
theorem isT_i {s : SP} {t : Nat} (ht : t < 2147483648) : isT s (i_ t) = (decide (t < z_n s) && z_th s t) := by
  unfold isT
  rw [i_cl ht]
  simp [i_nn ht]
theorem M_isTable {M : MS} {s : SP} (h : RMa M s) (x : Int32) : f_X3_isTable x M = some (b2i (isT s x), M) := by
  obtain ⟨h1, h2, h3⟩ := h
  unfold f_X3_isTable
  by_cases hx : x < 0
  · rw [if_pos hx]
    simp [isT, hx, b2i]
  · rw [if_neg hx]
    obtain ⟨e, hb⟩ := i_of hx
    generalize x.toNatClampNeg = t at e hb
    subst e
    rw [h1, isT_i hb]
    by_cases ht : t < z_n s
    · rw [if_neg (by rw [i_le (by omega) hb]; omega), g_mA_i (show t < 17 by omega) hb]
      obtain ⟨r1, -⟩ := h3 t ht
      simp only [Option.bind_some, r1]
      cases hth : z_th s t <;> simp [b2i, ht]
    · rw [if_pos (by rw [i_le (by omega) hb]; omega)]
      simp [ht, b2i]
theorem M_isColumn {M : MS} {s : SP} (h : RMa M s) (x y : Int32) : f_X3_isColumn x y M = some (b2i (isC s x y), M) := by
  unfold f_X3_isColumn
  rw [M_isTable h]
  unfold o_bd isC
  simp only [Option.bind_some]
  cases hT : isT s x with
  | false => simp [b2i]
  | true =>
    obtain ⟨t, rfl, ht, hth⟩ := isT_of hT
    have h2 := h.2.1
    obtain ⟨-, -, ⟨r3, r4, r5⟩, -⟩ := h.2.2 t ht
    rw [if_neg (by simp [b2i])]
    by_cases hy : y < 0
    · rw [if_pos hy]
      simp [hy, b2i]
    · rw [if_neg hy]
      obtain ⟨e, hb⟩ := i_of hy
      generalize y.toNatClampNeg = c at e hb
      subst e
      rw [g_mA_i (show t < 17 by omega) (by omega), i_cl (by omega)]
      simp only [Option.bind_some, r3]
      by_cases hc : c < z_nc s t
      · rw [if_neg (by rw [i_le (by omega) hb]; omega)]
        simp [hc, i_nn hb, b2i]
      · rw [if_pos (by rw [i_le (by omega) hb]; omega)]
        simp [hc, b2i]
