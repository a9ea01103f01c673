def RMk (M : MS) (s : SP) : Prop := m_I M 59 = i_ (z_na s) ∧ z_na s ≤ 40 ∧ ∀ k, k < z_na s → (m_A M 61 k = i_ (z_at s k) ∧ z_at s k < z_n s) ∧ (m_A M 62 k = i_ (z_ab s k) ∧ z_ab s k < 64) ∧ m_A M 63 k = z_ad s k
def RMo (M : MS) (s : SP) : Prop := m_I M 57 = i_ (z_fd s).length ∧ (z_fd s).length ≤ 128 ∧ ∀ k, k < (z_fd s).length → m_A M 58 k = i_ ((z_fd s).getD k 0) ∧ (z_fd s).getD k 0 < 136
def RMd (M : MS) (s : SP) : Prop := (m_I M 64 = z_td s ∧ m_I M 27 = z_fk s ∧ m_I M 28 = z_fp s) ∧ (m_I M 22 = i_ (z_tl s) ∧ z_tl s ≤ 400) ∧ ∀ k, k < z_tl s → m_A M 21 k = i_ (z_tp s k) ∧ z_tp s k < 256
def RMw (M : MS) : Prop := m_I M 65 = 0 ∧ m_I M 52 = 0 ∧ m_J M 33 = enc [118, 105, 101, 119] ∧ m_J M 34 = enc [99, 111, 112, 121] ∧ m_J M 35 = enc [116, 97, 98, 108, 101] ∧ m_J M 36 = enc [102, 114, 111, 109] ∧ m_J M 37 = enc [119, 104, 101, 114, 101] ∧ m_J M 38 = enc [108, 101, 110] ∧ m_J M 39 = enc [115, 116, 114]
/-- two states agree on the catalogue's rows -/
def MSame (M N : MS) : Prop := m_I N 0 = m_I M 0 ∧ ∀ k, k ≤ 20 → m_A N k = m_A M k ∧ m_B N k = m_B M k
def sp_found (s : SP) (x : Int32) : Int32 := if ¬ x < 0 ∧ x.toNatClampNeg < (z_fd s).length then i_ ((z_fd s).getD x.toNatClampNeg 0) else -1
theorem M_found {M : MS} {s : SP} (h : RMo M s) (x : Int32) : f_X3_found x M = some (sp_found s x, M) := by
  obtain ⟨h1, h2, h3⟩ := h
  unfold f_X3_found sp_found
  by_cases hx : x < 0
  · rw [if_pos hx, if_neg (by simp [hx])]
  · rw [if_neg hx]
    obtain ⟨e, hb⟩ := i_of hx
    generalize x.toNatClampNeg = t at e hb
    subst e
    rw [h1]
    by_cases ht : t < (z_fd s).length
    · rw [if_neg (by rw [i_le (by omega) hb]; omega), g_mA_i (show t < 140 by omega) hb, if_pos ⟨hx, ht⟩]
      simp only [Option.bind_some, (h3 t ht).1]
    · rw [if_pos (by rw [i_le (by omega) hb]; omega), if_neg (by simp [ht])]
theorem M_fault {M : MS} {s : SP} (h : RMd M s) (x : Int32) : f_X3_fault x M = some (if x = 0 then z_fk s else if x = 1 then z_fp s else -1, M) := by
  unfold f_X3_fault
  obtain ⟨⟨-, h1, h2⟩, -⟩ := h
  rw [← h1, ← h2]
  by_cases h0 : x = 0
  · rw [if_pos h0, if_pos h0]
  · rw [if_neg h0, if_neg h0]
    by_cases h1 : x = 1
    · rw [if_pos h1, if_pos h1]
    · rw [if_neg h1, if_neg h1]
def sp_type (s : SP) (x y : Int32) : Int32 := if isC s x y = true then i_ (z_ty s x.toNatClampNeg y.toNatClampNeg) else -1
theorem isC_of {s : SP} {x y : Int32} (h : isC s x y = true) : ∃ t c, x = i_ t ∧ y = i_ c ∧ t < z_n s ∧ z_th s t = true ∧ c < z_nc s t := by
  unfold isC at h
  rw [Bool.and_eq_true, decide_eq_true_eq] at h
  obtain ⟨t, e, h1, h2⟩ := isT_of h.1
  obtain ⟨e2, hb⟩ := i_of h.2.1
  have h3 := h.2.2
  by_cases hbt : t < 2147483648
  · rw [e, i_cl hbt] at h3
    exact ⟨t, y.toNatClampNeg, e, e2, h1, h2, h3⟩
  · have h5 := h.1
    unfold isT at h5
    rw [Bool.and_eq_true, decide_eq_true_eq] at h5
    obtain ⟨e3, hb3⟩ := i_of h5.1.1
    exact ⟨x.toNatClampNeg, y.toNatClampNeg, e3, e2, h5.1.2, h5.2, h.2.2⟩
theorem M_type {M : MS} {s : SP} (h : RMa M s) (x y : Int32) : f_X3_type x y M = some (sp_type s x y, M) := by
  unfold f_X3_type sp_type
  rw [M_isColumn h]
  unfold o_bd
  simp only [Option.bind_some]
  cases hc : isC s x y with
  | false => simp [b2i]
  | true =>
    obtain ⟨t, c, rfl, rfl, ht, hth, hcc⟩ := isC_of hc
    have h2 := h.2.1
    obtain ⟨-, -, ⟨-, -, r5⟩, -, -, -, r7⟩ := h.2.2 t ht
    rw [if_neg (by simp [b2i]), i_lit 8, i_mul, i_add, g_mA_i (show 8 * t + c < 136 by omega) (by omega), i_cl (by omega), i_cl (by omega)]
    simp only [Option.bind_some, (r7 c hcc).1, if_true]
