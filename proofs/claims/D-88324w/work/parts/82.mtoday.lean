/-! the reference's today, end -/
def MKI (ks : List Nat) (M M' : MS) : Prop := m_A M' = m_A M ∧ m_J M' = m_J M ∧ m_B M' = m_B M ∧ ∀ k, k ∉ ks → m_I M' k = m_I M k
theorem MKI.rf (ks : List Nat) (M : MS) : MKI ks M M := ⟨rfl, rfl, rfl, fun _ _ => rfl⟩
theorem mI_off {M : MS} {k j : Nat} {x : Int32} (h : j ≠ k) : m_I (m_sI M k x) j = m_I M j := up_off h
theorem mI_on {M : MS} {k : Nat} {x : Int32} : m_I (m_sI M k x) k = x := up_on
theorem MKI.set {ks : List Nat} {M : MS} {k : Nat} {x : Int32} (h : k ∈ ks) : MKI ks M (m_sI M k x) := ⟨rfl, rfl, rfl, fun j hj => mI_off (fun e => hj (e ▸ h))⟩
def sp_today (s : SP) (x : Int32) : Int32 × SP := if ¬ x < z_td s ∧ x ≤ 30000 then (1, u_td s x) else (0, s)
theorem M_today {M : MS} {s : SP} (h : RMd M s) (x : Int32) : ∃ M', f_X3_today x M = some ((sp_today s x).1, M') ∧ RMd M' (sp_today s x).2 ∧ MKI [64] M M' := by
  obtain ⟨⟨h1, h2, h3⟩, ⟨h4, h5⟩, h6⟩ := h
  unfold f_X3_today sp_today
  rw [h1]
  by_cases e1 : x < z_td s
  · rw [if_pos e1, if_neg (fun q => q.1 e1)]
    exact ⟨M, rfl, ⟨⟨h1, h2, h3⟩, ⟨h4, h5⟩, h6⟩, MKI.rf _ _⟩
  · rw [if_neg e1]
    by_cases e2 : x ≤ 30000
    · rw [if_pos e2, if_pos ⟨e1, e2⟩]
      exact ⟨_, rfl, ⟨⟨mI_on, by rw [mI_off (by decide)]; exact h2, by rw [mI_off (by decide)]; exact h3⟩, ⟨by rw [mI_off (by decide)]; exact h4, h5⟩, h6⟩, MKI.set (by decide)⟩
    · rw [if_neg e2, if_neg (fun q => e2 q.2)]
      exact ⟨M, rfl, ⟨⟨h1, h2, h3⟩, ⟨h4, h5⟩, h6⟩, MKI.rf _ _⟩
def sp_end (s : SP) (x : Int32) : Int32 × SP := if ¬ x < 0 ∧ x ≤ i_ (z_tl s) then (1, u_tl s x.toNatClampNeg) else (0, s)
theorem M_end {M : MS} {s : SP} (h : RMd M s) (x : Int32) : ∃ M', f_X3_end x M = some ((sp_end s x).1, M') ∧ RMd M' (sp_end s x).2 ∧ MKI [22] M M' := by
  obtain ⟨⟨h1, h2, h3⟩, ⟨h4, h5⟩, h6⟩ := h
  unfold f_X3_end sp_end
  rw [h4]
  by_cases e1 : x < 0
  · rw [if_pos e1, if_neg (fun q => q.1 e1)]
    exact ⟨M, rfl, ⟨⟨h1, h2, h3⟩, ⟨h4, h5⟩, h6⟩, MKI.rf _ _⟩
  · rw [if_neg e1]
    by_cases e2 : x ≤ i_ (z_tl s)
    · rw [if_pos e2, if_pos ⟨e1, e2⟩]
      obtain ⟨e, hb⟩ := i_of e1
      rw [e, i_le hb (by omega)] at e2
      refine ⟨_, rfl, ⟨⟨by rw [mI_off (by decide)]; exact h1, by rw [mI_off (by decide)]; exact h2, by rw [mI_off (by decide)]; exact h3⟩, ⟨by rw [mI_on]; exact e, Nat.le_trans e2 h5⟩, fun k hk => h6 k (Nat.lt_of_lt_of_le hk e2)⟩, MKI.set (by decide)⟩
    · rw [if_neg e2, if_neg (fun q => e2 q.2)]
      exact ⟨M, rfl, ⟨⟨h1, h2, h3⟩, ⟨h4, h5⟩, h6⟩, MKI.rf _ _⟩
