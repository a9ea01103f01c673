/-! the reference's setters -/
theorem mA_same {M : MS} {k i k' : Nat} {x : Int32} (h : k' ≠ k) : m_A (m_sA M k i x) k' = m_A M k' := by
  funext j
  rw [r_mA_sA]
  unfold h_st
  rw [if_neg (fun q => h q.1)]
theorem mA_off {M : MS} {k i j : Nat} {x : Int32} (h : j ≠ i) : m_A (m_sA M k i x) k j = m_A M k j := by
  rw [r_mA_sA]
  unfold h_st
  rw [if_neg (fun q => h q.2)]
theorem mA_on {M : MS} {k i : Nat} {x : Int32} : m_A (m_sA M k i x) k i = x := by
  rw [r_mA_sA]
  exact h_st_eq _ _ _ _
theorem up_on {α : Type} {f : Nat → α} {k : Nat} {x : α} : h_up f k x k = x := by unfold h_up; rw [if_pos rfl]
theorem up_off {α : Type} {f : Nat → α} {k j : Nat} {x : α} (h : j ≠ k) : h_up f k x j = f j := by unfold h_up; rw [if_neg h]
theorem RMa.upd {M M' : MS} {s s' : SP} (h : RMa M s) (e0 : m_I M' 0 = m_I M 0) (en : z_n s' = z_n s) (ht : ∀ t, t < z_n s → RMt M s t → RMt M' s' t) : RMa M' s' :=
  ⟨by rw [e0, en]; exact h.1, by rw [en]; exact h.2.1, fun t k => ht t (by rw [← en]; exact k) (h.2.2 t (by rw [← en]; exact k))⟩
/-- what an op of the reference that only writes the catalogue's arrays (those in ks) leaves -/
def MKeep (ks : List Nat) (M M' : MS) : Prop := m_I M' = m_I M ∧ m_J M' = m_J M ∧ m_B M' = m_B M ∧ ∀ k, k ∉ ks → m_A M' k = m_A M k
theorem MKeep.rf (ks : List Nat) (M : MS) : MKeep ks M M := ⟨rfl, rfl, rfl, fun _ _ => rfl⟩
theorem MKeep.set {ks : List Nat} {M : MS} {k i : Nat} {x : Int32} (h : k ∈ ks) : MKeep ks M (m_sA M k i x) := ⟨rfl, rfl, rfl, fun j hj => mA_same (fun e => hj (e ▸ h))⟩
theorem MKeep.tr {ks : List Nat} {M N K : MS} (h : MKeep ks M N) (k : MKeep ks N K) : MKeep ks M K :=
  ⟨k.1.trans h.1, k.2.1.trans h.2.1, k.2.2.1.trans h.2.2.1, fun j hj => (k.2.2.2 j hj).trans (h.2.2.2 j hj)⟩
def sp_own (s : SP) (x y : Int32) : Int32 × SP := if isT s x = true ∧ ¬ y < -1 ∧ y ≤ 9 then (1, u_ow s (h_up (z_ow s) x.toNatClampNeg y)) else (0, s)
def sp_promise (s : SP) (x y : Int32) : Int32 × SP := if isT s x = true ∧ ¬ y < -1 ∧ y ≤ 1000 then (1, u_lg s (h_up (z_lg s) x.toNatClampNeg y)) else (0, s)
theorem M_own {M : MS} {s : SP} (h : RMa M s) (x y : Int32) : ∃ M', f_X3_own x y M = some ((sp_own s x y).1, M') ∧ RMa M' (sp_own s x y).2 ∧ MKeep [9] M M' := by
  unfold f_X3_own sp_own
  rw [M_isTable h]
  unfold o_bd
  simp only [Option.bind_some]
  cases hT : isT s x with
  | false => exact ⟨M, by simp [b2i], by simpa using h, MKeep.rf _ _⟩
  | true =>
    obtain ⟨t, rfl, ht, hth⟩ := isT_of hT
    have h2 := h.2.1
    rw [if_neg (by simp [b2i])]
    by_cases h1 : y < -1
    · rw [if_pos h1, if_neg (by simp [h1])]
      exact ⟨M, rfl, h, MKeep.rf _ _⟩
    · rw [if_neg h1]
      by_cases h9 : y ≤ 9
      · rw [if_pos h9, if_pos ⟨rfl, h1, h9⟩, p_mA_i (show t < 17 by omega) (by omega), i_cl (by omega)]
        refine ⟨_, rfl, h.upd rfl rfl fun u hu r => ?_, MKeep.set (by decide)⟩
        obtain ⟨r1, r2, r3, r4, r5, ⟨r6, r7, r8, r9⟩, r10⟩ := r
        refine ⟨r1, r2, r3, r4, r5, ⟨?_, r7, r8, r9⟩, r10⟩
        by_cases e : u = t
        · subst e
          rw [mA_on]
          exact up_on.symm
        · rw [mA_off e, r6]
          exact (up_off e).symm
      · rw [if_neg h9, if_neg (by simp [h9])]
        exact ⟨M, rfl, h, MKeep.rf _ _⟩
theorem M_promise {M : MS} {s : SP} (h : RMa M s) (x y : Int32) : ∃ M', f_X3_promise x y M = some ((sp_promise s x y).1, M') ∧ RMa M' (sp_promise s x y).2 ∧ MKeep [10] M M' := by
  unfold f_X3_promise sp_promise
  rw [M_isTable h]
  unfold o_bd
  simp only [Option.bind_some]
  cases hT : isT s x with
  | false => exact ⟨M, by simp [b2i], by simpa using h, MKeep.rf _ _⟩
  | true =>
    obtain ⟨t, rfl, ht, hth⟩ := isT_of hT
    have h2 := h.2.1
    rw [if_neg (by simp [b2i])]
    by_cases h1 : y < -1
    · rw [if_pos h1, if_neg (by simp [h1])]
      exact ⟨M, rfl, h, MKeep.rf _ _⟩
    · rw [if_neg h1]
      by_cases h9 : y ≤ 1000
      · rw [if_pos h9, if_pos ⟨rfl, h1, h9⟩, p_mA_i (show t < 17 by omega) (by omega), i_cl (by omega)]
        refine ⟨_, rfl, h.upd rfl rfl fun u hu r => ?_, MKeep.set (by decide)⟩
        obtain ⟨r1, r2, r3, r4, r5, ⟨r6, r7, r8, r9⟩, r10⟩ := r
        refine ⟨r1, r2, r3, r4, r5, ⟨r6, ?_, r8, r9⟩, r10⟩
        by_cases e : u = t
        · subst e
          rw [mA_on]
          exact up_on.symm
        · rw [mA_off e, r7]
          exact (up_off e).symm
      · rw [if_neg h9, if_neg (by simp [h9])]
        exact ⟨M, rfl, h, MKeep.rf _ _⟩
