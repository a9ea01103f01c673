/-! the reference's drop -/
theorem M_hasBehind_l {M : MS} {s : SP} (h : RMa M s) {u t : Nat} (hu : u < z_n s) (ht : t < 2147483648) : ∀ (r k n : Nat), k + r = z_nb s u → r < n → f_X3_hasBehind_n2 n (i_ u) (i_ t) (i_ k) M = some (b2i ((List.range' k r).any fun k => decide (z_fr s u k = t)), M) := by
  have h2 := h.2.1
  obtain ⟨-, -, -, ⟨r4, r4'⟩, r5, -⟩ := h.2.2 u hu
  intro r
  induction r with
  | zero =>
    intro k n hk hn
    obtain ⟨n, rfl⟩ : ∃ m, n = m + 1 := ⟨n - 1, by omega⟩
    unfold f_X3_hasBehind_n2
    rw [g_mA_i (show u < 17 by omega) (by omega), r4]
    simp only [Option.bind_some]
    rw [if_pos (by rw [i_le (by omega) (by omega)]; omega)]
    rfl
  | succ r ih =>
    intro k n hk hn
    obtain ⟨n, rfl⟩ : ∃ m, n = m + 1 := ⟨n - 1, by omega⟩
    unfold f_X3_hasBehind_n2
    rw [g_mA_i (show u < 17 by omega) (by omega), r4]
    simp only [Option.bind_some]
    obtain ⟨q1, q2⟩ := r5 k (by omega)
    rw [if_neg (by rw [i_le (by omega) (by omega)]; omega), i_lit 3, i_mul, i_add, g_mA_i (show 3 * u + k < 51 by omega) (by omega), q1]
    simp only [Option.bind_some]
    by_cases e : z_fr s u k = t
    · rw [if_pos (by rw [e])]
      simp [List.range'_succ, e, b2i]
    · rw [if_neg (by rw [i_inj (by omega) ht]; exact e), i_lit 1, i_add, ih (k + 1) n (by omega) (by omega)]
      simp [List.range'_succ, e]
theorem fu_eq : fu_ = 19999 + 1 := rfl
theorem M_hasBehind {M : MS} {s : SP} (h : RMa M s) {u t : Nat} (hu : u < z_n s) (ht : t < 2147483648) : f_X3_hasBehind (i_ u) (i_ t) M = some (b2i ((List.range' 0 (z_nb s u)).any fun k => decide (z_fr s u k = t)), M) := by
  unfold f_X3_hasBehind
  have h2 := (h.2.2 u hu).2.2.2.1.2
  exact M_hasBehind_l h hu ht _ 0 _ (by omega) (by rw [fu_eq]; omega)
def dp_c (s : SP) (t : Nat) (l : List Nat) : Nat := (l.filter fun k => decide (z_at s k = t ∧ z_ab s k ≠ 0)).length
def dp_u (s : SP) (t : Nat) : Bool := (List.range' 0 (z_n s)).any fun u => z_th s u && (List.range' 0 (z_nb s u)).any fun k => decide (z_fr s u k = t)
def dp_s (s : SP) (t : Nat) : SP := u_ab (u_th s (h_up (z_th s) t false)) (fun k => if z_at s k = t then 0 else z_ab s k)
def sp_drop (s : SP) (x : Int32) : Int32 × SP := if isT s x = true then (if dp_u s x.toNatClampNeg = true then (-2, s) else (i_ (dp_c s x.toNatClampNeg (List.range' 0 (z_na s))), dp_s s x.toNatClampNeg)) else (-1, s)
theorem M_drop_a {s : SP} {t : Nat} (ht : t < 17) : ∀ (r k n c : Nat) (M : MS), m_I M 59 = i_ (z_na s) → z_na s ≤ 40 → (∀ j, j < z_na s → m_A M 61 j = i_ (z_at s j) ∧ z_at s j < 17) → (∀ j, k ≤ j → j < z_na s → m_A M 62 j = i_ (z_ab s j) ∧ z_ab s j < 64) → c + r ≤ 40 → k + r = z_na s → r < n →
    ∃ M', f_X3_drop_n58 n (i_ t) (i_ c) (i_ k) M = some (i_ (c + dp_c s t (List.range' k r)), M') ∧ MKeep [62] M M' ∧ (∀ j, j < k → m_A M' 62 j = m_A M 62 j) ∧ (∀ j, k ≤ j → j < z_na s → m_A M' 62 j = i_ (if z_at s j = t then 0 else z_ab s j)) := by
  intro r
  induction r with
  | zero =>
    intro k n c M h59 hna h61 h62 hc hk hn
    obtain ⟨n, rfl⟩ : ∃ m, n = m + 1 := ⟨n - 1, by omega⟩
    unfold f_X3_drop_n58
    rw [h59, if_pos (by rw [i_le (by omega) (by omega)]; omega)]
    exact ⟨M, rfl, MKeep.rf _ _, fun _ _ => rfl, fun j h1 h2 => absurd h2 (by omega)⟩
  | succ r ih =>
    intro k n c M h59 hna h61 h62 hc hk hn
    obtain ⟨n, rfl⟩ : ∃ m, n = m + 1 := ⟨n - 1, by omega⟩
    unfold f_X3_drop_n58
    obtain ⟨a1, a2⟩ := h61 k (by omega)
    obtain ⟨b1, b2⟩ := h62 k (Nat.le_refl _) (by omega)
    rw [h59, if_neg (by rw [i_le (by omega) (by omega)]; omega), g_mA_i (show k < 40 by omega) (by omega), a1]
    simp only [Option.bind_some]
    by_cases e : z_at s k = t
    · rw [if_pos (by rw [e]), g_mA_i (show k < 40 by omega) (by omega), b1]
      simp only [Option.bind_some]
      by_cases e0 : z_ab s k = 0
      · rw [if_pos (by rw [e0]; rfl), i_lit 1, i_add]
        obtain ⟨M', f1, f2, f3, f4⟩ := ih (k + 1) n c M h59 hna h61 (fun j h1 h2 => h62 j (by omega) h2) (by omega) (by omega) (by omega)
        refine ⟨M', ?_, f2, fun j hj => f3 j (by omega), fun j h1 h2 => ?_⟩
        · rw [f1]
          simp [dp_c, List.range'_succ, e0]
        · by_cases ek : j = k
          · subst ek
            rw [f3 j (by omega), b1, e0]
            simp
          · exact f4 j (by omega) h2
      · rw [if_neg (by rw [show (0 : Int32) = i_ 0 from rfl, i_inj (by omega) (by omega)]; exact e0), p_mA_i (show k < 40 by omega) (by omega)]
        simp only [Option.bind_some]
        rw [i_lit 1, i_add, i_add]
        obtain ⟨M', f1, f2, f3, f4⟩ := ih (k + 1) n (c + 1) (m_sA M 62 k (0 : Int32)) h59 hna (fun j hj => by rw [mA_same (by decide)]; exact h61 j hj) (fun j h1 h2 => by rw [mA_off (by omega)]; exact h62 j (by omega) h2) (by omega) (by omega) (by omega)
        refine ⟨M', ?_, (MKeep.set (by decide)).tr f2, fun j hj => ?_, fun j h1 h2 => ?_⟩
        · rw [f1]
          simp [dp_c, List.range'_succ, e, e0]
          congr 1
          omega
        · rw [f3 j (by omega), mA_off (by omega)]
        · by_cases ek : j = k
          · subst ek
            rw [f3 j (by omega), mA_on, if_pos e]
            rfl
          · exact f4 j (by omega) h2
    · rw [if_neg (by rw [i_inj (by omega) (by omega)]; exact e), i_lit 1, i_add]
      obtain ⟨M', f1, f2, f3, f4⟩ := ih (k + 1) n c M h59 hna h61 (fun j h1 h2 => h62 j (by omega) h2) (by omega) (by omega) (by omega)
      refine ⟨M', ?_, f2, fun j hj => f3 j (by omega), fun j h1 h2 => ?_⟩
      · rw [f1]
        simp [dp_c, List.range'_succ, e]
      · by_cases ek : j = k
        · subst ek
          rw [f3 j (by omega), b1, if_neg e]
        · exact f4 j (by omega) h2
