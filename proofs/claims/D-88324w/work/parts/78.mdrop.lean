theorem M_drop_b {M : MS} {s : SP} (h : RMa M s) (hk : RMk M s) {t : Nat} (ht : t < z_n s) : ∀ (r k n : Nat) (b : Bool), k + r = z_n s → r < n → b = (List.range' k r).any (fun u => z_th s u && (List.range' 0 (z_nb s u)).any fun j => decide (z_fr s u j = t)) →
    ∃ M', f_X3_drop_n12 n (i_ t) (i_ k) M = some (if b = true then -2 else i_ (dp_c s t (List.range' 0 (z_na s))), M') ∧
      (if b = true then M' = M else RMa M' (dp_s s t) ∧ RMk M' (dp_s s t) ∧ MKeep [1, 62] M M') := by
  have h2 := h.2.1
  intro r
  induction r with
  | zero =>
    intro k n b hkr hn hb9
    obtain ⟨n, rfl⟩ : ∃ m, n = m + 1 := ⟨n - 1, by omega⟩
    obtain ⟨k1, k2, k3⟩ := hk
    unfold f_X3_drop_n12
    rw [h.1, if_pos (by rw [i_le (by omega) (by omega)]; omega), p_mA_i (show t < 17 by omega) (by omega)]
    simp only [Option.bind_some]
    obtain ⟨M', f1, f2, f3, f4⟩ := M_drop_a (s := s) (t := t) (by omega) (z_na s) 0 fu_ 0 (m_sA M 1 t (vp_nar .boolean 0)) k1 k2 (fun j hj => by rw [mA_same (by decide)]; exact ⟨(k3 j hj).1.1, by have := (k3 j hj).1.2; omega⟩) (fun j _ hj => by rw [mA_same (by decide)]; exact (k3 j hj).2.1) (by omega) (by omega) (by rw [fu_eq]; omega)
    obtain ⟨g1, g2, g3, g4⟩ := f2
    refine ⟨M', ?_, ?_⟩
    · refine Eq.trans f1 ?_
      rw [Nat.zero_add, hb9]
      rfl
    · rw [hb9, if_neg (by exact Bool.false_ne_true)]
      refine ⟨h.upd (by rw [g1]; rfl) rfl fun u hu q => ?_, ⟨by rw [g1]; exact k1, k2, fun j hj => ?_⟩, by rw [g1]; rfl, by rw [g2]; rfl, by rw [g3]; rfl, fun j hj => ?_⟩
      · obtain ⟨r1, r2, r3, r4, r5, r6, r10⟩ := q
        have e : ∀ k, k ≠ 1 → k ≠ 62 → m_A M' k = m_A M k := fun k a b => by rw [g4 k (by simp [b]), mA_same a]
        refine ⟨?_, by rw [e 3 (by decide) (by decide)]; exact r2, by rw [e 4 (by decide) (by decide)]; exact r3, by rw [e 7 (by decide) (by decide)]; exact r4, by rw [e 8 (by decide) (by decide)]; exact r5, by rw [e 9 (by decide) (by decide), e 10 (by decide) (by decide), e 11 (by decide) (by decide), e 12 (by decide) (by decide)]; exact r6, by rw [e 6 (by decide) (by decide)]; exact r10⟩
        show m_A M' 1 u = b2i (h_up (z_th s) t false u)
        rw [g4 1 (by decide)]
        by_cases eu : u = t
        · subst eu
          rw [mA_on, up_on]
          rfl
        · rw [mA_off eu, up_off eu]
          exact r1
      · obtain ⟨⟨a1, a2⟩, ⟨b1, b2⟩, c1⟩ := k3 j hj
        refine ⟨⟨by rw [g4 61 (by decide), mA_same (by decide)]; exact a1, a2⟩, ⟨f4 j (Nat.zero_le _) hj, ?_⟩, by rw [g4 63 (by decide), mA_same (by decide)]; exact c1⟩
        show (if z_at s j = t then 0 else z_ab s j) < 64
        split
        · omega
        · exact b2
      · rw [g4 j (by simp at hj ⊢; exact hj.2), mA_same (by simp at hj; exact hj.1)]
  | succ r ih =>
    intro k n b hkr hn hb9
    obtain ⟨n, rfl⟩ : ∃ m, n = m + 1 := ⟨n - 1, by omega⟩
    unfold f_X3_drop_n12
    obtain ⟨r1, -⟩ := h.2.2 k (by omega)
    rw [h.1, if_neg (by rw [i_le (by omega) (by omega)]; omega), g_mA_i (show k < 17 by omega) (by omega), r1]
    simp only [Option.bind_some]
    rw [List.range'_succ, List.any_cons] at hb9
    obtain ⟨M', f1, f2⟩ := ih (k + 1) n _ (by omega) (by omega) rfl
    by_cases hth : z_th s k = true
    · rw [if_neg (by rw [hth]; decide), M_hasBehind h (show k < z_n s by omega) (by omega)]
      unfold o_bd
      simp only [Option.bind_some]
      by_cases hb : ((List.range' 0 (z_nb s k)).any fun j => decide (z_fr s k j = t)) = true
      · have hbt : b = true := by rw [hb9, hth, hb]; rfl
        rw [if_neg (by rw [hb]; decide)]
        exact ⟨M, by rw [if_pos hbt], by rw [if_pos hbt]⟩
      · have hb' : ((List.range' 0 (z_nb s k)).any fun j => decide (z_fr s k j = t)) = false := by simpa using hb
        rw [hb', Bool.and_false, Bool.false_or] at hb9
        rw [if_pos (by rw [hb']; decide), i_lit 1, i_add, f1, hb9]
        exact ⟨M', rfl, f2⟩
    · have hth' : z_th s k = false := by simpa using hth
      rw [hth', Bool.false_and, Bool.false_or] at hb9
      rw [if_pos (by rw [hth']; decide), i_lit 1, i_add, f1, hb9]
      exact ⟨M', rfl, f2⟩
theorem M_drop {M : MS} {s : SP} (h : RMa M s) (hk : RMk M s) (x : Int32) : ∃ M', f_X3_drop x M = some ((sp_drop s x).1, M') ∧ RMa M' (sp_drop s x).2 ∧ RMk M' (sp_drop s x).2 ∧ MKeep [1, 62] M M' := by
  unfold f_X3_drop sp_drop
  rw [M_isTable h]
  unfold o_bd
  simp only [Option.bind_some]
  cases hT : isT s x with
  | false => exact ⟨M, by simp [b2i], by simpa using h, by simpa using hk, MKeep.rf _ _⟩
  | true =>
    obtain ⟨t, rfl, ht, hth⟩ := isT_of hT
    have h2 := h.2.1
    rw [if_neg (by simp [b2i]), i_cl (by omega)]
    obtain ⟨M', f1, f2⟩ := M_drop_b h hk ht (z_n s) 0 fu_ (dp_u s t) (by omega) (by rw [fu_eq]; omega) rfl
    rw [if_pos rfl]
    refine ⟨M', ?_, ?_⟩
    · refine Eq.trans f1 ?_
      by_cases hd : dp_u s t = true
      · rw [if_pos hd, if_pos hd]
      · rw [if_neg hd, if_neg hd]
    · by_cases hd : dp_u s t = true
      · rw [if_pos hd] at f2 ⊢
        subst f2
        exact ⟨h, hk, MKeep.rf _ _⟩
      · rw [if_neg hd] at f2 ⊢
        exact f2
