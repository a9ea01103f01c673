/-! the reference's table -/
def ow_ (s : SP) : Nat → Nat → Int32
  | 0, t => z_ow s t
  | f + 1, t => if z_ow s t = -1 then (if z_nb s t = 0 then z_ow s t else ow_ s f (z_fr s t 0)) else z_ow s t
theorem M_ownerOf_l {M : MS} {s : SP} (h : RMa M s) : ∀ (f t n : Nat), t < z_n s → t < f → t < n → f_X3_ownerOf_n2 n (i_ t) M = some (ow_ s f t, M) := by
  have h2 := h.2.1
  intro f
  induction f with
  | zero => intro t n _ h9; exact absurd h9 (Nat.not_lt_zero t)
  | succ f ih =>
    intro t n ht htf hn
    obtain ⟨n, rfl⟩ : ∃ m, n = m + 1 := ⟨n - 1, by omega⟩
    obtain ⟨-, -, -, ⟨q4, q4'⟩, q5, ⟨q6, -⟩, -⟩ := h.2.2 t ht
    unfold f_X3_ownerOf_n2 f_X3_ownerOf_n33 ow_
    rw [g_mA_i (show t < 17 by omega) (by omega), q6]
    simp only [Option.bind_some]
    by_cases e : z_ow s t = -1
    · rw [if_pos e, if_pos e, g_mA_i (show t < 17 by omega) (by omega), q4]
      simp only [Option.bind_some]
      by_cases e0 : z_nb s t = 0
      · rw [if_pos (by rw [e0]; decide), if_pos e0]
      · rw [if_neg (by rw [show (0 : Int32) = i_ 0 from rfl, i_le (by omega) (by omega)]; omega), if_neg e0]
        obtain ⟨b1, b2⟩ := q5 0 (by omega)
        rw [i_lit 3, i_mul, g_mA_i (show 3 * t < 51 by omega) (by omega)]
        rw [show 3 * t = 3 * t + 0 from rfl, b1]
        simp only [Option.bind_some]
        exact ih _ n (by omega) (by omega) (by omega)
    · rw [if_neg e, if_neg e]
theorem M_ownerOf {M : MS} {s : SP} (h : RMa M s) {t : Nat} (ht : t < z_n s) : f_X3_ownerOf (i_ t) M = some (ow_ s (t + 1) t, M) := by
  have h2 := h.2.1
  unfold f_X3_ownerOf
  exact M_ownerOf_l h (t + 1) t fu_ ht (by omega) (by rw [fu_eq]; omega)
def sp_tab (s : SP) (t : Nat) (w : Nat) : Int32 :=
  if w = 0 then i_ (z_so s t) else if w = 1 then i_ (z_nc s t) else if w = 2 then i_ (z_nb s t) else if w < 6 then (if w - 3 < z_nb s t then i_ (z_fr s t (w - 3)) else -1) else
  if w = 6 then (yg s (t + 1) t).1 else if w = 7 then (yg s (t + 1) t).2 else if w = 8 then ow_ s (t + 1) t else if w = 9 then z_lg s t else -1
def sp_table (s : SP) (x y : Int32) : Int32 := if isT s x = true ∧ ¬ y < 0 then sp_tab s x.toNatClampNeg y.toNatClampNeg else -1
theorem M_table97 {M : MS} {s : SP} (h : RMa M s) {t w : Nat} (ht : t < z_n s) (hw : 3 ≤ w ∧ w < 6) : f_X3_table_n97 (i_ t) (i_ w) M = some (if w - 3 < z_nb s t then i_ (z_fr s t (w - 3)) else -1, M) := by
  have h2 := h.2.1
  obtain ⟨-, -, -, ⟨q4, q4'⟩, q5, -, -⟩ := h.2.2 t ht
  unfold f_X3_table_n97
  rw [g_mA_i (show t < 17 by omega) (by omega), q4]
  simp only [Option.bind_some]
  rw [i_lit 3, i_sub hw.1]
  by_cases e : w - 3 < z_nb s t
  · obtain ⟨b1, b2⟩ := q5 (w - 3) e
    rw [if_neg (by rw [i_le (by omega) (by omega)]; omega), if_pos e, i_mul, i_add, i_sub (by omega), show 3 * t + w - 3 = 3 * t + (w - 3) by omega, g_mA_i (show 3 * t + (w - 3) < 51 by omega) (by omega), b1]
    rfl
  · rw [if_pos (by rw [i_le (by omega) (by omega)]; omega), if_neg e]
theorem M_table {M : MS} {s : SP} (h : RMa M s) (x y : Int32) : ∃ M', f_X3_table x y M = some (sp_table s x y, M') ∧ MKeep [54, 55] M M' := by
  unfold f_X3_table sp_table
  rw [M_isTable h]
  unfold o_bd
  simp only [Option.bind_some]
  cases hT : isT s x with
  | false => exact ⟨M, by simp [b2i], MKeep.rf _ _⟩
  | true =>
    obtain ⟨t, rfl, ht, hth⟩ := isT_of hT
    have h2 := h.2.1
    rw [if_neg (by simp [b2i]), i_cl (by omega)]
    by_cases hy : y < 0
    · rw [if_pos hy, if_neg (by simp [hy])]
      exact ⟨M, rfl, MKeep.rf _ _⟩
    · have hr : (if (true = true ∧ ¬ y < 0) then sp_tab s t y.toNatClampNeg else -1) = sp_tab s t y.toNatClampNeg := if_pos ⟨rfl, hy⟩
      rw [if_neg hy, hr]
      clear hr
      obtain ⟨e, hb⟩ := i_of hy
      generalize y.toNatClampNeg = w at e hb
      subst e
      by_cases h9 : w ≤ 9
      · rw [if_pos (by rw [i_lit 9, i_le (by omega) (by omega)]; exact h9)]
        obtain ⟨M', f1, f2, f3⟩ := M_ages h
        have hN := h.keep f2 (by decide)
        rw [f1]
        simp only [Option.bind_some]
        obtain ⟨-, ⟨q1, -⟩, ⟨q3, -⟩, ⟨q4, -⟩, -, ⟨-, q7, -⟩, -⟩ := hN.2.2 t ht
        refine ⟨M', ?_, f2⟩
        obtain ⟨y1, y2⟩ := f3 t ht
        obtain rfl | rfl | rfl | rfl | rfl | rfl | rfl | rfl | rfl | rfl : w = 0 ∨ w = 1 ∨ w = 2 ∨ w = 3 ∨ w = 4 ∨ w = 5 ∨ w = 6 ∨ w = 7 ∨ w = 8 ∨ w = 9 := by omega
        · rw [if_pos (show i_ 0 = (0 : Int32) from rfl), g_mA_i (show t < 17 by omega) (by omega), q1]; rfl
        · rw [if_neg (show ¬ i_ 1 = (0 : Int32) by decide), if_pos (show i_ 1 = (1 : Int32) from rfl), g_mA_i (show t < 17 by omega) (by omega), q3]; rfl
        · rw [if_neg (show ¬ i_ 2 = (0 : Int32) by decide), if_neg (show ¬ i_ 2 = (1 : Int32) by decide), if_pos (show i_ 2 = (2 : Int32) from rfl), g_mA_i (show t < 17 by omega) (by omega), q4]; rfl
        · rw [if_neg (show ¬ i_ 3 = (0 : Int32) by decide), if_neg (show ¬ i_ 3 = (1 : Int32) by decide), if_neg (show ¬ i_ 3 = (2 : Int32) by decide), if_pos (show i_ 3 = (3 : Int32) from rfl)]; exact M_table97 hN ht (by omega)
        · rw [if_neg (show ¬ i_ 4 = (0 : Int32) by decide), if_neg (show ¬ i_ 4 = (1 : Int32) by decide), if_neg (show ¬ i_ 4 = (2 : Int32) by decide), if_neg (show ¬ i_ 4 = (3 : Int32) by decide), if_pos (show i_ 4 = (4 : Int32) from rfl)]; exact M_table97 hN ht (by omega)
        · rw [if_neg (show ¬ i_ 5 = (0 : Int32) by decide), if_neg (show ¬ i_ 5 = (1 : Int32) by decide), if_neg (show ¬ i_ 5 = (2 : Int32) by decide), if_neg (show ¬ i_ 5 = (3 : Int32) by decide), if_neg (show ¬ i_ 5 = (4 : Int32) by decide), if_pos (show i_ 5 = (5 : Int32) from rfl)]; exact M_table97 hN ht (by omega)
        · rw [if_neg (show ¬ i_ 6 = (0 : Int32) by decide), if_neg (show ¬ i_ 6 = (1 : Int32) by decide), if_neg (show ¬ i_ 6 = (2 : Int32) by decide), if_neg (show ¬ i_ 6 = (3 : Int32) by decide), if_neg (show ¬ i_ 6 = (4 : Int32) by decide), if_neg (show ¬ i_ 6 = (5 : Int32) by decide), if_pos (show i_ 6 = (6 : Int32) from rfl), g_mA_i (show t < 17 by omega) (by omega), y1]; rfl
        · rw [if_neg (show ¬ i_ 7 = (0 : Int32) by decide), if_neg (show ¬ i_ 7 = (1 : Int32) by decide), if_neg (show ¬ i_ 7 = (2 : Int32) by decide), if_neg (show ¬ i_ 7 = (3 : Int32) by decide), if_neg (show ¬ i_ 7 = (4 : Int32) by decide), if_neg (show ¬ i_ 7 = (5 : Int32) by decide), if_neg (show ¬ i_ 7 = (6 : Int32) by decide), if_pos (show i_ 7 = (7 : Int32) from rfl), g_mA_i (show t < 17 by omega) (by omega), y2]; rfl
        · rw [if_neg (show ¬ i_ 8 = (0 : Int32) by decide), if_neg (show ¬ i_ 8 = (1 : Int32) by decide), if_neg (show ¬ i_ 8 = (2 : Int32) by decide), if_neg (show ¬ i_ 8 = (3 : Int32) by decide), if_neg (show ¬ i_ 8 = (4 : Int32) by decide), if_neg (show ¬ i_ 8 = (5 : Int32) by decide), if_neg (show ¬ i_ 8 = (6 : Int32) by decide), if_neg (show ¬ i_ 8 = (7 : Int32) by decide), if_pos (show i_ 8 = (8 : Int32) from rfl), M_ownerOf hN ht]; rfl
        · rw [if_neg (show ¬ i_ 9 = (0 : Int32) by decide), if_neg (show ¬ i_ 9 = (1 : Int32) by decide), if_neg (show ¬ i_ 9 = (2 : Int32) by decide), if_neg (show ¬ i_ 9 = (3 : Int32) by decide), if_neg (show ¬ i_ 9 = (4 : Int32) by decide), if_neg (show ¬ i_ 9 = (5 : Int32) by decide), if_neg (show ¬ i_ 9 = (6 : Int32) by decide), if_neg (show ¬ i_ 9 = (7 : Int32) by decide), if_neg (show ¬ i_ 9 = (8 : Int32) by decide), g_mA_i (show t < 17 by omega) (by omega), q7]; rfl
      · rw [if_neg (by rw [i_lit 9, i_le (by omega) (by omega)]; exact h9)]
        refine ⟨M, ?_, MKeep.rf _ _⟩
        unfold sp_tab
        rw [if_neg (by omega), if_neg (by omega), if_neg (by omega), if_neg (by omega), if_neg (by omega), if_neg (by omega), if_neg (by omega), if_neg (by omega)]
