/-! ages: the spec, and the reference's -/
def ygl (g : Nat → Int32 × Int32) : List Nat → Int32 × Int32 → Int32 × Int32
  | [], acc => acc
  | q :: l, acc => if (g q).2 = -1 then (-1, -1) else ygl g l (if acc.1 = -1 ∨ (g q).1 < acc.1 then (g q).1 else acc.1, if acc.2 < (g q).2 then (g q).2 else acc.2)
def frl (s : SP) (t k r : Nat) : List Nat := (List.range' k r).map (z_fr s t)
def yg (s : SP) : Nat → Nat → Int32 × Int32
  | 0, t => (z_ol s t, z_nw s t)
  | f + 1, t => if z_so s t = 1 then ygl (yg s f) (frl s t 0 (z_nb s t)) (-1, -1) else (z_ol s t, z_nw s t)
theorem ygl_congr {g g' : Nat → Int32 × Int32} : ∀ (l : List Nat) (acc : Int32 × Int32), (∀ q ∈ l, g q = g' q) → ygl g l acc = ygl g' l acc
  | [], _, _ => rfl
  | q :: l, acc, h => by
    unfold ygl
    rw [h q List.mem_cons_self, ygl_congr l _ (fun x hx => h x (List.mem_cons_of_mem _ hx))]
theorem yg_stable {s : SP} (hfr : ∀ t, t < z_n s → ∀ k, k < z_nb s t → z_fr s t k < t) : ∀ (f f' t : Nat), t < z_n s → t < f → t < f' → yg s f t = yg s f' t
  | 0, _, _, _, h, _ => absurd h (Nat.not_lt_zero _)
  | _, 0, _, _, _, h => absurd h (Nat.not_lt_zero _)
  | f + 1, f' + 1, t, ht, h1, h2 => by
    unfold yg
    by_cases h : z_so s t = 1
    · rw [if_pos h, if_pos h]
      refine ygl_congr _ _ fun q hq => ?_
      obtain ⟨k, hk, rfl⟩ := List.mem_map.mp hq
      have hk' := List.mem_range'_1.mp hk
      have := hfr t ht k (by omega)
      exact yg_stable hfr f f' _ (by omega) (by omega) (by omega)
    · rw [if_neg h, if_neg h]
theorem M_agesBehind_l {s : SP} {t : Nat} (ht : t < 17) (hnb : z_nb s t ≤ 3) (G : Nat → Int32 × Int32) : ∀ (r k n : Nat) (M : MS) (acc : Int32 × Int32), m_A M 7 t = i_ (z_nb s t) → (∀ j, j < z_nb s t → m_A M 8 (3 * t + j) = i_ (z_fr s t j) ∧ z_fr s t j < t) → (∀ j, j < z_nb s t → m_A M 54 (z_fr s t j) = (G (z_fr s t j)).1 ∧ m_A M 55 (z_fr s t j) = (G (z_fr s t j)).2) →
    m_A M 54 t = acc.1 → m_A M 55 t = acc.2 → k + r = z_nb s t → r < n → ∃ M', f_X3_agesBehind_n16 n (i_ t) (i_ k) M = some M' ∧ MKeep [54, 55] M M' ∧ (∀ u, u ≠ t → m_A M' 54 u = m_A M 54 u ∧ m_A M' 55 u = m_A M 55 u) ∧ m_A M' 54 t = (ygl G (frl s t k r) acc).1 ∧ m_A M' 55 t = (ygl G (frl s t k r) acc).2 := by
  intro r
  induction r with
  | zero =>
    intro k n M acc h7 h8 hG a1 a2 hk hn
    obtain ⟨n, rfl⟩ : ∃ m, n = m + 1 := ⟨n - 1, by omega⟩
    unfold f_X3_agesBehind_n16
    rw [g_mA_i (show t < 17 by omega) (by omega), h7]
    simp only [Option.bind_some]
    rw [if_pos (by rw [i_le (by omega) (by omega)]; omega)]
    exact ⟨M, rfl, MKeep.rf _ _, fun _ _ => ⟨rfl, rfl⟩, a1, a2⟩
  | succ r ih =>
    intro k n M acc h7 h8 hG a1 a2 hk hn
    obtain ⟨n, rfl⟩ : ∃ m, n = m + 1 := ⟨n - 1, by omega⟩
    unfold f_X3_agesBehind_n16
    obtain ⟨b1, b2⟩ := h8 k (by omega)
    obtain ⟨c1, c2⟩ := hG k (by omega)
    rw [g_mA_i (show t < 17 by omega) (by omega), h7]
    simp only [Option.bind_some]
    rw [if_neg (by rw [i_le (by omega) (by omega)]; omega), i_lit 3, i_mul, i_add, g_mA_i (show 3 * t + k < 51 by omega) (by omega), b1]
    simp only [Option.bind_some]
    generalize hq : z_fr s t k = q at b1 b2 c1 c2
    rw [g_mA_i (show q < 17 by omega) (by omega), c2]
    simp only [Option.bind_some]
    have hfl : frl s t k (r + 1) = q :: frl s t (k + 1) r := by
      unfold frl
      rw [List.range'_succ, List.map_cons, hq]
    rw [hfl]
    by_cases e : (G q).2 = -1
    · rw [if_pos e, p_mA_i (show t < 17 by omega) (by omega)]
      simp only [Option.bind_some]
      rw [p_mA_i (show t < 17 by omega) (by omega)]
      refine ⟨_, rfl, (MKeep.set (by decide)).tr (MKeep.set (by decide)), fun u hu => ⟨?_, ?_⟩, ?_, ?_⟩
      · rw [mA_same (by decide), mA_off hu]
      · rw [mA_off hu, mA_same (by decide)]
      · rw [mA_same (by decide), mA_on]
        unfold ygl
        rw [if_pos e]
      · rw [mA_on]
        unfold ygl
        rw [if_pos e]
    · rw [if_neg e, g_mA_i (show t < 17 by omega) (by omega), a1]
      simp only [Option.bind_some]
      have key : ∀ (N : MS) (o : Int32), MKeep [54, 55] M N → (∀ u, u ≠ t → m_A N 54 u = m_A M 54 u ∧ m_A N 55 u = m_A M 55 u) → m_A N 54 t = o → m_A N 55 t = acc.2 → o = (if acc.1 = -1 ∨ (G q).1 < acc.1 then (G q).1 else acc.1) → ∃ M', f_X3_agesBehind_n99 (fun x1 x2 M => f_X3_agesBehind_n16 n x1 x2 M) (i_ t) (i_ k) (i_ q) N = some M' ∧ MKeep [54, 55] M M' ∧ (∀ u, u ≠ t → m_A M' 54 u = m_A M 54 u ∧ m_A M' 55 u = m_A M 55 u) ∧ m_A M' 54 t = (ygl G (q :: frl s t (k + 1) r) acc).1 ∧ m_A M' 55 t = (ygl G (q :: frl s t (k + 1) r) acc).2 := by
        intro N o kp ku k1 k2 ko
        have hqt : q ≠ t := by omega
        unfold f_X3_agesBehind_n99
        rw [g_mA_i (show q < 17 by omega) (by omega), g_mA_i (show t < 17 by omega) (by omega), (ku q hqt).2, c2, k2]
        simp only [Option.bind_some]
        have hy : ygl G (q :: frl s t (k + 1) r) acc = ygl G (frl s t (k + 1) r) (o, if acc.2 < (G q).2 then (G q).2 else acc.2) := by
          rw [ygl, if_neg e, ko]
        rw [hy]
        have step : ∀ N' : MS, MKeep [54, 55] M N' → (∀ u, u ≠ t → m_A N' 54 u = m_A M 54 u ∧ m_A N' 55 u = m_A M 55 u) → m_A N' 54 t = o → m_A N' 55 t = (if acc.2 < (G q).2 then (G q).2 else acc.2) → ∃ M', f_X3_agesBehind_n16 n (i_ t) (i_ (k + 1)) N' = some M' ∧ MKeep [54, 55] M M' ∧ (∀ u, u ≠ t → m_A M' 54 u = m_A M 54 u ∧ m_A M' 55 u = m_A M 55 u) ∧ m_A M' 54 t = (ygl G (frl s t (k + 1) r) (o, if acc.2 < (G q).2 then (G q).2 else acc.2)).1 ∧ m_A M' 55 t = (ygl G (frl s t (k + 1) r) (o, if acc.2 < (G q).2 then (G q).2 else acc.2)).2 := by
          intro N' p1 p2 p3 p4
          obtain ⟨M', f1, f2, f3, f4, f5⟩ := ih (k + 1) n N' (o, if acc.2 < (G q).2 then (G q).2 else acc.2) (by rw [p1.2.2.2 7 (by decide)]; exact h7) (fun j hj => by rw [p1.2.2.2 8 (by decide)]; exact h8 j hj) (fun j hj => by
            have := (h8 j hj).2
            rw [(p2 _ (by omega)).1, (p2 _ (by omega)).2]
            exact hG j hj) p3 p4 (by omega) (by omega)
          exact ⟨M', f1, p1.tr f2, fun u hu => ⟨((f3 u hu).1).trans (p2 u hu).1, ((f3 u hu).2).trans (p2 u hu).2⟩, f4, f5⟩
        by_cases e2 : acc.2 < (G q).2
        · rw [if_neg (by rw [Int32.not_le]; exact e2), p_mA_i (show t < 17 by omega) (by omega)]
          simp only [Option.bind_some]
          rw [i_lit 1, i_add]
          refine step _ (kp.tr (MKeep.set (by decide))) (fun u hu => ⟨?_, ?_⟩) ?_ ?_
          · rw [mA_same (by decide)]
            exact (ku u hu).1
          · rw [mA_off hu]
            exact (ku u hu).2
          · rw [mA_same (by decide)]
            exact k1
          · rw [mA_on, if_pos e2]
        · rw [if_pos (by rw [← Int32.not_lt]; exact e2), i_lit 1, i_add]
          exact step _ kp ku k1 (by rw [k2, if_neg e2])
      have key2 : acc.1 = -1 ∨ (G q).1 < acc.1 → ∃ M', f_X3_agesBehind_n87 (fun x1 x2 M => f_X3_agesBehind_n16 n x1 x2 M) (i_ t) (i_ k) (i_ q) M = some M' ∧ MKeep [54, 55] M M' ∧ (∀ u, u ≠ t → m_A M' 54 u = m_A M 54 u ∧ m_A M' 55 u = m_A M 55 u) ∧ m_A M' 54 t = (ygl G (q :: frl s t (k + 1) r) acc).1 ∧ m_A M' 55 t = (ygl G (q :: frl s t (k + 1) r) acc).2 := by
        intro ho
        unfold f_X3_agesBehind_n87
        rw [g_mA_i (show q < 17 by omega) (by omega), c1]
        simp only [Option.bind_some]
        rw [p_mA_i (show t < 17 by omega) (by omega)]
        simp only [Option.bind_some]
        exact key _ _ (MKeep.set (by decide)) (fun u hu => ⟨mA_off hu, by rw [mA_same (by decide)]⟩) mA_on (by rw [mA_same (by decide)]; exact a2) (if_pos ho).symm
      by_cases e1 : acc.1 = -1
      · rw [if_pos e1]
        exact key2 (Or.inl e1)
      · rw [if_neg e1, g_mA_i (show q < 17 by omega) (by omega), c1]
        simp only [Option.bind_some]
        by_cases e3 : (G q).1 < acc.1
        · rw [if_neg (by rw [Int32.not_le]; exact e3)]
          exact key2 (Or.inr e3)
        · rw [if_pos (by rw [← Int32.not_lt]; exact e3)]
          exact key M _ (MKeep.rf _ _) (fun _ _ => ⟨rfl, rfl⟩) a1 a2 (by rw [if_neg (by rintro (h | h); exact e1 h; exact e3 h)])
