/-! names as numbers -/
def encN (l : List Nat) : Nat := l.foldl (fun v x => 27 * v + (x - 96)) 0
def enc (l : List Nat) : Int64 := l.foldl (fun v x => 27 * v + Int64.ofNat x - 97 + 1) 0
def isL (x : Nat) : Prop := 97 ≤ x ∧ x ≤ 122
theorem encN_snoc (l : List Nat) (x : Nat) : encN (l ++ [x]) = 27 * encN l + (x - 96) := by
  unfold encN
  rw [List.foldl_append]
  rfl
theorem enc_snoc (l : List Nat) (x : Nat) : enc (l ++ [x]) = 27 * enc l + Int64.ofNat x - 97 + 1 := by
  unfold enc
  rw [List.foldl_append]
  rfl
theorem snoc_cases {α : Type} (l : List α) : l = [] ∨ ∃ (m : List α) (x : α), l = m ++ [x] := by
  rcases List.eq_nil_or_concat l with h | ⟨m, x, h⟩
  · exact Or.inl h
  · exact Or.inr ⟨m, x, by rw [h, List.concat_eq_append]⟩
theorem enc_ofN : ∀ (n : Nat) (l : List Nat), l.length = n → (∀ x ∈ l, isL x) → enc l = Int64.ofNat (encN l)
  | 0, l, h, _ => by
    cases l with
    | nil => rfl
    | cons a b => cases h
  | n + 1, l, h, hl => by
    rcases snoc_cases l with rfl | ⟨m, x, rfl⟩
    · cases h
    · have ih := enc_ofN n m (by simpa using h) (fun y hy => hl y (List.mem_append_left _ hy))
      have hx := hl x (List.mem_append_right _ (List.mem_singleton.mpr rfl))
      rw [enc_snoc, encN_snoc, ih]
      obtain ⟨h1, h2⟩ := hx
      have e : 27 * encN m + x = (27 * encN m + (x - 96)) + 96 := by omega
      have e1 : (27 : Int64) * Int64.ofNat (encN m) + Int64.ofNat x = Int64.ofNat (27 * encN m + x) := by
        rw [Int64.ofNat_add, Int64.ofNat_mul]
        rfl
      rw [e1, e, Int64.ofNat_add]
      show Int64.ofNat (27 * encN m + (x - 96)) + 96 - 97 + 1 = _
      rw [show (97 : Int64) = 96 + 1 from rfl, Int64.sub_eq_add_neg, Int64.neg_add, Int64.add_assoc, Int64.add_assoc]
      rw [show (96 : Int64) + (-96 - 1 + 1) = 0 from by decide]
      exact Int64.add_zero _
theorem encN_lt : ∀ (n : Nat) (l : List Nat), l.length = n → (∀ x ∈ l, isL x) → encN l < 27 ^ n
  | 0, l, h, _ => by
    cases l with
    | nil => decide
    | cons a b => cases h
  | n + 1, l, h, hl => by
    rcases snoc_cases l with rfl | ⟨m, x, rfl⟩
    · cases h
    · have ih := encN_lt n m (by simpa using h) (fun y hy => hl y (List.mem_append_left _ hy))
      obtain ⟨h1, h2⟩ := hl x (List.mem_append_right _ (List.mem_singleton.mpr rfl))
      rw [encN_snoc, Nat.pow_succ]
      omega
theorem encN_inj : ∀ (n : Nat) (l m : List Nat), l.length = n → (∀ x ∈ l, isL x) → (∀ x ∈ m, isL x) → encN l = encN m → l = m
  | 0, l, m, h, _, hm, e => by
    cases l with
    | cons a b => cases h
    | nil =>
      rcases snoc_cases m with rfl | ⟨k, x, rfl⟩
      · rfl
      · obtain ⟨h1, h2⟩ := hm x (List.mem_append_right _ (List.mem_singleton.mpr rfl))
        rw [encN_snoc] at e
        have : encN [] = 0 := rfl
        omega
  | n + 1, l, m, h, hl, hm, e => by
    rcases snoc_cases l with rfl | ⟨k, x, rfl⟩
    · cases h
    · obtain ⟨h1, h2⟩ := hl x (List.mem_append_right _ (List.mem_singleton.mpr rfl))
      rcases snoc_cases m with rfl | ⟨k', x', rfl⟩
      · rw [encN_snoc] at e
        have : encN [] = 0 := rfl
        omega
      · obtain ⟨h3, h4⟩ := hm x' (List.mem_append_right _ (List.mem_singleton.mpr rfl))
        rw [encN_snoc, encN_snoc] at e
        have e1 : encN k = encN k' := by omega
        have e2 : x = x' := by omega
        rw [encN_inj n k k' (by simpa using h) (fun y hy => hl y (List.mem_append_left _ hy)) (fun y hy => hm y (List.mem_append_left _ hy)) e1, e2]
theorem enc_inj {l m : List Nat} (h1 : l.length ≤ 8) (h2 : m.length ≤ 8) (hl : ∀ x ∈ l, isL x) (hm : ∀ x ∈ m, isL x) : enc l = enc m ↔ l = m := by
  constructor
  · intro e
    rw [enc_ofN _ l rfl hl, enc_ofN _ m rfl hm] at e
    have b1 := encN_lt _ l rfl hl
    have b2 := encN_lt _ m rfl hm
    have c1 : 27 ^ l.length ≤ 27 ^ 8 := Nat.pow_le_pow_right (by omega) h1
    have c2 : 27 ^ m.length ≤ 27 ^ 8 := Nat.pow_le_pow_right (by omega) h2
    have c3 : (27 : Nat) ^ 8 < 9223372036854775808 := by decide
    have e2 := congrArg Int64.toInt e
    rw [Int64.toInt_ofNat_of_lt (by omega), Int64.toInt_ofNat_of_lt (by omega)] at e2
    exact encN_inj _ l m rfl hl hm (by omega)
  · intro e
    rw [e]
