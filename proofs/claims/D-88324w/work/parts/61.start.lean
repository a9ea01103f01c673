def strB : Nat → List Int32 := fun j => match j with
  | 0 => [118, 105, 101, 119]
  | 1 => [99, 111, 112, 121]
  | 2 => [116, 97, 98, 108, 101]
  | 3 => [102, 114, 111, 109]
  | 4 => [119, 104, 101, 114, 101]
  | 5 => [108, 101, 110]
  | 6 => [115, 116, 114]
  | 7 => [116, 97, 98, 108, 101]
  | 8 => [118, 105, 101, 119]
  | 9 => [99, 111, 112, 121]
  | 10 => []
  | 11 => [110]
  | 12 => [116]
  | 13 => [100]
  | 14 => [108, 101, 110]
  | 15 => [41]
  | 16 => [115, 116, 114]
  | 17 => [43]
  | 18 => [45]
  | 19 => [38]
  | 20 => [102, 114, 111, 109]
  | 21 => [119, 104, 101, 114, 101]
  | 22 => [60]
  | 23 => [61]
  | 24 => []
  | 25 => []
  | _ => []
theorem st_sAll {A : Array Value} {s : State} {F : Nat → Prop} (hA : ∀ a : Nat, a < s.heap.size → ¬ F a) (hts : ∀ w ∈ lw_tbl, w.before A s = true) (hs : ∀ c ∈ flatC st_C, c.before A s = true) : ∀ (j : Nat) (r : String × Nat × String), strTab[j]? = some r → StS s F r.1 r.2.1 r.2.2 (strB j).length (strB j) := fun j r h => match j, h with
  | 0, h => by cases h; exact st_s0 hA hts hs
  | 1, h => by cases h; exact st_s1 hA hts hs
  | 2, h => by cases h; exact st_s2 hA hts hs
  | 3, h => by cases h; exact st_s3 hA hts hs
  | 4, h => by cases h; exact st_s4 hA hts hs
  | 5, h => by cases h; exact st_s5 hA hts hs
  | 6, h => by cases h; exact st_s6 hA hts hs
  | 7, h => by cases h; exact st_s7 hA hts hs
  | 8, h => by cases h; exact st_s8 hA hts hs
  | 9, h => by cases h; exact st_s9 hA hts hs
  | 10, h => by cases h; exact st_s10 hA hts hs
  | 11, h => by cases h; exact st_s11 hA hts hs
  | 12, h => by cases h; exact st_s12 hA hts hs
  | 13, h => by cases h; exact st_s13 hA hts hs
  | 14, h => by cases h; exact st_s14 hA hts hs
  | 15, h => by cases h; exact st_s15 hA hts hs
  | 16, h => by cases h; exact st_s16 hA hts hs
  | 17, h => by cases h; exact st_s17 hA hts hs
  | 18, h => by cases h; exact st_s18 hA hts hs
  | 19, h => by cases h; exact st_s19 hA hts hs
  | 20, h => by cases h; exact st_s20 hA hts hs
  | 21, h => by cases h; exact st_s21 hA hts hs
  | 22, h => by cases h; exact st_s22 hA hts hs
  | 23, h => by cases h; exact st_s23 hA hts hs
  | 24, h => by cases h; exact st_s24 hA hts hs
  | 25, h => by cases h; exact st_s25 hA hts hs
  | k + 26, h => by cases h
def cl_i (H : Heap) (a j : Nat) : Int32 := match H[a]? with
  | some c => (match c.slots[j]? with
    | some (.int x) => x
    | _ => 0)
  | none => 0
def cl_r (H : Heap) (a j : Nat) : Option Nat := match H[a]? with
  | some c => (match c.slots[j]? with
    | some (.ref x) => some x
    | _ => none)
  | none => none
def cl_n (H : Heap) (a : Nat) : Nat := match H[a]? with
  | some c => c.slots.size % 4294967296
  | none => 0
theorem cl_i_of {H : Heap} {a j : Nat} {c : Cell} {x : Int32} (h : H[a]? = some c) (k : c.slots[j]? = some (.int x)) : cl_i H a j = x := by
  unfold cl_i
  rw [h]
  simp only [k]
theorem cl_r_of {H : Heap} {a j : Nat} {c : Cell} {x : Nat} (h : H[a]? = some c) (k : c.slots[j]? = some (.ref x)) : cl_r H a j = some x := by
  unfold cl_r
  rw [h]
  simp only [k]
theorem cl_n_of {H : Heap} {a : Nat} {c : Cell} (h : H[a]? = some c) : cl_n H a = c.slots.size % 4294967296 := by
  unfold cl_n
  rw [h]
theorem cl_n_N {H : Heap} {a N : Nat} {c : Cell} (h : H[a]? = some c) (k : c.slots.size.toInt32 = Int32.ofNat N) (hN : N < 2 ^ 31) : cl_n H a = N := by
  rw [cl_n_of h]
  have h1 := congrArg Int32.toUInt32 k
  have h2 := congrArg UInt32.toNat h1
  have e1 : (Int32.toUInt32 c.slots.size.toInt32).toNat = c.slots.size % 4294967296 := by
    show (UInt32.ofNat c.slots.size).toNat = _
    simp
  have e2 : (Int32.toUInt32 (Int32.ofNat N)).toNat = N % 4294967296 := by
    show (UInt32.ofNat N).toNat = _
    simp
  rw [e1, e2] at h2
  rw [h2]
  exact Nat.mod_eq_of_lt (by omega)
def cs_ (H : Heap) (iS : Nat → Nat) (cl : Nat → Nat) (ks : Nat → Nat) (kr : Nat → Option Nat) : HS :=
  (fun k a => if 142 ≤ k ∧ k ≤ 144 then cl_i H a (iS (k - 141)) else 0, fun _ _ => 0, fun k a => if k = 141 then cl_r H a (iS 0) else none, fun a j => cl_i H a j, fun _ _ => 0, fun _ _ => none, cl, fun a => cl_n H a, fun _ => false, H.size, 0, ks, kr)
def P13 (H : Heap) (cS : ClassId) (iS : Nat → Nat) (a : Nat) : Prop := ∃ cell : Cell, H[a]? = some cell ∧ cell.vm ≠ .unknown ∧ cell.vm.isStatics = false ∧ cell.cls = cS ∧ cell.slots[iS 0]? = some (va_rf (cl_r H a (iS 0))) ∧ cell.slots[iS 1]? = some (.int (cl_i H a (iS 1))) ∧ cell.slots[iS 2]? = some (.int (cl_i H a (iS 2))) ∧ cell.slots[iS 3]? = some (.int (cl_i H a (iS 3)))
def PAr (s : State) (ty : FieldType) (a : Nat) : Prop := ∃ cell : Cell, s.heap[a]? = some cell ∧ s.isArrayOf cell ty ∧ cell.vm ≠ .unknown ∧ ∀ j, j < cl_n s.heap a → cell.slots[j]? = some (.int (cl_i s.heap a j))
def P35 (s : State) (cO : ClassId) (a : Nat) : Prop := ∃ cell : Cell, s.heap[a]? = some cell ∧ s.isArrayOf cell (.object "java/lang/Object") ∧ cell.vm ≠ .unknown ∧ cl_n s.heap a = 0 ∧ cell.cls = cO ∧ cell.vm.isStatics = false
theorem st_cl (s : State) (cS cO : ClassId) (iS : Nat → Nat) : ∃ cl : Nat → Nat, ∀ a, (P13 s.heap cS iS a → cl a = 13) ∧ (¬ P13 s.heap cS iS a → PAr s .byte a → cl a = 32) ∧ (¬ P13 s.heap cS iS a → ¬ PAr s .byte a → PAr s .int a → cl a = 31) ∧ (¬ P13 s.heap cS iS a → ¬ PAr s .byte a → ¬ PAr s .int a → P35 s cO a → cl a = 35) ∧ (cl a = 0 ∨ (cl a = 13 ∧ P13 s.heap cS iS a) ∨ (cl a = 32 ∧ PAr s .byte a) ∨ (cl a = 31 ∧ PAr s .int a) ∨ (cl a = 35 ∧ P35 s cO a)) := by
  have key : ∀ a : Nat, ∃ x : Nat, (P13 s.heap cS iS a → x = 13) ∧ (¬ P13 s.heap cS iS a → PAr s .byte a → x = 32) ∧ (¬ P13 s.heap cS iS a → ¬ PAr s .byte a → PAr s .int a → x = 31) ∧ (¬ P13 s.heap cS iS a → ¬ PAr s .byte a → ¬ PAr s .int a → P35 s cO a → x = 35) ∧ (x = 0 ∨ (x = 13 ∧ P13 s.heap cS iS a) ∨ (x = 32 ∧ PAr s .byte a) ∨ (x = 31 ∧ PAr s .int a) ∨ (x = 35 ∧ P35 s cO a)) := by
   intro a
   by_cases h1 : P13 s.heap cS iS a
   · exact ⟨13, fun _ => rfl, fun h => absurd h1 h, fun h => absurd h1 h, fun h => absurd h1 h, Or.inr (Or.inl ⟨rfl, h1⟩)⟩
   · by_cases h2 : PAr s .byte a
     · exact ⟨32, fun h => absurd h h1, fun _ _ => rfl, fun _ h => absurd h2 h, fun _ h => absurd h2 h, Or.inr (Or.inr (Or.inl ⟨rfl, h2⟩))⟩
     · by_cases h3 : PAr s .int a
       · exact ⟨31, fun h => absurd h h1, fun _ h => absurd h h2, fun _ _ _ => rfl, fun _ _ h => absurd h3 h, Or.inr (Or.inr (Or.inr (Or.inl ⟨rfl, h3⟩)))⟩
       · by_cases h4 : P35 s cO a
         · exact ⟨35, fun h => absurd h h1, fun _ h => absurd h h2, fun _ _ h => absurd h h3, fun _ _ _ _ => rfl, Or.inr (Or.inr (Or.inr (Or.inr ⟨rfl, h4⟩)))⟩
         · exact ⟨0, fun h => absurd h h1, fun _ h => absurd h h2, fun _ _ h => absurd h h3, fun _ _ _ h => absurd h h4, Or.inl rfl⟩
  exact Classical.axiomOfChoice key
theorem isA_kind {s : State} {cell : Cell} {ty : FieldType} (h : s.isArrayOf cell ty) : ∃ (k : Class) (comp : ClassId), s.vm.classes[cell.cls]? = some k ∧ k.kind = .array comp ty := by
  obtain ⟨-, k, h1, comp, h2⟩ := h
  exact ⟨k, comp, h1, h2⟩
theorem isA_ne {s : State} {cell : Cell} {t u : FieldType} (h : s.isArrayOf cell t) (k : s.isArrayOf cell u) : t = u := by
  obtain ⟨a, c, h1, h2⟩ := isA_kind h
  obtain ⟨a', c', k1, k2⟩ := isA_kind k
  cases h1.symm.trans k1
  cases h2.symm.trans k2
  rfl
theorem not13 {s : State} {cS : ClassId} {iS : Nat → Nat} {a : Nat} {cell : Cell} {ty : FieldType} (hc : ∃ k : Class, s.vm.classes[cS]? = some k ∧ k.kind = .ordinary) (h : s.heap[a]? = some cell) (k : s.isArrayOf cell ty) : ¬ P13 s.heap cS iS a := by
  intro hp
  obtain ⟨c, h1, -, -, h2, -⟩ := hp
  cases h.symm.trans h1
  obtain ⟨kc, q1, q2⟩ := hc
  obtain ⟨a', c', k1, k2⟩ := isA_kind k
  rw [h2] at k1
  cases q1.symm.trans k1
  rw [q2] at k2
  cases k2
theorem notAr {s : State} {a : Nat} {cell : Cell} {t u : FieldType} (h : s.heap[a]? = some cell) (k : s.isArrayOf cell t) (hne : t ≠ u) : ¬ PAr s u a := by
  intro hp
  obtain ⟨c, h1, h2, -⟩ := hp
  cases h.symm.trans h1
  exact hne (isA_ne k h2)
/-- what is known of a String constant -/
def StrAt (S : HS) (q : Nat) (B : List Int32) : Prop := h_cl S q = 13 ∧ h_fI S 142 q = 0 ∧ ∃ v, h_fR S 141 q = some v ∧ h_cl S v = 32 ∧ h_ln S v = B.length ∧ ∀ k, k < B.length → h_aI S v k = B.getD k 0
def CF (S : HS) (b L : Nat) (xs : Nat → Int32) : Prop := (∀ j, j < 26 → StrAt S (h_ks S j) (strB j)) ∧ (h_cl S b = 31 ∧ h_ln S b = L ∧ ∀ k, k < L → h_aI S b k = xs k) ∧ (h_cl S (h_ks S 30) = 35 ∧ h_ln S (h_ks S 30) = 0) ∧ (h_cl S (h_ks S 31) = 35 ∧ h_ln S (h_ks S 31) = 0) ∧ h_ks S 30 ≠ h_ks S 31
