/-! the spec's parser -/
def isLb (x : Nat) : Bool := decide (97 ≤ x ∧ x ≤ 122)
def isDb (x : Nat) : Bool := decide (48 ≤ x ∧ x ≤ 57)
def isBb (x : Nat) : Bool := decide (x = 10 ∨ x = 32)
def isQb (x : Nat) : Bool := decide ((97 ≤ x ∧ x ≤ 122) ∨ x = 32)
def run (b : Nat → Bool) (T : Nat → Nat) (n : Nat) : Nat → Nat → Nat
  | 0, p => p
  | f + 1, p => if p < n ∧ b (T p) = true then run b T n f (p + 1) else p
def rn (b : Nat → Bool) (T : Nat → Nat) (n p : Nat) : Nat := run b T n (n - p) p
theorem rn_stop {b : Nat → Bool} {T : Nat → Nat} {n p : Nat} (h : ¬ (p < n ∧ b (T p) = true)) : rn b T n p = p := by
  unfold rn
  cases n - p with
  | zero => rfl
  | succ f =>
    unfold run
    rw [if_neg h]
theorem rn_go {b : Nat → Bool} {T : Nat → Nat} {n p : Nat} (h : p < n) (hb : b (T p) = true) : rn b T n p = rn b T n (p + 1) := by
  unfold rn
  rw [show n - p = (n - (p + 1)) + 1 by omega]
  conv => lhs; unfold run
  rw [if_pos ⟨h, hb⟩]
theorem rn_ge {b : Nat → Bool} {T : Nat → Nat} {n : Nat} : ∀ (f p : Nat), n - p = f → p ≤ rn b T n p ∧ (p ≤ n → rn b T n p ≤ n) ∧ (∀ i, p ≤ i → i < rn b T n p → b (T i) = true) ∧ ¬ (rn b T n p < n ∧ b (T (rn b T n p)) = true)
  | 0, p, h => by
    have hn : ¬ (p < n ∧ b (T p) = true) := fun k => by have := k.1; omega
    rw [rn_stop hn]
    exact ⟨Nat.le_refl _, id, fun i h1 h2 => by omega, hn⟩
  | f + 1, p, h => by
    by_cases hb : b (T p) = true
    · rw [rn_go (show p < n by omega) hb]
      obtain ⟨h1, h2, h3, h4⟩ := rn_ge (b := b) (T := T) (n := n) f (p + 1) (by omega)
      refine ⟨by omega, fun _ => h2 (by omega), fun i h5 h6 => ?_, h4⟩
      by_cases e : i = p
      · rw [e]
        exact hb
      · exact h3 i (by omega) h6
    · have hn : ¬ (p < n ∧ b (T p) = true) := fun h => hb h.2
      rw [rn_stop hn]
      exact ⟨Nat.le_refl _, id, fun i h1 h2 => by omega, hn⟩
theorem rn_1 (b : Nat → Bool) (T : Nat → Nat) (n p : Nat) : p ≤ rn b T n p := (rn_ge _ p rfl).1
theorem rn_2 {b : Nat → Bool} {T : Nat → Nat} {n p : Nat} (h : p ≤ n) : rn b T n p ≤ n := (rn_ge _ p rfl).2.1 h
theorem rn_3 {b : Nat → Bool} {T : Nat → Nat} {n p i : Nat} (h : p ≤ i) (k : i < rn b T n p) : b (T i) = true := (rn_ge _ p rfl).2.2.1 i h k
theorem rn_4 (b : Nat → Bool) (T : Nat → Nat) (n p : Nat) : ¬ (rn b T n p < n ∧ b (T (rn b T n p)) = true) := (rn_ge _ p rfl).2.2.2
theorem rn_rn (b : Nat → Bool) (T : Nat → Nat) (n p : Nat) : rn b T n (rn b T n p) = rn b T n p := rn_stop (rn_4 b T n p)
def sk (T : Nat → Nat) (n p : Nat) : Nat := rn isBb T n p
def lw (T : Nat → Nat) (n p : Nat) : Nat := rn isLb T n p
def dg (T : Nat → Nat) (n p : Nat) : Nat := rn isDb T n p
def lq (T : Nat → Nat) (n p : Nat) : Nat := rn isQb T n p
theorem sk_sk (T : Nat → Nat) (n p : Nat) : sk T n (sk T n p) = sk T n p := rn_rn _ _ _ _
theorem sk_ge (T : Nat → Nat) (n p : Nat) : p ≤ sk T n p := rn_1 _ _ _ _
theorem sk_le {T : Nat → Nat} {n p : Nat} (h : p ≤ n) : sk T n p ≤ n := rn_2 h
def chp (T : Nat → Nat) (n p : Nat) : Nat := if p < n then T p else 256
theorem chp_lt {T : Nat → Nat} {n p : Nat} (h : chp T n p ≠ 256) : p < n := by
  unfold chp at h
  by_cases e : p < n
  · exact e
  · rw [if_neg e] at h
    exact absurd rfl h
theorem chp_T {T : Nat → Nat} {n p : Nat} (h : p < n) : chp T n p = T p := if_pos h
def sl (T : Nat → Nat) (p q : Nat) : List Nat := (List.range' p (q - p)).map T
theorem sl_len (T : Nat → Nat) (p q : Nat) : (sl T p q).length = q - p := by
  unfold sl
  rw [List.length_map, List.length_range']
theorem sl_mem {T : Nat → Nat} {p q x : Nat} (h : x ∈ sl T p q) : ∃ i, p ≤ i ∧ i < q ∧ x = T i := by
  unfold sl at h
  obtain ⟨i, h1, h2⟩ := List.mem_map.mp h
  rw [List.mem_range'_1] at h1
  exact ⟨i, h1.1, by omega, h2.symm⟩
theorem sl_get {T : Nat → Nat} {p q i : Nat} (h : i < q - p) : (sl T p q).getD i 0 = T (p + i) := by
  unfold sl
  rw [List.getD_eq_getElem?_getD, List.getElem?_map, List.getElem?_range' h]
  simp
theorem sl_1 (T : Nat → Nat) (p : Nat) : sl T p (p + 1) = [T p] := by
  unfold sl
  rw [show p + 1 - p = 1 by omega]
  rfl
theorem sl_cons {T : Nat → Nat} {p q : Nat} (h : p < q) : sl T p q = T p :: sl T (p + 1) q := by
  unfold sl
  rw [show q - p = (q - (p + 1)) + 1 by omega, List.range'_succ]
  rfl
theorem sl_snoc {T : Nat → Nat} {p q : Nat} (h : p ≤ q) : sl T p (q + 1) = sl T p q ++ [T q] := by
  unfold sl
  rw [show q + 1 - p = (q - p) + 1 by omega, List.range'_concat, List.map_append, show p + 1 * (q - p) = q by omega]
  rfl
/-- tokens: kind, place, bytes; a formula's: kind, what, place, names -/
abbrev Rk : Type := Nat × Nat × List Nat
abbrev Nk : Type := Nat × Nat × Nat × List Nat × List Nat
abbrev PF : Type := Nat ⊕ (List Rk × List Nk × Nat)
def pb {α β : Type} (x : Nat ⊕ α) (f : α → Nat ⊕ β) : Nat ⊕ β := match x with
  | .inl e => .inl e
  | .inr a => f a
theorem pb_inl {α β : Type} (e : Nat) (f : α → Nat ⊕ β) : pb (.inl e) f = .inl e := rfl
theorem pb_inr {α β : Type} (a : α) (f : α → Nat ⊕ β) : pb (.inr a) f = f a := rfl
theorem pb_r {α β : Type} {x : Nat ⊕ α} {f : α → Nat ⊕ β} {b : β} (h : pb x f = .inr b) : ∃ a, x = .inr a ∧ f a = .inr b := by
  cases x with
  | inl e => cases h
  | inr a => exact ⟨a, rfl, h⟩
def kwl : List (List Nat) := [[118, 105, 101, 119], [99, 111, 112, 121], [116, 97, 98, 108, 101], [102, 114, 111, 109], [119, 104, 101, 114, 101], [108, 101, 110], [115, 116, 114]]
def pname (T : Nat → Nat) (n p : Nat) : Nat ⊕ (List Nat × Nat × Nat) :=
  if isLb (chp T n (sk T n p)) = true then
    if lw T n (sk T n p) ≤ sk T n p + 8 then
      if sl T (sk T n p) (lw T n (sk T n p)) ∈ kwl then .inl (sk T n p) else .inr (sl T (sk T n p) (lw T n (sk T n p)), sk T n p, lw T n (sk T n p))
    else .inl (sk T n p + 8)
  else .inl (sk T n p)
def psg (c : Nat) (T : Nat → Nat) (n p : Nat) : Nat ⊕ (Rk × Nat) := if chp T n (sk T n p) = c then .inr ((c, sk T n p, [c]), sk T n p + 1) else .inl (sk T n p)
def pwd (w : List Nat) (T : Nat → Nat) (n p : Nat) : Bool := isLb (chp T n (sk T n p)) && decide (sl T (sk T n p) (lw T n (sk T n p)) = w)
def pnum (T : Nat → Nat) (n q : Nat) : PF := if dg T n q ≤ q + 4 then .inr ([(2, q, sl T q (dg T n q))], [(0, 0, q, [], [])], dg T n q) else .inl (q + 4)
def plet (T : Nat → Nat) (n q : Nat) : PF := if chp T n (lq T n (q + 1)) = 39 then .inr ([(3, q, sl T q (lq T n (q + 1) + 1))], [(1, 0, q, [], [])], lq T n (q + 1) + 1) else .inl (lq T n (q + 1))
def pnm (T : Nat → Nat) (n p : Nat) : PF := pb (pname T n p) fun a => pb (psg 46 T n a.2.2) fun b => pb (pname T n b.2) fun c => .inr ([(1, a.2.1, a.1), b.1, (1, c.2.1, c.1)], [(2, c.2.1, a.2.1, a.1, c.1)], c.2.2)
def pcl (full : Bool) (pf : Nat → PF) (T : Nat → Nat) (n kx q : Nat) : PF :=
  if chp T n (sk T n (lw T n q)) = 40 ∧ full = false then
    pb (pf (sk T n (lw T n q) + 1)) fun a => pb (psg 41 T n a.2.2) fun b => .inr ((1, q, sl T q (lw T n q)) :: (40, sk T n (lw T n q), [40]) :: (a.1 ++ [b.1]), (3, kx, q, [], []) :: (a.2.1 ++ [(4, 0, 0, [], [])]), b.2)
  else .inl (sk T n (lw T n q))
def ptm (full : Bool) (pf : Nat → PF) (T : Nat → Nat) (n p : Nat) : PF :=
  if isDb (chp T n (sk T n p)) = true then pnum T n (sk T n p)
  else if chp T n (sk T n p) = 39 then plet T n (sk T n p)
  else if pwd [108, 101, 110] T n p = true then pcl full pf T n 116 (sk T n p)
  else if pwd [115, 116, 114] T n p = true then pcl full pf T n 110 (sk T n p)
  else pnm T n p
def isSg (c : Nat) : Bool := decide (c = 43 ∨ c = 45 ∨ c = 38)
def plp (pt : Nat → PF) (T : Nat → Nat) (n : Nat) : Nat → Nat → PF
  | 0, p => if isSg (chp T n (sk T n p)) = true then .inl (sk T n p) else .inr ([], [], sk T n p)
  | r + 1, p => if isSg (chp T n (sk T n p)) = true then
      pb (pt (sk T n p + 1)) fun a => pb (plp pt T n r a.2.2) fun b => .inr ((chp T n (sk T n p), sk T n p, [chp T n (sk T n p)]) :: (a.1 ++ b.1), (5, chp T n (sk T n p), sk T n p, [], []) :: (a.2.1 ++ b.2.1), b.2.2)
    else .inr ([], [], sk T n p)
def pfl (pt : Nat → PF) (T : Nat → Nat) (n p : Nat) : PF := pb (pt p) fun a => pb (plp pt T n 5 a.2.2) fun b => .inr (a.1 ++ b.1, a.2.1 ++ b.2.1, b.2.2)
def pform (T : Nat → Nat) (n : Nat) : Nat → Nat → PF
  | 0 => pfl (ptm true (fun _ => .inl 0) T n) T n
  | d + 1 => pfl (ptm false (pform T n d) T n) T n
abbrev Cs : Type := List Nat × Nat × List Rk × List Nk
def pcol (T : Nat → Nat) (n : Nat) : Nat → Nat → Nat ⊕ (List Rk × List Cs × Nat)
  | 0, p => .inl (sk T n p)
  | r + 1, p => pb (pname T n p) fun a => pb (psg 58 T n a.2.2) fun b => pb (pform T n 3 b.2) fun c =>
    if chp T n (sk T n c.2.2) = 44 then pb (pcol T n r (sk T n c.2.2 + 1)) fun d => .inr ((1, a.2.1, a.1) :: b.1 :: (c.1 ++ (44, sk T n c.2.2, [44]) :: d.1), (a.1, a.2.1, c.1, c.2.1) :: d.2.1, d.2.2)
    else .inr ((1, a.2.1, a.1) :: b.1 :: c.1, [(a.1, a.2.1, c.1, c.2.1)], sk T n c.2.2)
def pfrm (T : Nat → Nat) (n : Nat) : Nat → Nat → Nat ⊕ (List Rk × List (List Nat × Nat) × Nat)
  | 0, p => .inl (sk T n p)
  | r + 1, p => pb (pname T n p) fun a =>
    if chp T n (sk T n a.2.2) = 44 then pb (pfrm T n r (sk T n a.2.2 + 1)) fun d => .inr ((1, a.2.1, a.1) :: (44, sk T n a.2.2, [44]) :: d.1, (a.1, a.2.1) :: d.2.1, d.2.2)
    else .inr ([(1, a.2.1, a.1)], [(a.1, a.2.1)], sk T n a.2.2)
/-- a where: left tokens, left, the sign's place, right tokens, right -/
abbrev Wh : Type := (List Rk × List Nk) × (Nat × Nat) × List Rk × List Nk
def pwh (T : Nat → Nat) (n p : Nat) : Nat ⊕ (List Rk × Option Wh × Nat) :=
  if pwd [119, 104, 101, 114, 101] T n p = true then
    pb (pform T n 3 (lw T n (sk T n p))) fun a =>
      if chp T n (sk T n a.2.2) = 60 ∨ chp T n (sk T n a.2.2) = 61 then
        pb (pform T n 3 (sk T n a.2.2 + 1)) fun b => .inr ((1, sk T n p, [119, 104, 101, 114, 101]) :: (a.1 ++ (chp T n (sk T n a.2.2), sk T n a.2.2, [chp T n (sk T n a.2.2)]) :: b.1), some ((a.1, a.2.1), (chp T n (sk T n a.2.2), sk T n a.2.2), b.1, b.2.1), b.2.2)
      else .inl (sk T n a.2.2)
  else .inr ([], none, sk T n p)
/-- a statement behind its name: tokens, columns (select), from, where; the place behind -/
abbrev Sl : Type := List Rk × List Cs × List (List Nat × Nat) × Option Wh × Nat
def psel (T : Nat → Nat) (n p : Nat) : Nat ⊕ Sl :=
  pb (psg 61 T n p) fun a => pb (pcol T n 6 a.2) fun b =>
    if pwd [102, 114, 111, 109] T n b.2.2 = true then
      pb (pfrm T n 3 (lw T n (sk T n b.2.2))) fun c => pb (pwh T n c.2.2) fun d => .inr (a.1 :: (b.1 ++ (1, sk T n b.2.2, [102, 114, 111, 109]) :: (c.1 ++ d.1)), b.2.1, c.2.1, d.2.1, d.2.2)
    else .inl (sk T n b.2.2)
def ptyp (T : Nat → Nat) (n p : Nat) : Nat ⊕ (Nat × Nat × Nat) :=
  if isLb (chp T n (sk T n p)) = true ∧ sl T (sk T n p) (lw T n (sk T n p)) ∈ ([[110], [116], [100]] : List (List Nat)) then .inr (T (sk T n p), sk T n p, lw T n (sk T n p)) else .inl (sk T n p)
def psr (T : Nat → Nat) (n : Nat) : Nat → Nat → Nat ⊕ (List Rk × List (List Nat × Nat × Nat) × Nat)
  | 0, p => .inl (sk T n p)
  | r + 1, p => pb (pname T n p) fun a => pb (ptyp T n a.2.2) fun b =>
    if chp T n (sk T n b.2.2) = 44 then pb (psr T n r (sk T n b.2.2 + 1)) fun d => .inr ((1, a.2.1, a.1) :: (1, b.2.1, [b.1]) :: (44, sk T n b.2.2, [44]) :: d.1, (a.1, a.2.1, b.1) :: d.2.1, d.2.2)
    else .inr ([(1, a.2.1, a.1), (1, b.2.1, [b.1])], [(a.1, a.2.1, b.1)], sk T n b.2.2)
def psrc (T : Nat → Nat) (n p : Nat) : Nat ⊕ (List Rk × List (List Nat × Nat × Nat) × Nat) :=
  pb (psg 40 T n p) fun a => pb (psr T n 6 a.2) fun b => pb (psg 41 T n b.2.2) fun c => .inr (a.1 :: (b.1 ++ [c.1]), b.2.1, c.2)
/-- a statement: sort, name, its place; what is behind -/
def psort (T : Nat → Nat) (n : Nat) : Option Nat := if pwd [116, 97, 98, 108, 101] T n 0 = true then some 0 else if pwd [118, 105, 101, 119] T n 0 = true then some 1 else if pwd [99, 111, 112, 121] T n 0 = true then some 2 else none
def pend (T : Nat → Nat) (n p : Nat) : Nat ⊕ (Rk × Nat) := pb (psg 59 T n p) fun a => if chp T n (sk T n a.2) = 256 then .inr (a.1, sk T n a.2) else .inl (sk T n a.2)
abbrev St : Type := (Nat × List Nat × Nat) × (List (List Nat × Nat × Nat) ⊕ (List Cs × List (List Nat × Nat) × Option Wh)) × List Rk
def pstat (T : Nat → Nat) (n : Nat) : Nat ⊕ St := match psort T n with
  | none => .inl (sk T n 0)
  | some k => pb (pname T n (lw T n (sk T n 0))) fun a =>
    if k = 0 then pb (psrc T n a.2.2) fun b => pb (pend T n b.2.2) fun c => .inr ((k, a.1, a.2.1), .inl b.2.1, b.1 ++ [c.1])
    else pb (psel T n a.2.2) fun b => pb (pend T n b.2.2.2.2) fun c => .inr ((k, a.1, a.2.1), .inr (b.2.1, b.2.2.1, b.2.2.2.1), b.1 ++ [c.1])
/-! what is known of names and signs -/
theorem isLb_L {x : Nat} (h : isLb x = true) : isL x := by
  unfold isLb at h
  rw [decide_eq_true_eq] at h
  exact h
theorem sl_lw {T : Nat → Nat} {n q : Nat} : ∀ x ∈ sl T q (lw T n q), isL x := fun x hx => by
  obtain ⟨i, h1, h2, rfl⟩ := sl_mem hx
  exact isLb_L (rn_3 h1 h2)
theorem isLb_lt {T : Nat → Nat} {n q : Nat} (h : isLb (chp T n q) = true) : q < n ∧ isLb (T q) = true ∧ q < lw T n q ∧ lw T n q ≤ n := by
  have hq : q < n := chp_lt (fun e => by rw [e] at h; cases h)
  rw [chp_T hq] at h
  refine ⟨hq, h, ?_, rn_2 (by omega)⟩
  unfold lw
  rw [rn_go hq h]
  have := rn_1 isLb T n (q + 1)
  omega
theorem pname_r {T : Nat → Nat} {n p : Nat} {w : List Nat} {q e : Nat} (h : pname T n p = .inr (w, q, e)) : q = sk T n p ∧ e = lw T n q ∧ w = sl T q e ∧ isLb (T q) = true ∧ (p ≤ q ∧ q < e ∧ e ≤ n ∧ e ≤ q + 8) ∧ w ∉ kwl ∧ nmok w ∧ w.length = e - q := by
  unfold pname at h
  by_cases h1 : isLb (chp T n (sk T n p)) = true
  · rw [if_pos h1] at h
    by_cases h2 : lw T n (sk T n p) ≤ sk T n p + 8
    · rw [if_pos h2] at h
      by_cases h3 : sl T (sk T n p) (lw T n (sk T n p)) ∈ kwl
      · rw [if_pos h3] at h
        cases h
      · rw [if_neg h3] at h
        cases h
        obtain ⟨k1, k2, k3, k4⟩ := isLb_lt h1
        exact ⟨rfl, rfl, rfl, k2, ⟨sk_ge _ _ _, k3, k4, h2⟩, h3, ⟨by rw [sl_len]; omega, sl_lw⟩, sl_len _ _ _⟩
    · rw [if_neg h2] at h
      cases h
  · rw [if_neg h1] at h
    cases h
theorem psg_r {c : Nat} {T : Nat → Nat} {n p : Nat} {a : Rk × Nat} (h : psg c T n p = .inr a) : chp T n (sk T n p) = c ∧ a = ((c, sk T n p, [c]), sk T n p + 1) := by
  unfold psg at h
  by_cases e : chp T n (sk T n p) = c
  · rw [if_pos e] at h
    exact ⟨e, (Sum.inr.inj h).symm⟩
  · rw [if_neg e] at h
    cases h
theorem pwd_t {w : List Nat} {T : Nat → Nat} {n p : Nat} (h : pwd w T n p = true) : isLb (chp T n (sk T n p)) = true ∧ sl T (sk T n p) (lw T n (sk T n p)) = w := by
  unfold pwd at h
  rw [Bool.and_eq_true, decide_eq_true_eq] at h
  exact h
/-- an induction over what parses as a formula -/
theorem pform_ind {T : Nat → Nat} {n : Nat} {Pt Pf : Nat → Nat → List Rk → List Nk → Nat → Prop} {Pl : Nat → Nat → Nat → List Rk → List Nk → Nat → Prop}
    (hnum : ∀ d p, isDb (chp T n (sk T n p)) = true → dg T n (sk T n p) ≤ sk T n p + 4 → Pt d p [(2, sk T n p, sl T (sk T n p) (dg T n (sk T n p)))] [(0, 0, sk T n p, [], [])] (dg T n (sk T n p)))
    (hlet : ∀ d p, chp T n (sk T n p) = 39 → chp T n (lq T n (sk T n p + 1)) = 39 → Pt d p [(3, sk T n p, sl T (sk T n p) (lq T n (sk T n p + 1) + 1))] [(1, 0, sk T n p, [], [])] (lq T n (sk T n p + 1) + 1))
    (hnm : ∀ d p w1 q1 e1 w2 q2 e2, pname T n p = .inr (w1, q1, e1) → chp T n (sk T n e1) = 46 → pname T n (sk T n e1 + 1) = .inr (w2, q2, e2) → Pt d p [(1, q1, w1), (46, sk T n e1, [46]), (1, q2, w2)] [(2, q2, q1, w1, w2)] e2)
    (hcl : ∀ d p kx w ks l p1, ((kx = 116 ∧ w = [108, 101, 110]) ∨ (kx = 110 ∧ w = [115, 116, 114])) → isLb (chp T n (sk T n p)) = true → sl T (sk T n p) (lw T n (sk T n p)) = w → chp T n (sk T n (lw T n (sk T n p))) = 40 → Pf d (sk T n (lw T n (sk T n p)) + 1) ks l p1 → chp T n (sk T n p1) = 41 →
      Pt (d + 1) p ((1, sk T n p, w) :: (40, sk T n (lw T n (sk T n p)), [40]) :: (ks ++ [(41, sk T n p1, [41])])) ((3, kx, sk T n p, [], []) :: (l ++ [(4, 0, 0, [], [])])) (sk T n p1 + 1))
    (hl0 : ∀ d r p, isSg (chp T n (sk T n p)) = false → Pl d r p [] [] (sk T n p))
    (hl1 : ∀ d r p ks l p1 ks2 l2 p2, isSg (chp T n (sk T n p)) = true → Pt d (sk T n p + 1) ks l p1 → Pl d r p1 ks2 l2 p2 → Pl d (r + 1) p ((chp T n (sk T n p), sk T n p, [chp T n (sk T n p)]) :: (ks ++ ks2)) ((5, chp T n (sk T n p), sk T n p, [], []) :: (l ++ l2)) p2)
    (hf : ∀ d p ks l p1 ks2 l2 p2, Pt d p ks l p1 → Pl d 5 p1 ks2 l2 p2 → Pf d p (ks ++ ks2) (l ++ l2) p2) :
    ∀ d p ks l p', pform T n d p = .inr (ks, l, p') → Pf d p ks l p' := by
  have hlp : ∀ (d : Nat) (pt : Nat → PF), (∀ p ks l p', pt p = .inr (ks, l, p') → Pt d p ks l p') → ∀ r p ks l p', plp pt T n r p = .inr (ks, l, p') → Pl d r p ks l p' := by
    intro d pt hp r
    induction r with
    | zero =>
      intro p ks l p' h
      unfold plp at h
      by_cases e : isSg (chp T n (sk T n p)) = true
      · rw [if_pos e] at h
        cases h
      · rw [if_neg e] at h
        cases h
        exact hl0 d 0 p (by simpa using e)
    | succ r ih =>
      intro p ks l p' h
      unfold plp at h
      by_cases e : isSg (chp T n (sk T n p)) = true
      · rw [if_pos e] at h
        obtain ⟨⟨k1, l1, p1⟩, h1, h⟩ := pb_r h
        obtain ⟨⟨k2, l2, p2⟩, h2, h⟩ := pb_r h
        cases h
        exact hl1 d r p k1 l1 p1 k2 l2 p2 e (hp _ _ _ _ h1) (ih _ _ _ _ h2)
      · rw [if_neg e] at h
        cases h
        exact hl0 d (r + 1) p (by simpa using e)
  have hfl : ∀ (d : Nat) (pt : Nat → PF), (∀ p ks l p', pt p = .inr (ks, l, p') → Pt d p ks l p') → ∀ p ks l p', pfl pt T n p = .inr (ks, l, p') → Pf d p ks l p' := by
    intro d pt hp p ks l p' h
    unfold pfl at h
    obtain ⟨⟨k1, l1, p1⟩, h1, h⟩ := pb_r h
    obtain ⟨⟨k2, l2, p2⟩, h2, h⟩ := pb_r h
    cases h
    exact hf d p k1 l1 p1 k2 l2 p2 (hp _ _ _ _ h1) (hlp d pt hp _ _ _ _ _ h2)
  have hnm' : ∀ d p ks l p', pnm T n p = .inr (ks, l, p') → Pt d p ks l p' := by
    intro d p ks l p' h
    unfold pnm at h
    obtain ⟨⟨w1, q1, e1⟩, h1, h⟩ := pb_r h
    obtain ⟨b, h2, h⟩ := pb_r h
    obtain ⟨h4, rfl⟩ := psg_r h2
    obtain ⟨⟨w2, q2, e2⟩, h3, h⟩ := pb_r h
    cases h
    exact hnm d p w1 q1 e1 w2 q2 e2 h1 h4 h3
  have hcl' : ∀ d full pf p kx w ks l p', (∀ p ks l p', full = false → pf p = .inr (ks, l, p') → ∃ e, d = e + 1 ∧ Pf e p ks l p') → ((kx = 116 ∧ w = [108, 101, 110]) ∨ (kx = 110 ∧ w = [115, 116, 114])) → pwd w T n p = true → pcl full pf T n kx (sk T n p) = .inr (ks, l, p') → Pt d p ks l p' := by
    intro d full pf p kx w ks l p' hp hw hpw h
    obtain ⟨w1, w2⟩ := pwd_t hpw
    unfold pcl at h
    by_cases e : chp T n (sk T n (lw T n (sk T n p))) = 40 ∧ full = false
    · rw [if_pos e] at h
      obtain ⟨⟨k1, l1, p1⟩, h1, h⟩ := pb_r h
      obtain ⟨b, h2, h⟩ := pb_r h
      obtain ⟨h4, rfl⟩ := psg_r h2
      obtain ⟨d', rfl, h5⟩ := hp _ _ _ _ e.2 h1
      cases h
      rw [w2]
      exact hcl d' p kx w k1 l1 p1 hw w1 w2 e.1 h5 h4
    · rw [if_neg e] at h
      cases h
  have htm : ∀ d full pf, (∀ p ks l p', full = false → pf p = .inr (ks, l, p') → ∃ e, d = e + 1 ∧ Pf e p ks l p') → ∀ p ks l p', ptm full pf T n p = .inr (ks, l, p') → Pt d p ks l p' := by
    intro d full pf hp p ks l p' h
    unfold ptm at h
    by_cases e1 : isDb (chp T n (sk T n p)) = true
    · rw [if_pos e1] at h
      unfold pnum at h
      by_cases e : dg T n (sk T n p) ≤ sk T n p + 4
      · rw [if_pos e] at h
        cases h
        exact hnum d p e1 e
      · rw [if_neg e] at h
        cases h
    · rw [if_neg e1] at h
      by_cases e2 : chp T n (sk T n p) = 39
      · rw [if_pos e2] at h
        unfold plet at h
        by_cases e : chp T n (lq T n (sk T n p + 1)) = 39
        · rw [if_pos e] at h
          cases h
          exact hlet d p e2 e
        · rw [if_neg e] at h
          cases h
      · rw [if_neg e2] at h
        by_cases e3 : pwd [108, 101, 110] T n p = true
        · rw [if_pos e3] at h
          exact hcl' d full pf p 116 _ ks l p' hp (Or.inl ⟨rfl, rfl⟩) e3 h
        · rw [if_neg e3] at h
          by_cases e4 : pwd [115, 116, 114] T n p = true
          · rw [if_pos e4] at h
            exact hcl' d full pf p 110 _ ks l p' hp (Or.inr ⟨rfl, rfl⟩) e4 h
          · rw [if_neg e4] at h
            exact hnm' d p ks l p' h
  intro d
  induction d with
  | zero => exact hfl 0 _ (htm 0 true _ (fun _ _ _ _ e _ => by cases e))
  | succ d ih => exact hfl (d + 1) _ (htm (d + 1) false _ (fun p ks l p' _ h => ⟨d, rfl, ih p ks l p' h⟩))
