/-! the component's heap against the spec -/
def ok (S : HS) (a y : Nat) : Prop := a + 55 ≤ y ∧ y < h_nx S ∧ h_cl S y ≠ 33 ∧ h_fR S 139 (a + 47) ≠ some y ∧ h_fR S 139 (a + 48) ≠ some y
/-- a list object: its data array, what is in it -/
def Lst (S : HS) (a x : Nat) (l : List Nat) : Prop := ok S a x ∧ h_cl S x = 12 ∧ h_fI S 140 x = i_ l.length ∧ l.length ≤ 400 ∧ ∃ d, h_fR S 139 x = some d ∧ ok S a d ∧ h_cl S d = 35 ∧ l.length ≤ h_ln S d ∧ ∀ i, i < l.length → h_aR S d i = some (l.getD i 0)
/-- a string object of small letters -/
def Str0 (S : HS) (x : Nat) (w : List Nat) : Prop := h_cl S x = 13 ∧ h_fI S 142 x = i_ 0 ∧ (w.length < 65536 ∧ ∀ b ∈ w, b < 128) ∧ ∃ v, h_fR S 141 x = some v ∧ h_cl S v = 32 ∧ h_ln S v = w.length ∧ ∀ i, i < w.length → h_aI S v i = i_ (w.getD i 0)
def Str (S : HS) (a x : Nat) (w : List Nat) : Prop := ok S a x ∧ (∀ v, h_fR S 141 x = some v → ok S a v) ∧ Str0 S x w
def LSt (S : HS) (a x n : Nat) (f : Nat → List Nat) : Prop := ∃ l : List Nat, l.length = n ∧ Lst S a x l ∧ ∀ i, i < n → Str S a (l.getD i 0) (f i)
def fl : List (Nat × Nat × Nat × List Tk) → List Tk
  | [] => []
  | y :: r => (5, y.2.1, y.2.2.1) :: y.2.2.2 ++ fl r
def Tm (F : Nat → List Tk → Prop) (S : HS) (a y : Nat) (l : List Tk) : Prop := ok S a y ∧
  ((h_cl S y = 6 ∧ ∃ p, (h_fI S 117 y = i_ 110 ∧ l = [(0, 0, p)]) ∨ (h_fI S 117 y = i_ 116 ∧ l = [(1, 0, p)])) ∨
   (h_cl S y = 8 ∧ ∃ v p, (h_fI S 124 y = i_ v ∧ v < 128 ∧ l = [(2, v, p)]) ∨ (h_fI S 124 y = i_m ∧ l = [(6, v, p)])) ∨
   (h_cl S y = 7 ∧ ∃ x q p m, h_fR S 120 y = some x ∧ F x m ∧ h_fI S 118 y = i_ q ∧ h_fI S 119 y = i_ (if q = 116 then 110 else 116) ∧ h_fI S 116 y = i_ p ∧ p < 400 ∧ (q = 116 ∨ q = 110) ∧ l = (3, q, p) :: m ++ [(4, 0, 0)]))
def Fm (S : HS) (a : Nat) : Nat → Nat → List Tk → Prop
  | 0, _, _ => False
  | d + 1, x, l => ok S a x ∧ h_cl S x = 5 ∧ ∃ xl sg pl y l0 ts, h_fR S 113 x = some xl ∧ Lst S a xl (y :: ts.map (fun z => z.1)) ∧ (h_fR S 114 x = some sg ∧ ok S a sg ∧ h_cl S sg = 31 ∧ h_ln S sg = 6) ∧ (h_fR S 115 x = some pl ∧ ok S a pl ∧ h_cl S pl = 31 ∧ h_ln S pl = 6) ∧ ts.length ≤ 5 ∧ l = l0 ++ fl ts ∧ Tm (Fm S a d) S a y l0 ∧
      ∀ i, i < ts.length → h_aI S sg (i + 1) = i_ (ts.getD i (0, 0, 0, [])).2.1 ∧ h_aI S pl (i + 1) = i_ (ts.getD i (0, 0, 0, [])).2.2.1 ∧ ((ts.getD i (0, 0, 0, [])).2.1 < 128 ∧ (ts.getD i (0, 0, 0, [])).2.2.1 < 400) ∧ Tm (Fm S a d) S a (ts.getD i (0, 0, 0, [])).1 (ts.getD i (0, 0, 0, [])).2.2.2
/-- what a run of a method leaves that is no act -/
def Kp (S T : HS) (a : Nat) : Prop := h_nx S ≤ h_nx T ∧ h_ks T = h_ks S ∧ h_kr T = h_kr S ∧ ∀ x, x < h_nx S → h_cl T x = h_cl S x ∧ h_ln T x = h_ln S x ∧ h_wr T x = h_wr S x ∧ (∀ k, h_fR T k x = h_fR S k x) ∧ (∀ k, 113 ≤ k → h_fI T k x = h_fI S k x) ∧ ((x < a ∨ a + 55 ≤ x) → h_cl S x ≠ 33 → h_aI T x = h_aI S x) ∧ (x ≠ a + 1 → h_aR T x = h_aR S x)
theorem Kp.rf (S : HS) (a : Nat) : Kp S S a := ⟨Nat.le_refl _, rfl, rfl, fun _ _ => ⟨rfl, rfl, rfl, fun _ => rfl, fun _ _ => rfl, fun _ _ => rfl, fun _ => rfl⟩⟩
theorem Kp.tr {S T U : HS} {a : Nat} (h : Kp S T a) (k : Kp T U a) : Kp S U a := by
  obtain ⟨h1, h2, h3, h4⟩ := h
  obtain ⟨k1, k2, k3, k4⟩ := k
  refine ⟨by omega, k2.trans h2, k3.trans h3, fun x hx => ?_⟩
  obtain ⟨a1, a2, a3, a4, a5, a6, a7⟩ := h4 x hx
  obtain ⟨b1, b2, b3, b4, b5, b6, b7⟩ := k4 x (by omega)
  exact ⟨b1.trans a1, b2.trans a2, b3.trans a3, fun k => (b4 k).trans (a4 k), fun k hk => (b5 k hk).trans (a5 k hk), fun q r => (b6 q (by rw [a1]; exact r)).trans (a6 q r), fun q => (b7 q).trans (a7 q)⟩
theorem Kp.fI {S : HS} {a k x : Nat} {v : Int32} (h : k < 113) : Kp S (s_fI S k x v) a := ⟨Nat.le_refl _, rfl, rfl, fun y _ => ⟨rfl, rfl, rfl, fun _ => rfl, fun j hj => by
  show h_st (h_fI S) k x v j y = _
  exact h_st_ne _ _ (by omega), fun _ _ => rfl, fun _ => rfl⟩⟩
theorem Kp.row {S : HS} {a x : Nat} {f : Nat → Int32} (h : (a ≤ x ∧ x < a + 55) ∨ h_cl S x = 33) : Kp S (s_row S x f) a := ⟨Nat.le_refl _, rfl, rfl, fun y _ => ⟨rfl, rfl, rfl, fun _ => rfl, fun _ _ => rfl, fun q r => sr_off (by
  rintro rfl
  rcases h with h | h
  · omega
  · exact r h), fun _ => rfl⟩⟩
theorem Kp.aI {S : HS} {a x i : Nat} {v : Int32} (h : (a ≤ x ∧ x < a + 55) ∨ h_cl S x = 33) : Kp S (s_aI S x i v) a := ⟨Nat.le_refl _, rfl, rfl, fun y _ => ⟨rfl, rfl, rfl, fun _ => rfl, fun _ _ => rfl, fun q r => by
  funext j
  show h_st (h_aI S) x i v y j = _
  refine h_st_ne _ _ ?_
  rintro ⟨rfl, -⟩
  rcases h with h | h
  · omega
  · exact r h, fun _ => rfl⟩⟩
theorem Kp.aR {S : HS} {a i : Nat} {v : Option Nat} : Kp S (s_aR S (a + 1) i v) a := ⟨Nat.le_refl _, rfl, rfl, fun y _ => ⟨rfl, rfl, rfl, fun _ => rfl, fun _ _ => rfl, fun _ _ => rfl, fun q => by
  funext j
  show h_st (h_aR S) (a + 1) i v y j = _
  exact h_st_ne _ _ (fun h => q h.1)⟩⟩
theorem Kp.new {S : HS} {a c n : Nat} : Kp S (s_new S c n) a := ⟨by rw [r_nx_new]; omega, rfl, rfl, fun y hy => ⟨by rw [r_cl_new, up_off (by omega)], by rw [r_ln_new, up_off (by omega)], by rw [r_wr_new, up_off (by omega)], fun _ => rfl, fun _ _ => rfl, fun _ _ => rfl, fun _ => rfl⟩⟩
theorem Kp.fx {S T : HS} {a : Nat} (k : Kp S T a) (h : FX S a) : FX T a := h.of k.1 (fun x h1 h2 => by
  obtain ⟨a1, a2, a3, a4, -⟩ := k.2.2.2 x (by have := h.1; omega)
  exact ⟨a1, a2, a3, fun j _ _ => Or.inl (a4 j)⟩) ((k.2.2.2 (a + 4) (by have := h.1; omega)).2.2.2.2.2.2 (by omega))
theorem ok.kp {S T : HS} {a y : Nat} (k : Kp S T a) (hF : FX S a) (h : ok S a y) : ok T a y := by
  obtain ⟨h1, h2, h3, h4, h5⟩ := h
  have hn := hF.1
  obtain ⟨k1, -, -, k4⟩ := k
  refine ⟨h1, by omega, ?_, ?_, ?_⟩
  · rw [(k4 y h2).1]
    exact h3
  · rw [(k4 (a + 47) (by omega)).2.2.2.1]
    exact h4
  · rw [(k4 (a + 48) (by omega)).2.2.2.1]
    exact h5
/-- cells of a structure are the same in another heap -/
def Ag (S T : HS) (a : Nat) : Prop := ∀ y, ok S a y → ok T a y ∧ h_cl T y = h_cl S y ∧ h_ln T y = h_ln S y ∧ (∀ k, h_fR T k y = h_fR S k y ∨ h_cl S y = 4) ∧ (∀ k, 113 ≤ k → k ≤ 142 → h_fI T k y = h_fI S k y ∨ h_cl S y = 4) ∧ h_aI T y = h_aI S y ∧ h_aR T y = h_aR S y
theorem Kp.ag {S T : HS} {a : Nat} (k : Kp S T a) (hF : FX S a) : Ag S T a := fun y h => by
  obtain ⟨a1, a2, a3, a4, a5, a6, a7⟩ := k.2.2.2 y h.2.1
  exact ⟨h.kp k hF, a1, a2, fun j => Or.inl (a4 j), fun j h1 _ => Or.inl (a5 j h1), a6 (Or.inr h.1) h.2.2.1, a7 (by have := h.1; omega)⟩
theorem Ag.R {S T : HS} {a : Nat} (g : Ag S T a) {y c : Nat} (h : ok S a y) (hc : h_cl S y = c) (h4 : c ≠ 4) (k : Nat) : h_fR T k y = h_fR S k y := by
  rcases (g y h).2.2.2.1 k with e | e
  · exact e
  · exact absurd (hc.symm.trans e) h4
theorem Ag.I {S T : HS} {a : Nat} (g : Ag S T a) {y c : Nat} (h : ok S a y) (hc : h_cl S y = c) (h4 : c ≠ 4) {k : Nat} (h1 : 113 ≤ k) (h2 : k ≤ 142) : h_fI T k y = h_fI S k y := by
  rcases (g y h).2.2.2.2.1 k h1 h2 with e | e
  · exact e
  · exact absurd (hc.symm.trans e) h4
theorem Lst.ag {S T : HS} {a x : Nat} {l : List Nat} (g : Ag S T a) (h : Lst S a x l) : Lst T a x l := by
  obtain ⟨h1, h2, h3, h4, d, h5, h6, h7, h8, h9⟩ := h
  obtain ⟨a1, a2, a3, -, -, -, -⟩ := g x h1
  obtain ⟨b1, b2, b3, -, -, -, b7⟩ := g d h6
  exact ⟨a1, a2.trans h2, by rw [g.I h1 h2 (by decide) (by decide) (by decide)]; exact h3, h4, d, by rw [g.R h1 h2 (by decide)]; exact h5, b1, b2.trans h7, by rw [b3]; exact h8, by rw [b7]; exact h9⟩
theorem Str.ag {S T : HS} {a x : Nat} {w : List Nat} (g : Ag S T a) (h : Str S a x w) : Str T a x w := by
  obtain ⟨h1, h2, h3, h4, h5, v, h6, h7, h8, h9⟩ := h
  have hv := h2 v h6
  obtain ⟨a1, a2, a3, -, -, -, -⟩ := g x h1
  obtain ⟨b1, b2, b3, -, -, b6, -⟩ := g v hv
  have e : h_fR T 141 x = h_fR S 141 x := g.R h1 h3 (by decide) 141
  exact ⟨a1, fun u hu => by rw [e] at hu; exact (g u (h2 u hu)).1, a2.trans h3, by rw [g.I h1 h3 (by decide) (by decide) (by decide)]; exact h4, h5, v, e.trans h6, b2.trans h7, b3.trans h8, by rw [b6]; exact h9⟩
theorem LSt.ag {S T : HS} {a x n : Nat} {f : Nat → List Nat} (g : Ag S T a) (h : LSt S a x n f) : LSt T a x n f := by
  obtain ⟨l, h1, h2, h3⟩ := h
  exact ⟨l, h1, h2.ag g, fun i hi => (h3 i hi).ag g⟩
theorem Tm.ag {S T : HS} {a y : Nat} {l : List Tk} {F G : Nat → List Tk → Prop} (g : Ag S T a) (hFG : ∀ x m, F x m → G x m) (h : Tm F S a y l) : Tm G T a y l := by
  obtain ⟨h0, h⟩ := h
  obtain ⟨a1, a2, -, -, -, -, -⟩ := g y h0
  refine ⟨a1, ?_⟩
  rcases h with ⟨e, p, h⟩ | ⟨e, v, p, h1⟩ | ⟨e, x, q, p, m, h1, h2, h3, h4, h5, h6⟩
  · refine Or.inl ⟨a2.trans e, p, ?_⟩
    rw [g.I h0 e (by decide) (by decide) (by decide)]
    exact h
  · refine Or.inr (Or.inl ⟨a2.trans e, v, p, ?_⟩)
    rw [g.I h0 e (by decide) (by decide) (by decide)]
    exact h1
  · refine Or.inr (Or.inr ⟨a2.trans e, x, q, p, m, ?_, hFG x m h2, ?_, ?_, ?_, h6⟩)
    · rw [g.R h0 e (by decide)]
      exact h1
    · rw [g.I h0 e (by decide) (by decide) (by decide)]
      exact h3
    · rw [g.I h0 e (by decide) (by decide) (by decide)]
      exact h4
    · rw [g.I h0 e (by decide) (by decide) (by decide)]
      exact h5
theorem Fm.ag {S T : HS} {a : Nat} (g : Ag S T a) : ∀ {d x : Nat} {l : List Tk}, Fm S a d x l → Fm T a d x l
  | 0, _, _, h => h
  | d + 1, x, l, h => by
    obtain ⟨h0, h1, xl, sg, pl, y, l0, ts, h2, h3, ⟨h4, h5, h6, h7⟩, ⟨h8, h9, h10, h11⟩, h12, h13, h14, h15⟩ := h
    obtain ⟨a1, a2, -, -, -, -, -⟩ := g x h0
    obtain ⟨b1, b2, b3, -, -, b6, -⟩ := g sg h5
    obtain ⟨c1, c2, c3, -, -, c6, -⟩ := g pl h9
    refine ⟨a1, a2.trans h1, xl, sg, pl, y, l0, ts, ?_, h3.ag g, ⟨?_, b1, b2.trans h6, b3.trans h7⟩, ⟨?_, c1, c2.trans h10, c3.trans h11⟩, h12, h13, h14.ag g (fun x m => Fm.ag g), fun i hi => ?_⟩
    · rw [g.R h0 h1 (by decide)]
      exact h2
    · rw [g.R h0 h1 (by decide)]
      exact h4
    · rw [g.R h0 h1 (by decide)]
      exact h8
    · obtain ⟨q1, q2, q3, q4⟩ := h15 i hi
      rw [b6, c6]
      exact ⟨q1, q2, q3, q4.ag g (fun x m => Fm.ag g)⟩
def punct (k : Nat) : Bool := k == 58 || k == 44 || k == 46 || k == 40 || k == 59
/-- what is told of a statement's tokens -/
def told (l : List (Nat × List Nat)) : List Nat := (l.tail.filter (fun y => !punct y.1)).flatMap (fun y => y.2 ++ [32])
/-- what is kept of a table for good -/
def TI (S : HS) (a : Nat) (s : SP) (t b : Nat) : Prop := (∃ x, h_fR S 98 b = some x ∧ Str S a x (z_nm s t)) ∧ (∃ x, h_fR S 100 b = some x ∧ LSt S a x (z_nc s t) (z_cn s t)) ∧ (∃ x, h_fR S 103 b = some x ∧ ok S a x ∧ h_cl S x = 31 ∧ h_ln S x = 3 ∧ ∀ k, k < z_nb s t → h_aI S x k = i_ (z_fr s t k)) ∧
  (made s t = true → (∃ x l, h_fR S 101 b = some x ∧ Lst S a x l ∧ l.length = z_nc s t ∧ ∀ c, c < z_nc s t → Fm S a 5 (l.getD c 0) (z_fo s t c)) ∧ (if z_hw s t = true then ∃ x y, h_fR S 105 b = some x ∧ h_fR S 106 b = some y ∧ Fm S a 5 x (z_fo s t 6) ∧ Fm S a 5 y (z_fo s t 7) else h_fR S 105 b = none) ∧ ∃ x, h_fR S 108 b = some x ∧ Str S a x (told (z_tx s t)))
theorem TI.ag {S T : HS} {a : Nat} {s : SP} {t b : Nat} (g : Ag S T a) (e : ∀ k, h_fR T k b = h_fR S k b) (h : TI S a s t b) : TI T a s t b := by
  obtain ⟨⟨x, h1, h2⟩, ⟨y, h3, h4⟩, ⟨z, h5, h6, h7, h8, h9⟩, h10⟩ := h
  obtain ⟨a1, a2, a3, -, -, a6, -⟩ := g z h6
  refine ⟨⟨x, (e _).trans h1, h2.ag g⟩, ⟨y, (e _).trans h3, h4.ag g⟩, ⟨z, (e _).trans h5, a1, a2.trans h7, a3.trans h8, by rw [a6]; exact h9⟩, fun hm => ?_⟩
  obtain ⟨⟨u, l, g1, g2, g3, g4⟩, g5, v, g6, g7⟩ := h10 hm
  refine ⟨⟨u, l, (e _).trans g1, g2.ag g, g3, fun c hc => (g4 c hc).ag g⟩, ?_, v, (e _).trans g6, g7.ag g⟩
  by_cases hw : z_hw s t = true
  · rw [if_pos hw] at g5 ⊢
    obtain ⟨p, q, p1, p2, p3, p4⟩ := g5
    exact ⟨p, q, (e _).trans p1, (e _).trans p2, p3.ag g, p4.ag g⟩
  · rw [if_neg hw] at g5 ⊢
    exact (e _).trans g5
/-- a table's rows -/
def TO (S : HS) (a : Nat) (s : SP) (t b y : Nat) : Prop := (h_cl S b = 4 ∧ h_wr S b = true ∧ a + 55 ≤ b ∧ b < h_nx S) ∧ (h_cl S y = 33 ∧ h_ln S y = 6 ∧ h_wr S y = true ∧ a + 55 ≤ y ∧ y < h_nx S) ∧ h_fR S 102 b = some y ∧ (h_fI S 99 b = i_ (z_so s t) ∧ h_fI S 104 b = i_ (z_nb s t) ∧ h_fI S 109 b = z_ol s t ∧ h_fI S 110 b = z_nw s t ∧ h_fI S 111 b = z_ow s t ∧ h_fI S 112 b = z_lg s t) ∧ ∀ c, c < z_nc s t → h_aI S y c = i_ (z_ty s t c)
/-- bytes as the component keeps them -/
def sb (n : Nat) : Int32 := Int8.toInt32 (Int32.toInt8 (i_ n))
def RCs (S : HS) (a : Nat) (s : SP) : Prop := h_fI S 2 a = i_ (z_n s) ∧ h_fI S 3 a = z_td s ∧ h_fI S 6 a = z_fk s ∧ h_fI S 7 a = z_fp s ∧ h_fI S 8 a = i_ (z_tl s) ∧ ∀ k, k < z_tl s → h_aI S (a + 2) k = sb (z_tp s k)
def RCo (S : HS) (a : Nat) (s : SP) : Prop := h_fI S 5 a = i_ (z_fd s).length ∧ ∀ k, k < (z_fd s).length → h_aI S (a + 3) k = i_ ((z_fd s).getD k 0)
def RCk (S : HS) (a : Nat) (s : SP) : Prop := h_fI S 4 a = i_ (z_na s) ∧ ∀ k, k < z_na s → h_aI S (a + 5 + k) 3 = z_ad s k ∧ (if z_ab s k = 0 then h_aI S (a + 5 + k) 1 = i_m else h_aI S (a + 5 + k) 1 = i_ (z_at s k) ∧ h_aI S (a + 5 + k) 2 = i_ (z_ab s k))
def RCt (S : HS) (a : Nat) (s : SP) (tb ty : Nat → Nat) : Prop := ∀ t, t < z_n s → if z_th s t = true then h_aR S (a + 1) t = some (tb t) ∧ TO S a s t (tb t) (ty t) ∧ TI S a s t (tb t) ∧ (∀ u, u < z_n s → z_th s u = true → u ≠ t → tb u ≠ tb t ∧ ty u ≠ ty t) else h_aR S (a + 1) t = none
