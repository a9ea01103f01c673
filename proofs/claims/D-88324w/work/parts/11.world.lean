/-! the world: the machine's heap holds the abstract one -/
abbrev PG : Type := va_G × (Nat → ClassId) × Heap × HS × (Nat → Nat) × (Nat → Option Nat)
def g_D (g : PG) : va_G := g.1
def g_ac (g : PG) : Nat → ClassId := g.2.1
def g_Hs (g : PG) : Heap := g.2.2.1
def g_cs (g : PG) : HS := g.2.2.2.1
def g_ks (g : PG) : Nat → Nat := g.2.2.2.2.1
def g_kr (g : PG) : Nat → Option Nat := g.2.2.2.2.2
def g_n0 (g : PG) : Nat := (g_Hs g).size
def g_A (g : PG) : Nat → Prop := fun q => g_n0 g ≤ q
abbrev MO : Type := Option (Nat × MS)
def fv (S : HS) (c a k : Nat) : Value := match (lay c k).1 with
  | 0 => .int (h_fI S (lay c k).2 a)
  | 1 => .long (h_fJ S (lay c k).2 a)
  | _ => va_rf (h_fR S (lay c k).2 a)
def av (S : HS) (t a j : Nat) : Value := match aki t with
  | 0 => .int (h_aI S a j)
  | 1 => .long (h_aJ S a j)
  | _ => va_rf (h_aR S a j)
/-- a cell of ours -/
def ck (g : PG) (S : HS) (a : Nat) (H : Heap) : Prop :=
  (h_cl S a < 30 → ∃ r, vwCl[h_cl S a]? = some r ∧ t_OB a ((g_D g).1 (h_cl S a)) r.2.2 ((g_D g).2 (h_cl S a)) H (fv S (h_cl S a) a)) ∧
  (30 ≤ h_cl S a → H[a]? = some (arrV (g_ac g (h_cl S a)) (h_ln S a) (av S (h_cl S a) a)))
def h_eq (S T : HS) (a : Nat) : Prop :=
  h_cl S a = h_cl T a ∧ h_ln S a = h_ln T a ∧ h_wr S a = h_wr T a ∧ (∀ k, h_fI S k a = h_fI T k a) ∧ (∀ k, h_fJ S k a = h_fJ T k a) ∧ (∀ k, h_fR S k a = h_fR T k a) ∧ (∀ k, h_aI S a k = h_aI T a k) ∧ (∀ k, h_aJ S a k = h_aJ T a k) ∧ (∀ k, h_aR S a k = h_aR T a k)
def h_zero (S : HS) (a : Nat) : Prop :=
  h_cl S a = 0 ∧ h_ln S a = 0 ∧ h_wr S a = false ∧ (∀ k, h_fI S k a = 0) ∧ (∀ k, h_fJ S k a = 0) ∧ (∀ k, h_fR S k a = none) ∧ (∀ k, h_aI S a k = 0) ∧ (∀ k, h_aJ S a k = 0) ∧ (∀ k, h_aR S a k = none)
def mfv (a : Nat) (M : MS) (k : Nat) : Value := match m_ki k with
  | 0 => .int (m_I M k)
  | 1 => .long (m_J M k)
  | _ => .ref (a + m_po k)
def mav (M : MS) (k j : Nat) : Value := match m_ki k with
  | 3 => .long (m_B M k j)
  | _ => .int (m_A M k j)
def mta (k : Nat) : Nat := match m_ki k with
  | 3 => 38
  | 4 => 34
  | _ => 31
def MW (g : PG) (S : HS) (mo : MO) (H : Heap) : Prop := ∀ a M, mo = some (a, M) → g_n0 g ≤ a ∧ a + 40 ≤ h_nx S ∧ (∀ j, j < 40 → h_cl S (a + j) = 0) ∧ t_OB a ((g_D g).1 3) 67 ((g_D g).2 3) H (mfv a M) ∧ ∀ k, k < 67 → 2 ≤ m_ki k → H[a + m_po k]? = some (arrV (g_ac g (mta k)) (m_le k) (mav M k))
def Wd (g : PG) (S : HS) (mo : MO) (H : Heap) : Prop :=
  H.size = h_nx S ∧ (g_n0 g ≤ h_nx S ∧ h_ks S = g_ks g ∧ h_kr S = g_kr g) ∧ (∀ q, q < g_n0 g → H[q]? = (g_Hs g)[q]?) ∧ (∀ q, q < g_n0 g → h_eq S (g_cs g) q ∧ h_wr S q = false) ∧ (∀ q, h_nx S ≤ q → h_zero S q) ∧ (∀ q, g_n0 g ≤ q → h_cl S q ≠ 0 → h_wr S q = true ∧ ck g S q H) ∧ MW g S mo H
/-- what a reader sees of a cell -/
def obO (U : State) (g : PG) (S : HS) (c a : Nat) (H : Heap) : Prop := ∃ (r : vw_C) (cell : Cell), vwCl[c]? = some r ∧ H[a]? = some cell ∧ cell.vm ≠ .unknown ∧ cell.vm.isStatics = false ∧ cell.cls = (g_D g).1 c ∧ ∀ k, k < r.2.2 → cell.slots[(g_D g).2 c k]? = some (fv S c a k)
def obA (U : State) (g : PG) (S : HS) (t a : Nat) (H : Heap) : Prop := ∃ cell : Cell, H[a]? = some cell ∧ U.isArrayOf cell (aty t) ∧ cell.vm ≠ .unknown ∧ (h_ln S a ≤ cell.slots.size ∧ cell.slots.size.toInt32 = Int32.ofNat (h_ln S a)) ∧ (∀ j, j < h_ln S a → cell.slots[j]? = some (av S t a j)) ∧ ((t = 35 ∨ h_wr S a = true) → cell.cls = g_ac g t ∧ cell.vm.isStatics = false)
def atys (g : PG) : List (ClassId × FieldType) := [(g_ac g 31, aty 31), (g_ac g 32, aty 32), (g_ac g 33, aty 33), (g_ac g 34, aty 34), (g_ac g 35, aty 35), (g_ac g 36, aty 36), (g_ac g 37, aty 37), (g_ac g 38, aty 38)]
/-- the constants -/
def EC (g : PG) (U : State) : Prop := (∀ a c, a < g_n0 g → h_cl (g_cs g) a = c → c ≠ 0 → c < 30 → obO U g (g_cs g) c a (g_Hs g)) ∧ (∀ a t, a < g_n0 g → h_cl (g_cs g) a = t → 30 ≤ t → t ≤ 38 ∧ obA U g (g_cs g) t a (g_Hs g))
def va_AOB (t : FieldType) (U : State) : Prop := (Cond.arrayOver (.array t)).before #[] U = true
theorem va_AOB.use {t : FieldType} {A : Array Value} {U : State} (h : va_AOB t U) : (Cond.arrayOver (.array t)).before A U = true := h
theorem va_AOB.spec {t : FieldType} {s : State} (h : va_AOB t s) :
    ∃ comp c k, s.vm.findClass (FieldType.array t).toString = some comp ∧ (s.vm.classes.findIdx? fun x => match x.kind with | .array component _ => component == comp | _ => false) = some c ∧ s.vm.classes[c]? = some k ∧ k.kind = .array comp (.array t) ∧ s.vm.findClass ("[" ++ (FieldType.array t).toString) = some c := by
  unfold va_AOB Cond.before at h
  simp only [Cond.holds, Cond.value, beq_iff_eq] at h
  cases hc : s.vm.findClass (FieldType.array t).toString with
  | none => simp [hc] at h
  | some comp =>
    simp only [hc, Option.bind_some, Option.bind_eq_some_iff, Option.map_eq_some_iff] at h
    obtain ⟨c, hi, k, hk, hb⟩ := h
    obtain ⟨hlt, hp, -⟩ := Array.findIdx?_eq_some_iff_getElem.mp hi
    have hkk : s.vm.classes[c] = k := (Array.getElem?_eq_some_iff.mp hk).2
    rw [hkk] at hp
    cases hkind : k.kind with
    | array component ty =>
      rw [hkind] at hb hp
      simp at hb hp
      exact ⟨comp, c, k, rfl, hi, hk, by rw [hkind, hp, hb.1], hb.2⟩
    | _ => rw [hkind] at hb; simp at hb
theorem va_AOB.moved {t : FieldType} {u U : State} (hvm : u.vm.Alike U.vm) (h : va_AOB t u) : va_AOB t U := by
  obtain ⟨comp, c, k, h1, h2, h3, h4, h5⟩ := h.spec
  obtain ⟨k', hk', he⟩ := hvm.2.2 _ _ h3
  have hi : (U.vm.classes.findIdx? fun (x : Class) => match x.kind with | .array component _ => component == comp | _ => false) = some c := by
    rw [hvm.findIdx?_eqK _ (fun _ => rfl)]
    exact h2
  have hkind : k'.kind = .array comp (.array t) := by rw [he]; exact h4
  have f1 : U.vm.findClass (FieldType.array t).toString = some comp := by rw [hvm.findClass]; exact h1
  have f2 : U.vm.findClass ("[" ++ (FieldType.array t).toString) = some c := by rw [hvm.findClass]; exact h5
  unfold va_AOB Cond.before
  simp only [Cond.holds, Cond.value, f1, Option.bind_some, beq_iff_eq]
  rw [Option.bind_eq_some_iff]
  refine ⟨c, (hvm.findIdx?_eqK _ (fun _ => rfl)).trans h2, ?_⟩
  simp [hk', hkind, f2]
/-- words of the tables that don't ride in the lists -/
def EN (U : State) : Prop :=
  (∀ a i b n d h, Cond.fieldLinkNest a i b n d h ∈ lw_tbl → va_Nw (.fieldLinkNest a i b n d h) U) ∧
  (∀ a i x h, Cond.methodLinkNest a i x h ∈ lw_tbl → va_Nw (.methodLinkNest a i x h) U) ∧
  (∀ C T, Cond.castable C T ∈ lw_tbl → va_Nw (.castable C T) U) ∧
  (∀ x, Cond.declares x ∈ lw_tbl → va_Nw (.declares x) U) ∧
  (∀ C, Cond.arrayOver (.object C) ∈ lw_tbl → va_AO C U) ∧
  va_AOB .int U
/-- strings and statics: the places of the strings, the values of the statics, the class object of Object[] -/
def EK (g : PG) (U : State) : Prop := ∀ j q, strTab[j]? = some q → vk_R q.1 q.2.1 q.2.2 (g_ks g j) U
def EZ (g : PG) (U : State) : Prop :=
  va_Z "java/lang/String" "COMPACT_STRINGS" "Z" (.int 1) (g_A g) U (g_Hs g) ∧
  va_Z "java/util/ArrayList" "EMPTY_ELEMENTDATA" "[Ljava/lang/Object;" (va_rf (some (g_ks g 30))) (g_A g) U (g_Hs g) ∧
  va_Z "java/util/ArrayList" "DEFAULTCAPACITY_EMPTY_ELEMENTDATA" "[Ljava/lang/Object;" (va_rf (some (g_ks g 31))) (g_A g) U (g_Hs g) ∧
  va_Z "java/lang/Throwable" "UNASSIGNED_STACK" "[Ljava/lang/StackTraceElement;" (va_rf (g_kr g 0)) (g_A g) U (g_Hs g) ∧
  va_Z "java/lang/Throwable" "SUPPRESSED_SENTINEL" "Ljava/util/List;" (va_rf (g_kr g 1)) (g_A g) U (g_Hs g) ∧
  va_Z "jdk/internal/util/Preconditions" "SIOOBE_FORMATTER" "Ljava/util/function/BiFunction;" (va_rf (g_kr g 2)) (g_A g) U (g_Hs g) ∧
  va_Mi "[Ljava/lang/Object;" (g_ks g 32) U
def EV (g : PG) (U : State) : Prop := va_K (g_D g) vwCl (atys g) U ∧ EN U ∧ EC g U ∧ EK g U ∧ EZ g U
theorem h_eq.rf (S : HS) (a : Nat) : h_eq S S a := ⟨rfl, rfl, rfl, fun _ => rfl, fun _ => rfl, fun _ => rfl, fun _ => rfl, fun _ => rfl, fun _ => rfl⟩
theorem h_eq.tr {S T U : HS} {a : Nat} (h : h_eq S T a) (k : h_eq T U a) : h_eq S U a := by
  obtain ⟨a1, a2, a3, a4, a5, a6, a7, a8, a9⟩ := h
  obtain ⟨b1, b2, b3, b4, b5, b6, b7, b8, b9⟩ := k
  exact ⟨a1.trans b1, a2.trans b2, a3.trans b3, fun k => (a4 k).trans (b4 k), fun k => (a5 k).trans (b5 k), fun k => (a6 k).trans (b6 k), fun k => (a7 k).trans (b7 k), fun k => (a8 k).trans (b8 k), fun k => (a9 k).trans (b9 k)⟩
theorem h_eq.fvE {S T : HS} {a : Nat} (h : h_eq S T a) (c k : Nat) : fv S c a k = fv T c a k := by
  obtain ⟨-, -, -, a4, a5, a6, -⟩ := h
  unfold fv
  split
  · rw [a4]
  · rw [a5]
  · rw [a6]
theorem h_eq.avE {S T : HS} {a : Nat} (h : h_eq S T a) (t j : Nat) : av S t a j = av T t a j := by
  obtain ⟨-, -, -, -, -, -, a7, a8, a9⟩ := h
  unfold av
  split
  · rw [a7]
  · rw [a8]
  · rw [a9]
theorem ck.kept {g : PG} {S T : HS} {a : Nat} {H H1 : Heap} (h : ck g S a H) (hq : H1[a]? = H[a]?) (e : h_eq T S a) : ck g T a H1 := by
  obtain ⟨h1, h2⟩ := h
  have e1 : h_cl T a = h_cl S a := e.1
  refine ⟨fun hc => ?_, fun hc => ?_⟩
  · rw [e1] at hc ⊢
    obtain ⟨r, g1, g2⟩ := h1 hc
    exact ⟨r, g1, (g2.kept hq).to fun k _ => (e.fvE _ k).symm⟩
  · rw [e1] at hc ⊢
    rw [hq, h2 hc, e.2.1]
    congr 2
    funext j
    exact (e.avE _ j).symm
theorem Wd.obO {g : PG} {U : State} {S : HS} {mo : MO} {H : Heap} (hW : Wd g S mo H) (hE : EV g U) {a c : Nat} (hc : h_cl S a = c) (h0 : c ≠ 0) (h3 : c < 30) : obO U g S c a H := by
  obtain ⟨w1, w2, w3, w4, w5, w6, w7⟩ := hW
  by_cases ha : a < g_n0 g
  · obtain ⟨e, -⟩ := w4 a ha
    obtain ⟨r, cell, q1, q2, q3, q4, q5, q6⟩ := hE.2.2.1.1 a c ha (by rw [← hc]; exact e.1.symm) h0 h3
    exact ⟨r, cell, q1, by rw [w3 a ha]; exact q2, q3, q4, q5, fun k hk => by rw [e.fvE]; exact q6 k hk⟩
  · obtain ⟨-, hck, -⟩ := w6 a (by omega) (by rw [hc]; exact h0)
    rw [hc] at hck
    obtain ⟨r, q1, cell, q2, q3, q4, q5⟩ := hck h3
    exact ⟨r, cell, q1, q2, by rw [q4]; exact fun h => (by cases h), by rw [q4]; rfl, q3, q5⟩
theorem arr_K {g : PG} {U : State} (hE : EV g U) {t : Nat} (h1 : 31 ≤ t) (h2 : t ≤ 38) : ArrOfT U (g_ac g t) (aty t) ∧ va_RA U (g_ac g t) (aty t) := by
  have hK := hE.1.2
  have h : (atys g)[t - 31]? = some (g_ac g t, aty t) := by
    obtain rfl | rfl | rfl | rfl | rfl | rfl | rfl | rfl : t = 31 ∨ t = 32 ∨ t = 33 ∨ t = 34 ∨ t = 35 ∨ t = 36 ∨ t = 37 ∨ t = 38 := by omega
    all_goals rfl
  exact hK _ _ h
theorem Wd.obA {g : PG} {U : State} {S : HS} {mo : MO} {H : Heap} (hW : Wd g S mo H) (hE : EV g U) {a t : Nat} (hc : h_cl S a = t) (h1 : 31 ≤ t) (h2 : t ≤ 38) : obA U g S t a H := by
  obtain ⟨w1, w2, w3, w4, w5, w6, w7⟩ := hW
  by_cases ha : a < g_n0 g
  · obtain ⟨e, -⟩ := w4 a ha
    obtain ⟨-, cell, q2, q3, q4, q5, q6, q7⟩ := hE.2.2.1.2 a t ha (by rw [← hc]; exact e.1.symm) (by omega)
    exact ⟨cell, by rw [w3 a ha]; exact q2, q3, q4, by rw [e.2.1]; exact q5, fun j hj => by rw [e.avE]; exact q6 j (by rw [← e.2.1]; exact hj), fun h => q7 (h.imp id (fun z => by rw [(w4 a ha).2] at z; cases z))⟩
  · obtain ⟨-, -, hck⟩ := w6 a (by omega) (by rw [hc]; omega)
    have q2 := hck (by rw [hc]; omega)
    rw [hc] at q2
    exact ⟨_, q2, (arr_K hE h1 h2).1 _ _, fun h => (by cases h), ⟨Nat.le_of_eq (arrV_size _ _ _).symm, by rw [arrV_size]⟩, fun j hj => arrV_read _ _ hj, fun _ => ⟨rfl, rfl⟩⟩
theorem m_po_lt (k : Nat) : m_po k < 40 := by
  unfold m_po
  split <;> omega
/-- a store into a cell of ours -/
theorem Wd.set {g : PG} {S S' : HS} {mo : MO} {H H' : Heap} (hW : Wd g S mo H) {a : Nat} (hw : h_wr S a = true) (hc0 : h_cl S a ≠ 0) (hz : H'.size = H.size) (ho : ∀ q, q ≠ a → H'[q]? = H[q]?) (he : ∀ q, q ≠ a → h_eq S' S q) (hn : h_nx S' = h_nx S) (hks : h_ks S' = h_ks S ∧ h_kr S' = h_kr S) (hc : h_cl S' a = h_cl S a) (hwr : h_wr S' a = h_wr S a) (hk : ck g S a H → ck g S' a H') : Wd g S' mo H' ∧ g_n0 g ≤ a := by
  obtain ⟨w1, w2, w3, w4, w5, w6, w7⟩ := hW
  have ha : ¬ a < g_n0 g := fun h => by rw [(w4 a h).2] at hw; cases hw
  have hx : ¬ h_nx S ≤ a := fun h => hc0 (w5 a h).1
  refine ⟨⟨by rw [hz, hn]; exact w1, ⟨by rw [hn]; exact w2.1, hks.1.trans w2.2.1, hks.2.trans w2.2.2⟩, fun q hq => ?_, fun q hq => ?_, fun q hq => ?_, fun q h1 h2 => ?_, ?_⟩, by omega⟩
  · rw [ho q (by have := w2.1; omega)]; exact w3 q hq
  · have e := he q (by omega)
    exact ⟨e.tr (w4 q hq).1, by rw [e.2.2.1]; exact (w4 q hq).2⟩
  · rw [hn] at hq
    obtain ⟨e1, e2, e3, e4, e5, e6, e7, e8, e9⟩ := he q (by omega)
    obtain ⟨z1, z2, z3, z4, z5, z6, z7, z8, z9⟩ := w5 q hq
    exact ⟨e1.trans z1, e2.trans z2, e3.trans z3, fun k => (e4 k).trans (z4 k), fun k => (e5 k).trans (z5 k), fun k => (e6 k).trans (z6 k), fun k => (e7 k).trans (z7 k), fun k => (e8 k).trans (z8 k), fun k => (e9 k).trans (z9 k)⟩
  · by_cases hqa : q = a
    · subst hqa
      rw [hc] at h2
      obtain ⟨f1, f2⟩ := w6 q h1 h2
      exact ⟨hwr.trans f1, hk f2⟩
    · have e := he q hqa
      rw [e.1] at h2
      obtain ⟨f1, f2⟩ := w6 q h1 h2
      exact ⟨e.2.2.1.trans f1, f2.kept (ho q hqa) e⟩
  · intro b M hb
    obtain ⟨m1, m2, m3, m4, m5⟩ := w7 b M hb
    have hne : ∀ j, j < 40 → b + j ≠ a := fun j hj h => hc0 (h ▸ m3 j hj)
    refine ⟨m1, by rw [hn]; exact m2, fun j hj => by rw [(he _ (hne j hj)).1]; exact m3 j hj, m4.kept (ho b (by simpa using hne 0 (by omega))), fun k hk h2 => ?_⟩
    rw [ho _ (hne _ (m_po_lt k))]
    exact m5 k hk h2
/-- a new cell -/
theorem Wd.new {g : PG} {S : HS} {mo : MO} {H H' : Heap} (hW : Wd g S mo H) {c n : Nat} (hz : H'.size = H.size + 1) (ho : ∀ q, q < H.size → H'[q]? = H[q]?) (hk : ck g (s_new S c n) (h_nx S) H') : Wd g (s_new S c n) mo H' := by
  obtain ⟨w1, w2, w3, w4, w5, w6, w7⟩ := hW
  have he : ∀ q, q ≠ h_nx S → h_eq (s_new S c n) S q := fun q hq => by
    refine ⟨?_, ?_, ?_, fun _ => rfl, fun _ => rfl, fun _ => rfl, fun _ => rfl, fun _ => rfl, fun _ => rfl⟩ <;> simp [r_cl_new, r_ln_new, r_wr_new, h_up, hq]
  refine ⟨by rw [hz, w1]; rfl, ⟨Nat.le_trans w2.1 (Nat.le_succ _), w2.2⟩, fun q hq => ?_, fun q hq => ?_, fun q hq => ?_, fun q h1 h2 => ?_, ?_⟩
  · rw [ho q (by have := w2.1; omega)]; exact w3 q hq
  · have e := he q (by omega)
    exact ⟨e.tr (w4 q hq).1, by rw [e.2.2.1]; exact (w4 q hq).2⟩
  · rw [r_nx_new] at hq
    obtain ⟨e1, e2, e3, e4, e5, e6, e7, e8, e9⟩ := he q (by omega)
    obtain ⟨z1, z2, z3, z4, z5, z6, z7, z8, z9⟩ := w5 q (by omega)
    exact ⟨e1.trans z1, e2.trans z2, e3.trans z3, fun k => (e4 k).trans (z4 k), fun k => (e5 k).trans (z5 k), fun k => (e6 k).trans (z6 k), fun k => (e7 k).trans (z7 k), fun k => (e8 k).trans (z8 k), fun k => (e9 k).trans (z9 k)⟩
  · by_cases hqa : q = h_nx S
    · subst hqa
      exact ⟨by simp [r_wr_new, h_up], hk⟩
    · have e := he q hqa
      rw [e.1] at h2
      obtain ⟨f1, f2⟩ := w6 q h1 h2
      have hq : q < H.size := by
        rw [w1]
        exact Nat.lt_of_not_le fun h => h2 (w5 q h).1
      exact ⟨e.2.2.1.trans f1, f2.kept (ho q hq) e⟩
  · intro b M hb
    obtain ⟨m1, m2, m3, m4, m5⟩ := w7 b M hb
    refine ⟨m1, by rw [r_nx_new]; omega, fun j hj => by rw [(he _ (by omega)).1]; exact m3 j hj, m4.kept (ho b (by omega)), fun k hk h2 => ?_⟩
    have := m_po_lt k
    rw [ho _ (by omega)]
    exact m5 k hk h2
