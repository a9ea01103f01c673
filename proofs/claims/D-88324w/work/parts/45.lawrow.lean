/-! the law: its model's object is turned into a state of its own; the law's end -/
def M_of (S : HS) (a : Nat) : MS := (fun k => h_fI S (31 + k) a, fun k => h_fJ S (31 + k) a, fun k i => h_aI S (a + m_po k) i, fun k i => h_aJ S (a + m_po k) i)
def s_hide (S : HS) (a : Nat) : HS := (h_fI S, h_fJ S, h_fR S, h_aI S, h_aJ S, h_aR S, (fun q => if a ≤ q ∧ q < a + 40 then 0 else h_cl S q), h_ln S, h_wr S, h_nx S, h_sl S, h_ks S, h_kr S)
def g_cok (S : HS) (a : Nat) : Prop := h_cl S a = 3 ∧ h_wr S a = true ∧ a + 40 ≤ h_nx S ∧ ∀ k, k < 67 → 2 ≤ m_ki k → h_fR S (31 + k) a = some (a + m_po k) ∧ h_cl S (a + m_po k) = mta k ∧ h_ln S (a + m_po k) = m_le k
theorem mfv_of (S : HS) (a : Nat) (h : g_cok S a) : ∀ k, k < 67 → mfv a (M_of S a) k = fv S 3 a k := by
  intro k hk
  have hlay : lay 3 k = (match m_ki k with | 0 => 0 | 1 => 1 | _ => 2, 31 + k) := by
    have h9 : ∀ k, k < 67 → lay 3 k = (match m_ki k with | 0 => 0 | 1 => 1 | _ => 2, 31 + k) := by decide
    exact h9 k hk
  unfold fv
  rw [hlay]
  unfold mfv
  by_cases h0 : m_ki k = 0
  · simp only [h0]
    rfl
  · by_cases h1 : m_ki k = 1
    · simp only [h1]
      rfl
    · have h2 : 2 ≤ m_ki k := by omega
      have h3 := (h.2.2.2 k hk h2).1
      split
      · rename_i e
        exact absurd e h0
      · rename_i e
        exact absurd e h1
      · split
        · rename_i e
          split at e <;> first | (exact absurd (by assumption) h0) | (exact absurd (by assumption) h1) | cases e
        · rename_i e
          split at e <;> first | (exact absurd (by assumption) h0) | (exact absurd (by assumption) h1) | cases e
        · rw [h3]
          rfl
theorem hide_eq {S : HS} {a q : Nat} (h : ¬ (a ≤ q ∧ q < a + 40)) : h_eq (s_hide S a) S q :=
  ⟨by show (if a ≤ q ∧ q < a + 40 then 0 else h_cl S q) = _; rw [if_neg h], rfl, rfl, fun _ => rfl, fun _ => rfl, fun _ => rfl, fun _ => rfl, fun _ => rfl, fun _ => rfl⟩
theorem hide_wd {g : PG} {S : HS} {H : Heap} {a : Nat} (hW : Wd g S none H) (h : g_cok S a) : Wd g (s_hide S a) (some (a, M_of S a)) H := by
  obtain ⟨w1, w2, w3, w4, w5, w6, w7⟩ := hW
  obtain ⟨c1, c2, c3, c4⟩ := h
  have ha : g_n0 g ≤ a := by
    rcases Nat.lt_or_ge a (g_n0 g) with x | x
    · have := (w4 a x).2
      rw [c2] at this
      cases this
    · exact x
  have hck := (w6 a ha (by rw [c1]; decide)).2
  refine ⟨w1, w2, w3, fun q hq => ?_, fun q hq => ?_, fun q h1 h2 => ?_, ?_⟩
  · exact ⟨(hide_eq (by omega)).tr (w4 q hq).1, (w4 q hq).2⟩
  · have hz := w5 q hq
    have e := hide_eq (S := S) (a := a) (q := q) (by have : h_nx S ≤ q := hq; omega)
    obtain ⟨e1, e2, e3, e4, e5, e6, e7, e8, e9⟩ := e
    obtain ⟨z1, z2, z3, z4, z5, z6, z7, z8, z9⟩ := hz
    exact ⟨e1.trans z1, z2, z3, z4, z5, z6, z7, z8, z9⟩
  · have hn : ¬ (a ≤ q ∧ q < a + 40) := fun x => h2 (by show (if a ≤ q ∧ q < a + 40 then 0 else h_cl S q) = 0; rw [if_pos x])
    have e := hide_eq (S := S) (a := a) (q := q) hn
    rw [e.1] at h2
    exact ⟨(w6 q h1 h2).1, (w6 q h1 h2).2.kept rfl e⟩
  · intro b M hb
    cases hb
    refine ⟨ha, c3, fun j hj => ?_, ?_, fun k hk h2 => ?_⟩
    · show (if a ≤ a + j ∧ a + j < a + 40 then 0 else h_cl S (a + j)) = 0
      rw [if_pos ⟨by omega, by omega⟩]
    · obtain ⟨r, q1, q2⟩ := hck.1 (by rw [c1]; decide)
      rw [c1] at q1 q2
      have hr : r.2.2 = 67 := by
        have : vwCl[3]? = some r := q1
        have e2 : vwCl[3]?.map (fun r => r.2.2) = some 67 := rfl
        rw [this] at e2
        exact Option.some.inj e2
      rw [hr] at q2
      exact q2.to fun k hk => (mfv_of S a ⟨c1, c2, c3, c4⟩ k hk).symm
    · obtain ⟨d1, d2, d3⟩ := c4 k hk h2
      have hm : 30 ≤ mta k := by
        unfold mta
        split <;> decide
      have hq := (w6 (a + m_po k) (by omega) (by rw [d2]; omega)).2.2 (by rw [d2]; exact hm)
      rw [d2, d3] at hq
      rw [hq]
      congr 2
      funext j
      have hm2 : ∀ k, k < 67 → 2 ≤ m_ki k → aki (mta k) = (match m_ki k with | 3 => 1 | _ => 0) := by decide
      unfold av mav
      rw [hm2 k hk h2]
      by_cases h3 : m_ki k = 3
      · simp only [h3]
        rfl
      · split
        · rename_i e
          split
          · rename_i e3
            exact absurd e3 h3
          · rfl
        · rename_i e
          split at e
          · rename_i e3
            exact absurd e3 h3
          · cases e
        · rename_i e9 e
          split at e9
          · rename_i e3
            exact absurd e3 h3
          · exact absurd rfl e9
section JLAW
variable {f : CfT} {S S' : HS} {mo : MO} {pc : Nat} {L : LL} {st : List LV}
theorem j_conv {a : Nat} (h : g_cok S a) (K : JJ f (s_hide S a) (some (a, M_of S a)) pc L st) : JJ f S none pc L st :=
  ⟨K.1, fun p e s m args below meth c X ls H locs cells slots hl hW hS h1 h2 => K.2 p e s m args below meth c X ls H locs cells slots hl (hide_wd hW h) hS h1 h2⟩
def LZ (below : List Frame) (s : State) : State → Prop := fun t => ∃ o, t.status = .running ∧ Ended t below o ∧ (o = .returned (some (.int 1)) ∧ Framed s o t [] 1200128 5501098)
/-- what the law's end owes: it is owed where the start's heap is the constants' -/
def LQ (f : CfT) : Prop := (cf_R f).cells = 1200128 ∧ (cf_R f).slots = 5501098 ∧ cf_in f = (g_n0 (cf_g f), 0) ∧ ∀ below args s t, (s.heap.size ≤ g_n0 (cf_g f) → LZ below s t) → cf_Q f below args s t
theorem j_lend (hc : cf_cc f = code) (hre : cf_re f = ret) (hq : LQ f) (hb : h_nx S ≤ (cf_fi f).1 ∧ h_sl S ≤ (cf_fi f).2) (d : decode code pc = .ok (.ireturn, 1)) : JJ f S mo pc L [vi 1] :=
  ⟨hb, fun p e s m args below meth c X ls H locs cells slots hl hW hS h1 h2 => by
    obtain ⟨q1, q2, q3, q4⟩ := hq
    obtain ⟨x1, x2, x3, x4, x5, x6, x7, x8, x9, x10⟩ := X
    refine W.mono (fun t ht => q4 below args s t ht) ?_
    by_cases hs : s.heap.size ≤ g_n0 (cf_g f)
    · refine W.mono (Q := LZ below s) (fun t ht _ => ht) ?_
      refine va_forget (fun q hq => Nat.le_trans hs (hS.2.2 q hq)) ?_
      refine W.widen (k := 1200128) (n := 5501098) (by rw [← q1]; show cells ≤ (cf_fi f).1 - (cf_in f).1; omega) (by rw [← q2]; show slots ≤ (cf_fi f).2 - (cf_in f).2; omega) ?_
      intro T hT X
      obtain ⟨fs, hret, hrun, hended, hW2, hframe⟩ := X.leave (v := some (.int 1)) (hlocks := x8) (fun h => by rw [x7, hre] at h; cases h)
      have hmeth' : T.vm.method? m = some meth := X.method'
      refine ⟨T.setFrames fs, ?_, .returned (some (.int 1)), hrun, hended, rfl, ⟨_, rfl⟩, hW2, hframe⟩
      have hcc : c.code = code := x2.trans hc
      have hr9 : meth.sig.returnType = ret := x7.trans hre
      show Steps p.tables e below (T.setTop (F0 m pc ls [.int 1])) _
      jvm_step X.here [X.here.top, x1, hcc, d, hmeth', hr9, ret, narrow_b1]
      (try refine ⟨rfl, ?_⟩); (try refine ⟨rfl, ?_⟩)
      first | (intro acts; rw [hret _ acts rfl rfl rfl]) | rw [hret _ _ rfl rfl rfl]
      exact Steps.refl _
    · intro T hT X
      exact ⟨_, Steps.refl _, fun h => absurd h hs⟩⟩
end JLAW
