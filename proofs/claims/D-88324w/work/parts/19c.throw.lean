/-! contracts of methods that throw, and of methods with handlers -/
def QrX (g : PG) (rs : Option LV ⊕ Nat) (S : HS) (mo : MO) : Array Value → State → Outcome → State → Prop := fun a st o t => ∃ v, rs = .inl v ∧ Qr g v S mo a st o t
def XrX (g : PG) (rs : Option LV ⊕ Nat) (S : HS) (mo : MO) : Addr → String → State → State → Prop := fun q E st t => rs = .inr q ∧ E = "TableCatalog$Fault" ∧ Wd g S mo t.heap ∧ va_F (g_A g) st t
def Cx (l : Launch) (g : PG) (y : MethodName) (ws : List Cond) (fr lo : Nat) (S : HS) (mo : MO) (As : List LV) (rs : Option LV ⊕ Nat) (S1 : HS) (mo1 : MO) : Prop :=
  vy_Met l y ws (rm_ fr lo S S1) (pc_ g S mo As) (QrX g rs S1 mo1) (XrX g rs S1 mo1) (h_nx S1 - h_nx S) (h_sl S1 - h_sl S) (g_A g)
def rs_i (r : Int32 ⊕ Nat) : Option LV ⊕ Nat := match r with
  | .inl x => .inl (some (vi x))
  | .inr q => .inr q
def rs_r (r : Option Nat ⊕ Nat) : Option LV ⊕ Nat := match r with
  | .inl x => .inl (some (vr x))
  | .inr q => .inr q
def rs_v (r : Unit ⊕ Nat) : Option LV ⊕ Nat := match r with
  | .inl _ => .inl none
  | .inr q => .inr q
def QokX (f : CfT) (rs : Option LV ⊕ Nat) (S : HS) (mo : MO) : Prop := cf_fi f = (h_nx S, h_sl S) ∧ ∀ below args s t, vy_MQ below (QrX (cf_g f) rs S mo) (XrX (cf_g f) rs S mo) args s ((cf_fi f).1 - (cf_in f).1) ((cf_fi f).2 - (cf_in f).2) (g_A (cf_g f)) t → cf_Q f below args s t
theorem QokX.ret {f : CfT} {out : Option LV} {S : HS} {mo : MO} (h : QokX f (.inl out) S mo) : Qok f out S mo := ⟨h.1, fun below args s t hm => h.2 below args s t (by
  obtain ⟨o, b1, b2, b3, b4⟩ := hm
  exact ⟨o, b1, b2, Or.inl ⟨⟨out, rfl, b3⟩, b4⟩⟩)⟩
def o_tr {α γ : Type} (o : Option ((α ⊕ Nat) × HS)) (k : α → HS → Option γ) (x : Nat → HS → Option γ) : Option γ := o.bind fun v => match v.1 with
  | .inl a => k a v.2
  | .inr q => x q v.2
theorem ob_t {α γ : Type} {o : Option ((α ⊕ Nat) × HS)} {k : α → HS → Option γ} {x : Nat → HS → Option γ} {r : γ} (h : o_tr o k x = some r) : (∃ a S, o = some (.inl a, S) ∧ k a S = some r) ∨ (∃ q S, o = some (.inr q, S) ∧ x q S = some r) := by
  obtain ⟨⟨a | q, S⟩, h1, h2⟩ := Option.bind_eq_some_iff.mp h
  · exact Or.inl ⟨a, S, h1, h2⟩
  · exact Or.inr ⟨q, S, h1, h2⟩
/-- a Fault of ours is thrown -/
def g_thr (S : HS) (q : Nat) : Option Unit := if h_cl S q = 11 ∧ h_wr S q = true then some () else none
theorem g_thr_ok {S : HS} {q : Nat} {u : Unit} (h : g_thr S q = some u) : h_cl S q = 11 ∧ h_wr S q = true := by
  unfold g_thr at h
  split at h
  · assumption
  · cases h
theorem thr_cell {g : PG} {S : HS} {mo : MO} {H : Heap} {U : State} (hW : Wd g S mo H) (hE : EV g U) {q : Nat} (h : h_cl S q = 11 ∧ h_wr S q = true) : ∃ ce : Cell, H[q]? = some ce ∧ ce.vm = .none ∧ U.vm.findClass "TableCatalog$Fault" = some ce.cls := by
  have ha0 : ¬ q < g_n0 g := fun h9 => by
    have := h.2
    rw [(hW.2.2.2.1 q h9).2] at this
    cases this
  obtain ⟨-, hck, -⟩ := hW.2.2.2.2.2.1 q (by omega) (by rw [h.1]; decide)
  rw [h.1] at hck
  obtain ⟨r, q1, cell, q2, q3, q4, q5⟩ := hck (by decide)
  cases ci_X2.symm.trans q1
  exact ⟨cell, q2, q4, by rw [q3]; exact (hE.1.1 11 _ ci_X2).2.1⟩
theorem met_ofX {l : Launch} {g : PG} {y : MethodName} {cc : ByteArray} {mL : Nat} {ret : Option FieldType} {fr lo : Nat} {S S1 : HS} {mo mo1 : MO} {As : List LV} {rs : Option LV ⊕ Nat} {L0 : LL} (ct : Bool) (hy : plainName y.cls = true) (hct : ct = true → y.name = "<init>") (hL : ls_args 0 As = L0) (hsz : (As.map lc).sum ≤ mL)
    (hb : ∀ f : CfT, cf_l f = l → cf_g f = g → cf_cc f = cc → cf_ow f = y.cls → cf_nL f = mL → cf_rm f = (fr, lo) → cf_re f = ret → cf_ct f = ct → cf_ex f = [] → QokX f rs S1 mo1 → JJ f S mo 0 L0 []) :
    (h_nx S ≤ h_nx S1 ∧ h_sl S ≤ h_sl S1) ∧ Cx l g y (ws_ y cc mL ret) fr lo S mo As rs S1 mo1 := by
  have hJ := hb (l, g, cc, y.cls, mL, (fr, lo), (h_nx S, h_sl S), (h_nx S1, h_sl S1), (fun below args s => vy_MQ below (QrX g rs S1 mo1) (XrX g rs S1 mo1) args s (h_nx S1 - h_nx S) (h_sl S1 - h_sl S) (g_A g)), ret, ct, []) rfl rfl rfl rfl rfl rfl rfl rfl rfl ⟨rfl, fun _ _ _ _ h => h⟩
  refine ⟨hJ.1, vy_ofW (cc := cc) (maxL := mL) (ret := ret) hy rfl ?_⟩
  intro p e s m args below meth c s₁ B hml hnx hv
  obtain ⟨rfl, hW, hE⟩ := hv
  have hts := atoms_spec (ws := ws_ y cc mL ret) B.pre
  have hts2 : ∀ w ∈ lw_all, w.before _ s = true := fun w h => hts w (List.mem_cons_of_mem _ h)
  have hex : c.exceptionTable.toList = [] := List.eq_nil_iff_forall_not_mem.mpr fun x hx => hnx x hx
  have hlv := lv_entry (As.map tv) (n := mL) (by rw [lg_sl_len]; exact hsz)
  rw [ls_args_tv, hL] at hlv
  rw [lg_entry_eq]
  exact hJ.2 p e s m _ below meth c ⟨B.exec, B.bytes, hml, findClass_of_methodNamed B.named, hts2, hE, B.returns, B.notSynchronized, fun h => by rw [(name_of_methodNamed B.named B.method).1]; exact hct h, hex⟩ _ _ [] 0 0 hlv hW va_S.rf (Nat.zero_add _) (Nat.zero_add _)
/-- a method with handlers that itself doesn't throw -/
def CtW (l : Launch) (g : PG) (y : MethodName) (ws : List Cond) (fr lo : Nat) (S : HS) (mo : MO) (As : List LV) (out : Option LV) (S1 : HS) (mo1 : MO) : Prop :=
  Met l y ws (rm_ fr lo S S1) (pc_ g S mo As) (Qr g out S1 mo1) (h_nx S1 - h_nx S) (h_sl S1 - h_sl S) (g_A g)
theorem met_ofWH {l : Launch} {g : PG} {y : MethodName} {cc : ByteArray} {mL : Nat} {ret : Option FieldType} {hh : List (Nat × Nat × Nat × Nat)} {fr lo : Nat} {S S1 : HS} {mo mo1 : MO} {As : List LV} {out : Option LV} {L0 : LL} (ct : Bool) (hy : plainName y.cls = true) (hct : ct = true → y.name = "<init>") (hL : ls_args 0 As = L0) (hsz : (As.map lc).sum ≤ mL)
    (hb : ∀ f : CfT, cf_l f = l → cf_g f = g → cf_cc f = cc → cf_ow f = y.cls → cf_nL f = mL → cf_rm f = (fr, lo) → cf_re f = ret → cf_ct f = ct → cf_ex f = tableOf hh → Qok f out S1 mo1 → JJ f S mo 0 L0 []) :
    (h_nx S ≤ h_nx S1 ∧ h_sl S ≤ h_sl S1) ∧ CtW l g y (wsW_ y cc mL ret hh) fr lo S mo As out S1 mo1 := by
  have hJ := hb (l, g, cc, y.cls, mL, (fr, lo), (h_nx S, h_sl S), (h_nx S1, h_sl S1), (fun below args s => MQ below (Qr g out S1 mo1) args s (h_nx S1 - h_nx S) (h_sl S1 - h_sl S) (g_A g)), ret, ct, tableOf hh) rfl rfl rfl rfl rfl rfl rfl rfl rfl ⟨rfl, fun _ _ _ _ h => h⟩
  refine ⟨hJ.1, ?_⟩
  show MetFree l y (headSpec (wsW_ y cc mL ret hh) (rm_ fr lo S S1)) (pc_ g S mo As) (fun _ _ _ _ _ => True) (fun a st o t => Qr g out S1 mo1 a st o t ∧ ∃ L, FrameEnd st o t L (h_nx S1 - h_nx S) (h_sl S1 - h_sl S) ∧ ∀ q ∈ L, g_A g q.base)
  refine MetFree.of_bodyS (code := cc) (maxLocals := mL) (ret := ret) hy ?_ ?_
  · intro args s m h hn
    obtain ⟨m9, meth, c, hn9, h1, h2, h3, h4, -, h5, h6, -⟩ := Cond.codeWith_spec (atoms_spec (ws := wsW_ y cc mL ret hh) h _ List.mem_cons_self)
    cases hn.symm.trans hn9
    exact ⟨meth, c, h1, h2, h3, h4, h5, h6⟩
  · intro p e s m args below meth c s₁ B hml hP _
    have hh0 : s₁.heap = s.heap := by rw [B.state]; rfl
    obtain ⟨rfl, hW, hE⟩ := hP
    have hts := atoms_spec (ws := wsW_ y cc mL ret hh) B.pre
    have hts2 : ∀ w ∈ lw_all, w.before _ s = true := fun w h => hts w (List.mem_cons_of_mem _ h)
    have hex : c.exceptionTable.toList = tableOf hh := vx_table (x := y) B (hts _ List.mem_cons_self)
    have hlv := lv_entry (As.map tv) (n := mL) (by rw [lg_sl_len]; exact hsz)
    rw [ls_args_tv, hL] at hlv
    have hW1 := hJ.2 p e s m _ below meth c ⟨B.exec, B.bytes, hml, findClass_of_methodNamed B.named, hts2, hE, B.returns, B.notSynchronized, fun h => by rw [(name_of_methodNamed B.named B.method).1]; exact hct h, hex⟩ _ _ [] 0 0 hlv hW va_S.rf (Nat.zero_add _) (Nat.zero_add _)
    rw [show F0 m 0 ((lg_sl (As.map tv) ++ List.replicate (mL - (lg_sl (As.map tv)).length) Slot.unset).toArray) (([] : List LV).map tv) = entryFrame m (As.map tv).toArray mL from (lg_entry_eq _ _ _).symm] at hW1
    obtain ⟨t, a1, o, b1, b2, b3⟩ := hW1 s₁ hh0 (Stand.of_body B)
    exact ⟨t, o, a1, b1, b2, ⟨b3.1, b3.2⟩⟩
section JT
variable {f : CfT} {S S' S1 : HS} {mo mo1 : MO} {pc : Nat} {L L' : LL} {st : List LV} {cc : ByteArray} {own : String} {a q : Nat}
variable {y : MethodName} {b : ByteArray} {mL n fr lo fr0 lo0 idx : Nat} {r : Option FieldType} {As rest : List LV} {out : Option LV} {C : String}
/-- thrown, and not caught here -/
theorem j_athrow (hc : cf_cc f = cc) (hex : cf_ex f = []) (hq : QokX f (.inr q) S mo) (d : decode cc pc = .ok (.athrow, 1)) (h : h_cl S q = 11 ∧ h_wr S q = true) : JJ f S mo pc L (vr (some q) :: st) :=
  ⟨by rw [hq.1]; exact ⟨Nat.le_refl _, Nat.le_refl _⟩, fun p e s m args below meth c X ls H locs cells slots hl hW hS h1 h2 => by
    obtain ⟨x1, x2, x3, x4, x5, x6, x7, x8, x9, x10⟩ := X
    obtain ⟨ce, c1, c2, c3⟩ := thr_cell hW x6 h
    have e1 : cells = (cf_fi f).1 - (cf_in f).1 := by rw [hq.1]; show cells = h_nx S - _; omega
    have e2 : slots = (cf_fi f).2 - (cf_in f).2 := by rw [hq.1]; show slots = h_sl S - _; omega
    have k : vx_W p (cf_l f) e (cf_R f) s m args below meth c H locs cells slots (cf_Q f below args s) (F0 m pc ls (st.map tv)) q := by
      intro T hT X0
      have k2 := vy_out (Qc := QrX (cf_g f) (.inr q) S mo) (XC := XrX (cf_g f) (.inr q) S mo) (p := p) (l := cf_l f) (e := e) (R := cf_R f) (s := s) (m := m) (args := args) (below := below) (meth := meth) (c := c) (H := H) (locs := locs) (cells := cells) (slots := slots) (pc := pc) (ls := ls) (rest := st.map tv) (E := "TableCatalog$Fault") (ce := ce) (q := q) (free := g_A (cf_g f)) (by rw [x10, hex]; intro x hx; cases hx) x8 c1 c2 c3 (fun t ht _ => ⟨rfl, rfl, by rw [ht]; exact hW, hS.F ht⟩) hS.2.2 (Nat.le_refl _) (Nat.le_refl _)
      obtain ⟨t, a1, b1⟩ := k2 T hT X0
      rw [e1, e2] at b1
      exact ⟨t, a1, hq.2 below args s t b1⟩
    exact vx_athrow x1 (x2.trans hc) d k⟩
/-- a caught one's cell -/
def FH (own : String) (f : CfT) (pc tgt : Nat) : Prop := ∃ (pre : List ExceptionTableEntry) (x : ExceptionTableEntry) (suf : List ExceptionTableEntry), cf_ex f = pre ++ x :: suf ∧ (∀ z ∈ pre, covers z pc = false) ∧ covers x pc = true ∧ x.catchType ≠ 0 ∧ Cond.classLink own x.catchType "TableCatalog$Fault" ∈ lw_all ∧ x.handlerPc = tgt
theorem j_caught {tgt : Nat} (ho : cf_ow f = own) (hh : FH own f pc tgt) (K : JJ f S mo tgt L [vr (some q)]) {p : Program} {e : Env} {s : State} {m : MethodId} {args : Array Value} {below : List Frame} {meth : Method} {c : Code} (X : Fix f p s m args meth c) {ls : Array Slot} {H : Heap} {locs : List Loc} {cells slots : Nat} (hl : lv_has ls (cf_nL f) (ls_tv L)) (hW : Wd (cf_g f) S mo H) (hS : va_S (g_A (cf_g f)) s.heap H locs) (h1 : cells + (cf_in f).1 = h_nx S) (h2 : slots + (cf_in f).2 = h_sl S) {rest : List Value} {ce : Cell} (c1 : H[q]? = some ce) (c2 : ce.vm = .none) (c3 : s.vm.findClass "TableCatalog$Fault" = some ce.cls) :
    vx_W p (cf_l f) e (cf_R f) s m args below meth c H locs cells slots (cf_Q f below args s) (F0 m pc ls rest) q := by
  have k9 := K.2 p e s m args below meth c X ls H locs cells slots hl hW hS h1 h2
  obtain ⟨x1, x2, x3, x4, x5, x6, x7, x8, x9, x10⟩ := X
  rw [ho] at x4
  obtain ⟨pre, x, suf, g1, g2, g3, g4, g5, g6⟩ := hh
  refine vx_catch x4 pre x suf (by rw [x10]; exact g1) (fun z hz => Or.inl (g2 z hz)) g3 g4 (x5 _ g5) (va_Nw.use rfl (x6.2.1.2.2.1 _ _ q129)) c1 c2 c3 ?_
  rw [g6]
  exact k9
theorem j_athrowC {tgt : Nat} (hc : cf_cc f = cc) (ho : cf_ow f = own) (hh : FH own f pc tgt) (d : decode cc pc = .ok (.athrow, 1)) (h : h_cl S q = 11 ∧ h_wr S q = true) (K : JJ f S mo tgt L [vr (some q)]) : JJ f S mo pc L (vr (some q) :: st) :=
  ⟨K.1, fun p e s m args below meth c X ls H locs cells slots hl hW hS h1 h2 => by
    obtain ⟨ce, c1, c2, c3⟩ := thr_cell hW X.2.2.2.2.2.1 h
    exact vx_athrow X.1 (X.2.1.trans hc) d (j_caught ho hh K X hl hW hS h1 h2 c1 c2 c3)⟩
/-- what a call of a method that may throw runs -/
def RunX (f : CfT) (S : HS) (mo : MO) (pc : Nat) (L : LL) (st0 rest : List LV) (rs : Option LV ⊕ Nat) (S1 : HS) (mo1 : MO) : Prop :=
  ∀ (p : Program) (e : Env) (s : State) (m : MethodId) (args : Array Value) (below : List Frame) (meth : Method) (c : Code), Fix f p s m args meth c → ∀ (ls : Array Slot) (H : Heap) (locs : List Loc) (cells slots : Nat), lv_has ls (cf_nL f) (ls_tv L) → Wd (cf_g f) S mo H → cells + (h_nx S1 - h_nx S) ≤ (cf_R f).cells → slots + (h_sl S1 - h_sl S) ≤ (cf_R f).slots →
    ∃ av, vy_Run p (cf_l f) e (cf_R f) s m args below meth c H locs cells slots (h_nx S1 - h_nx S) (h_sl S1 - h_sl S) (F0 m pc ls (st0.map tv)) (rest.map tv) (QrX (cf_g f) rs S1 mo1 av) (XrX (cf_g f) rs S1 mo1) (g_A (cf_g f))
theorem keepS {g : PG} {H0 H H1 : Heap} {locs LL0 : List Loc} (hS : va_S (g_A g) H0 H locs) (hz : H.size ≤ H1.size) (hkp : ∀ q : Nat, q < H.size → ¬ g_A g q → H1[q]? = H[q]?) (hLL : ∀ q ∈ LL0, g_A g q.base) : va_S (g_A g) H0 H1 (locs ++ LL0) :=
  ⟨Nat.le_trans hS.1 hz, fun q g1 g2 => by rw [hkp q (Nat.lt_of_lt_of_le g1 hS.1) g2]; exact hS.2.1 q g1 g2, fun q hq => by
    rcases List.mem_append.mp hq with h | h
    · exact hS.2.2 q h
    · exact hLL q h⟩
theorem j_backI {st0 st2 : List LV} (hm : h_nx S ≤ h_nx S1 ∧ h_sl S ≤ h_sl S1) (hr : RunX f S mo pc L st0 rest (.inl out) S1 mo1) (h2st : out.toList ++ rest = st2) (K : JJ f S1 mo1 (pc + 3) L st2) : JJ f S mo pc L st0 := by
  subst h2st
  exact ⟨⟨Nat.le_trans hm.1 K.1.1, Nat.le_trans hm.2 K.1.2⟩, fun p e s m args below meth c X ls H locs cells slots hl hW hS h1 h2 => by
    have hk1 := K.1
    obtain ⟨av, hrun⟩ := hr p e s m args below meth c X ls H locs cells slots hl hW (by show _ ≤ (cf_fi f).1 - (cf_in f).1; omega) (by show _ ≤ (cf_fi f).2 - (cf_in f).2; omega)
    have kk := K.2 p e s m args below meth c X ls
    intro T hT X0
    rcases hrun T hT X0 with ⟨v, st₀, t, T', LL0, g0, X', hLL, e1, e2, ⟨v9, hv9, hv, hW1, hF⟩, stp⟩ | ⟨q9, st₀, t, T', LL0, E, ce, g0, X', hLL, e1, e2, ⟨hx, -⟩, -⟩
    · cases hv9
      have hv2 : v = out.map tv := by injection hv
      obtain ⟨hz, hkp⟩ := hF
      rw [g0] at hz hkp
      obtain ⟨t2, a1, b1⟩ := kk T'.heap (locs ++ LL0) (cells + (h_nx S1 - h_nx S)) (slots + (h_sl S1 - h_sl S)) hl (by rw [e1]; exact hW1) (keepS hS (by rw [e1]; exact hz) (fun q g1 g2 => by rw [e1]; exact hkp q g1 g2) hLL) (by omega) (by omega) T' rfl X'
      refine ⟨t2, stp t2 ?_, b1⟩
      have hst : (v.toList ++ rest.map tv) = (out.toList ++ rest).map tv := by
        rw [hv2]
        cases out <;> simp
      rw [hst]
      exact a1
    · cases hx⟩
/-- the callee threw, and it goes on -/
theorem j_backT {st0 : List LV} (hm : h_nx S ≤ h_nx S1 ∧ h_sl S ≤ h_sl S1) (hr : RunX f S mo pc L st0 rest (.inr q) S1 mo1) (hex : cf_ex f = []) (hq : QokX f (.inr q) S1 mo1) : JJ f S mo pc L st0 :=
  ⟨by rw [hq.1]; exact hm, fun p e s m args below meth c X ls H locs cells slots hl hW hS h1 h2 => by
    have hfi := hq.1
    have f1 : (cf_fi f).1 = h_nx S1 := by rw [hfi]
    have f2 : (cf_fi f).2 = h_sl S1 := by rw [hfi]
    obtain ⟨av, hrun⟩ := hr p e s m args below meth c X ls H locs cells slots hl hW (by show _ ≤ (cf_fi f).1 - (cf_in f).1; omega) (by show _ ≤ (cf_fi f).2 - (cf_in f).2; omega)
    obtain ⟨x1, x2, x3, x4, x5, x6, x7, x8, x9, x10⟩ := X
    intro T hT X0
    rcases hrun T hT X0 with ⟨v, st₀, t, T', LL0, g0, X', hLL, e1, e2, ⟨v9, hv9, -⟩, stp⟩ | ⟨q9, st₀, t, T', LL0, E, ce, g0, X', hLL, e1, e2, ⟨hx, hE, hW1, hF⟩, hce, hcv, hcl, stp⟩
    · cases hv9
    · cases hx
      subst hE
      obtain ⟨hz, hkp⟩ := hF
      rw [g0] at hz hkp
      have hS' := keepS hS (H1 := t.heap) hz hkp hLL
      have k2 := vy_out (Qc := QrX (cf_g f) (.inr q) S1 mo1) (XC := XrX (cf_g f) (.inr q) S1 mo1) (p := p) (l := cf_l f) (e := e) (R := cf_R f) (s := s) (m := m) (args := args) (below := below) (meth := meth) (c := c) (H := T'.heap) (locs := locs ++ LL0) (cells := cells + (h_nx S1 - h_nx S)) (slots := slots + (h_sl S1 - h_sl S)) (pc := pc) (ls := ls) (rest := rest.map tv) (E := "TableCatalog$Fault") (ce := ce) (q := q) (free := g_A (cf_g f)) (by rw [x10, hex]; intro x hx; cases hx) x8 (by rw [e1]; exact hce) hcv hcl (fun t9 ht _ => ⟨rfl, rfl, by rw [ht, e1]; exact hW1, by
          have hS9 := hS'
          rw [← e1] at hS9
          exact hS9.F ht⟩) hS'.2.2 (Nat.le_refl _) (Nat.le_refl _)
      obtain ⟨t2, a1, b1⟩ := k2 T' rfl X'
      rw [show cells + (h_nx S1 - h_nx S) = (cf_fi f).1 - (cf_in f).1 by omega, show slots + (h_sl S1 - h_sl S) = (cf_fi f).2 - (cf_in f).2 by omega] at b1
      exact ⟨t2, stp.trans a1, hq.2 below args s t2 b1⟩⟩
/-- the callee threw, and it is caught here -/
theorem j_backC {st0 : List LV} {tgt : Nat} (ho : cf_ow f = own) (hm : h_nx S ≤ h_nx S1 ∧ h_sl S ≤ h_sl S1) (hr : RunX f S mo pc L st0 rest (.inr q) S1 mo1) (hh : FH own f pc tgt) (K : JJ f S1 mo1 tgt L [vr (some q)]) : JJ f S mo pc L st0 :=
  ⟨⟨Nat.le_trans hm.1 K.1.1, Nat.le_trans hm.2 K.1.2⟩, fun p e s m args below meth c X ls H locs cells slots hl hW hS h1 h2 => by
    have hk1 := K.1
    obtain ⟨av, hrun⟩ := hr p e s m args below meth c X ls H locs cells slots hl hW (by show _ ≤ (cf_fi f).1 - (cf_in f).1; omega) (by show _ ≤ (cf_fi f).2 - (cf_in f).2; omega)
    intro T hT X0
    rcases hrun T hT X0 with ⟨v, st₀, t, T', LL0, g0, X', hLL, e1, e2, ⟨v9, hv9, -⟩, stp⟩ | ⟨q9, st₀, t, T', LL0, E, ce, g0, X', hLL, e1, e2, ⟨hx, hE, hW1, hF⟩, hce, hcv, hcl, stp⟩
    · cases hv9
    · cases hx
      subst hE
      obtain ⟨hz, hkp⟩ := hF
      rw [g0] at hz hkp
      obtain ⟨t2, a1, b1⟩ := j_caught ho hh K X hl (H := T'.heap) (by rw [e1]; exact hW1) (keepS hS (H1 := T'.heap) (by rw [e1]; exact hz) (fun q g1 g2 => by rw [e1]; exact hkp q g1 g2) hLL) (cells := cells + (h_nx S1 - h_nx S)) (slots := slots + (h_sl S1 - h_sl S)) (by omega) (by omega) (rest := rest.map tv) (by rw [e1]; exact hce) hcv hcl T' rfl X'
      exact ⟨t2, stp.trans a1, b1⟩⟩
theorem runX_V {rs : Option LV ⊕ Nat} (hc : cf_cc f = cc) (ho : cf_ow f = own) (V : CV own idx C y b mL r n) (hct : Cx (cf_l f) (cf_g f) y (ws_ y b mL r) fr0 lo0 S mo (vr (some a) :: As) rs S1 mo1) (hrc : Rc (cf_g f) S mo C a) (hrm : cf_rm f = (fr, lo)) (hfl : fr0 + 1 ≤ fr ∧ 8 + (mL + 11) + lo0 ≤ lo) (hn : As.length = n) (hs : (rest.map lc).sum ≤ 8) (d : decode cc pc = .ok (.invokevirtual idx, 3)) (hst : st = As.reverse ++ vr (some a) :: rest) : RunX f S mo pc L st rest rs S1 mo1 := by
  subst hst
  refine fun p e s m args below meth c X ls H locs cells slots hl hW r1 r2 => ⟨(Value.ref a :: As.map tv).toArray, ?_⟩
  obtain ⟨x1, x2, x3, x4, x5, x6, x7, x8, x9, x10⟩ := X
  rw [ho] at x4
  obtain ⟨⟨w1, w2, w3, w4, w5⟩, v1, v2, v3, v4⟩ := V
  refine vy_runV (Ts := lw_all) ⟨x1, x2.trans hc, x3, x4, x5⟩ hct (cwV n x5 (lw_V w1 w2 w3 w4 w5) rfl rfl rfl ⟨v1, v2, v3, v4⟩ ⟨by show _ ≤ (cf_rm f).1; rw [hrm]; exact hfl.1, by show _ ≤ (cf_rm f).2; rw [hrm]; exact hfl.2⟩) ⟨pc_blind, hrc.spec hW x6, fun U hU hWU => ⟨rfl, by rw [hU]; exact hW, x6.warm hWU⟩⟩ (b := a) (As := As.map tv) rfl (by rw [List.length_map]; exact hn) (by rw [← hl.1]) (by simp [tv, va_rf]) ?_ d ⟨r1, r2⟩
  rw [lc_sum]
  have : (F0 m pc ls ((As.reverse ++ vr (some a) :: rest).map tv)).monitorRoom = 0 := rfl
  omega
theorem runX_VN {rs : Option LV ⊕ Nat} (hc : cf_cc f = cc) (ho : cf_ow f = own) (V : CN own idx y b mL r n) (w9 : Cond.instanceMethod y ∈ lw_all) (w8 : Cond.selects C y y ∈ lw_all) (hct : Cx (cf_l f) (cf_g f) y (ws_ y b mL r) fr0 lo0 S mo (vr (some a) :: As) rs S1 mo1) (hrc : Rc (cf_g f) S mo C a) (hrm : cf_rm f = (fr, lo)) (hfl : fr0 + 1 ≤ fr ∧ 8 + (mL + 11) + lo0 ≤ lo) (hn : As.length = n) (hs : (rest.map lc).sum ≤ 8) (d : decode cc pc = .ok (.invokevirtual idx, 3)) (hst : st = As.reverse ++ vr (some a) :: rest) : RunX f S mo pc L st rest rs S1 mo1 := by
  subst hst
  refine fun p e s m args below meth c X ls H locs cells slots hl hW r1 r2 => ⟨(Value.ref a :: As.map tv).toArray, ?_⟩
  obtain ⟨x1, x2, x3, x4, x5, x6, x7, x8, x9, x10⟩ := X
  rw [ho] at x4
  obtain ⟨⟨host, w1, w3, w4⟩, v2, v3, v4⟩ := V
  refine vy_runVN (Ts := lw_all) ⟨x1, x2.trans hc, x3, x4, x5⟩ hct ⟨va_cnB n x5 (lw_meth w4) rfl rfl rfl (x6.2.1.2.1 _ _ _ _ w1) (x5 _ w3) ⟨v2, v3, v4⟩ ⟨by show _ ≤ (cf_rm f).1; rw [hrm]; exact hfl.1, by show _ ≤ (cf_rm f).2; rw [hrm]; exact hfl.2⟩, x5 _ w9, x5 _ w8⟩ ⟨pc_blind, hrc.spec hW x6, fun U hU hWU => ⟨rfl, by rw [hU]; exact hW, x6.warm hWU⟩⟩ (b := a) (As := As.map tv) rfl (by rw [List.length_map]; exact hn) (by rw [← hl.1]) (by simp [tv, va_rf]) ?_ d ⟨r1, r2⟩
  rw [lc_sum]
  have : (F0 m pc ls ((As.reverse ++ vr (some a) :: rest).map tv)).monitorRoom = 0 := rfl
  omega
/-- a call of a method with handlers -/
def CVW (own : String) (idx : Nat) (C : String) (y : MethodName) (b : ByteArray) (mL : Nat) (r : Option FieldType) (hh : List (Nat × Nat × Nat × Nat)) (n : Nat) : Prop := (Cond.methodLink own idx y ∈ lw_all ∧ Cond.instanceMethod y ∈ lw_all ∧ Cond.selects C y y ∈ lw_all ∧ Cond.initialized C ∈ lw_all ∧ Cond.codeWith y b mL r hh ∈ lw_all) ∧ y.cls = C ∧ y.cls ≠ "java/lang/invoke/MethodHandle" ∧ y.cls ≠ "java/lang/invoke/VarHandle" ∧ (parseMethodDescriptor y.desc).map (fun d => d.parameters.length) = some n
theorem j_callVW {hh : List (Nat × Nat × Nat × Nat)} (hc : cf_cc f = cc) (ho : cf_ow f = own) (V : CVW own idx C y b mL r hh n) (hct : (h_nx S ≤ h_nx S1 ∧ h_sl S ≤ h_sl S1) ∧ CtW (cf_l f) (cf_g f) y (wsW_ y b mL r hh) fr0 lo0 S mo (vr (some a) :: As) out S1 mo1) (hrc : Rc (cf_g f) S mo C a) (hrm : cf_rm f = (fr, lo)) (hfl : fr0 + 1 ≤ fr ∧ 8 + (mL + 11) + lo0 ≤ lo) (hn : As.length = n) (hs : (rest.map lc).sum ≤ 8) (d : decode cc pc = .ok (.invokevirtual idx, 3)) (hst : st = As.reverse ++ vr (some a) :: rest) {st2 : List LV} (h2st : out.toList ++ rest = st2) (K : JJ f S1 mo1 (pc + 3) L st2) : JJ f S mo pc L st := by
  subst hst
  refine j_back (y := y) hct.1 (fun p e s m args below meth c X ls H locs cells slots hl hW r1 r2 => ⟨(Value.ref a :: As.map tv).toArray, ?_⟩) h2st K
  obtain ⟨x1, x2, x3, x4, x5, x6, x7, x8, x9, x10⟩ := X
  rw [ho] at x4
  obtain ⟨⟨w1, w2, w3, w4, w5⟩, v1, v2, v3, v4⟩ := V
  refine vx_runVW (Ts := lw_all) ⟨x1, x2.trans hc, x3, x4, x5⟩ hct.2 (vx_cwVW n x5 (lw_VW w1 w2 w3 w4 w5) rfl rfl rfl ⟨v1, v2, v3, v4⟩ ⟨by show _ ≤ (cf_rm f).1; rw [hrm]; exact hfl.1, by show _ ≤ (cf_rm f).2; rw [hrm]; exact hfl.2⟩) ⟨pc_blind, hrc.spec hW x6, fun U hU hWU => ⟨rfl, by rw [hU]; exact hW, x6.warm hWU⟩⟩ (b := a) (As := As.map tv) rfl (by rw [List.length_map]; exact hn) (by rw [← hl.1]) (by simp [tv, va_rf]) ?_ d ⟨r1, r2⟩
  rw [lc_sum]
  have : (F0 m pc ls ((As.reverse ++ vr (some a) :: rest).map tv)).monitorRoom = 0 := rfl
  omega
theorem j_ldcSW (hc : cf_cc f = cc) (ho : cf_ow f = own) {idx : Nat} {tx : String} (j : Nat) (w : strTab[j]? = some (own, idx, tx)) (d : decode cc pc = .ok (.ldc_w idx, 3)) (K : JJ f S mo (pc + 3) L (vr (some (h_ks S j)) :: st)) : JJ f S mo pc L st :=
  ⟨K.1, fun p e s m args below meth c X ls H locs cells slots hl hW hS h1 h2 => by
    have k9 := K.2 p e s m args below meth c X ls H locs cells slots hl hW hS h1 h2
    rw [hW.2.1.2.1] at k9
    have hZ := X.2.2.2.2.2.1.2.2.2.1 j _ w
    intro T hT X0
    obtain ⟨t, a1, b1⟩ := k9 T hT X0
    exact ⟨t, X0.ldcStringW X.1 (own := own) (by rw [← ho]; exact X.2.2.2.1) (text := tx) hZ.1 hZ.2 (g := F0 m pc ls (st.map tv)) rfl (by rw [X.2.1.trans hc]; exact d) t a1, b1⟩⟩
end JT
