/-! contracts, ends, calls -/
def Qr (g : PG) (out : Option LV) (S : HS) (mo : MO) : Array Value → State → Outcome → State → Prop := fun _ st o t => o = .returned (out.map tv) ∧ Wd g S mo t.heap ∧ va_F (g_A g) st t
abbrev rm_ (fr lo : Nat) (S S1 : HS) : Room := { frames := fr, cells := h_nx S1 - h_nx S, slots := h_sl S1 - h_sl S, locals := lo }
abbrev pc_ (g : PG) (S : HS) (mo : MO) (As : List LV) : Array Value → State → Prop := va_Pc (As.map tv) (fun U => Wd g S mo U.heap ∧ EV g U)
/-- a method's contract: from S and mo with the arguments As it returns out, with S1 and mo1; frames and locals at most fr and lo -/
def Ct (l : Launch) (g : PG) (y : MethodName) (ws : List Cond) (fr lo : Nat) (S : HS) (mo : MO) (As : List LV) (out : Option LV) (S1 : HS) (mo1 : MO) : Prop :=
  Met l y ws (rm_ fr lo S S1) (pc_ g S mo As) (Qr g out S1 mo1) (h_nx S1 - h_nx S) (h_sl S1 - h_sl S) (g_A g)
theorem EV.warm {g : PG} {s U : State} (hW : s.WarmedH U.vm) (h : EV g s) : EV g U := by
  obtain ⟨h1, ⟨n1, n2, n3, n4, n5, n6⟩, ⟨e1, e2⟩, h4, z1, z2, z3, z4, z5, z6, z7⟩ := h
  have hal := hW.alike
  refine ⟨va_K.moved hal h1, ⟨fun a i b n d h q => (n1 a i b n d h q).warmF hW, fun a i x h q => (n2 a i x h q).warmM hW, fun C T q => (n3 C T q).warmC hW, fun x q => (n4 x q).warmD hW, fun C q => va_AO.moved hal (n5 C q), n6.moved hal⟩, ⟨fun a c h1 h2 h3 h4 => ?_, fun a t h1 h2 h3 => ⟨(e2 a t h1 h2 h3).1, ?_⟩⟩, fun j q hq => (h4 j q hq).warm hW, z1.moved hal, z2.moved hal, z3.moved hal, z4.moved hal, z5.moved hal, z6.moved hal, z7.moved hal⟩
  · exact e1 a c h1 h2 h3 h4
  · obtain ⟨cell, q1, q2, q3⟩ := (e2 a t h1 h2 h3).2
    exact ⟨cell, q1, State.isArrayOf_alike hal q2, q3⟩
theorem EV.same {g : PG} {s U : State} (hv : s.vm = U.vm) (h : EV g s) : EV g U := h.warm (by rw [← hv]; exact State.WarmedH.refl s)
theorem pc_blind {g : PG} {S : HS} {mo : MO} {As : List LV} : FrameBlind (pc_ g S mo As) := by
  intro a U gf mk h
  obtain ⟨h1, h2, h3⟩ := h
  refine ⟨h1, ?_, h3.same ?_⟩
  · have : (U.calling gf mk a).heap = U.heap := rfl
    rw [this]; exact h2
  · rfl
theorem W.mono {p : Program} {l : Launch} {e : Env} {R : Room} {s : State} {m : MethodId} {args : Array Value} {below : List Frame} {meth : Method} {c : Code} {H : Heap} {locs : List Loc} {cells slots : Nat} {Q Q' : State → Prop} {g : JFrame} (h : ∀ t, Q t → Q' t) (k : W p l e R s m args below meth c H locs cells slots Q g) : W p l e R s m args below meth c H locs cells slots Q' g := by
  intro T hT X
  obtain ⟨t, a, b⟩ := k T hT X
  exact ⟨t, a, h t b⟩
/-- what a return owes is what the method owes -/
def Qok (f : CfT) (out : Option LV) (S : HS) (mo : MO) : Prop := cf_fi f = (h_nx S, h_sl S) ∧ ∀ below args s t, MQ below (Qr (cf_g f) out S mo) args s ((cf_fi f).1 - (cf_in f).1) ((cf_fi f).2 - (cf_in f).2) (g_A (cf_g f)) t → cf_Q f below args s t
section JE
variable {f : CfT} {S S' : HS} {mo : MO} {pc : Nat} {L L' : LL} {st : List LV} {cc : ByteArray} {own : String} {a : Nat}
theorem j_end {out : Option LV} (hq : Qok f out S mo) (k : ∀ (p : Program) (e : Env) (s : State) (m : MethodId) (args : Array Value) (below : List Frame) (meth : Method) (c : Code), Fix f p s m args meth c → ∀ (ls : Array Slot) (H : Heap) (locs : List Loc) (cells slots : Nat), (∀ t : State, t.heap = H → s.WarmedH t.vm → Qr (cf_g f) out S mo args s (.returned (out.map tv)) t) → (∀ q ∈ locs, g_A (cf_g f) q.base) → W p (cf_l f) e (cf_R f) s m args below meth c H locs cells slots (MQ below (Qr (cf_g f) out S mo) args s cells slots (g_A (cf_g f))) (F0 m pc ls (st.map tv))) : JJ f S mo pc L st :=
  ⟨by rw [hq.1]; exact ⟨Nat.le_refl _, Nat.le_refl _⟩, fun p e s m args below meth c X ls H locs cells slots hl hW hS h1 h2 => by
    have k1 := k p e s m args below meth c X ls H locs cells slots (fun t ht hWt => ⟨rfl, by rw [ht]; exact hW, hS.F ht⟩) hS.2.2
    have e1 : cells = (cf_fi f).1 - (cf_in f).1 := by rw [hq.1]; show cells = h_nx S - _; omega
    have e2 : slots = (cf_fi f).2 - (cf_in f).2 := by rw [hq.1]; show slots = h_sl S - _; omega
    subst e1
    subst e2
    exact W.mono (fun t ht => hq.2 below args s t ht) k1⟩
theorem j_iret (hc : cf_cc f = cc) {v : Int32} (hq : Qok f (some (vi v)) S mo) {ty : FieldType} (hr : cf_re f = some ty) (hn : narrow ty (.int v) = .int v) (d : decode cc pc = .ok (.ireturn, 1)) : JJ f S mo pc L [vi v] :=
  j_end hq fun p e s m args below meth c X ls H locs cells slots q1 q2 => W.zret (ty := ty) X.1 (X.2.1.trans hc) (by rw [X.2.2.2.2.2.2.1]; exact hr) hn q1 q2 d X.2.2.2.2.2.2.2.1
theorem j_lret (hc : cf_cc f = cc) {v : Int64} (hq : Qok f (some (vl v)) S mo) (hr : cf_re f = some .long) (d : decode cc pc = .ok (.lreturn, 1)) : JJ f S mo pc L [vl v] :=
  j_end hq fun p e s m args below meth c X ls H locs cells slots q1 q2 => W.lret X.1 (X.2.1.trans hc) (by rw [X.2.2.2.2.2.2.1]; exact hr) q1 q2 d X.2.2.2.2.2.2.2.1
theorem j_vret (hc : cf_cc f = cc) (hq : Qok f none S mo) (hr : cf_re f = none) (d : decode cc pc = .ok (.return_, 1)) : JJ f S mo pc L [] :=
  j_end hq fun p e s m args below meth c X ls H locs cells slots q1 q2 => W.vret X.1 (X.2.1.trans hc) (by rw [X.2.2.2.2.2.2.1]; exact hr) q1 q2 d X.2.2.2.2.2.2.2.1
theorem j_aret (hc : cf_cc f = cc) {v : Option Nat} (hq : Qok f (some (vr v)) S mo) {rt : FieldType} (hr : cf_re f = some rt) (hrt : (∃ n, rt = .object n) ∨ ∃ t, rt = .array t) (d : decode cc pc = .ok (.areturn, 1)) : JJ f S mo pc L [vr v] :=
  j_end hq fun p e s m args below meth c X ls H locs cells slots q1 q2 => W.aret X.1 (X.2.1.trans hc) (by rw [X.2.2.2.2.2.2.1]; exact hr) hrt (by cases v with
    | none => exact Or.inl rfl
    | some a => exact Or.inr ⟨a, rfl⟩) q1 q2 d X.2.2.2.2.2.2.2.1
/-- a method of a known receiver (public or private) at an entry of own's pool -/
def CV (own : String) (idx : Nat) (C : String) (y : MethodName) (b : ByteArray) (mL : Nat) (r : Option FieldType) (n : Nat) : Prop := (Cond.methodLink own idx y ∈ lw_all ∧ Cond.instanceMethod y ∈ lw_all ∧ Cond.selects C y y ∈ lw_all ∧ Cond.initialized C ∈ lw_all ∧ Cond.code y b mL r ∈ lw_all) ∧ y.cls = C ∧ y.cls ≠ "java/lang/invoke/MethodHandle" ∧ y.cls ≠ "java/lang/invoke/VarHandle" ∧ (parseMethodDescriptor y.desc).map (fun d => d.parameters.length) = some n
def CS (own : String) (idx : Nat) (y : MethodName) (b : ByteArray) (mL : Nat) (r : Option FieldType) (n : Nat) : Prop := (Cond.methodLink own idx y ∈ lw_all ∧ Cond.static y ∈ lw_all ∧ Cond.initialized y.cls ∈ lw_all ∧ Cond.code y b mL r ∈ lw_all) ∧ y.cls ≠ "java/lang/invoke/MethodHandle" ∧ y.cls ≠ "java/lang/invoke/VarHandle" ∧ (parseMethodDescriptor y.desc).map (fun d => d.parameters.length) = some n
def CT (own : String) (idx : Nat) (y : MethodName) (b : ByteArray) (mL : Nat) (n : Nat) : Prop := (Cond.methodLink own idx y ∈ lw_all ∧ y.name = "<init>" ∧ Cond.instanceMethod y ∈ lw_all ∧ Cond.initialized y.cls ∈ lw_all ∧ Cond.code y b mL none ∈ lw_all) ∧ y.cls ≠ "java/lang/invoke/MethodHandle" ∧ y.cls ≠ "java/lang/invoke/VarHandle" ∧ (parseMethodDescriptor y.desc).map (fun d => d.parameters.length) = some n
/-- an object in the world that is of class C -/
def Rc (g : PG) (S : HS) (mo : MO) (C : String) (a : Nat) : Prop := (∃ c r, h_cl S a = c ∧ c ≠ 0 ∧ c < 30 ∧ vwCl[c]? = some r ∧ r.1 = C) ∨ (C = RX3 ∧ ∃ M, mo = some (a, M))
theorem Rc.of {g : PG} {mo : MO} {C : String} {c : Nat} {T : u_T} {N : Nat} (h : h_cl S a = c) (h0 : c ≠ 0) (h3 : c < 30) (hr : vwCl[c]? = some (C, T, N)) : Rc g S mo C a := Or.inl ⟨c, _, h, h0, h3, hr, rfl⟩
theorem Rc.spec {g : PG} {mo : MO} {C : String} {H : Heap} {U : State} (hW : Wd g S mo H) (hE : EV g U) (h : Rc g S mo C a) : ∃ cell : Cell, H[a]? = some cell ∧ cell.vm.isStatics = false ∧ U.vm.findClass C = some cell.cls := by
  rcases h with ⟨c, r, h1, h2, h3, h4, h5⟩ | ⟨rfl, M, h1⟩
  · obtain ⟨r', cell, q1, q2, q3, q4, q5, q6⟩ := hW.obO hE h1 h2 h3
    cases h4.symm.trans q1
    exact ⟨cell, q2, q4, by rw [q5, ← h5]; exact (hE.1.1 _ _ h4).2.1⟩
  · obtain ⟨-, -, -, ⟨cell, q1, q2, q3, -⟩, -⟩ := hW.2.2.2.2.2.2 a M h1
    exact ⟨cell, q1, by rw [q3]; rfl, by rw [q2]; exact (hE.1.1 3 _ ci_X3).2.1⟩
variable {y : MethodName} {b : ByteArray} {mL n fr lo fr0 lo0 idx : Nat} {r : Option FieldType} {As rest : List LV} {out : Option LV} {mo1 : MO} {C : String}
theorem lc_sum (st : List LV) : ((st.map tv).map fun v => v.category).sum = (st.map lc).sum := by
  rw [List.map_map]
  congr 1
  exact List.map_congr_left fun v _ => lc_ok v
/-- behind a call -/
theorem j_back {st0 : List LV} {y : MethodName} {S1 : HS} (hm : h_nx S ≤ h_nx S1 ∧ h_sl S ≤ h_sl S1)
    (hr : ∀ (p : Program) (e : Env) (s : State) (m : MethodId) (args : Array Value) (below : List Frame) (meth : Method) (c : Code), Fix f p s m args meth c → ∀ (ls : Array Slot) (H : Heap) (locs : List Loc) (cells slots : Nat), lv_has ls (cf_nL f) (ls_tv L) → Wd (cf_g f) S mo H → cells + (h_nx S1 - h_nx S) ≤ (cf_R f).cells → slots + (h_sl S1 - h_sl S) ≤ (cf_R f).slots → ∃ av, va_Run p (cf_l f) e (cf_R f) s m args below meth c H locs cells slots (h_nx S1 - h_nx S) (h_sl S1 - h_sl S) (F0 m pc ls (st0.map tv)) (rest.map tv) (Qr (cf_g f) out S1 mo1 av) (g_A (cf_g f)))
    {st2 : List LV} (h2st : out.toList ++ rest = st2) (K : JJ f S1 mo1 (pc + 3) L st2) : JJ f S mo pc L st0 := by
  subst h2st
  exact ⟨⟨Nat.le_trans hm.1 K.1.1, Nat.le_trans hm.2 K.1.2⟩, fun p e s m args below meth c X ls H locs cells slots hl hW hS h1 h2 => by
    have hk1 := K.1
    obtain ⟨av, hrun⟩ := hr p e s m args below meth c X ls H locs cells slots hl hW (by show _ ≤ (cf_fi f).1 - (cf_in f).1; omega) (by show _ ≤ (cf_fi f).2 - (cf_in f).2; omega)
    have kk := K.2 p e s m args below meth c X ls
    intro T hT X0
    obtain ⟨v, st₀, t, T', LL0, g0, X', hLL, e1, e2, ⟨hv, hW1, hF⟩, stp⟩ := hrun T hT X0
    have hv2 : v = out.map tv := by
      injection hv
    obtain ⟨hz, hkp⟩ := hF
    rw [g0] at hz hkp
    have hA : ∀ q, q < s.heap.size → q < H.size := fun q hq => Nat.lt_of_lt_of_le hq hS.1
    obtain ⟨t2, a1, b1⟩ := kk T'.heap (locs ++ LL0) (cells + (h_nx S1 - h_nx S)) (slots + (h_sl S1 - h_sl S)) hl (by rw [e1]; exact hW1) ⟨Nat.le_trans hS.1 (by rw [e1]; exact hz), fun q g1 g2 => by rw [e1, hkp q (hA q g1) g2]; exact hS.2.1 q g1 g2, fun q hq => by
      rcases List.mem_append.mp hq with h | h
      · exact hS.2.2 q h
      · exact hLL q h⟩ (by omega) (by omega) T' rfl X'
    refine ⟨t2, stp t2 ?_, b1⟩
    have hst : (v.toList ++ rest.map tv) = (out.toList ++ rest).map tv := by
      rw [hv2]
      cases out <;> simp
    rw [hst]
    exact a1⟩
theorem j_callV {S1 : HS} (hc : cf_cc f = cc) (ho : cf_ow f = own) (V : CV own idx C y b mL r n) (hct : (h_nx S ≤ h_nx S1 ∧ h_sl S ≤ h_sl S1) ∧ Ct (cf_l f) (cf_g f) y (ws_ y b mL r) fr0 lo0 S mo (vr (some a) :: As) out S1 mo1) (hrc : Rc (cf_g f) S mo C a) (hrm : cf_rm f = (fr, lo)) (hfl : fr0 + 1 ≤ fr ∧ 8 + (mL + 11) + lo0 ≤ lo) (hn : As.length = n) (hs : (rest.map lc).sum ≤ 8) (d : decode cc pc = .ok (.invokevirtual idx, 3)) (hst : st = As.reverse ++ vr (some a) :: rest) {st2 : List LV} (h2st : out.toList ++ rest = st2) (K : JJ f S1 mo1 (pc + 3) L st2) : JJ f S mo pc L st := by
  subst hst
  refine j_back (y := y) hct.1 (fun p e s m args below meth c X ls H locs cells slots hl hW r1 r2 => ⟨(Value.ref a :: As.map tv).toArray, ?_⟩) h2st K
  obtain ⟨x1, x2, x3, x4, x5, x6, x7, x8, x9, x10⟩ := X
  rw [ho] at x4
  obtain ⟨⟨w1, w2, w3, w4, w5⟩, v1, v2, v3, v4⟩ := V
  refine va_runV (Ts := lw_all) ⟨x1, x2.trans hc, x3, x4, x5⟩ hct.2 (cwV n x5 (lw_V w1 w2 w3 w4 w5) rfl rfl rfl ⟨v1, v2, v3, v4⟩ ⟨by show _ ≤ (cf_rm f).1; rw [hrm]; exact hfl.1, by show _ ≤ (cf_rm f).2; rw [hrm]; exact hfl.2⟩) ⟨pc_blind, hrc.spec hW x6, fun U hU hWU => ⟨rfl, by rw [hU]; exact hW, x6.warm hWU⟩⟩ (b := a) (As := As.map tv) rfl (by rw [List.length_map]; exact hn) (by rw [← hl.1]) (by simp [tv, va_rf]) ?_ d ⟨r1, r2⟩
  rw [lc_sum]
  have : (F0 m pc ls ((As.reverse ++ vr (some a) :: rest).map tv)).monitorRoom = 0 := rfl
  omega
theorem j_callS {S1 : HS} (hc : cf_cc f = cc) (ho : cf_ow f = own) (V : CS own idx y b mL r n) (hct : (h_nx S ≤ h_nx S1 ∧ h_sl S ≤ h_sl S1) ∧ Ct (cf_l f) (cf_g f) y (ws_ y b mL r) fr0 lo0 S mo As out S1 mo1) (hrm : cf_rm f = (fr, lo)) (hfl : fr0 + 1 ≤ fr ∧ 8 + (mL + 11) + lo0 ≤ lo) (hn : As.length = n) (hs : (rest.map lc).sum ≤ 8) (d : decode cc pc = .ok (.invokestatic idx, 3)) (hst : st = As.reverse ++ rest) {st2 : List LV} (h2st : out.toList ++ rest = st2) (K : JJ f S1 mo1 (pc + 3) L st2) : JJ f S mo pc L st := by
  subst hst
  refine j_back (y := y) hct.1 (fun p e s m args below meth c X ls H locs cells slots hl hW r1 r2 => ⟨(As.map tv).toArray, ?_⟩) h2st K
  obtain ⟨x1, x2, x3, x4, x5, x6, x7, x8, x9, x10⟩ := X
  rw [ho] at x4
  obtain ⟨⟨w1, w2, w3, w4⟩, v2, v3, v4⟩ := V
  refine va_runS (Ts := lw_all) ⟨x1, x2.trans hc, x3, x4, x5⟩ hct.2 (va_cwS n x5 (lw_S w1 w2 w3 w4) rfl rfl rfl ⟨v2, v3, v4⟩ ⟨by show _ ≤ (cf_rm f).1; rw [hrm]; exact hfl.1, by show _ ≤ (cf_rm f).2; rw [hrm]; exact hfl.2⟩) ⟨pc_blind, fun U hU hWU => ⟨rfl, by rw [hU]; exact hW, x6.warm hWU⟩⟩ (As := As.map tv) rfl (by rw [List.length_map]; exact hn) (by rw [← hl.1]) (by simp) ?_ d ⟨r1, r2⟩
  rw [lc_sum]
  have : (F0 m pc ls ((As.reverse ++ rest).map tv)).monitorRoom = 0 := rfl
  omega
theorem j_callI {S1 : HS} (hc : cf_cc f = cc) (ho : cf_ow f = own) (V : CT own idx y b mL n) (hct : (h_nx S ≤ h_nx S1 ∧ h_sl S ≤ h_sl S1) ∧ Ct (cf_l f) (cf_g f) y (ws_ y b mL none) fr0 lo0 S mo (vr (some a) :: As) out S1 mo1) (hrm : cf_rm f = (fr, lo)) (hfl : fr0 + 1 ≤ fr ∧ 8 + (mL + 11) + lo0 ≤ lo) (hn : As.length = n) (hs : (rest.map lc).sum ≤ 8) (d : decode cc pc = .ok (.invokespecial idx, 3)) (hst : st = As.reverse ++ vr (some a) :: rest) {st2 : List LV} (h2st : out.toList ++ rest = st2) (K : JJ f S1 mo1 (pc + 3) L st2) : JJ f S mo pc L st := by
  subst hst
  refine j_back (y := y) hct.1 (fun p e s m args below meth c X ls H locs cells slots hl hW r1 r2 => ⟨(Value.ref a :: As.map tv).toArray, ?_⟩) h2st K
  obtain ⟨x1, x2, x3, x4, x5, x6, x7, x8, x9, x10⟩ := X
  rw [ho] at x4
  obtain ⟨⟨w1, w2, w3, w4, w5⟩, v2, v3, v4⟩ := V
  refine va_runI (Ts := lw_all) ⟨x1, x2.trans hc, x3, x4, x5⟩ hct.2 (cwI n x5 (lw_meth w5) rfl rfl rfl (x5 _ w4) (x5 _ w1) (x5 _ w3) w2 ⟨v2, v3, v4⟩ ⟨by show _ ≤ (cf_rm f).1; rw [hrm]; exact hfl.1, by show _ ≤ (cf_rm f).2; rw [hrm]; exact hfl.2⟩) ⟨pc_blind, fun U hU hWU => ⟨rfl, by rw [hU]; exact hW, x6.warm hWU⟩⟩ (b := a) (As := As.map tv) rfl (by rw [List.length_map]; exact hn) (by rw [← hl.1]) (by simp [tv, va_rf]) ?_ d ⟨r1, r2⟩
  rw [lc_sum]
  have : (F0 m pc ls ((As.reverse ++ vr (some a) :: rest).map tv)).monitorRoom = 0 := rfl
  omega
end JE
