/-! a method's entry -/
def ls_args : Nat → List LV → LL
  | _, [] => []
  | i, v :: vs => (i, v) :: ls_args (i + lc v) vs
theorem ls_args_tv (vs : List LV) : ∀ i, lv_args i (vs.map tv) = ls_tv (ls_args i vs) := by
  induction vs with
  | nil => intro i; rfl
  | cons v vs ih =>
    intro i
    show (i, tv v) :: lv_args (if (tv v).category = 2 then i + 2 else i + 1) (vs.map tv) = (i, tv v) :: ls_tv (ls_args (i + lc v) vs)
    rw [← ih, lc_ok]
    rcases v with x | x | r <;> rfl
theorem lg_sl_len (vs : List LV) : (lg_sl (vs.map tv)).length = (vs.map lc).sum := by
  induction vs with
  | nil => rfl
  | cons v vs ih =>
    show (List.flatMap _ (tv v :: vs.map tv)).length = _
    rw [List.flatMap_cons, List.length_append, List.map_cons, List.sum_cons]
    have e : (List.flatMap (fun v : Value => if v.category = 2 then [Slot.val v, Slot.second] else [Slot.val v]) (vs.map tv)).length = (vs.map lc).sum := ih
    rw [e, lc_ok]
    congr 1
    rcases v with x | x | r <;> rfl
theorem met_of {l : Launch} {g : PG} {y : MethodName} {cc : ByteArray} {mL : Nat} {ret : Option FieldType} {fr lo : Nat} {S S1 : HS} {mo mo1 : MO} {As : List LV} {out : Option LV} {L0 : LL} (ct : Bool) (hy : plainName y.cls = true) (hct : ct = true → y.name = "<init>") (hL : ls_args 0 As = L0) (hsz : (As.map lc).sum ≤ mL)
    (hb : ∀ f : CfT, cf_l f = l → cf_g f = g → cf_cc f = cc → cf_ow f = y.cls → cf_nL f = mL → cf_rm f = (fr, lo) → cf_re f = ret → cf_ct f = ct → cf_ex f = [] → Qok f out S1 mo1 → JJ f S mo 0 L0 []) :
    (h_nx S ≤ h_nx S1 ∧ h_sl S ≤ h_sl S1) ∧ Ct l g y (ws_ y cc mL ret) fr lo S mo As out S1 mo1 := by
  have hJ := hb (l, g, cc, y.cls, mL, (fr, lo), (h_nx S, h_sl S), (h_nx S1, h_sl S1), (fun below args s => MQ below (Qr g out S1 mo1) args s (h_nx S1 - h_nx S) (h_sl S1 - h_sl S) (g_A g)), ret, ct, []) rfl rfl rfl rfl rfl rfl rfl rfl rfl ⟨rfl, fun _ _ _ _ h => h⟩
  refine ⟨hJ.1, Met.ofW (cc := cc) (maxL := mL) (ret := ret) hy rfl ?_⟩
  intro p e s m args below meth c s₁ B hml hv
  obtain ⟨rfl, hW, hE⟩ := hv
  have hts := atoms_spec (ws := ws_ y cc mL ret) B.pre
  have hts2 : ∀ w ∈ lw_all, w.before _ s = true := fun w h => hts w (List.mem_cons_of_mem _ h)
  have hex : c.exceptionTable.toList = [] := by
    obtain ⟨meth9, c9, h1, h2, -, -, -, -, h7, -⟩ := Cond.code_spec B.named (hts _ List.mem_cons_self)
    cases Option.some.inj (h1.symm.trans B.method)
    cases Option.some.inj (h2.symm.trans (Stand.of_body B).code)
    rw [Array.isEmpty_iff.mp h7]
  have hlv := lv_entry (As.map tv) (n := mL) (by rw [lg_sl_len]; exact hsz)
  rw [ls_args_tv, hL] at hlv
  rw [lg_entry_eq]
  exact hJ.2 p e s m _ below meth c ⟨B.exec, B.bytes, hml, findClass_of_methodNamed B.named, hts2, hE, B.returns, B.notSynchronized, fun h => by rw [(name_of_methodNamed B.named B.method).1]; exact hct h, hex⟩ _ _ [] 0 0 hlv hW va_S.rf (Nat.zero_add _) (Nat.zero_add _)
