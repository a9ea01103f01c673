/-! natives, and the rows of the reference model's fields -/
theorem q_oi1 : Cond.instanceMethod Lib.objectInit ∈ lw_all := q115
theorem q_oi2 : Cond.code Lib.objectInit ⟨#[0xb1]⟩ 1 none ∈ lw_all := q116
/-- references copied from one array to another -/
def s_cpy (S : HS) (a : Nat) (g : Nat → Option Nat) : HS := (h_fI S, h_fJ S, h_fR S, h_aI S, h_aJ S, (fun b j => if b = a then g j else h_aR S b j), h_cl S, h_ln S, h_wr S, h_nx S, h_sl S, h_ks S, h_kr S)
def p_cpy (S : HS) (a0 : Nat) (sp : Int32) (a : Nat) (dp n : Int32) : Option HS :=
  if (h_cl S a0 = 35 ∧ h_cl S a = 35 ∧ h_wr S a = true) ∧ (¬ sp < 0 ∧ ¬ dp < 0 ∧ ¬ n < 0) ∧ (sp.toNatClampNeg + n.toNatClampNeg ≤ h_ln S a0 ∧ dp.toNatClampNeg + n.toNatClampNeg ≤ h_ln S a) ∧ (∀ i, i < n.toNatClampNeg → ∀ y ∈ h_aR S a0 (sp.toNatClampNeg + i), h_cl S y ∈ ok_st 35) then
    some (s_cpy S a (va_cpy (h_aR S a0) (h_aR S a) sp.toNatClampNeg dp.toNatClampNeg n.toNatClampNeg)) else none
theorem eq_cpy {S : HS} {a : Nat} {g : Nat → Option Nat} : ∀ q, q ≠ a → h_eq (s_cpy S a g) S q := fun q h => ⟨rfl, rfl, rfl, fun _ => rfl, fun _ => rfl, fun _ => rfl, fun _ => rfl, fun _ => rfl, fun j => by
  show (if q = a then g j else h_aR S q j) = h_aR S q j
  rw [if_neg h]⟩
/-- Math.max, Math.min -/
def i_max (x y : Int32) : Int32 := if x < y then y else x
def i_min (x y : Int32) : Int32 := if y < x then y else x
theorem m_dec : ∀ k, k < 67 → (TX3 k).1 = RX3 := by decide +kernel
section JN
variable {f : CfT} {S S' : HS} {mo : MO} {pc : Nat} {L L' : LL} {st : List LV} {cc : ByteArray} {own : String} {a : Nat}
theorem j_getC (hc : cf_cc f = cc) (ho : cf_ow f = own) {idx fr lo : Nat} (w : Cond.methodLink own idx ⟨"java/lang/Object", "getClass", "()Ljava/lang/Class;"⟩ ∈ lw_all) (hrm : cf_rm f = (fr, lo)) (hr2 : 1 ≤ fr ∧ (st.map lc).sum + 14 ≤ lo) (d : decode cc pc = .ok (.invokevirtual idx, 3)) (h : h_cl S a = 35) (K : JJ f S mo (pc + 3) L (vr (some (h_ks S 32)) :: st)) : JJ f S mo pc L (vr (some a) :: st) :=
  ⟨K.1, fun p e s m args below meth c X ls H locs cells slots hl hW hS h1 h2 => by
    have k9 := K.2 p e s m args below meth c X ls H locs cells slots hl hW hS h1 h2
    rw [hW.2.1.2.1] at k9
    obtain ⟨x1, x2, x3, x4, x5, x6, x7, x8, x9, x10⟩ := X
    rw [ho] at x4
    obtain ⟨cell, q1, q2, q3, q4, q5, q6⟩ := hW.obA x6 h (by omega) (by omega)
    obtain ⟨q7, q8⟩ := q6 (Or.inl rfl)
    have hRA := (arr_K x6 (t := 35) (by omega) (by omega)).2
    obtain ⟨-, -, -, -, -, hfc⟩ := hRA
    exact va_getC x1 (x2.trans hc) (by rw [x3]; exact hl.1.symm) x4 (x5 _ w) (va_Nw.use rfl (x6.2.1.2.2.2.1 _ q1666)) (x5 _ q1665) (x5 _ q663) (x5 _ q679) x6.2.2.2.2.2.2.2.2.2.2 ⟨cell, q1, q8, by rw [q7]; exact hfc⟩ (by show 1 ≤ (cf_rm f).1; rw [hrm]; exact hr2.1) (by rw [lc_sum]; show _ ≤ (cf_rm f).2; rw [hrm]; exact hr2.2) d k9⟩
theorem j_cpy (hc : cf_cc f = cc) (ho : cf_ow f = own) {idx fr lo : Nat} {a0 : Nat} {sp dp n : Int32} (w : Cond.methodLink own idx arraycopyName ∈ lw_all) (hrm : cf_rm f = (fr, lo)) (hr2 : 1 ≤ fr ∧ (st.map lc).sum + 40 ≤ lo) (d : decode cc pc = .ok (.invokestatic idx, 3)) (h : p_cpy S a0 sp a dp n = some S') (K : JJ f S' mo (pc + 3) L st) : JJ f S mo pc L (vi n :: vi dp :: vr (some a) :: vi sp :: vr (some a0) :: st) := by
  unfold p_cpy at h
  split at h
  · rename_i h9
    cases h
    obtain ⟨⟨b1, b2, b3⟩, ⟨b4, b5, b6⟩, ⟨b7, b8⟩, b9⟩ := h9
    exact ⟨K.1, fun p e s m args below meth c X ls H locs cells slots hl hW hS h1 h2 => by
      have kk := K.2 p e s m args below meth c X ls
      obtain ⟨x1, x2, x3, x4, x5, x6, x7, x8, x9, x10⟩ := X
      rw [ho] at x4
      obtain ⟨cs, s1, s2, s3, s4, s5, s6⟩ := hW.obA x6 b1 (by omega) (by omega)
      obtain ⟨s7, s8⟩ := s6 (Or.inl rfl)
      have hc0 : h_cl S a ≠ 0 := by omega
      have ha0 : ¬ a < g_n0 (cf_g f) := fun h => by rw [(hW.2.2.2.1 a h).2] at b3; cases b3
      obtain ⟨-, hck⟩ := hW.2.2.2.2.2.1 a (by omega) hc0
      have hcd := hck.2 (by omega)
      rw [b2] at hcd
      have hRA := (arr_K x6 (t := 35) (by omega) (by omega)).2
      obtain ⟨kA, comp, k1, k2, k3, -⟩ := hRA
      have nn : ∀ z : Int32, ¬ z < 0 → z.toInt = (z.toNatClampNeg : Int) := by
        intro z hz
        have hz0 : (0 : Int) ≤ z.toInt := by
          have := Int32.not_lt.mp hz
          simpa using Int32.le_iff_toInt_le.mp this
        show z.toInt = ((z.toInt.toNat : Nat) : Int)
        omega
      intro T hT X0
      obtain ⟨vm', X', step⟩ := X0.arraycopy x1 x4 (x5 _ w) (x5 _ q690) (x5 _ q689) (x5 _ q99) (src := a0) (dst := a) (cs := cs) (cd := arrV (g_ac (cf_g f) 35) (h_ln S a) (av S 35 a)) (srcPos := sp) (destPos := dp) (n := n) (by rw [hT]; exact s1) (by rw [hT]; exact hcd)
        (fun _ h => by rw [h] at s8; cases s8) (fun _ h => by cases h) s3 (fun h => by cases h) (by rw [s7]; exact k1) k1 k2 k2 rfl b4 b5 b6
        (by rw [nn sp b4, nn n b6]; have := s4.1; omega)
        (by rw [nn dp b5, nn n b6]; show ¬ _ > ((arrV (g_ac (cf_g f) 35) (h_ln S a) (av S 35 a)).slots.size : Int); rw [arrV_size]; omega)
        (fun vm₁ hal i hi => by
          have e : cs.slots.getD (sp.toNatClampNeg + i) .null = va_rf (h_aR S a0 (sp.toNatClampNeg + i)) := by
            rw [Array.getD_eq_getD_getElem?, s5 _ (by omega)]
            rfl
          rw [e]
          cases hy : h_aR S a0 (sp.toNatClampNeg + i) with
          | none => exact ⟨rfl, trivial⟩
          | some y =>
            have hok := b9 i hi y (by rw [hy]; rfl)
            have hcv : h_cl S y ≠ 0 ∧ h_cl S y < 30 := by simp [ok_st] at hok; omega
            obtain ⟨rv, cellV, v1, v2, v3, v4, v5, v6⟩ := hW.obO x6 rfl hcv.1 hcv.2
            obtain ⟨-, hcls⟩ := x6.1.1 _ _ v1
            obtain ⟨kC, hkC, hkind⟩ := hcls.2
            obtain ⟨kE, hkE, -⟩ := Vm.findClass_spec k3
            have hasg : s.vm.assignable ((g_D (cf_g f)).1 (h_cl S y)) comp = true := by
              rcases cast_35 (f := f) s x6 _ hok _ v1 _ rfl with h9 | h9
              · rw [← h9, hcls.1] at k3
                cases k3
                exact va_assign hcls
              · obtain ⟨c0, t1, f1, f2, f3⟩ := Cond.castable_spec (va_Nw.use (A := args) rfl h9)
                cases hcls.1.symm.trans f1
                cases k3.symm.trans f2
                exact f3
            obtain ⟨kC', hkC', -⟩ := hal.2.2 _ _ hkC
            obtain ⟨kE', hkE', -⟩ := hal.2.2 _ _ hkE
            refine ⟨rfl, cellV, (show T.heap[y]? = some cellV by rw [hT]; exact v2), (fun q h => by rw [h] at v4; cases v4), ⟨kC', by rw [v5]; exact hkC'⟩, ⟨kE', hkE'⟩, ?_⟩
            show vm₁.assignable _ _ = true
            rw [hal.assignable, v5]
            exact hasg)
        (g := F0 m pc ls (.int n :: .int dp :: .ref a :: .int sp :: .ref a0 :: st.map tv)) rfl (by rw [x3]; exact hl.1) (rest := st.map tv) rfl (by rw [x2, hc]; exact d) (by show 1 ≤ (cf_rm f).1; rw [hrm]; exact hr2.1) (by
          rw [lc_sum]
          show 2 * 0 + _ + _ ≤ (cf_rm f).2
          rw [hrm]
          have hw : nativeFrameWords "java/lang/System" "arraycopy" 5 ≤ 29 := by decide
          have := hr2.2
          omega)
      have e1 : copied cs (arrV (g_ac (cf_g f) 35) (h_ln S a) (av S 35 a)) sp dp n = arrV (g_ac (cf_g f) 35) (h_ln S a) (av (s_cpy S a (va_cpy (h_aR S a0) (h_aR S a) sp.toNatClampNeg dp.toNatClampNeg n.toNatClampNeg)) 35 a) := by
        have hx : av (s_cpy S a (va_cpy (h_aR S a0) (h_aR S a) sp.toNatClampNeg dp.toNatClampNeg n.toNatClampNeg)) 35 a = fun j => va_rf (va_cpy (h_aR S a0) (h_aR S a) sp.toNatClampNeg dp.toNatClampNeg n.toNatClampNeg j) := by
          funext j
          show va_rf (if a = a then _ else _) = _
          rw [if_pos rfl]
        rw [hx]
        exact va_copiedX (fun z => va_rf z) cs (g_ac (cf_g f) 35) (n0 := h_ln S a0) (h_aR S a0) (h_aR S a) (fun j hj => s5 j hj) b7
      rw [e1] at X' step
      have hlt : a < H.size := (Array.getElem?_eq_some_iff.mp hcd).1
      generalize hH1 : H.setIfInBounds a (arrV (g_ac (cf_g f) 35) (h_ln S a) (av (s_cpy S a (va_cpy (h_aR S a0) (h_aR S a) sp.toNatClampNeg dp.toNatClampNeg n.toNatClampNeg)) 35 a)) = H1
      have hheap : ((T.setVm vm').setCell a (arrV (g_ac (cf_g f) 35) (h_ln S a) (av (s_cpy S a (va_cpy (h_aR S a0) (h_aR S a) sp.toNatClampNeg dp.toNatClampNeg n.toNatClampNeg)) 35 a))).heap = H1 := by rw [← hH1, ← hT]; rfl
      have z1 : H1.size = H.size := by rw [← hH1]; simp
      have ea : H1[a]? = some (arrV (g_ac (cf_g f) 35) (h_ln S a) (av (s_cpy S a (va_cpy (h_aR S a0) (h_aR S a) sp.toNatClampNeg dp.toNatClampNeg n.toNatClampNeg)) 35 a)) := by rw [← hH1]; simp [Array.getElem?_setIfInBounds, hlt]
      have o1 : ∀ q : Nat, q ≠ a → H1[q]? = H[q]? := fun q hq => by rw [← hH1]; simp [Array.getElem?_setIfInBounds, Ne.symm hq]
      obtain ⟨hW', hna⟩ := hW.set (S' := s_cpy S a (va_cpy (h_aR S a0) (h_aR S a) sp.toNatClampNeg dp.toNatClampNeg n.toNatClampNeg)) b3 hc0 z1 o1 eq_cpy rfl ⟨rfl, rfl⟩ rfl rfl (fun _ => ⟨fun h => by
        have h2 : h_cl S a < 30 := h
        omega, fun _ => by
        show H1[a]? = some (arrV (g_ac (cf_g f) (h_cl S a)) (h_ln S a) (av _ (h_cl S a) a))
        rw [b2]
        exact ea⟩)
      obtain ⟨t2, a1, b1⟩ := kk H1 _ cells slots hl hW' ⟨by rw [z1]; exact hS.1, fun q g1 g2 => by
          rw [o1 q (fun e => g2 (by rw [e]; exact hna))]
          exact hS.2.1 q g1 g2, fun q hq => by
          rcases List.mem_append.mp hq with h | h
          · exact hS.2.2 q h
          · obtain ⟨z, -, hz⟩ := List.mem_map.mp h
            rw [← hz]
            exact hna⟩ h1 h2 _ hheap X'
      exact ⟨t2, step t2 a1, b1⟩⟩
  · cases h
theorem j_mmax (hc : cf_cc f = cc) (ho : cf_ow f = own) {idx fr lo : Nat} {x y : Int32} (w : Cond.methodLink own idx Lib.Math.max.name ∈ lw_all) (hrm : cf_rm f = (fr, lo)) (hr2 : 1 ≤ fr ∧ (st.map lc).sum + 13 ≤ lo) (d : decode cc pc = .ok (.invokestatic idx, 3)) (K : JJ f S mo (pc + 3) L (vi (i_max x y) :: st)) : JJ f S mo pc L (vi y :: vi x :: st) :=
  ⟨K.1, fun p e s m args below meth c X ls H locs cells slots hl hW hS h1 h2 => by
    have k9 := K.2 p e s m args below meth c X ls H locs cells slots hl hW hS h1 h2
    have hk1 := K.1
    obtain ⟨x1, x2, x3, x4, x5, x6, x7, x8, x9, x10⟩ := X
    rw [ho] at x4
    exact va_mmax x1 (x2.trans hc) (by rw [x3]; exact hl.1.symm) x4 (x5 _ w) (x5 _ q653) (x5 _ q97) (x5 _ q654) (by show 1 ≤ (cf_rm f).1; rw [hrm]; exact hr2.1) (by rw [lc_sum]; show _ ≤ (cf_rm f).2; rw [hrm]; exact hr2.2) (by show cells ≤ (cf_fi f).1 - (cf_in f).1; omega) (by show slots ≤ (cf_fi f).2 - (cf_in f).2; omega) d k9⟩
theorem j_mmin (hc : cf_cc f = cc) (ho : cf_ow f = own) {idx fr lo : Nat} {x y : Int32} (w : Cond.methodLink own idx Lib.Math.min.name ∈ lw_all) (hrm : cf_rm f = (fr, lo)) (hr2 : 1 ≤ fr ∧ (st.map lc).sum + 13 ≤ lo) (d : decode cc pc = .ok (.invokestatic idx, 3)) (K : JJ f S mo (pc + 3) L (vi (i_min x y) :: st)) : JJ f S mo pc L (vi y :: vi x :: st) :=
  ⟨K.1, fun p e s m args below meth c X ls H locs cells slots hl hW hS h1 h2 => by
    have k9 := K.2 p e s m args below meth c X ls H locs cells slots hl hW hS h1 h2
    have hk1 := K.1
    obtain ⟨x1, x2, x3, x4, x5, x6, x7, x8, x9, x10⟩ := X
    rw [ho] at x4
    exact va_mmin x1 (x2.trans hc) (by rw [x3]; exact hl.1.symm) x4 (x5 _ w) (x5 _ q686) (x5 _ q97) (x5 _ q687) (by show 1 ≤ (cf_rm f).1; rw [hrm]; exact hr2.1) (by rw [lc_sum]; show _ ≤ (cf_rm f).2; rw [hrm]; exact hr2.2) (by show cells ≤ (cf_fi f).1 - (cf_in f).1; omega) (by show slots ≤ (cf_fi f).2 - (cf_in f).2; omega) d k9⟩
/-- a field of the model by its entry -/
def FM (idx k : Nat) : Prop := k < 67 ∧ Cond.fieldLink RX3 idx RX3 (TX3 k).2.1 (TX3 k).2.2.1 ∈ lw_all
variable {M M' : MS}
theorem j_mget (hc : cf_cc f = cc) (ho : cf_ow f = RX3) {idx k : Nat} (F : FM idx k) (d : decode cc pc = .ok (.getfield idx, 3)) {v : LV} (hv : mfv a M k = tv v) (K : JJ f S (some (a, M)) (pc + 3) L (v :: st)) : JJ f S (some (a, M)) pc L (vr (some a) :: st) :=
  ⟨K.1, fun p e s m args below meth c0 X ls H locs cells slots hl hW hS h1 h2 => by
    have k9 := K.2 p e s m args below meth c0 X ls H locs cells slots hl hW hS h1 h2
    obtain ⟨x1, x2, x3, x4, x5, x6, x7, x8, x9, x10⟩ := X
    rw [ho] at x4
    obtain ⟨hk, hlink⟩ := F
    obtain ⟨-, -, -, ⟨cell, q1, q2, q3, q4⟩, -⟩ := hW.2.2.2.2.2.2 a M rfl
    obtain ⟨hSl, hfc, kC, hkC, hkind⟩ := x6.1.1 3 _ ci_X3
    obtain ⟨cf, kf, fi, fl, hi, hsl⟩ := hSl k hk
    have hi2 : s.fieldFound? RX3 (TX3 k).2.1 (TX3 k).2.2.1 = some (cf, kf, fi, fl) := by
      have hd := m_dec k hk
      rw [hd] at hi
      exact hi
    have hst := (u_facts hfc hkC (u_lays x5 in_X3 hk) hi).1
    exact W.getf x1 (x2.trans hc) x4 (x5 _ hlink) hi2 hst q1 (by rw [q3]; exact fun h => by cases h) (by rw [hsl, q4 k hk, hv]) rfl rfl d k9⟩
theorem j_mgI (hc : cf_cc f = cc) (ho : cf_ow f = RX3) {idx k : Nat} (F : FM idx k) (hk : m_ki k = 0) (d : decode cc pc = .ok (.getfield idx, 3)) (K : JJ f S (some (a, M)) (pc + 3) L (vi (m_I M k) :: st)) : JJ f S (some (a, M)) pc L (vr (some a) :: st) := j_mget hc ho F d (by simp [mfv, hk, tv]) K
theorem j_mgJ (hc : cf_cc f = cc) (ho : cf_ow f = RX3) {idx k : Nat} (F : FM idx k) (hk : m_ki k = 1) (d : decode cc pc = .ok (.getfield idx, 3)) (K : JJ f S (some (a, M)) (pc + 3) L (vl (m_J M k) :: st)) : JJ f S (some (a, M)) pc L (vr (some a) :: st) := j_mget hc ho F d (by simp [mfv, hk, tv]) K
theorem mfv_arr {k : Nat} (h : 2 ≤ m_ki k) : mfv a M k = .ref (a + m_po k) := by
  unfold mfv
  split
  · omega
  · omega
  · rfl
theorem j_mgA (hc : cf_cc f = cc) (ho : cf_ow f = RX3) {idx k : Nat} (F : FM idx k) (hk : Nat.ble 2 (m_ki k) = true) (d : decode cc pc = .ok (.getfield idx, 3)) (K : JJ f S (some (a, M)) (pc + 3) L (vr (some (a + m_po k)) :: st)) : JJ f S (some (a, M)) pc L (vr (some a) :: st) := j_mget hc ho F d (mfv_arr (Nat.le_of_ble_eq_true hk)) K
/-- the model's cells are apart from all others -/
theorem Wd.mset {g : PG} {H H' : Heap} (hW : Wd g S (some (a, M)) H) {b : Nat} (hb : a ≤ b ∧ b < a + 40) (hz : H'.size = H.size) (ho : ∀ q, q ≠ b → H'[q]? = H[q]?) (h1 : t_OB a ((g_D g).1 3) 67 ((g_D g).2 3) H' (mfv a M')) (h2 : ∀ k, k < 67 → 2 ≤ m_ki k → H'[a + m_po k]? = some (arrV (g_ac g (mta k)) (m_le k) (mav M' k))) : Wd g S (some (a, M')) H' ∧ g_n0 g ≤ b := by
  obtain ⟨w1, w2, w3, w4, w5, w6, w7⟩ := hW
  obtain ⟨m1, m2, m3, m4, m5⟩ := w7 a M rfl
  refine ⟨⟨by rw [hz]; exact w1, w2, fun q hq => ?_, w4, w5, fun q g1 g2 => ?_, fun a' M9 hm => ?_⟩, by omega⟩
  · rw [ho q (by omega)]
    exact w3 q hq
  · obtain ⟨f1, f2⟩ := w6 q g1 g2
    refine ⟨f1, f2.kept (ho q (fun e => g2 ?_)) (h_eq.rf S q)⟩
    have := m3 (q - a) (by omega)
    rwa [show a + (q - a) = q by omega] at this
  · cases hm
    exact ⟨m1, m2, m3, h1, h2⟩
theorem m_po_pos : ∀ k, k < 67 → 2 ≤ m_ki k → 0 < m_po k := by decide +kernel
theorem m_po_inj : ∀ k, k < 67 → 2 ≤ m_ki k → ∀ j, j < 67 → 2 ≤ m_ki j → m_po k = m_po j → k = j := by decide +kernel
theorem j_mput (hc : cf_cc f = cc) (ho : cf_ow f = RX3) {idx k : Nat} (F : FM idx k) (hk2 : m_ki k < 2) (hfin : (TX3 k).2.2.2 = false) (d : decode cc pc = .ok (.putfield idx, 3)) {v : LV} (hn : narrow (tyX3 k) (tv v) = tv v) (hf : fits (tyX3 k) (tv v) = true) (hv : mfv a M' k = tv v) (hv2 : ∀ j, j ≠ k → mfv a M' j = mfv a M j) (hA : m_A M' = m_A M ∧ m_B M' = m_B M) (K : JJ f S (some (a, M')) (pc + 3) L st) : JJ f S (some (a, M)) pc L (v :: vr (some a) :: st) :=
  ⟨K.1, fun p e s m args below meth c0 X ls H locs cells slots hl hW hS h1 h2 => by
    have kk := K.2 p e s m args below meth c0 X ls
    obtain ⟨x1, x2, x3, x4, x5, x6, x7, x8, x9, x10⟩ := X
    rw [ho] at x4
    obtain ⟨hk, hlink⟩ := F
    obtain ⟨m1, m2, m3, ⟨cell, q1, q2, q3, q4⟩, m5⟩ := hW.2.2.2.2.2.2 a M rfl
    obtain ⟨hSl, hfc, kC, hkC, hkind⟩ := x6.1.1 3 _ ci_X3
    obtain ⟨cf, kf, fi, fl, hi, hsl⟩ := hSl k hk
    have hi2 : s.fieldFound? RX3 (TX3 k).2.1 (TX3 k).2.2.1 = some (cf, kf, fi, fl) := by
      have hd := m_dec k hk
      rw [hd] at hi
      exact hi
    have hst := (u_facts hfc hkC (u_lays x5 in_X3 hk) hi).1
    have hapx : ∀ x y, x < 67 → y < 67 → x ≠ y → (g_D (cf_g f)).2 3 x ≠ (g_D (cf_g f)).2 3 y := va_apart (own := RX3) x5 in_X3 tyX3 tyX3_ok nmX3 x6.1 ci_X3
    have hlt : fl.slot < cell.slots.size := by
      rw [hsl]
      exact (Array.getElem?_eq_some_iff.mp (q4 k hk)).1
    have hlay := x5 _ (in_X3 _ (u_in_lay hk))
    unfold u_lay at hlay
    rw [if_neg (by rw [hfin]; decide)] at hlay
    have h6 := u_store hfc hkC hkind hlay hi (tyX3_ok k hk) hn hf
    refine W.putK x1 (x2.trans hc) (f := fl) ⟨x4, x5 _ hlink, ⟨_, _, _, hi2⟩, hst⟩ (by rw [q2]; exact h6) q1 q3 hlt rfl rfl d fun H1 e1 z1 o1 => ?_
    rw [hsl] at e1 ⊢
    obtain ⟨hW', hna⟩ := hW.mset (M' := M') (b := a) ⟨Nat.le_refl _, by omega⟩ z1 o1 (t_OB.to (V := updV (mfv a M) k (tv v)) ⟨_, e1, q2, q3, t_set q4 hapx hk (tv v)⟩ (fun j _ => by
      by_cases hjk : j = k
      · subst hjk
        simp [updV, hv]
      · simp [updV, hjk, hv2 j hjk])) (fun j hj hj2 => by
      have := m_po_pos j hj hj2
      rw [o1 (a + m_po j) (Nat.ne_of_gt (show a < a + m_po j by omega)), m5 j hj hj2]
      unfold mav
      rw [hA.1, hA.2])
    exact kk H1 _ cells slots hl hW' (hS.put z1 o1 hna) h1 h2⟩
theorem j_mpI (hc : cf_cc f = cc) (ho : cf_ow f = RX3) {idx k : Nat} {x : Int32} (F : FM idx k) (hk : m_ki k = 0) (hfin : (TX3 k).2.2.2 = false) (hn : narrow (tyX3 k) (.int x) = .int x) (hf : fits (tyX3 k) (.int x) = true) (d : decode cc pc = .ok (.putfield idx, 3)) (h : some (m_sI M k x) = some M') (K : JJ f S (some (a, M')) (pc + 3) L st) : JJ f S (some (a, M)) pc L (vi x :: vr (some a) :: st) := by
  cases h
  exact j_mput (M' := m_sI M k x) hc ho F (by omega) hfin d (v := vi x) hn hf (by simp [mfv, hk, tv, r_mI_sI, h_up]) (fun j hj => by simp [mfv, r_mI_sI, r_mJ_sI, h_up, hj]) ⟨rfl, rfl⟩ K
theorem j_mpJ (hc : cf_cc f = cc) (ho : cf_ow f = RX3) {idx k : Nat} {x : Int64} (F : FM idx k) (hk : m_ki k = 1) (hfin : (TX3 k).2.2.2 = false) (hty : tyX3 k = .long) (d : decode cc pc = .ok (.putfield idx, 3)) (h : some (m_sJ M k x) = some M') (K : JJ f S (some (a, M')) (pc + 3) L st) : JJ f S (some (a, M)) pc L (vl x :: vr (some a) :: st) := by
  cases h
  exact j_mput (M' := m_sJ M k x) hc ho F (by omega) hfin d (v := vl x) (by rw [hty]; rfl) (by rw [hty]; rfl) (by simp [mfv, hk, tv, r_mJ_sJ, h_up]) (fun j hj => by simp [mfv, r_mI_sJ, r_mJ_sJ, h_up, hj]) ⟨rfl, rfl⟩ K
variable {i : Int32}
theorem g_mA_spec {k : Nat} {x : Int32} (h : g_mA M k i = some x) : (¬ i < 0 ∧ i.toNatClampNeg < m_le k) ∧ m_A M k i.toNatClampNeg = x := by
  unfold g_mA at h
  split at h
  · rename_i h9
    exact ⟨h9, Option.some.inj h⟩
  · cases h
theorem p_mA_spec {k : Nat} {x : Int32} (h : p_mA M k i x = some M') : (¬ i < 0 ∧ i.toNatClampNeg < m_le k) ∧ m_sA M k i.toNatClampNeg x = M' := by
  unfold p_mA at h
  split at h
  · rename_i h9
    exact ⟨h9, Option.some.inj h⟩
  · cases h
theorem mav_A {k : Nat} {x : Int32} {n : Nat} (h : m_ki k = 2 ∨ m_ki k = 4) : mav (m_sA M k n x) k = updV (mav M k) n (.int x) := by
  funext j
  have h3 : m_ki k ≠ 3 := by omega
  unfold mav updV
  rcases h with h | h <;> rw [h] <;> by_cases hj : j = n <;> simp [r_mA_sA, h_st, hj]
theorem mav_off {k j : Nat} {x : Int32} {n : Nat} (h : j ≠ k) : mav (m_sA M k n x) j = mav M j := by
  funext q
  unfold mav
  split <;> simp [r_mA_sA, r_mB_sA, h_st, h]
theorem mav_B {k : Nat} {x : Int64} {n : Nat} (h : m_ki k = 3) : mav (m_sB M k n x) k = updV (mav M k) n (.long x) := by
  funext j
  unfold mav updV
  rw [h]
  by_cases hj : j = n <;> simp [r_mB_sB, h_st, hj]
theorem mav_offB {k j : Nat} {x : Int64} {n : Nat} (h : j ≠ k) : mav (m_sB M k n x) j = mav M j := by
  funext q
  unfold mav
  split <;> simp [r_mA_sB, r_mB_sB, h_st, h]
/-- an array of the model is written -/
theorem Wd.mast {g : PG} {H : Heap} {U : State} (hE : EV g U) (hW : Wd g S (some (a, M)) H) {k n : Nat} {w : Value} (hk : k < 67) (hk2 : 2 ≤ m_ki k) (hI : m_I M' = m_I M ∧ m_J M' = m_J M) (hv : mav M' k = updV (mav M k) n w) (hv2 : ∀ j, j ≠ k → mav M' j = mav M j) :
    H[a + m_po k]? = some (arrV (g_ac g (mta k)) (m_le k) (mav M k)) ∧ U.isArrayOf (arrV (g_ac g (mta k)) (m_le k) (mav M k)) (aty (mta k)) ∧ ∀ (H1 : Heap), H1[a + m_po k]? = some ((arrV (g_ac g (mta k)) (m_le k) (mav M k)).setSlot n w) → H1.size = H.size → (∀ q, q ≠ a + m_po k → H1[q]? = H[q]?) → Wd g S (some (a, M')) H1 ∧ g_n0 g ≤ a + m_po k := by
  obtain ⟨m1, m2, m3, m4, m5⟩ := hW.2.2.2.2.2.2 a M rfl
  have hmt : 31 ≤ mta k ∧ mta k ≤ 38 := by
    unfold mta
    split <;> omega
  refine ⟨m5 k hk hk2, (arr_K hE hmt.1 hmt.2).1 _ _, fun H1 e1 z1 o1 => ?_⟩
  have hp := m_po_pos k hk hk2
  have hp2 := m_po_lt k
  refine hW.mset (M' := M') (b := a + m_po k) ⟨by omega, by omega⟩ z1 o1 ((m4.kept (o1 a (by omega))).to fun j _ => ?_) (fun j hj hj2 => ?_)
  · unfold mfv
    rw [hI.1, hI.2]
  · by_cases hjk : j = k
    · subst hjk
      rw [e1, arrV_store, hv]
    · rw [o1 _ (fun e => hjk (m_po_inj j hj hj2 k hk hk2 (by omega))), m5 j hj hj2, hv2 j hjk]
theorem j_mldI (hc : cf_cc f = cc) {k : Nat} (hk : k < 67) (hki : m_ki k = 2) (d : decode cc pc = .ok (.iaload, 1)) {x : Int32} (h : g_mA M k i = some x) (K : JJ f S (some (a, M)) (pc + 1) L (vi x :: st)) : JJ f S (some (a, M)) pc L (vi i :: vr (some (a + m_po k)) :: st) :=
  ⟨K.1, fun p e s m args below meth c X ls H locs cells slots hl hW hS h1 h2 => by
    obtain ⟨q2, q3⟩ := g_mA_spec h
    obtain ⟨-, -, -, -, m5⟩ := hW.2.2.2.2.2.2 a M rfl
    have hmt : mta k = 31 := by simp [mta, hki]
    have q1 := m5 k hk (by omega)
    have hr := (arr_K X.2.2.2.2.2.1 (t := mta k) (by omega) (by omega)).1 (m_le k) (mav M k)
    rw [hmt] at q1 hr
    exact W.iald X.1 (X.2.1.trans hc) q1 hr (fun h => by cases h) (by rw [arrV_size]; exact ix_no q2) (arrV_read _ _ q2.2) rfl rfl d (by rw [show mav M k i.toNatClampNeg = .int x from by simp [mav, hki, q3]]; exact K.2 p e s m args below meth c X ls H locs cells slots hl hW hS h1 h2)⟩
theorem j_mldZ (hc : cf_cc f = cc) {k : Nat} (hk : k < 67) (hki : m_ki k = 4) (d : decode cc pc = .ok (.baload, 1)) {x : Int32} (h : g_mA M k i = some x) (K : JJ f S (some (a, M)) (pc + 1) L (vi x :: st)) : JJ f S (some (a, M)) pc L (vi i :: vr (some (a + m_po k)) :: st) :=
  ⟨K.1, fun p e s m args below meth c X ls H locs cells slots hl hW hS h1 h2 => by
    obtain ⟨q2, q3⟩ := g_mA_spec h
    obtain ⟨-, -, -, -, m5⟩ := hW.2.2.2.2.2.2 a M rfl
    have hmt : mta k = 34 := by simp [mta, hki]
    have q1 := m5 k hk (by omega)
    have hr := (arr_K X.2.2.2.2.2.1 (t := mta k) (by omega) (by omega)).1 (m_le k) (mav M k)
    rw [hmt] at q1 hr
    exact W.zald X.1 (X.2.1.trans hc) q1 hr (fun h => by cases h) (by rw [arrV_size]; exact ix_no q2) (arrV_read _ _ q2.2) rfl rfl d (by rw [show mav M k i.toNatClampNeg = .int x from by simp [mav, hki, q3]]; exact K.2 p e s m args below meth c X ls H locs cells slots hl hW hS h1 h2)⟩
theorem j_mldJ (hc : cf_cc f = cc) {k : Nat} (hk : k < 67) (hki : m_ki k = 3) (d : decode cc pc = .ok (.laload, 1)) {x : Int64} (h : g_mB M k i = some x) (K : JJ f S (some (a, M)) (pc + 1) L (vl x :: st)) : JJ f S (some (a, M)) pc L (vi i :: vr (some (a + m_po k)) :: st) :=
  ⟨K.1, fun p e s m args below meth c X ls H locs cells slots hl hW hS h1 h2 => by
    have hq : (¬ i < 0 ∧ i.toNatClampNeg < m_le k) ∧ m_B M k i.toNatClampNeg = x := by
      unfold g_mB at h
      split at h
      · rename_i h9
        exact ⟨h9, Option.some.inj h⟩
      · cases h
    obtain ⟨q2, q3⟩ := hq
    obtain ⟨-, -, -, -, m5⟩ := hW.2.2.2.2.2.2 a M rfl
    have hmt : mta k = 38 := by simp [mta, hki]
    have q1 := m5 k hk (by omega)
    have hr := (arr_K X.2.2.2.2.2.1 (t := mta k) (by omega) (by omega)).1 (m_le k) (mav M k)
    rw [hmt] at q1 hr
    exact W.lald X.1 (X.2.1.trans hc) q1 hr (fun h => by cases h) (by rw [arrV_size]; exact ix_no q2) (arrV_read _ _ q2.2) rfl rfl d (by rw [show mav M k i.toNatClampNeg = .long x from by simp [mav, hki, q3]]; exact K.2 p e s m args below meth c X ls H locs cells slots hl hW hS h1 h2)⟩
theorem j_mstI (hc : cf_cc f = cc) {k : Nat} (hk : k < 67) (hki : m_ki k = 2) (d : decode cc pc = .ok (.iastore, 1)) {x : Int32} (h : p_mA M k i x = some M') (K : JJ f S (some (a, M')) (pc + 1) L st) : JJ f S (some (a, M)) pc L (vi x :: vi i :: vr (some (a + m_po k)) :: st) := by
  obtain ⟨q2, q3⟩ := p_mA_spec h
  subst q3
  exact ⟨K.1, fun p e s m args below meth c X ls H locs cells slots hl hW hS h1 h2 => by
    obtain ⟨r1, r2, r3⟩ := hW.mast X.2.2.2.2.2.1 (M' := m_sA M k i.toNatClampNeg x) hk (by omega) ⟨rfl, rfl⟩ (mav_A (by omega)) (fun j hj => mav_off hj)
    have hmt : aty (mta k) = .int := by rw [show mta k = 31 by simp [mta, hki]]; rfl
    rw [hmt] at r2
    exact W.iast X.1 (X.2.1.trans hc) r1 r2 (fun q => by cases q) (by rw [arrV_size]; exact ix_no q2) rfl rfl d fun H1 e1 z1 o1 => by
      obtain ⟨hW', hna⟩ := r3 H1 e1 z1 o1
      exact K.2 p e s m args below meth c X ls H1 _ cells slots hl hW' (hS.put z1 o1 hna) h1 h2⟩
theorem j_mstZ (hc : cf_cc f = cc) {k : Nat} (hk : k < 67) (hki : m_ki k = 4) (d : decode cc pc = .ok (.bastore, 1)) {x : Int32} (h : p_mA M k i (vp_nar .boolean x) = some M') (K : JJ f S (some (a, M')) (pc + 1) L st) : JJ f S (some (a, M)) pc L (vi x :: vi i :: vr (some (a + m_po k)) :: st) := by
  obtain ⟨q2, q3⟩ := p_mA_spec h
  subst q3
  exact ⟨K.1, fun p e s m args below meth c X ls H locs cells slots hl hW hS h1 h2 => by
    obtain ⟨r1, r2, r3⟩ := hW.mast X.2.2.2.2.2.1 (M' := m_sA M k i.toNatClampNeg (vp_nar .boolean x)) hk (by omega) ⟨rfl, rfl⟩ (mav_A (by omega)) (fun j hj => mav_off hj)
    have hmt : aty (mta k) = .boolean := by rw [show mta k = 34 by simp [mta, hki]]; rfl
    rw [hmt] at r2
    exact W.zast X.1 (X.2.1.trans hc) r1 r2 (fun q => by cases q) (by rw [arrV_size]; exact ix_no q2) rfl rfl d fun H1 e1 z1 o1 => by
      obtain ⟨hW', hna⟩ := r3 H1 e1 z1 o1
      exact K.2 p e s m args below meth c X ls H1 _ cells slots hl hW' (hS.put z1 o1 hna) h1 h2⟩
theorem j_mstJ (hc : cf_cc f = cc) {k : Nat} (hk : k < 67) (hki : m_ki k = 3) (d : decode cc pc = .ok (.lastore, 1)) {x : Int64} (h : p_mB M k i x = some M') (K : JJ f S (some (a, M')) (pc + 1) L st) : JJ f S (some (a, M)) pc L (vl x :: vi i :: vr (some (a + m_po k)) :: st) := by
  have hq : (¬ i < 0 ∧ i.toNatClampNeg < m_le k) ∧ m_sB M k i.toNatClampNeg x = M' := by
    unfold p_mB at h
    split at h
    · rename_i h9
      exact ⟨h9, Option.some.inj h⟩
    · cases h
  obtain ⟨q2, q3⟩ := hq
  subst q3
  exact ⟨K.1, fun p e s m args below meth c X ls H locs cells slots hl hW hS h1 h2 => by
    obtain ⟨r1, r2, r3⟩ := hW.mast X.2.2.2.2.2.1 (M' := m_sB M k i.toNatClampNeg x) hk (by omega) ⟨rfl, rfl⟩ (mav_B hki) (fun j hj => mav_offB hj)
    have hmt : aty (mta k) = .long := by rw [show mta k = 38 by simp [mta, hki]]; rfl
    rw [hmt] at r2
    exact W.last X.1 (X.2.1.trans hc) r1 r2 (fun q => by cases q) (by rw [arrV_size]; exact ix_no q2) rfl rfl d fun H1 e1 z1 o1 => by
      obtain ⟨hW', hna⟩ := r3 H1 e1 z1 o1
      exact K.2 p e s m args below meth c X ls H1 _ cells slots hl hW' (hS.put z1 o1 hna) h1 h2⟩
end JN
