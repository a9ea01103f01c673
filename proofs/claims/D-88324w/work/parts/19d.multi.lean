/-! an array of arrays of ints -/
def mul_ (S : HS) (N k : Nat) : Nat → HS
  | 0 => s_new S 37 N
  | i + 1 => s_aR (s_new (mul_ S N k i) 31 k) (h_nx S) i (some (h_nx S + 1 + i))
def n_mul (S : HS) (x y : Int32) : Option HS := if ¬ x < 0 ∧ ¬ y < 0 ∧ x.toNatClampNeg ≤ 1000 ∧ y.toNatClampNeg ≤ 1000 then some (mul_ S x.toNatClampNeg y.toNatClampNeg x.toNatClampNeg) else none
theorem mul_nx (S : HS) (N k : Nat) : ∀ i, h_nx (mul_ S N k i) = h_nx S + 1 + i
  | 0 => rfl
  | i + 1 => by
    show h_nx (mul_ S N k i) + 1 = _
    rw [mul_nx S N k i]
    omega
theorem mul_sl (S : HS) (N k : Nat) : ∀ i, h_sl (mul_ S N k i) = h_sl S + N + i * k
  | 0 => by
    show h_sl S + N = _
    omega
  | i + 1 => by
    show h_sl (mul_ S N k i) + k = _
    rw [mul_sl S N k i, Nat.succ_mul]
    omega
theorem mul_cl (S : HS) (N k : Nat) : ∀ i, h_cl (mul_ S N k i) (h_nx S) = 37 ∧ h_wr (mul_ S N k i) (h_nx S) = true ∧ h_ln (mul_ S N k i) (h_nx S) = N
  | 0 => by simp [mul_, r_cl_new, r_wr_new, r_ln_new, h_up]
  | i + 1 => by
    obtain ⟨a, b, c⟩ := mul_cl S N k i
    have h : ¬ h_nx S = h_nx (mul_ S N k i) := by rw [mul_nx]; omega
    refine ⟨?_, ?_, ?_⟩
    · show h_cl (s_new (mul_ S N k i) 31 k) (h_nx S) = 37
      simp [r_cl_new, h_up, h, a]
    · show h_wr (s_new (mul_ S N k i) 31 k) (h_nx S) = true
      simp [r_wr_new, h_up, h, b]
    · show h_ln (s_new (mul_ S N k i) 31 k) (h_nx S) = N
      simp [r_ln_new, h_up, h, c]
theorem mul_wd {g : PG} {S : HS} {mo : MO} {H : Heap} (hW : Wd g S mo H) (s : State) (hs : s.heap = H) (N k : Nat) : ∀ i, Wd g (mul_ S N k i) mo (Jvm.Free.Multi.fill s (g_ac g 37) (g_ac g 31) N k (.int 0) i).heap ∧ Jvm.Free.Multi.outerC (g_ac g 37) N (h_nx S) i = arrV (g_ac g 37) N (av (mul_ S N k i) 37 (h_nx S))
  | 0 => by
    have hH : H.size = h_nx S := hW.1
    have hz := zero_av hW 37 N
    have hk2 : dvk (aki 37) = .null := rfl
    rw [hk2] at hz
    have e0 : Jvm.Free.Multi.outerC (g_ac g 37) N (h_nx S) 0 = arrV (g_ac g 37) N (av (s_new S 37 N) 37 (h_nx S)) := by
      rw [hz, ← arrV_new]
      rfl
    refine ⟨?_, e0⟩
    have hh : (Jvm.Free.Multi.fill s (g_ac g 37) (g_ac g 31) N k (.int 0) 0).heap = H.push (Jvm.Free.Multi.outerC (g_ac g 37) N (h_nx S) 0) := by
      show (s.pushCell _).heap = _
      rw [← hH, ← hs]
      rfl
    rw [hh]
    refine hW.new (by rw [Array.size_push]) (fun q hq => by rw [Array.getElem?_push, if_neg (Nat.ne_of_lt hq)]) ⟨fun h => ?_, fun _ => ?_⟩
    · simp [r_cl_new, h_up] at h
    · rw [← hH, Array.getElem?_push_size, hH, e0]
      simp [r_cl_new, r_ln_new, h_up]
  | i + 1 => by
    obtain ⟨w, eo⟩ := mul_wd hW s hs N k i
    have hH : H.size = h_nx S := hW.1
    have hH2 : s.heap.size = h_nx S := by rw [hs]; exact hH
    have w1 := w.1
    have hz := zero_av w 31 k
    have hk2 : dvk (aki 31) = .int 0 := rfl
    rw [hk2] at hz
    generalize hX : (Jvm.Free.Multi.fill s (g_ac g 37) (g_ac g 31) N k (.int 0) i) = X at w w1
    have wn : Wd g (s_new (mul_ S N k i) 31 k) mo (X.heap.push (Jvm.Free.Multi.innerC (g_ac g 31) k (.int 0))) := by
      refine w.new (by rw [Array.size_push]) (fun q hq => by rw [Array.getElem?_push, if_neg (Nat.ne_of_lt hq)]) ⟨fun h => ?_, fun _ => ?_⟩
      · simp [r_cl_new, h_up] at h
      · rw [← w1, Array.getElem?_push_size]
        simp only [r_cl_new, r_ln_new, h_up, w1, if_true]
        rw [hz, ← arrV_new]
        rfl
    obtain ⟨c1, c2, c3⟩ := mul_cl S N k i
    have hne : ¬ h_nx S = h_nx (mul_ S N k i) := by rw [mul_nx]; omega
    have d1 : h_cl (s_new (mul_ S N k i) 31 k) (h_nx S) = 37 := by simp [r_cl_new, h_up, hne, c1]
    have d2 : h_wr (s_new (mul_ S N k i) 31 k) (h_nx S) = true := by simp [r_wr_new, h_up, hne, c2]
    have d3 : h_ln (s_new (mul_ S N k i) 31 k) (h_nx S) = N := by simp [r_ln_new, h_up, hne, c3]
    have ev : av (mul_ S N k (i + 1)) 37 (h_nx S) = updV (av (mul_ S N k i) 37 (h_nx S)) i (.ref (h_nx S + 1 + i)) := by
      funext j
      show va_rf (h_aR (s_aR (s_new (mul_ S N k i) 31 k) (h_nx S) i (some (h_nx S + 1 + i))) (h_nx S) j) = _
      rw [r_aR_aR]
      unfold h_st updV
      by_cases e : j = i
      · simp [e, va_rf]
      · have e2 : ¬ i = j := fun q => e q.symm
        simp [e, e2]
        rfl
    have eo2 : Jvm.Free.Multi.outerC (g_ac g 37) N (h_nx S) (i + 1) = arrV (g_ac g 37) N (av (mul_ S N k (i + 1)) 37 (h_nx S)) := by
      show (Jvm.Free.Multi.outerC (g_ac g 37) N (h_nx S) i).setSlot i _ = _
      rw [eo, arrV_store, ev]
    refine ⟨?_, eo2⟩
    have hlt : h_nx S < (X.heap.push (Jvm.Free.Multi.innerC (g_ac g 31) k (.int 0))).size := by rw [Array.size_push, w1, mul_nx]; omega
    have hh : (Jvm.Free.Multi.fill s (g_ac g 37) (g_ac g 31) N k (.int 0) (i + 1)).heap = ((X.heap.push (Jvm.Free.Multi.innerC (g_ac g 31) k (.int 0))).set! (h_nx S) (Jvm.Free.Multi.outerC (g_ac g 37) N (h_nx S) (i + 1))) := by
      show ((Jvm.Free.Multi.fill s (g_ac g 37) (g_ac g 31) N k (.int 0) i).pushCell _ |>.setCell s.heap.size _).heap = _
      rw [hX, hH2]
      rfl
    rw [hh]
    refine (wn.set (a := h_nx S) (S' := s_aR (s_new (mul_ S N k i) 31 k) (h_nx S) i (some (h_nx S + 1 + i))) (H' := ((X.heap.push (Jvm.Free.Multi.innerC (g_ac g 31) k (.int 0))).set! (h_nx S) (Jvm.Free.Multi.outerC (g_ac g 37) N (h_nx S) (i + 1)))) d2 (by rw [d1]; decide) (by simp) (fun q hq => by simp [Array.getElem?_setIfInBounds, Ne.symm hq]) (fun q hq => ⟨rfl, rfl, rfl, fun _ => rfl, fun _ => rfl, fun _ => rfl, fun _ => rfl, fun _ => rfl, fun j => ?_⟩) rfl ⟨rfl, rfl⟩ rfl rfl (fun _ => ⟨fun h => ?_, fun _ => ?_⟩)).1
    · show h_aR (s_aR (s_new (mul_ S N k i) 31 k) (h_nx S) i (some (h_nx S + 1 + i))) q j = _
      rw [r_aR_aR]
      unfold h_st
      simp [hq]
    · have : h_cl (mul_ S N k (i + 1)) (h_nx S) = 37 := (mul_cl S N k (i + 1)).1
      have h' : h_cl (mul_ S N k (i + 1)) (h_nx S) < 30 := h
      rw [this] at h'
      omega
    · have e1 := (mul_cl S N k (i + 1)).1
      have e2 := (mul_cl S N k (i + 1)).2.2
      rw [show h_cl (s_aR (s_new (mul_ S N k i) 31 k) (h_nx S) i (some (h_nx S + 1 + i))) (h_nx S) = 37 from e1, show h_ln (s_aR (s_new (mul_ S N k i) 31 k) (h_nx S) i (some (h_nx S + 1 + i))) (h_nx S) = N from e2]
      rw [show (s_aR (s_new (mul_ S N k i) 31 k) (h_nx S) i (some (h_nx S + 1 + i))) = mul_ S N k (i + 1) from rfl, ← eo2]
      rw [Array.size_push] at hlt
      simp [Array.getElem?_setIfInBounds, hlt]
section JM
variable {f : CfT} {S S' : HS} {mo : MO} {pc : Nat} {L : LL} {st : List LV} {cc : ByteArray} {own : String}
theorem j_mul (hc : cf_cc f = cc) (ho : cf_ow f = own) {idx : Nat} (w1 : Cond.classLink own idx "[[I" ∈ lw_all) (w3 : Cond.arrayClass .int ∈ lw_all) (d : decode cc pc = .ok (.multianewarray idx 2, 4)) {n k : Int32} (h : n_mul S n k = some S') (K : JJ f S' mo (pc + 4) L (vr (some (h_nx S)) :: st)) : JJ f S mo pc L (vi k :: vi n :: st) := by
  unfold n_mul at h
  split at h
  · rename_i h9
    cases h
    obtain ⟨k1, k2, k3, k4⟩ := h9
    have hm := K.1
    rw [mul_nx, mul_sl] at hm
    exact ⟨⟨by omega, by omega⟩, fun p e s m args below meth c0 X ls H locs cells slots hl hW hS h1 h2 => by
      have kk := K.2 p e s m args below meth c0 X ls
      obtain ⟨x1, x2, x3, x4, x5, x6, x7, x8, x9, x10⟩ := X
      rw [ho] at x4
      have hHs : H.size = h_nx S := hW.1
      intro T hT X0
      obtain ⟨vm₁, cA, comp, y1, y2, y3, y4, y5, X1, st1⟩ := X0.multianewarray2F x1 (own := own) (index := idx) (ty := .int) x4 (x5 _ w1) (va_AOB.use x6.2.1.2.2.2.2.2) (x5 _ w3) (g := F0 m pc ls ((vi k :: vi n :: st).map tv)) rfl (by rw [x2.trans hc]; exact d) (n := n) (k := k) (rest := st.map tv) rfl k1 k2 (by omega) (by show k.toNatClampNeg * 4 ≤ _; omega) (by omega) rfl rfl (by show cells + (1 + n.toNatClampNeg) ≤ (cf_fi f).1 - (cf_in f).1; omega) (by show slots + (n.toNatClampNeg + n.toNatClampNeg * k.toNatClampNeg) ≤ (cf_fi f).2 - (cf_in f).2; omega)
      have f1 : s.vm.findClass ("[" ++ FieldType.int.toString) = some (g_ac (cf_g f) 31) := (arr_K x6 (t := 31) (by omega) (by omega)).2
      have f2 : s.vm.findClass ("[" ++ (FieldType.array .int).toString) = some (g_ac (cf_g f) 37) := (arr_K x6 (t := 37) (by omega) (by omega)).2
      have hcA : cA = g_ac (cf_g f) 37 := Option.some.inj (y2.symm.trans f2)
      have hcB : comp = g_ac (cf_g f) 31 := Option.some.inj (y3.symm.trans f1)
      subst hcA
      subst hcB
      have hTh : (T.setVm vm₁).heap = H := hT
      obtain ⟨wd, -⟩ := mul_wd hW (T.setVm vm₁) hTh n.toNatClampNeg k.toNatClampNeg n.toNatClampNeg
      have fo := fun (a : Addr) (ha : a < (T.setVm vm₁).heap.size) => Jvm.Free.Multi.fill_old (T.setVm vm₁) (g_ac (cf_g f) 37) (g_ac (cf_g f) 31) n.toNatClampNeg k.toNatClampNeg (.int 0) (a := a) ha n.toNatClampNeg
      have f9 := (Jvm.Free.Multi.fill_facts (T.setVm vm₁) (g_ac (cf_g f) 37) (g_ac (cf_g f) 31) n.toNatClampNeg k.toNatClampNeg (.int 0) n.toNatClampNeg).1
      rw [hTh] at fo f9
      have k9 := kk (Jvm.Free.Multi.fill (T.setVm vm₁) (g_ac (cf_g f) 37) (g_ac (cf_g f) 31) n.toNatClampNeg k.toNatClampNeg (.int 0) n.toNatClampNeg).heap locs (cells + 1 + n.toNatClampNeg) (slots + n.toNatClampNeg + n.toNatClampNeg * k.toNatClampNeg) hl wd ⟨Nat.le_trans hS.1 (by omega), fun x g1 g2 => (fo x (by exact Nat.lt_of_lt_of_le g1 (by first | exact hS.1 | (rw [hTh]; exact hS.1)))).trans (hS.2.1 x g1 g2), hS.2.2⟩ (by rw [mul_nx]; omega) (by rw [mul_sl]; omega)
      obtain ⟨t, a1, b1⟩ := k9 _ rfl X1
      refine ⟨t, st1 t ?_, b1⟩
      rw [hT, hHs]
      exact a1⟩
  · cases h
end JM
