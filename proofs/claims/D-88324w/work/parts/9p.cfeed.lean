/-! the component's feed -/
theorem i8_and (v : Int32) : Int32.toInt8 (v &&& 255) = Int32.toInt8 v := by
  apply Int8.toBitVec_inj.mp
  show (v.toBitVec &&& 255#32).signExtend 8 = v.toBitVec.signExtend 8
  rw [BitVec.signExtend_eq_setWidth_of_le _ (by decide), BitVec.signExtend_eq_setWidth_of_le _ (by decide)]
  apply BitVec.eq_of_getLsbD_eq
  intro i hi
  rw [BitVec.getLsbD_setWidth, BitVec.getLsbD_setWidth, BitVec.getLsbD_and]
  have h9 : ∀ i, i < 8 → (255#32).getLsbD i = true := by decide
  rw [h9 i hi, Bool.and_true]
theorem sb_fb (x : Int32) (m : Nat) : vp_nar .byte (Int8.toInt32 (Int32.toInt8 (x >>> i_ (8 * (3 - m))))) = sb (fb x m) := by
  have h := (fb_eq x m).1
  unfold sb
  rw [← h, show (i_ 255) = (255 : Int32) from rfl, i8_and]
  show Int8.toInt32 (Int32.toInt8 (Int8.toInt32 _)) = _
  rw [Int8.toInt8_toInt32]
/-- k bytes were fed -/
def FE (a : Nat) (S U : HS) (tl k : Nat) (B : Nat → Nat) : Prop := (∀ j x, ¬ (j = 8 ∧ x = a) → h_fI U j x = h_fI S j x) ∧ h_fI U 8 a = i_ (tl + k) ∧ (h_aR U = h_aR S ∧ h_nx U = h_nx S ∧ h_sl U = h_sl S) ∧ (∀ y, y ≠ a + 2 → h_aI U y = h_aI S y) ∧ Kp S U a ∧ (Z S → Z U) ∧ (∀ i, i < tl → h_aI U (a + 2) i = h_aI S (a + 2) i) ∧ ∀ i, i < k → h_aI U (a + 2) (tl + i) = sb (B i)
theorem FE.st {a : Nat} {S U : HS} {tl k : Nat} {B : Nat → Nat} (hF : FX S a) (h : FE a S U tl k B) : FE a S (s_aI (s_fI U 8 a (i_ (tl + (k + 1)))) (a + 2) (tl + k) (sb (B k))) tl (k + 1) B := by
  obtain ⟨h1, h2, ⟨h3, h4, h5⟩, h6, h7, h8, h9, h10⟩ := h
  have hx := hF.1
  refine ⟨fun j x hj => ?_, ?_, ⟨?_, ?_, ?_⟩, fun y hy => ?_, ?_, fun z => ?_, fun i hi => ?_, fun i hi => ?_⟩
  · rw [R_fI_aI, R_fI_fI, h_st_ne _ _ hj]
    exact h1 j x hj
  · rw [R_fI_aI, R_fI_fI, h_st_eq]
  · rw [R_aR_aI, R_aR_fI, h3]
  · rw [R_nx_aI, R_nx_fI, h4]
  · rw [R_sl_aI, R_sl_fI, h5]
  · rw [R_aI_aI, ← h6 y hy]
    funext j
    rw [h_st_ne _ _ (fun e => hy e.1), R_aI_fI]
  · exact h7.tr ((Kp.fI (show 8 < 113 by omega)).tr (Kp.aI (Or.inl ⟨by omega, by omega⟩)))
  · exact ((h8 z).fI _ (by rw [h4]; omega)).aI _ (by rw [R_nx_fI, h4]; omega)
  · rw [aI_off (by omega), R_aI_fI]
    exact h9 i hi
  · by_cases e : i = k
    · rw [e, aI_on]
    · rw [aI_off (by omega), R_aI_fI]
      exact h10 i (by omega)
theorem C_put_st {a : Nat} {S U : HS} {tl k : Nat} {B : Nat → Nat} (hF : FX S a) (h : FE a S U tl k B) (htl : tl + k < 400) {x : Int32} {m n : Nat} (hm : m < 4) (hB : B k = fb x m) : ∃ U', f_X0_put_n3 a (n + 1) x (i_ (8 * (3 - m))) U = f_X0_put_n3 a n x (i_ (8 * (3 - m)) + -8) U' ∧ FE a S U' tl (k + 1) B := by
  refine ⟨_, ?_, h.st hF⟩
  have hFU : FX U a := h.2.2.2.2.1.fx hF
  have h8 := h.2.1
  have h31 : ∀ m, m < 4 → (i_ (8 * (3 - m)) &&& 31) = i_ (8 * (3 - m)) := by decide
  have hnn : ¬ i_ (8 * (3 - m)) < 0 := i_nn (by omega)
  have hsb := sb_fb x m
  conv => lhs; unfold f_X0_put_n3
  rw [if_neg hnn, bfR (fx_cl0 hFU), fx_r9 hFU, bfI (fx_cl0 hFU), h8, bpfI (fx_cl0 hFU) (fx_wr0 hFU), ob_some, h31 m hm, hsb, bpaI (by rw [R_cl_fI]; exact fx_cl2 hFU) (by rw [R_wr_fI]; exact fx_wr2 hFU) (by omega) (by rw [R_ln_fI, fx_ln2 hFU]; omega), l_1, i_add, ← hB, Nat.add_assoc]
theorem C_put {a : Nat} {S U : HS} {tl k : Nat} {B : Nat → Nat} (hF : FX S a) (h : FE a S U tl k B) (htl : tl + k + 4 ≤ 400) {x : Int32} (hB : ∀ m, m < 4 → B (k + m) = fb x m) : ∃ U', f_X0_put a x U = some U' ∧ FE a S U' tl (k + 4) B := by
  obtain ⟨U1, e1, g1⟩ := C_put_st (m := 0) (n := 19999) hF h (by omega) (by decide) (hB 0 (by decide))
  obtain ⟨U2, e2, g2⟩ := C_put_st (m := 1) (n := 19998) hF g1 (by omega) (by decide) (hB 1 (by decide))
  obtain ⟨U3, e3, g3⟩ := C_put_st (m := 2) (n := 19997) hF g2 (by omega) (by decide) (hB 2 (by decide))
  obtain ⟨U4, e4, g4⟩ := C_put_st (m := 3) (n := 19996) hF g3 (by omega) (by decide) (hB 3 (by decide))
  refine ⟨U4, ?_, g4⟩
  have p0 : (24 : Int32) = i_ (8 * (3 - 0)) := by decide
  have p1 : i_ (8 * (3 - 0)) + -8 = i_ (8 * (3 - 1)) := by decide
  have p2 : i_ (8 * (3 - 1)) + -8 = i_ (8 * (3 - 2)) := by decide
  have p3 : i_ (8 * (3 - 2)) + -8 = i_ (8 * (3 - 3)) := by decide
  have p4 : i_ (8 * (3 - 3)) + -8 < 0 := by decide
  have e5 : f_X0_put_n3 a (19995 + 1) x (i_ (8 * (3 - 3)) + -8) U4 = some U4 := by
    unfold f_X0_put_n3
    rw [if_pos p4]
  unfold f_X0_put
  rw [fu_eq, p0, e1, p1]
  rw [show (19999 : Nat) = 19998 + 1 from rfl, e2, p2, show (19998 : Nat) = 19997 + 1 from rfl, e3, p3, show (19997 : Nat) = 19996 + 1 from rfl, e4, show (19996 : Nat) = 19995 + 1 from rfl, e5]
