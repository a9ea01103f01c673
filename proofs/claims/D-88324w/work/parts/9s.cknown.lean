/-! a new Known -/
def c_K (U : HS) (a : Nat) : HS := s_fR (s_new U 10 2) 129 (h_nx U) (some a)
theorem cK_cl (U : HS) (a : Nat) : h_cl (c_K U a) (h_nx U) = 10 := by
  unfold c_K
  rw [R_cl_fR, R_cl_new, up_on]
theorem cK_wr (U : HS) (a : Nat) : h_wr (c_K U a) (h_nx U) = true := by
  unfold c_K
  rw [R_wr_fR, R_wr_new, up_on]
theorem cK_129 (U : HS) (a : Nat) : h_fR (c_K U a) 129 (h_nx U) = some a := by
  unfold c_K
  rw [R_fR_fR, h_st_eq]
theorem cK_nx (U : HS) (a : Nat) : h_nx (c_K U a) = h_nx U + 1 := by
  unfold c_K
  rw [R_nx_fR, R_nx_new]
theorem cK_sl (U : HS) (a : Nat) : h_sl (c_K U a) = h_sl U + 2 := by
  unfold c_K
  rw [R_sl_fR, R_sl_new]
theorem cK_aI (U : HS) (a : Nat) : h_aI (c_K U a) = h_aI U := by
  unfold c_K
  rw [R_aI_fR, R_aI_new]
theorem cK_aR (U : HS) (a : Nat) : h_aR (c_K U a) = h_aR U := by
  unfold c_K
  rw [R_aR_fR, R_aR_new]
theorem cK_fI (U : HS) (a : Nat) : h_fI (c_K U a) = h_fI U := by
  unfold c_K
  rw [R_fI_fR, R_fI_new]
theorem cK_kp (U : HS) (a : Nat) : Kp U (c_K U a) a := by
  refine ⟨by rw [cK_nx]; omega, by unfold c_K; rw [R_ks_fR, R_ks_new], by unfold c_K; rw [R_kr_fR, R_kr_new], fun x hx => ⟨?_, ?_, ?_, fun k => ?_, fun k _ => by rw [cK_fI], fun _ _ => by rw [cK_aI], fun _ => by rw [cK_aR]⟩⟩
  · unfold c_K
    rw [R_cl_fR, R_cl_new, up_off (by omega)]
  · unfold c_K
    rw [R_ln_fR, R_ln_new, up_off (by omega)]
  · unfold c_K
    rw [R_wr_fR, R_wr_new, up_off (by omega)]
  · unfold c_K
    rw [R_fR_fR, h_st_ne _ _ (by omega), R_fR_new]
theorem cK_Z {U : HS} {a : Nat} (h : Z U) : Z (c_K U a) := (h.new 10 2).fR _ (by rw [R_nx_new]; omega)
theorem cK_init (U : HS) (a : Nat) : (n_obj U 10 2).bind (fun T => f_X12_init (h_nx U) (some a) T) = some (tyX (c_K U a) (h_nx U) 2147483647) := by
  unfold f_X12_init f_X11_init
  rw [bnobj, bpfR (by rw [R_cl_new, up_on]) (by rw [R_wr_new, up_on]), bpfI (by rw [R_cl_fR, R_cl_new, up_on]) (by rw [R_wr_fR, R_wr_new, up_on])]
  rfl
