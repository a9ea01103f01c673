/-! the spec: what both sides keep (n tables, present, names, sorts, columns, column names, types, froms, from; owner, lag, oldest, newest; formulas, where, texts; asks: table, bits, day; today; what was found; fault; tape) -/
abbrev SP : Type := Nat × (Nat → Bool) × (Nat → List Nat) × (Nat → Nat) × (Nat → Nat) × (Nat → Nat → List Nat) × (Nat → Nat → Nat) × (Nat → Nat) × (Nat → Nat → Nat) × (Nat → Int32) × (Nat → Int32) × (Nat → Int32) × (Nat → Int32) × (Nat → Nat → List (Nat × Nat × Nat)) × (Nat → Bool) × (Nat → List (Nat × List Nat)) × Nat × (Nat → Nat) × (Nat → Nat) × (Nat → Int32) × Int32 × List Nat × Int32 × Int32 × Nat × (Nat → Nat)
def z_n (s : SP) : Nat := s.1
def z_th (s : SP) : Nat → Bool := s.2.1
def z_nm (s : SP) : Nat → List Nat := s.2.2.1
def z_so (s : SP) : Nat → Nat := s.2.2.2.1
def z_nc (s : SP) : Nat → Nat := s.2.2.2.2.1
def z_cn (s : SP) : Nat → Nat → List Nat := s.2.2.2.2.2.1
def z_ty (s : SP) : Nat → Nat → Nat := s.2.2.2.2.2.2.1
def z_nb (s : SP) : Nat → Nat := s.2.2.2.2.2.2.2.1
def z_fr (s : SP) : Nat → Nat → Nat := s.2.2.2.2.2.2.2.2.1
def z_ow (s : SP) : Nat → Int32 := s.2.2.2.2.2.2.2.2.2.1
def z_lg (s : SP) : Nat → Int32 := s.2.2.2.2.2.2.2.2.2.2.1
def z_ol (s : SP) : Nat → Int32 := s.2.2.2.2.2.2.2.2.2.2.2.1
def z_nw (s : SP) : Nat → Int32 := s.2.2.2.2.2.2.2.2.2.2.2.2.1
def z_fo (s : SP) : Nat → Nat → List (Nat × Nat × Nat) := s.2.2.2.2.2.2.2.2.2.2.2.2.2.1
def z_hw (s : SP) : Nat → Bool := s.2.2.2.2.2.2.2.2.2.2.2.2.2.2.1
def z_tx (s : SP) : Nat → List (Nat × List Nat) := s.2.2.2.2.2.2.2.2.2.2.2.2.2.2.2.1
def z_na (s : SP) : Nat := s.2.2.2.2.2.2.2.2.2.2.2.2.2.2.2.2.1
def z_at (s : SP) : Nat → Nat := s.2.2.2.2.2.2.2.2.2.2.2.2.2.2.2.2.2.1
def z_ab (s : SP) : Nat → Nat := s.2.2.2.2.2.2.2.2.2.2.2.2.2.2.2.2.2.2.1
def z_ad (s : SP) : Nat → Int32 := s.2.2.2.2.2.2.2.2.2.2.2.2.2.2.2.2.2.2.2.1
def z_td (s : SP) : Int32 := s.2.2.2.2.2.2.2.2.2.2.2.2.2.2.2.2.2.2.2.2.1
def z_fd (s : SP) : List Nat := s.2.2.2.2.2.2.2.2.2.2.2.2.2.2.2.2.2.2.2.2.2.1
def z_fk (s : SP) : Int32 := s.2.2.2.2.2.2.2.2.2.2.2.2.2.2.2.2.2.2.2.2.2.2.1
def z_fp (s : SP) : Int32 := s.2.2.2.2.2.2.2.2.2.2.2.2.2.2.2.2.2.2.2.2.2.2.2.1
def z_tl (s : SP) : Nat := s.2.2.2.2.2.2.2.2.2.2.2.2.2.2.2.2.2.2.2.2.2.2.2.2.1
def z_tp (s : SP) : Nat → Nat := s.2.2.2.2.2.2.2.2.2.2.2.2.2.2.2.2.2.2.2.2.2.2.2.2.2
def u_n (s : SP) (x : Nat) : SP := (x, z_th s, z_nm s, z_so s, z_nc s, z_cn s, z_ty s, z_nb s, z_fr s, z_ow s, z_lg s, z_ol s, z_nw s, z_fo s, z_hw s, z_tx s, z_na s, z_at s, z_ab s, z_ad s, z_td s, z_fd s, z_fk s, z_fp s, z_tl s, z_tp s)
def u_th (s : SP) (x : Nat → Bool) : SP := (z_n s, x, z_nm s, z_so s, z_nc s, z_cn s, z_ty s, z_nb s, z_fr s, z_ow s, z_lg s, z_ol s, z_nw s, z_fo s, z_hw s, z_tx s, z_na s, z_at s, z_ab s, z_ad s, z_td s, z_fd s, z_fk s, z_fp s, z_tl s, z_tp s)
def u_nm (s : SP) (x : Nat → List Nat) : SP := (z_n s, z_th s, x, z_so s, z_nc s, z_cn s, z_ty s, z_nb s, z_fr s, z_ow s, z_lg s, z_ol s, z_nw s, z_fo s, z_hw s, z_tx s, z_na s, z_at s, z_ab s, z_ad s, z_td s, z_fd s, z_fk s, z_fp s, z_tl s, z_tp s)
def u_so (s : SP) (x : Nat → Nat) : SP := (z_n s, z_th s, z_nm s, x, z_nc s, z_cn s, z_ty s, z_nb s, z_fr s, z_ow s, z_lg s, z_ol s, z_nw s, z_fo s, z_hw s, z_tx s, z_na s, z_at s, z_ab s, z_ad s, z_td s, z_fd s, z_fk s, z_fp s, z_tl s, z_tp s)
def u_nc (s : SP) (x : Nat → Nat) : SP := (z_n s, z_th s, z_nm s, z_so s, x, z_cn s, z_ty s, z_nb s, z_fr s, z_ow s, z_lg s, z_ol s, z_nw s, z_fo s, z_hw s, z_tx s, z_na s, z_at s, z_ab s, z_ad s, z_td s, z_fd s, z_fk s, z_fp s, z_tl s, z_tp s)
def u_cn (s : SP) (x : Nat → Nat → List Nat) : SP := (z_n s, z_th s, z_nm s, z_so s, z_nc s, x, z_ty s, z_nb s, z_fr s, z_ow s, z_lg s, z_ol s, z_nw s, z_fo s, z_hw s, z_tx s, z_na s, z_at s, z_ab s, z_ad s, z_td s, z_fd s, z_fk s, z_fp s, z_tl s, z_tp s)
def u_ty (s : SP) (x : Nat → Nat → Nat) : SP := (z_n s, z_th s, z_nm s, z_so s, z_nc s, z_cn s, x, z_nb s, z_fr s, z_ow s, z_lg s, z_ol s, z_nw s, z_fo s, z_hw s, z_tx s, z_na s, z_at s, z_ab s, z_ad s, z_td s, z_fd s, z_fk s, z_fp s, z_tl s, z_tp s)
def u_nb (s : SP) (x : Nat → Nat) : SP := (z_n s, z_th s, z_nm s, z_so s, z_nc s, z_cn s, z_ty s, x, z_fr s, z_ow s, z_lg s, z_ol s, z_nw s, z_fo s, z_hw s, z_tx s, z_na s, z_at s, z_ab s, z_ad s, z_td s, z_fd s, z_fk s, z_fp s, z_tl s, z_tp s)
def u_fr (s : SP) (x : Nat → Nat → Nat) : SP := (z_n s, z_th s, z_nm s, z_so s, z_nc s, z_cn s, z_ty s, z_nb s, x, z_ow s, z_lg s, z_ol s, z_nw s, z_fo s, z_hw s, z_tx s, z_na s, z_at s, z_ab s, z_ad s, z_td s, z_fd s, z_fk s, z_fp s, z_tl s, z_tp s)
def u_ow (s : SP) (x : Nat → Int32) : SP := (z_n s, z_th s, z_nm s, z_so s, z_nc s, z_cn s, z_ty s, z_nb s, z_fr s, x, z_lg s, z_ol s, z_nw s, z_fo s, z_hw s, z_tx s, z_na s, z_at s, z_ab s, z_ad s, z_td s, z_fd s, z_fk s, z_fp s, z_tl s, z_tp s)
def u_lg (s : SP) (x : Nat → Int32) : SP := (z_n s, z_th s, z_nm s, z_so s, z_nc s, z_cn s, z_ty s, z_nb s, z_fr s, z_ow s, x, z_ol s, z_nw s, z_fo s, z_hw s, z_tx s, z_na s, z_at s, z_ab s, z_ad s, z_td s, z_fd s, z_fk s, z_fp s, z_tl s, z_tp s)
def u_ol (s : SP) (x : Nat → Int32) : SP := (z_n s, z_th s, z_nm s, z_so s, z_nc s, z_cn s, z_ty s, z_nb s, z_fr s, z_ow s, z_lg s, x, z_nw s, z_fo s, z_hw s, z_tx s, z_na s, z_at s, z_ab s, z_ad s, z_td s, z_fd s, z_fk s, z_fp s, z_tl s, z_tp s)
def u_nw (s : SP) (x : Nat → Int32) : SP := (z_n s, z_th s, z_nm s, z_so s, z_nc s, z_cn s, z_ty s, z_nb s, z_fr s, z_ow s, z_lg s, z_ol s, x, z_fo s, z_hw s, z_tx s, z_na s, z_at s, z_ab s, z_ad s, z_td s, z_fd s, z_fk s, z_fp s, z_tl s, z_tp s)
def u_fo (s : SP) (x : Nat → Nat → List (Nat × Nat × Nat)) : SP := (z_n s, z_th s, z_nm s, z_so s, z_nc s, z_cn s, z_ty s, z_nb s, z_fr s, z_ow s, z_lg s, z_ol s, z_nw s, x, z_hw s, z_tx s, z_na s, z_at s, z_ab s, z_ad s, z_td s, z_fd s, z_fk s, z_fp s, z_tl s, z_tp s)
def u_hw (s : SP) (x : Nat → Bool) : SP := (z_n s, z_th s, z_nm s, z_so s, z_nc s, z_cn s, z_ty s, z_nb s, z_fr s, z_ow s, z_lg s, z_ol s, z_nw s, z_fo s, x, z_tx s, z_na s, z_at s, z_ab s, z_ad s, z_td s, z_fd s, z_fk s, z_fp s, z_tl s, z_tp s)
def u_tx (s : SP) (x : Nat → List (Nat × List Nat)) : SP := (z_n s, z_th s, z_nm s, z_so s, z_nc s, z_cn s, z_ty s, z_nb s, z_fr s, z_ow s, z_lg s, z_ol s, z_nw s, z_fo s, z_hw s, x, z_na s, z_at s, z_ab s, z_ad s, z_td s, z_fd s, z_fk s, z_fp s, z_tl s, z_tp s)
def u_na (s : SP) (x : Nat) : SP := (z_n s, z_th s, z_nm s, z_so s, z_nc s, z_cn s, z_ty s, z_nb s, z_fr s, z_ow s, z_lg s, z_ol s, z_nw s, z_fo s, z_hw s, z_tx s, x, z_at s, z_ab s, z_ad s, z_td s, z_fd s, z_fk s, z_fp s, z_tl s, z_tp s)
def u_at (s : SP) (x : Nat → Nat) : SP := (z_n s, z_th s, z_nm s, z_so s, z_nc s, z_cn s, z_ty s, z_nb s, z_fr s, z_ow s, z_lg s, z_ol s, z_nw s, z_fo s, z_hw s, z_tx s, z_na s, x, z_ab s, z_ad s, z_td s, z_fd s, z_fk s, z_fp s, z_tl s, z_tp s)
def u_ab (s : SP) (x : Nat → Nat) : SP := (z_n s, z_th s, z_nm s, z_so s, z_nc s, z_cn s, z_ty s, z_nb s, z_fr s, z_ow s, z_lg s, z_ol s, z_nw s, z_fo s, z_hw s, z_tx s, z_na s, z_at s, x, z_ad s, z_td s, z_fd s, z_fk s, z_fp s, z_tl s, z_tp s)
def u_ad (s : SP) (x : Nat → Int32) : SP := (z_n s, z_th s, z_nm s, z_so s, z_nc s, z_cn s, z_ty s, z_nb s, z_fr s, z_ow s, z_lg s, z_ol s, z_nw s, z_fo s, z_hw s, z_tx s, z_na s, z_at s, z_ab s, x, z_td s, z_fd s, z_fk s, z_fp s, z_tl s, z_tp s)
def u_td (s : SP) (x : Int32) : SP := (z_n s, z_th s, z_nm s, z_so s, z_nc s, z_cn s, z_ty s, z_nb s, z_fr s, z_ow s, z_lg s, z_ol s, z_nw s, z_fo s, z_hw s, z_tx s, z_na s, z_at s, z_ab s, z_ad s, x, z_fd s, z_fk s, z_fp s, z_tl s, z_tp s)
def u_fd (s : SP) (x : List Nat) : SP := (z_n s, z_th s, z_nm s, z_so s, z_nc s, z_cn s, z_ty s, z_nb s, z_fr s, z_ow s, z_lg s, z_ol s, z_nw s, z_fo s, z_hw s, z_tx s, z_na s, z_at s, z_ab s, z_ad s, z_td s, x, z_fk s, z_fp s, z_tl s, z_tp s)
def u_fk (s : SP) (x : Int32) : SP := (z_n s, z_th s, z_nm s, z_so s, z_nc s, z_cn s, z_ty s, z_nb s, z_fr s, z_ow s, z_lg s, z_ol s, z_nw s, z_fo s, z_hw s, z_tx s, z_na s, z_at s, z_ab s, z_ad s, z_td s, z_fd s, x, z_fp s, z_tl s, z_tp s)
def u_fp (s : SP) (x : Int32) : SP := (z_n s, z_th s, z_nm s, z_so s, z_nc s, z_cn s, z_ty s, z_nb s, z_fr s, z_ow s, z_lg s, z_ol s, z_nw s, z_fo s, z_hw s, z_tx s, z_na s, z_at s, z_ab s, z_ad s, z_td s, z_fd s, z_fk s, x, z_tl s, z_tp s)
def u_tl (s : SP) (x : Nat) : SP := (z_n s, z_th s, z_nm s, z_so s, z_nc s, z_cn s, z_ty s, z_nb s, z_fr s, z_ow s, z_lg s, z_ol s, z_nw s, z_fo s, z_hw s, z_tx s, z_na s, z_at s, z_ab s, z_ad s, z_td s, z_fd s, z_fk s, z_fp s, x, z_tp s)
def u_tp (s : SP) (x : Nat → Nat) : SP := (z_n s, z_th s, z_nm s, z_so s, z_nc s, z_cn s, z_ty s, z_nb s, z_fr s, z_ow s, z_lg s, z_ol s, z_nw s, z_fo s, z_hw s, z_tx s, z_na s, z_at s, z_ab s, z_ad s, z_td s, z_fd s, z_fk s, z_fp s, z_tl s, x)
theorem z_n_u_n (s : SP) (x : Nat) : z_n (u_n s x) = x := rfl
theorem z_th_u_n (s : SP) (x : Nat) : z_th (u_n s x) = z_th s := rfl
theorem z_nm_u_n (s : SP) (x : Nat) : z_nm (u_n s x) = z_nm s := rfl
theorem z_so_u_n (s : SP) (x : Nat) : z_so (u_n s x) = z_so s := rfl
theorem z_nc_u_n (s : SP) (x : Nat) : z_nc (u_n s x) = z_nc s := rfl
theorem z_cn_u_n (s : SP) (x : Nat) : z_cn (u_n s x) = z_cn s := rfl
theorem z_ty_u_n (s : SP) (x : Nat) : z_ty (u_n s x) = z_ty s := rfl
theorem z_nb_u_n (s : SP) (x : Nat) : z_nb (u_n s x) = z_nb s := rfl
theorem z_fr_u_n (s : SP) (x : Nat) : z_fr (u_n s x) = z_fr s := rfl
theorem z_ow_u_n (s : SP) (x : Nat) : z_ow (u_n s x) = z_ow s := rfl
theorem z_lg_u_n (s : SP) (x : Nat) : z_lg (u_n s x) = z_lg s := rfl
theorem z_ol_u_n (s : SP) (x : Nat) : z_ol (u_n s x) = z_ol s := rfl
theorem z_nw_u_n (s : SP) (x : Nat) : z_nw (u_n s x) = z_nw s := rfl
theorem z_fo_u_n (s : SP) (x : Nat) : z_fo (u_n s x) = z_fo s := rfl
theorem z_hw_u_n (s : SP) (x : Nat) : z_hw (u_n s x) = z_hw s := rfl
theorem z_tx_u_n (s : SP) (x : Nat) : z_tx (u_n s x) = z_tx s := rfl
theorem z_na_u_n (s : SP) (x : Nat) : z_na (u_n s x) = z_na s := rfl
theorem z_at_u_n (s : SP) (x : Nat) : z_at (u_n s x) = z_at s := rfl
theorem z_ab_u_n (s : SP) (x : Nat) : z_ab (u_n s x) = z_ab s := rfl
theorem z_ad_u_n (s : SP) (x : Nat) : z_ad (u_n s x) = z_ad s := rfl
theorem z_td_u_n (s : SP) (x : Nat) : z_td (u_n s x) = z_td s := rfl
theorem z_fd_u_n (s : SP) (x : Nat) : z_fd (u_n s x) = z_fd s := rfl
theorem z_fk_u_n (s : SP) (x : Nat) : z_fk (u_n s x) = z_fk s := rfl
theorem z_fp_u_n (s : SP) (x : Nat) : z_fp (u_n s x) = z_fp s := rfl
theorem z_tl_u_n (s : SP) (x : Nat) : z_tl (u_n s x) = z_tl s := rfl
theorem z_tp_u_n (s : SP) (x : Nat) : z_tp (u_n s x) = z_tp s := rfl
theorem z_n_u_th (s : SP) (x : Nat → Bool) : z_n (u_th s x) = z_n s := rfl
theorem z_th_u_th (s : SP) (x : Nat → Bool) : z_th (u_th s x) = x := rfl
theorem z_nm_u_th (s : SP) (x : Nat → Bool) : z_nm (u_th s x) = z_nm s := rfl
theorem z_so_u_th (s : SP) (x : Nat → Bool) : z_so (u_th s x) = z_so s := rfl
theorem z_nc_u_th (s : SP) (x : Nat → Bool) : z_nc (u_th s x) = z_nc s := rfl
theorem z_cn_u_th (s : SP) (x : Nat → Bool) : z_cn (u_th s x) = z_cn s := rfl
theorem z_ty_u_th (s : SP) (x : Nat → Bool) : z_ty (u_th s x) = z_ty s := rfl
theorem z_nb_u_th (s : SP) (x : Nat → Bool) : z_nb (u_th s x) = z_nb s := rfl
theorem z_fr_u_th (s : SP) (x : Nat → Bool) : z_fr (u_th s x) = z_fr s := rfl
theorem z_ow_u_th (s : SP) (x : Nat → Bool) : z_ow (u_th s x) = z_ow s := rfl
theorem z_lg_u_th (s : SP) (x : Nat → Bool) : z_lg (u_th s x) = z_lg s := rfl
theorem z_ol_u_th (s : SP) (x : Nat → Bool) : z_ol (u_th s x) = z_ol s := rfl
theorem z_nw_u_th (s : SP) (x : Nat → Bool) : z_nw (u_th s x) = z_nw s := rfl
theorem z_fo_u_th (s : SP) (x : Nat → Bool) : z_fo (u_th s x) = z_fo s := rfl
theorem z_hw_u_th (s : SP) (x : Nat → Bool) : z_hw (u_th s x) = z_hw s := rfl
theorem z_tx_u_th (s : SP) (x : Nat → Bool) : z_tx (u_th s x) = z_tx s := rfl
theorem z_na_u_th (s : SP) (x : Nat → Bool) : z_na (u_th s x) = z_na s := rfl
theorem z_at_u_th (s : SP) (x : Nat → Bool) : z_at (u_th s x) = z_at s := rfl
theorem z_ab_u_th (s : SP) (x : Nat → Bool) : z_ab (u_th s x) = z_ab s := rfl
theorem z_ad_u_th (s : SP) (x : Nat → Bool) : z_ad (u_th s x) = z_ad s := rfl
theorem z_td_u_th (s : SP) (x : Nat → Bool) : z_td (u_th s x) = z_td s := rfl
theorem z_fd_u_th (s : SP) (x : Nat → Bool) : z_fd (u_th s x) = z_fd s := rfl
theorem z_fk_u_th (s : SP) (x : Nat → Bool) : z_fk (u_th s x) = z_fk s := rfl
theorem z_fp_u_th (s : SP) (x : Nat → Bool) : z_fp (u_th s x) = z_fp s := rfl
theorem z_tl_u_th (s : SP) (x : Nat → Bool) : z_tl (u_th s x) = z_tl s := rfl
theorem z_tp_u_th (s : SP) (x : Nat → Bool) : z_tp (u_th s x) = z_tp s := rfl
theorem z_n_u_nm (s : SP) (x : Nat → List Nat) : z_n (u_nm s x) = z_n s := rfl
theorem z_th_u_nm (s : SP) (x : Nat → List Nat) : z_th (u_nm s x) = z_th s := rfl
theorem z_nm_u_nm (s : SP) (x : Nat → List Nat) : z_nm (u_nm s x) = x := rfl
theorem z_so_u_nm (s : SP) (x : Nat → List Nat) : z_so (u_nm s x) = z_so s := rfl
theorem z_nc_u_nm (s : SP) (x : Nat → List Nat) : z_nc (u_nm s x) = z_nc s := rfl
theorem z_cn_u_nm (s : SP) (x : Nat → List Nat) : z_cn (u_nm s x) = z_cn s := rfl
theorem z_ty_u_nm (s : SP) (x : Nat → List Nat) : z_ty (u_nm s x) = z_ty s := rfl
theorem z_nb_u_nm (s : SP) (x : Nat → List Nat) : z_nb (u_nm s x) = z_nb s := rfl
theorem z_fr_u_nm (s : SP) (x : Nat → List Nat) : z_fr (u_nm s x) = z_fr s := rfl
theorem z_ow_u_nm (s : SP) (x : Nat → List Nat) : z_ow (u_nm s x) = z_ow s := rfl
theorem z_lg_u_nm (s : SP) (x : Nat → List Nat) : z_lg (u_nm s x) = z_lg s := rfl
theorem z_ol_u_nm (s : SP) (x : Nat → List Nat) : z_ol (u_nm s x) = z_ol s := rfl
theorem z_nw_u_nm (s : SP) (x : Nat → List Nat) : z_nw (u_nm s x) = z_nw s := rfl
theorem z_fo_u_nm (s : SP) (x : Nat → List Nat) : z_fo (u_nm s x) = z_fo s := rfl
theorem z_hw_u_nm (s : SP) (x : Nat → List Nat) : z_hw (u_nm s x) = z_hw s := rfl
theorem z_tx_u_nm (s : SP) (x : Nat → List Nat) : z_tx (u_nm s x) = z_tx s := rfl
theorem z_na_u_nm (s : SP) (x : Nat → List Nat) : z_na (u_nm s x) = z_na s := rfl
theorem z_at_u_nm (s : SP) (x : Nat → List Nat) : z_at (u_nm s x) = z_at s := rfl
theorem z_ab_u_nm (s : SP) (x : Nat → List Nat) : z_ab (u_nm s x) = z_ab s := rfl
theorem z_ad_u_nm (s : SP) (x : Nat → List Nat) : z_ad (u_nm s x) = z_ad s := rfl
theorem z_td_u_nm (s : SP) (x : Nat → List Nat) : z_td (u_nm s x) = z_td s := rfl
theorem z_fd_u_nm (s : SP) (x : Nat → List Nat) : z_fd (u_nm s x) = z_fd s := rfl
theorem z_fk_u_nm (s : SP) (x : Nat → List Nat) : z_fk (u_nm s x) = z_fk s := rfl
theorem z_fp_u_nm (s : SP) (x : Nat → List Nat) : z_fp (u_nm s x) = z_fp s := rfl
theorem z_tl_u_nm (s : SP) (x : Nat → List Nat) : z_tl (u_nm s x) = z_tl s := rfl
theorem z_tp_u_nm (s : SP) (x : Nat → List Nat) : z_tp (u_nm s x) = z_tp s := rfl
theorem z_n_u_so (s : SP) (x : Nat → Nat) : z_n (u_so s x) = z_n s := rfl
theorem z_th_u_so (s : SP) (x : Nat → Nat) : z_th (u_so s x) = z_th s := rfl
theorem z_nm_u_so (s : SP) (x : Nat → Nat) : z_nm (u_so s x) = z_nm s := rfl
theorem z_so_u_so (s : SP) (x : Nat → Nat) : z_so (u_so s x) = x := rfl
theorem z_nc_u_so (s : SP) (x : Nat → Nat) : z_nc (u_so s x) = z_nc s := rfl
theorem z_cn_u_so (s : SP) (x : Nat → Nat) : z_cn (u_so s x) = z_cn s := rfl
theorem z_ty_u_so (s : SP) (x : Nat → Nat) : z_ty (u_so s x) = z_ty s := rfl
theorem z_nb_u_so (s : SP) (x : Nat → Nat) : z_nb (u_so s x) = z_nb s := rfl
theorem z_fr_u_so (s : SP) (x : Nat → Nat) : z_fr (u_so s x) = z_fr s := rfl
theorem z_ow_u_so (s : SP) (x : Nat → Nat) : z_ow (u_so s x) = z_ow s := rfl
theorem z_lg_u_so (s : SP) (x : Nat → Nat) : z_lg (u_so s x) = z_lg s := rfl
theorem z_ol_u_so (s : SP) (x : Nat → Nat) : z_ol (u_so s x) = z_ol s := rfl
theorem z_nw_u_so (s : SP) (x : Nat → Nat) : z_nw (u_so s x) = z_nw s := rfl
theorem z_fo_u_so (s : SP) (x : Nat → Nat) : z_fo (u_so s x) = z_fo s := rfl
theorem z_hw_u_so (s : SP) (x : Nat → Nat) : z_hw (u_so s x) = z_hw s := rfl
theorem z_tx_u_so (s : SP) (x : Nat → Nat) : z_tx (u_so s x) = z_tx s := rfl
theorem z_na_u_so (s : SP) (x : Nat → Nat) : z_na (u_so s x) = z_na s := rfl
theorem z_at_u_so (s : SP) (x : Nat → Nat) : z_at (u_so s x) = z_at s := rfl
theorem z_ab_u_so (s : SP) (x : Nat → Nat) : z_ab (u_so s x) = z_ab s := rfl
theorem z_ad_u_so (s : SP) (x : Nat → Nat) : z_ad (u_so s x) = z_ad s := rfl
theorem z_td_u_so (s : SP) (x : Nat → Nat) : z_td (u_so s x) = z_td s := rfl
theorem z_fd_u_so (s : SP) (x : Nat → Nat) : z_fd (u_so s x) = z_fd s := rfl
theorem z_fk_u_so (s : SP) (x : Nat → Nat) : z_fk (u_so s x) = z_fk s := rfl
theorem z_fp_u_so (s : SP) (x : Nat → Nat) : z_fp (u_so s x) = z_fp s := rfl
theorem z_tl_u_so (s : SP) (x : Nat → Nat) : z_tl (u_so s x) = z_tl s := rfl
theorem z_tp_u_so (s : SP) (x : Nat → Nat) : z_tp (u_so s x) = z_tp s := rfl
theorem z_n_u_nc (s : SP) (x : Nat → Nat) : z_n (u_nc s x) = z_n s := rfl
theorem z_th_u_nc (s : SP) (x : Nat → Nat) : z_th (u_nc s x) = z_th s := rfl
theorem z_nm_u_nc (s : SP) (x : Nat → Nat) : z_nm (u_nc s x) = z_nm s := rfl
theorem z_so_u_nc (s : SP) (x : Nat → Nat) : z_so (u_nc s x) = z_so s := rfl
theorem z_nc_u_nc (s : SP) (x : Nat → Nat) : z_nc (u_nc s x) = x := rfl
theorem z_cn_u_nc (s : SP) (x : Nat → Nat) : z_cn (u_nc s x) = z_cn s := rfl
theorem z_ty_u_nc (s : SP) (x : Nat → Nat) : z_ty (u_nc s x) = z_ty s := rfl
theorem z_nb_u_nc (s : SP) (x : Nat → Nat) : z_nb (u_nc s x) = z_nb s := rfl
theorem z_fr_u_nc (s : SP) (x : Nat → Nat) : z_fr (u_nc s x) = z_fr s := rfl
theorem z_ow_u_nc (s : SP) (x : Nat → Nat) : z_ow (u_nc s x) = z_ow s := rfl
theorem z_lg_u_nc (s : SP) (x : Nat → Nat) : z_lg (u_nc s x) = z_lg s := rfl
theorem z_ol_u_nc (s : SP) (x : Nat → Nat) : z_ol (u_nc s x) = z_ol s := rfl
theorem z_nw_u_nc (s : SP) (x : Nat → Nat) : z_nw (u_nc s x) = z_nw s := rfl
theorem z_fo_u_nc (s : SP) (x : Nat → Nat) : z_fo (u_nc s x) = z_fo s := rfl
theorem z_hw_u_nc (s : SP) (x : Nat → Nat) : z_hw (u_nc s x) = z_hw s := rfl
theorem z_tx_u_nc (s : SP) (x : Nat → Nat) : z_tx (u_nc s x) = z_tx s := rfl
theorem z_na_u_nc (s : SP) (x : Nat → Nat) : z_na (u_nc s x) = z_na s := rfl
theorem z_at_u_nc (s : SP) (x : Nat → Nat) : z_at (u_nc s x) = z_at s := rfl
theorem z_ab_u_nc (s : SP) (x : Nat → Nat) : z_ab (u_nc s x) = z_ab s := rfl
theorem z_ad_u_nc (s : SP) (x : Nat → Nat) : z_ad (u_nc s x) = z_ad s := rfl
theorem z_td_u_nc (s : SP) (x : Nat → Nat) : z_td (u_nc s x) = z_td s := rfl
theorem z_fd_u_nc (s : SP) (x : Nat → Nat) : z_fd (u_nc s x) = z_fd s := rfl
theorem z_fk_u_nc (s : SP) (x : Nat → Nat) : z_fk (u_nc s x) = z_fk s := rfl
theorem z_fp_u_nc (s : SP) (x : Nat → Nat) : z_fp (u_nc s x) = z_fp s := rfl
theorem z_tl_u_nc (s : SP) (x : Nat → Nat) : z_tl (u_nc s x) = z_tl s := rfl
theorem z_tp_u_nc (s : SP) (x : Nat → Nat) : z_tp (u_nc s x) = z_tp s := rfl
theorem z_n_u_cn (s : SP) (x : Nat → Nat → List Nat) : z_n (u_cn s x) = z_n s := rfl
theorem z_th_u_cn (s : SP) (x : Nat → Nat → List Nat) : z_th (u_cn s x) = z_th s := rfl
theorem z_nm_u_cn (s : SP) (x : Nat → Nat → List Nat) : z_nm (u_cn s x) = z_nm s := rfl
theorem z_so_u_cn (s : SP) (x : Nat → Nat → List Nat) : z_so (u_cn s x) = z_so s := rfl
theorem z_nc_u_cn (s : SP) (x : Nat → Nat → List Nat) : z_nc (u_cn s x) = z_nc s := rfl
theorem z_cn_u_cn (s : SP) (x : Nat → Nat → List Nat) : z_cn (u_cn s x) = x := rfl
theorem z_ty_u_cn (s : SP) (x : Nat → Nat → List Nat) : z_ty (u_cn s x) = z_ty s := rfl
theorem z_nb_u_cn (s : SP) (x : Nat → Nat → List Nat) : z_nb (u_cn s x) = z_nb s := rfl
theorem z_fr_u_cn (s : SP) (x : Nat → Nat → List Nat) : z_fr (u_cn s x) = z_fr s := rfl
theorem z_ow_u_cn (s : SP) (x : Nat → Nat → List Nat) : z_ow (u_cn s x) = z_ow s := rfl
theorem z_lg_u_cn (s : SP) (x : Nat → Nat → List Nat) : z_lg (u_cn s x) = z_lg s := rfl
theorem z_ol_u_cn (s : SP) (x : Nat → Nat → List Nat) : z_ol (u_cn s x) = z_ol s := rfl
theorem z_nw_u_cn (s : SP) (x : Nat → Nat → List Nat) : z_nw (u_cn s x) = z_nw s := rfl
theorem z_fo_u_cn (s : SP) (x : Nat → Nat → List Nat) : z_fo (u_cn s x) = z_fo s := rfl
theorem z_hw_u_cn (s : SP) (x : Nat → Nat → List Nat) : z_hw (u_cn s x) = z_hw s := rfl
theorem z_tx_u_cn (s : SP) (x : Nat → Nat → List Nat) : z_tx (u_cn s x) = z_tx s := rfl
theorem z_na_u_cn (s : SP) (x : Nat → Nat → List Nat) : z_na (u_cn s x) = z_na s := rfl
theorem z_at_u_cn (s : SP) (x : Nat → Nat → List Nat) : z_at (u_cn s x) = z_at s := rfl
theorem z_ab_u_cn (s : SP) (x : Nat → Nat → List Nat) : z_ab (u_cn s x) = z_ab s := rfl
theorem z_ad_u_cn (s : SP) (x : Nat → Nat → List Nat) : z_ad (u_cn s x) = z_ad s := rfl
theorem z_td_u_cn (s : SP) (x : Nat → Nat → List Nat) : z_td (u_cn s x) = z_td s := rfl
theorem z_fd_u_cn (s : SP) (x : Nat → Nat → List Nat) : z_fd (u_cn s x) = z_fd s := rfl
theorem z_fk_u_cn (s : SP) (x : Nat → Nat → List Nat) : z_fk (u_cn s x) = z_fk s := rfl
theorem z_fp_u_cn (s : SP) (x : Nat → Nat → List Nat) : z_fp (u_cn s x) = z_fp s := rfl
theorem z_tl_u_cn (s : SP) (x : Nat → Nat → List Nat) : z_tl (u_cn s x) = z_tl s := rfl
theorem z_tp_u_cn (s : SP) (x : Nat → Nat → List Nat) : z_tp (u_cn s x) = z_tp s := rfl
theorem z_n_u_ty (s : SP) (x : Nat → Nat → Nat) : z_n (u_ty s x) = z_n s := rfl
theorem z_th_u_ty (s : SP) (x : Nat → Nat → Nat) : z_th (u_ty s x) = z_th s := rfl
theorem z_nm_u_ty (s : SP) (x : Nat → Nat → Nat) : z_nm (u_ty s x) = z_nm s := rfl
theorem z_so_u_ty (s : SP) (x : Nat → Nat → Nat) : z_so (u_ty s x) = z_so s := rfl
theorem z_nc_u_ty (s : SP) (x : Nat → Nat → Nat) : z_nc (u_ty s x) = z_nc s := rfl
theorem z_cn_u_ty (s : SP) (x : Nat → Nat → Nat) : z_cn (u_ty s x) = z_cn s := rfl
theorem z_ty_u_ty (s : SP) (x : Nat → Nat → Nat) : z_ty (u_ty s x) = x := rfl
theorem z_nb_u_ty (s : SP) (x : Nat → Nat → Nat) : z_nb (u_ty s x) = z_nb s := rfl
theorem z_fr_u_ty (s : SP) (x : Nat → Nat → Nat) : z_fr (u_ty s x) = z_fr s := rfl
theorem z_ow_u_ty (s : SP) (x : Nat → Nat → Nat) : z_ow (u_ty s x) = z_ow s := rfl
theorem z_lg_u_ty (s : SP) (x : Nat → Nat → Nat) : z_lg (u_ty s x) = z_lg s := rfl
theorem z_ol_u_ty (s : SP) (x : Nat → Nat → Nat) : z_ol (u_ty s x) = z_ol s := rfl
theorem z_nw_u_ty (s : SP) (x : Nat → Nat → Nat) : z_nw (u_ty s x) = z_nw s := rfl
theorem z_fo_u_ty (s : SP) (x : Nat → Nat → Nat) : z_fo (u_ty s x) = z_fo s := rfl
theorem z_hw_u_ty (s : SP) (x : Nat → Nat → Nat) : z_hw (u_ty s x) = z_hw s := rfl
theorem z_tx_u_ty (s : SP) (x : Nat → Nat → Nat) : z_tx (u_ty s x) = z_tx s := rfl
theorem z_na_u_ty (s : SP) (x : Nat → Nat → Nat) : z_na (u_ty s x) = z_na s := rfl
theorem z_at_u_ty (s : SP) (x : Nat → Nat → Nat) : z_at (u_ty s x) = z_at s := rfl
theorem z_ab_u_ty (s : SP) (x : Nat → Nat → Nat) : z_ab (u_ty s x) = z_ab s := rfl
theorem z_ad_u_ty (s : SP) (x : Nat → Nat → Nat) : z_ad (u_ty s x) = z_ad s := rfl
theorem z_td_u_ty (s : SP) (x : Nat → Nat → Nat) : z_td (u_ty s x) = z_td s := rfl
theorem z_fd_u_ty (s : SP) (x : Nat → Nat → Nat) : z_fd (u_ty s x) = z_fd s := rfl
theorem z_fk_u_ty (s : SP) (x : Nat → Nat → Nat) : z_fk (u_ty s x) = z_fk s := rfl
theorem z_fp_u_ty (s : SP) (x : Nat → Nat → Nat) : z_fp (u_ty s x) = z_fp s := rfl
theorem z_tl_u_ty (s : SP) (x : Nat → Nat → Nat) : z_tl (u_ty s x) = z_tl s := rfl
theorem z_tp_u_ty (s : SP) (x : Nat → Nat → Nat) : z_tp (u_ty s x) = z_tp s := rfl
theorem z_n_u_nb (s : SP) (x : Nat → Nat) : z_n (u_nb s x) = z_n s := rfl
theorem z_th_u_nb (s : SP) (x : Nat → Nat) : z_th (u_nb s x) = z_th s := rfl
theorem z_nm_u_nb (s : SP) (x : Nat → Nat) : z_nm (u_nb s x) = z_nm s := rfl
theorem z_so_u_nb (s : SP) (x : Nat → Nat) : z_so (u_nb s x) = z_so s := rfl
theorem z_nc_u_nb (s : SP) (x : Nat → Nat) : z_nc (u_nb s x) = z_nc s := rfl
theorem z_cn_u_nb (s : SP) (x : Nat → Nat) : z_cn (u_nb s x) = z_cn s := rfl
theorem z_ty_u_nb (s : SP) (x : Nat → Nat) : z_ty (u_nb s x) = z_ty s := rfl
theorem z_nb_u_nb (s : SP) (x : Nat → Nat) : z_nb (u_nb s x) = x := rfl
theorem z_fr_u_nb (s : SP) (x : Nat → Nat) : z_fr (u_nb s x) = z_fr s := rfl
theorem z_ow_u_nb (s : SP) (x : Nat → Nat) : z_ow (u_nb s x) = z_ow s := rfl
theorem z_lg_u_nb (s : SP) (x : Nat → Nat) : z_lg (u_nb s x) = z_lg s := rfl
theorem z_ol_u_nb (s : SP) (x : Nat → Nat) : z_ol (u_nb s x) = z_ol s := rfl
theorem z_nw_u_nb (s : SP) (x : Nat → Nat) : z_nw (u_nb s x) = z_nw s := rfl
theorem z_fo_u_nb (s : SP) (x : Nat → Nat) : z_fo (u_nb s x) = z_fo s := rfl
theorem z_hw_u_nb (s : SP) (x : Nat → Nat) : z_hw (u_nb s x) = z_hw s := rfl
theorem z_tx_u_nb (s : SP) (x : Nat → Nat) : z_tx (u_nb s x) = z_tx s := rfl
theorem z_na_u_nb (s : SP) (x : Nat → Nat) : z_na (u_nb s x) = z_na s := rfl
theorem z_at_u_nb (s : SP) (x : Nat → Nat) : z_at (u_nb s x) = z_at s := rfl
theorem z_ab_u_nb (s : SP) (x : Nat → Nat) : z_ab (u_nb s x) = z_ab s := rfl
theorem z_ad_u_nb (s : SP) (x : Nat → Nat) : z_ad (u_nb s x) = z_ad s := rfl
theorem z_td_u_nb (s : SP) (x : Nat → Nat) : z_td (u_nb s x) = z_td s := rfl
theorem z_fd_u_nb (s : SP) (x : Nat → Nat) : z_fd (u_nb s x) = z_fd s := rfl
theorem z_fk_u_nb (s : SP) (x : Nat → Nat) : z_fk (u_nb s x) = z_fk s := rfl
theorem z_fp_u_nb (s : SP) (x : Nat → Nat) : z_fp (u_nb s x) = z_fp s := rfl
theorem z_tl_u_nb (s : SP) (x : Nat → Nat) : z_tl (u_nb s x) = z_tl s := rfl
theorem z_tp_u_nb (s : SP) (x : Nat → Nat) : z_tp (u_nb s x) = z_tp s := rfl
theorem z_n_u_fr (s : SP) (x : Nat → Nat → Nat) : z_n (u_fr s x) = z_n s := rfl
theorem z_th_u_fr (s : SP) (x : Nat → Nat → Nat) : z_th (u_fr s x) = z_th s := rfl
theorem z_nm_u_fr (s : SP) (x : Nat → Nat → Nat) : z_nm (u_fr s x) = z_nm s := rfl
theorem z_so_u_fr (s : SP) (x : Nat → Nat → Nat) : z_so (u_fr s x) = z_so s := rfl
theorem z_nc_u_fr (s : SP) (x : Nat → Nat → Nat) : z_nc (u_fr s x) = z_nc s := rfl
theorem z_cn_u_fr (s : SP) (x : Nat → Nat → Nat) : z_cn (u_fr s x) = z_cn s := rfl
theorem z_ty_u_fr (s : SP) (x : Nat → Nat → Nat) : z_ty (u_fr s x) = z_ty s := rfl
theorem z_nb_u_fr (s : SP) (x : Nat → Nat → Nat) : z_nb (u_fr s x) = z_nb s := rfl
theorem z_fr_u_fr (s : SP) (x : Nat → Nat → Nat) : z_fr (u_fr s x) = x := rfl
theorem z_ow_u_fr (s : SP) (x : Nat → Nat → Nat) : z_ow (u_fr s x) = z_ow s := rfl
theorem z_lg_u_fr (s : SP) (x : Nat → Nat → Nat) : z_lg (u_fr s x) = z_lg s := rfl
theorem z_ol_u_fr (s : SP) (x : Nat → Nat → Nat) : z_ol (u_fr s x) = z_ol s := rfl
theorem z_nw_u_fr (s : SP) (x : Nat → Nat → Nat) : z_nw (u_fr s x) = z_nw s := rfl
theorem z_fo_u_fr (s : SP) (x : Nat → Nat → Nat) : z_fo (u_fr s x) = z_fo s := rfl
theorem z_hw_u_fr (s : SP) (x : Nat → Nat → Nat) : z_hw (u_fr s x) = z_hw s := rfl
theorem z_tx_u_fr (s : SP) (x : Nat → Nat → Nat) : z_tx (u_fr s x) = z_tx s := rfl
theorem z_na_u_fr (s : SP) (x : Nat → Nat → Nat) : z_na (u_fr s x) = z_na s := rfl
theorem z_at_u_fr (s : SP) (x : Nat → Nat → Nat) : z_at (u_fr s x) = z_at s := rfl
theorem z_ab_u_fr (s : SP) (x : Nat → Nat → Nat) : z_ab (u_fr s x) = z_ab s := rfl
theorem z_ad_u_fr (s : SP) (x : Nat → Nat → Nat) : z_ad (u_fr s x) = z_ad s := rfl
theorem z_td_u_fr (s : SP) (x : Nat → Nat → Nat) : z_td (u_fr s x) = z_td s := rfl
theorem z_fd_u_fr (s : SP) (x : Nat → Nat → Nat) : z_fd (u_fr s x) = z_fd s := rfl
theorem z_fk_u_fr (s : SP) (x : Nat → Nat → Nat) : z_fk (u_fr s x) = z_fk s := rfl
theorem z_fp_u_fr (s : SP) (x : Nat → Nat → Nat) : z_fp (u_fr s x) = z_fp s := rfl
theorem z_tl_u_fr (s : SP) (x : Nat → Nat → Nat) : z_tl (u_fr s x) = z_tl s := rfl
theorem z_tp_u_fr (s : SP) (x : Nat → Nat → Nat) : z_tp (u_fr s x) = z_tp s := rfl
theorem z_n_u_ow (s : SP) (x : Nat → Int32) : z_n (u_ow s x) = z_n s := rfl
theorem z_th_u_ow (s : SP) (x : Nat → Int32) : z_th (u_ow s x) = z_th s := rfl
theorem z_nm_u_ow (s : SP) (x : Nat → Int32) : z_nm (u_ow s x) = z_nm s := rfl
theorem z_so_u_ow (s : SP) (x : Nat → Int32) : z_so (u_ow s x) = z_so s := rfl
theorem z_nc_u_ow (s : SP) (x : Nat → Int32) : z_nc (u_ow s x) = z_nc s := rfl
theorem z_cn_u_ow (s : SP) (x : Nat → Int32) : z_cn (u_ow s x) = z_cn s := rfl
theorem z_ty_u_ow (s : SP) (x : Nat → Int32) : z_ty (u_ow s x) = z_ty s := rfl
theorem z_nb_u_ow (s : SP) (x : Nat → Int32) : z_nb (u_ow s x) = z_nb s := rfl
theorem z_fr_u_ow (s : SP) (x : Nat → Int32) : z_fr (u_ow s x) = z_fr s := rfl
theorem z_ow_u_ow (s : SP) (x : Nat → Int32) : z_ow (u_ow s x) = x := rfl
theorem z_lg_u_ow (s : SP) (x : Nat → Int32) : z_lg (u_ow s x) = z_lg s := rfl
theorem z_ol_u_ow (s : SP) (x : Nat → Int32) : z_ol (u_ow s x) = z_ol s := rfl
theorem z_nw_u_ow (s : SP) (x : Nat → Int32) : z_nw (u_ow s x) = z_nw s := rfl
theorem z_fo_u_ow (s : SP) (x : Nat → Int32) : z_fo (u_ow s x) = z_fo s := rfl
theorem z_hw_u_ow (s : SP) (x : Nat → Int32) : z_hw (u_ow s x) = z_hw s := rfl
theorem z_tx_u_ow (s : SP) (x : Nat → Int32) : z_tx (u_ow s x) = z_tx s := rfl
theorem z_na_u_ow (s : SP) (x : Nat → Int32) : z_na (u_ow s x) = z_na s := rfl
theorem z_at_u_ow (s : SP) (x : Nat → Int32) : z_at (u_ow s x) = z_at s := rfl
theorem z_ab_u_ow (s : SP) (x : Nat → Int32) : z_ab (u_ow s x) = z_ab s := rfl
theorem z_ad_u_ow (s : SP) (x : Nat → Int32) : z_ad (u_ow s x) = z_ad s := rfl
theorem z_td_u_ow (s : SP) (x : Nat → Int32) : z_td (u_ow s x) = z_td s := rfl
theorem z_fd_u_ow (s : SP) (x : Nat → Int32) : z_fd (u_ow s x) = z_fd s := rfl
theorem z_fk_u_ow (s : SP) (x : Nat → Int32) : z_fk (u_ow s x) = z_fk s := rfl
theorem z_fp_u_ow (s : SP) (x : Nat → Int32) : z_fp (u_ow s x) = z_fp s := rfl
theorem z_tl_u_ow (s : SP) (x : Nat → Int32) : z_tl (u_ow s x) = z_tl s := rfl
theorem z_tp_u_ow (s : SP) (x : Nat → Int32) : z_tp (u_ow s x) = z_tp s := rfl
theorem z_n_u_lg (s : SP) (x : Nat → Int32) : z_n (u_lg s x) = z_n s := rfl
theorem z_th_u_lg (s : SP) (x : Nat → Int32) : z_th (u_lg s x) = z_th s := rfl
theorem z_nm_u_lg (s : SP) (x : Nat → Int32) : z_nm (u_lg s x) = z_nm s := rfl
theorem z_so_u_lg (s : SP) (x : Nat → Int32) : z_so (u_lg s x) = z_so s := rfl
theorem z_nc_u_lg (s : SP) (x : Nat → Int32) : z_nc (u_lg s x) = z_nc s := rfl
theorem z_cn_u_lg (s : SP) (x : Nat → Int32) : z_cn (u_lg s x) = z_cn s := rfl
theorem z_ty_u_lg (s : SP) (x : Nat → Int32) : z_ty (u_lg s x) = z_ty s := rfl
theorem z_nb_u_lg (s : SP) (x : Nat → Int32) : z_nb (u_lg s x) = z_nb s := rfl
theorem z_fr_u_lg (s : SP) (x : Nat → Int32) : z_fr (u_lg s x) = z_fr s := rfl
theorem z_ow_u_lg (s : SP) (x : Nat → Int32) : z_ow (u_lg s x) = z_ow s := rfl
theorem z_lg_u_lg (s : SP) (x : Nat → Int32) : z_lg (u_lg s x) = x := rfl
theorem z_ol_u_lg (s : SP) (x : Nat → Int32) : z_ol (u_lg s x) = z_ol s := rfl
theorem z_nw_u_lg (s : SP) (x : Nat → Int32) : z_nw (u_lg s x) = z_nw s := rfl
theorem z_fo_u_lg (s : SP) (x : Nat → Int32) : z_fo (u_lg s x) = z_fo s := rfl
theorem z_hw_u_lg (s : SP) (x : Nat → Int32) : z_hw (u_lg s x) = z_hw s := rfl
theorem z_tx_u_lg (s : SP) (x : Nat → Int32) : z_tx (u_lg s x) = z_tx s := rfl
theorem z_na_u_lg (s : SP) (x : Nat → Int32) : z_na (u_lg s x) = z_na s := rfl
theorem z_at_u_lg (s : SP) (x : Nat → Int32) : z_at (u_lg s x) = z_at s := rfl
theorem z_ab_u_lg (s : SP) (x : Nat → Int32) : z_ab (u_lg s x) = z_ab s := rfl
theorem z_ad_u_lg (s : SP) (x : Nat → Int32) : z_ad (u_lg s x) = z_ad s := rfl
theorem z_td_u_lg (s : SP) (x : Nat → Int32) : z_td (u_lg s x) = z_td s := rfl
theorem z_fd_u_lg (s : SP) (x : Nat → Int32) : z_fd (u_lg s x) = z_fd s := rfl
theorem z_fk_u_lg (s : SP) (x : Nat → Int32) : z_fk (u_lg s x) = z_fk s := rfl
theorem z_fp_u_lg (s : SP) (x : Nat → Int32) : z_fp (u_lg s x) = z_fp s := rfl
theorem z_tl_u_lg (s : SP) (x : Nat → Int32) : z_tl (u_lg s x) = z_tl s := rfl
theorem z_tp_u_lg (s : SP) (x : Nat → Int32) : z_tp (u_lg s x) = z_tp s := rfl
theorem z_n_u_ol (s : SP) (x : Nat → Int32) : z_n (u_ol s x) = z_n s := rfl
theorem z_th_u_ol (s : SP) (x : Nat → Int32) : z_th (u_ol s x) = z_th s := rfl
theorem z_nm_u_ol (s : SP) (x : Nat → Int32) : z_nm (u_ol s x) = z_nm s := rfl
theorem z_so_u_ol (s : SP) (x : Nat → Int32) : z_so (u_ol s x) = z_so s := rfl
theorem z_nc_u_ol (s : SP) (x : Nat → Int32) : z_nc (u_ol s x) = z_nc s := rfl
theorem z_cn_u_ol (s : SP) (x : Nat → Int32) : z_cn (u_ol s x) = z_cn s := rfl
theorem z_ty_u_ol (s : SP) (x : Nat → Int32) : z_ty (u_ol s x) = z_ty s := rfl
theorem z_nb_u_ol (s : SP) (x : Nat → Int32) : z_nb (u_ol s x) = z_nb s := rfl
theorem z_fr_u_ol (s : SP) (x : Nat → Int32) : z_fr (u_ol s x) = z_fr s := rfl
theorem z_ow_u_ol (s : SP) (x : Nat → Int32) : z_ow (u_ol s x) = z_ow s := rfl
theorem z_lg_u_ol (s : SP) (x : Nat → Int32) : z_lg (u_ol s x) = z_lg s := rfl
theorem z_ol_u_ol (s : SP) (x : Nat → Int32) : z_ol (u_ol s x) = x := rfl
theorem z_nw_u_ol (s : SP) (x : Nat → Int32) : z_nw (u_ol s x) = z_nw s := rfl
theorem z_fo_u_ol (s : SP) (x : Nat → Int32) : z_fo (u_ol s x) = z_fo s := rfl
theorem z_hw_u_ol (s : SP) (x : Nat → Int32) : z_hw (u_ol s x) = z_hw s := rfl
theorem z_tx_u_ol (s : SP) (x : Nat → Int32) : z_tx (u_ol s x) = z_tx s := rfl
theorem z_na_u_ol (s : SP) (x : Nat → Int32) : z_na (u_ol s x) = z_na s := rfl
theorem z_at_u_ol (s : SP) (x : Nat → Int32) : z_at (u_ol s x) = z_at s := rfl
theorem z_ab_u_ol (s : SP) (x : Nat → Int32) : z_ab (u_ol s x) = z_ab s := rfl
theorem z_ad_u_ol (s : SP) (x : Nat → Int32) : z_ad (u_ol s x) = z_ad s := rfl
theorem z_td_u_ol (s : SP) (x : Nat → Int32) : z_td (u_ol s x) = z_td s := rfl
theorem z_fd_u_ol (s : SP) (x : Nat → Int32) : z_fd (u_ol s x) = z_fd s := rfl
theorem z_fk_u_ol (s : SP) (x : Nat → Int32) : z_fk (u_ol s x) = z_fk s := rfl
theorem z_fp_u_ol (s : SP) (x : Nat → Int32) : z_fp (u_ol s x) = z_fp s := rfl
theorem z_tl_u_ol (s : SP) (x : Nat → Int32) : z_tl (u_ol s x) = z_tl s := rfl
theorem z_tp_u_ol (s : SP) (x : Nat → Int32) : z_tp (u_ol s x) = z_tp s := rfl
theorem z_n_u_nw (s : SP) (x : Nat → Int32) : z_n (u_nw s x) = z_n s := rfl
theorem z_th_u_nw (s : SP) (x : Nat → Int32) : z_th (u_nw s x) = z_th s := rfl
theorem z_nm_u_nw (s : SP) (x : Nat → Int32) : z_nm (u_nw s x) = z_nm s := rfl
theorem z_so_u_nw (s : SP) (x : Nat → Int32) : z_so (u_nw s x) = z_so s := rfl
theorem z_nc_u_nw (s : SP) (x : Nat → Int32) : z_nc (u_nw s x) = z_nc s := rfl
theorem z_cn_u_nw (s : SP) (x : Nat → Int32) : z_cn (u_nw s x) = z_cn s := rfl
theorem z_ty_u_nw (s : SP) (x : Nat → Int32) : z_ty (u_nw s x) = z_ty s := rfl
theorem z_nb_u_nw (s : SP) (x : Nat → Int32) : z_nb (u_nw s x) = z_nb s := rfl
theorem z_fr_u_nw (s : SP) (x : Nat → Int32) : z_fr (u_nw s x) = z_fr s := rfl
theorem z_ow_u_nw (s : SP) (x : Nat → Int32) : z_ow (u_nw s x) = z_ow s := rfl
theorem z_lg_u_nw (s : SP) (x : Nat → Int32) : z_lg (u_nw s x) = z_lg s := rfl
theorem z_ol_u_nw (s : SP) (x : Nat → Int32) : z_ol (u_nw s x) = z_ol s := rfl
theorem z_nw_u_nw (s : SP) (x : Nat → Int32) : z_nw (u_nw s x) = x := rfl
theorem z_fo_u_nw (s : SP) (x : Nat → Int32) : z_fo (u_nw s x) = z_fo s := rfl
theorem z_hw_u_nw (s : SP) (x : Nat → Int32) : z_hw (u_nw s x) = z_hw s := rfl
theorem z_tx_u_nw (s : SP) (x : Nat → Int32) : z_tx (u_nw s x) = z_tx s := rfl
theorem z_na_u_nw (s : SP) (x : Nat → Int32) : z_na (u_nw s x) = z_na s := rfl
theorem z_at_u_nw (s : SP) (x : Nat → Int32) : z_at (u_nw s x) = z_at s := rfl
theorem z_ab_u_nw (s : SP) (x : Nat → Int32) : z_ab (u_nw s x) = z_ab s := rfl
theorem z_ad_u_nw (s : SP) (x : Nat → Int32) : z_ad (u_nw s x) = z_ad s := rfl
theorem z_td_u_nw (s : SP) (x : Nat → Int32) : z_td (u_nw s x) = z_td s := rfl
theorem z_fd_u_nw (s : SP) (x : Nat → Int32) : z_fd (u_nw s x) = z_fd s := rfl
theorem z_fk_u_nw (s : SP) (x : Nat → Int32) : z_fk (u_nw s x) = z_fk s := rfl
theorem z_fp_u_nw (s : SP) (x : Nat → Int32) : z_fp (u_nw s x) = z_fp s := rfl
theorem z_tl_u_nw (s : SP) (x : Nat → Int32) : z_tl (u_nw s x) = z_tl s := rfl
theorem z_tp_u_nw (s : SP) (x : Nat → Int32) : z_tp (u_nw s x) = z_tp s := rfl
theorem z_n_u_fo (s : SP) (x : Nat → Nat → List (Nat × Nat × Nat)) : z_n (u_fo s x) = z_n s := rfl
theorem z_th_u_fo (s : SP) (x : Nat → Nat → List (Nat × Nat × Nat)) : z_th (u_fo s x) = z_th s := rfl
theorem z_nm_u_fo (s : SP) (x : Nat → Nat → List (Nat × Nat × Nat)) : z_nm (u_fo s x) = z_nm s := rfl
theorem z_so_u_fo (s : SP) (x : Nat → Nat → List (Nat × Nat × Nat)) : z_so (u_fo s x) = z_so s := rfl
theorem z_nc_u_fo (s : SP) (x : Nat → Nat → List (Nat × Nat × Nat)) : z_nc (u_fo s x) = z_nc s := rfl
theorem z_cn_u_fo (s : SP) (x : Nat → Nat → List (Nat × Nat × Nat)) : z_cn (u_fo s x) = z_cn s := rfl
theorem z_ty_u_fo (s : SP) (x : Nat → Nat → List (Nat × Nat × Nat)) : z_ty (u_fo s x) = z_ty s := rfl
theorem z_nb_u_fo (s : SP) (x : Nat → Nat → List (Nat × Nat × Nat)) : z_nb (u_fo s x) = z_nb s := rfl
theorem z_fr_u_fo (s : SP) (x : Nat → Nat → List (Nat × Nat × Nat)) : z_fr (u_fo s x) = z_fr s := rfl
theorem z_ow_u_fo (s : SP) (x : Nat → Nat → List (Nat × Nat × Nat)) : z_ow (u_fo s x) = z_ow s := rfl
theorem z_lg_u_fo (s : SP) (x : Nat → Nat → List (Nat × Nat × Nat)) : z_lg (u_fo s x) = z_lg s := rfl
theorem z_ol_u_fo (s : SP) (x : Nat → Nat → List (Nat × Nat × Nat)) : z_ol (u_fo s x) = z_ol s := rfl
theorem z_nw_u_fo (s : SP) (x : Nat → Nat → List (Nat × Nat × Nat)) : z_nw (u_fo s x) = z_nw s := rfl
theorem z_fo_u_fo (s : SP) (x : Nat → Nat → List (Nat × Nat × Nat)) : z_fo (u_fo s x) = x := rfl
theorem z_hw_u_fo (s : SP) (x : Nat → Nat → List (Nat × Nat × Nat)) : z_hw (u_fo s x) = z_hw s := rfl
theorem z_tx_u_fo (s : SP) (x : Nat → Nat → List (Nat × Nat × Nat)) : z_tx (u_fo s x) = z_tx s := rfl
theorem z_na_u_fo (s : SP) (x : Nat → Nat → List (Nat × Nat × Nat)) : z_na (u_fo s x) = z_na s := rfl
theorem z_at_u_fo (s : SP) (x : Nat → Nat → List (Nat × Nat × Nat)) : z_at (u_fo s x) = z_at s := rfl
theorem z_ab_u_fo (s : SP) (x : Nat → Nat → List (Nat × Nat × Nat)) : z_ab (u_fo s x) = z_ab s := rfl
theorem z_ad_u_fo (s : SP) (x : Nat → Nat → List (Nat × Nat × Nat)) : z_ad (u_fo s x) = z_ad s := rfl
theorem z_td_u_fo (s : SP) (x : Nat → Nat → List (Nat × Nat × Nat)) : z_td (u_fo s x) = z_td s := rfl
theorem z_fd_u_fo (s : SP) (x : Nat → Nat → List (Nat × Nat × Nat)) : z_fd (u_fo s x) = z_fd s := rfl
theorem z_fk_u_fo (s : SP) (x : Nat → Nat → List (Nat × Nat × Nat)) : z_fk (u_fo s x) = z_fk s := rfl
theorem z_fp_u_fo (s : SP) (x : Nat → Nat → List (Nat × Nat × Nat)) : z_fp (u_fo s x) = z_fp s := rfl
theorem z_tl_u_fo (s : SP) (x : Nat → Nat → List (Nat × Nat × Nat)) : z_tl (u_fo s x) = z_tl s := rfl
theorem z_tp_u_fo (s : SP) (x : Nat → Nat → List (Nat × Nat × Nat)) : z_tp (u_fo s x) = z_tp s := rfl
theorem z_n_u_hw (s : SP) (x : Nat → Bool) : z_n (u_hw s x) = z_n s := rfl
theorem z_th_u_hw (s : SP) (x : Nat → Bool) : z_th (u_hw s x) = z_th s := rfl
theorem z_nm_u_hw (s : SP) (x : Nat → Bool) : z_nm (u_hw s x) = z_nm s := rfl
theorem z_so_u_hw (s : SP) (x : Nat → Bool) : z_so (u_hw s x) = z_so s := rfl
theorem z_nc_u_hw (s : SP) (x : Nat → Bool) : z_nc (u_hw s x) = z_nc s := rfl
theorem z_cn_u_hw (s : SP) (x : Nat → Bool) : z_cn (u_hw s x) = z_cn s := rfl
theorem z_ty_u_hw (s : SP) (x : Nat → Bool) : z_ty (u_hw s x) = z_ty s := rfl
theorem z_nb_u_hw (s : SP) (x : Nat → Bool) : z_nb (u_hw s x) = z_nb s := rfl
theorem z_fr_u_hw (s : SP) (x : Nat → Bool) : z_fr (u_hw s x) = z_fr s := rfl
theorem z_ow_u_hw (s : SP) (x : Nat → Bool) : z_ow (u_hw s x) = z_ow s := rfl
theorem z_lg_u_hw (s : SP) (x : Nat → Bool) : z_lg (u_hw s x) = z_lg s := rfl
theorem z_ol_u_hw (s : SP) (x : Nat → Bool) : z_ol (u_hw s x) = z_ol s := rfl
theorem z_nw_u_hw (s : SP) (x : Nat → Bool) : z_nw (u_hw s x) = z_nw s := rfl
theorem z_fo_u_hw (s : SP) (x : Nat → Bool) : z_fo (u_hw s x) = z_fo s := rfl
theorem z_hw_u_hw (s : SP) (x : Nat → Bool) : z_hw (u_hw s x) = x := rfl
theorem z_tx_u_hw (s : SP) (x : Nat → Bool) : z_tx (u_hw s x) = z_tx s := rfl
theorem z_na_u_hw (s : SP) (x : Nat → Bool) : z_na (u_hw s x) = z_na s := rfl
theorem z_at_u_hw (s : SP) (x : Nat → Bool) : z_at (u_hw s x) = z_at s := rfl
theorem z_ab_u_hw (s : SP) (x : Nat → Bool) : z_ab (u_hw s x) = z_ab s := rfl
theorem z_ad_u_hw (s : SP) (x : Nat → Bool) : z_ad (u_hw s x) = z_ad s := rfl
theorem z_td_u_hw (s : SP) (x : Nat → Bool) : z_td (u_hw s x) = z_td s := rfl
theorem z_fd_u_hw (s : SP) (x : Nat → Bool) : z_fd (u_hw s x) = z_fd s := rfl
theorem z_fk_u_hw (s : SP) (x : Nat → Bool) : z_fk (u_hw s x) = z_fk s := rfl
theorem z_fp_u_hw (s : SP) (x : Nat → Bool) : z_fp (u_hw s x) = z_fp s := rfl
theorem z_tl_u_hw (s : SP) (x : Nat → Bool) : z_tl (u_hw s x) = z_tl s := rfl
theorem z_tp_u_hw (s : SP) (x : Nat → Bool) : z_tp (u_hw s x) = z_tp s := rfl
theorem z_n_u_tx (s : SP) (x : Nat → List (Nat × List Nat)) : z_n (u_tx s x) = z_n s := rfl
theorem z_th_u_tx (s : SP) (x : Nat → List (Nat × List Nat)) : z_th (u_tx s x) = z_th s := rfl
theorem z_nm_u_tx (s : SP) (x : Nat → List (Nat × List Nat)) : z_nm (u_tx s x) = z_nm s := rfl
theorem z_so_u_tx (s : SP) (x : Nat → List (Nat × List Nat)) : z_so (u_tx s x) = z_so s := rfl
theorem z_nc_u_tx (s : SP) (x : Nat → List (Nat × List Nat)) : z_nc (u_tx s x) = z_nc s := rfl
theorem z_cn_u_tx (s : SP) (x : Nat → List (Nat × List Nat)) : z_cn (u_tx s x) = z_cn s := rfl
theorem z_ty_u_tx (s : SP) (x : Nat → List (Nat × List Nat)) : z_ty (u_tx s x) = z_ty s := rfl
theorem z_nb_u_tx (s : SP) (x : Nat → List (Nat × List Nat)) : z_nb (u_tx s x) = z_nb s := rfl
theorem z_fr_u_tx (s : SP) (x : Nat → List (Nat × List Nat)) : z_fr (u_tx s x) = z_fr s := rfl
theorem z_ow_u_tx (s : SP) (x : Nat → List (Nat × List Nat)) : z_ow (u_tx s x) = z_ow s := rfl
theorem z_lg_u_tx (s : SP) (x : Nat → List (Nat × List Nat)) : z_lg (u_tx s x) = z_lg s := rfl
theorem z_ol_u_tx (s : SP) (x : Nat → List (Nat × List Nat)) : z_ol (u_tx s x) = z_ol s := rfl
theorem z_nw_u_tx (s : SP) (x : Nat → List (Nat × List Nat)) : z_nw (u_tx s x) = z_nw s := rfl
theorem z_fo_u_tx (s : SP) (x : Nat → List (Nat × List Nat)) : z_fo (u_tx s x) = z_fo s := rfl
theorem z_hw_u_tx (s : SP) (x : Nat → List (Nat × List Nat)) : z_hw (u_tx s x) = z_hw s := rfl
theorem z_tx_u_tx (s : SP) (x : Nat → List (Nat × List Nat)) : z_tx (u_tx s x) = x := rfl
theorem z_na_u_tx (s : SP) (x : Nat → List (Nat × List Nat)) : z_na (u_tx s x) = z_na s := rfl
theorem z_at_u_tx (s : SP) (x : Nat → List (Nat × List Nat)) : z_at (u_tx s x) = z_at s := rfl
theorem z_ab_u_tx (s : SP) (x : Nat → List (Nat × List Nat)) : z_ab (u_tx s x) = z_ab s := rfl
theorem z_ad_u_tx (s : SP) (x : Nat → List (Nat × List Nat)) : z_ad (u_tx s x) = z_ad s := rfl
theorem z_td_u_tx (s : SP) (x : Nat → List (Nat × List Nat)) : z_td (u_tx s x) = z_td s := rfl
theorem z_fd_u_tx (s : SP) (x : Nat → List (Nat × List Nat)) : z_fd (u_tx s x) = z_fd s := rfl
theorem z_fk_u_tx (s : SP) (x : Nat → List (Nat × List Nat)) : z_fk (u_tx s x) = z_fk s := rfl
theorem z_fp_u_tx (s : SP) (x : Nat → List (Nat × List Nat)) : z_fp (u_tx s x) = z_fp s := rfl
theorem z_tl_u_tx (s : SP) (x : Nat → List (Nat × List Nat)) : z_tl (u_tx s x) = z_tl s := rfl
theorem z_tp_u_tx (s : SP) (x : Nat → List (Nat × List Nat)) : z_tp (u_tx s x) = z_tp s := rfl
theorem z_n_u_na (s : SP) (x : Nat) : z_n (u_na s x) = z_n s := rfl
theorem z_th_u_na (s : SP) (x : Nat) : z_th (u_na s x) = z_th s := rfl
theorem z_nm_u_na (s : SP) (x : Nat) : z_nm (u_na s x) = z_nm s := rfl
theorem z_so_u_na (s : SP) (x : Nat) : z_so (u_na s x) = z_so s := rfl
theorem z_nc_u_na (s : SP) (x : Nat) : z_nc (u_na s x) = z_nc s := rfl
theorem z_cn_u_na (s : SP) (x : Nat) : z_cn (u_na s x) = z_cn s := rfl
theorem z_ty_u_na (s : SP) (x : Nat) : z_ty (u_na s x) = z_ty s := rfl
theorem z_nb_u_na (s : SP) (x : Nat) : z_nb (u_na s x) = z_nb s := rfl
theorem z_fr_u_na (s : SP) (x : Nat) : z_fr (u_na s x) = z_fr s := rfl
theorem z_ow_u_na (s : SP) (x : Nat) : z_ow (u_na s x) = z_ow s := rfl
theorem z_lg_u_na (s : SP) (x : Nat) : z_lg (u_na s x) = z_lg s := rfl
theorem z_ol_u_na (s : SP) (x : Nat) : z_ol (u_na s x) = z_ol s := rfl
theorem z_nw_u_na (s : SP) (x : Nat) : z_nw (u_na s x) = z_nw s := rfl
theorem z_fo_u_na (s : SP) (x : Nat) : z_fo (u_na s x) = z_fo s := rfl
theorem z_hw_u_na (s : SP) (x : Nat) : z_hw (u_na s x) = z_hw s := rfl
theorem z_tx_u_na (s : SP) (x : Nat) : z_tx (u_na s x) = z_tx s := rfl
theorem z_na_u_na (s : SP) (x : Nat) : z_na (u_na s x) = x := rfl
theorem z_at_u_na (s : SP) (x : Nat) : z_at (u_na s x) = z_at s := rfl
theorem z_ab_u_na (s : SP) (x : Nat) : z_ab (u_na s x) = z_ab s := rfl
theorem z_ad_u_na (s : SP) (x : Nat) : z_ad (u_na s x) = z_ad s := rfl
theorem z_td_u_na (s : SP) (x : Nat) : z_td (u_na s x) = z_td s := rfl
theorem z_fd_u_na (s : SP) (x : Nat) : z_fd (u_na s x) = z_fd s := rfl
theorem z_fk_u_na (s : SP) (x : Nat) : z_fk (u_na s x) = z_fk s := rfl
theorem z_fp_u_na (s : SP) (x : Nat) : z_fp (u_na s x) = z_fp s := rfl
theorem z_tl_u_na (s : SP) (x : Nat) : z_tl (u_na s x) = z_tl s := rfl
theorem z_tp_u_na (s : SP) (x : Nat) : z_tp (u_na s x) = z_tp s := rfl
theorem z_n_u_at (s : SP) (x : Nat → Nat) : z_n (u_at s x) = z_n s := rfl
theorem z_th_u_at (s : SP) (x : Nat → Nat) : z_th (u_at s x) = z_th s := rfl
theorem z_nm_u_at (s : SP) (x : Nat → Nat) : z_nm (u_at s x) = z_nm s := rfl
theorem z_so_u_at (s : SP) (x : Nat → Nat) : z_so (u_at s x) = z_so s := rfl
theorem z_nc_u_at (s : SP) (x : Nat → Nat) : z_nc (u_at s x) = z_nc s := rfl
theorem z_cn_u_at (s : SP) (x : Nat → Nat) : z_cn (u_at s x) = z_cn s := rfl
theorem z_ty_u_at (s : SP) (x : Nat → Nat) : z_ty (u_at s x) = z_ty s := rfl
theorem z_nb_u_at (s : SP) (x : Nat → Nat) : z_nb (u_at s x) = z_nb s := rfl
theorem z_fr_u_at (s : SP) (x : Nat → Nat) : z_fr (u_at s x) = z_fr s := rfl
theorem z_ow_u_at (s : SP) (x : Nat → Nat) : z_ow (u_at s x) = z_ow s := rfl
theorem z_lg_u_at (s : SP) (x : Nat → Nat) : z_lg (u_at s x) = z_lg s := rfl
theorem z_ol_u_at (s : SP) (x : Nat → Nat) : z_ol (u_at s x) = z_ol s := rfl
theorem z_nw_u_at (s : SP) (x : Nat → Nat) : z_nw (u_at s x) = z_nw s := rfl
theorem z_fo_u_at (s : SP) (x : Nat → Nat) : z_fo (u_at s x) = z_fo s := rfl
theorem z_hw_u_at (s : SP) (x : Nat → Nat) : z_hw (u_at s x) = z_hw s := rfl
theorem z_tx_u_at (s : SP) (x : Nat → Nat) : z_tx (u_at s x) = z_tx s := rfl
theorem z_na_u_at (s : SP) (x : Nat → Nat) : z_na (u_at s x) = z_na s := rfl
theorem z_at_u_at (s : SP) (x : Nat → Nat) : z_at (u_at s x) = x := rfl
theorem z_ab_u_at (s : SP) (x : Nat → Nat) : z_ab (u_at s x) = z_ab s := rfl
theorem z_ad_u_at (s : SP) (x : Nat → Nat) : z_ad (u_at s x) = z_ad s := rfl
theorem z_td_u_at (s : SP) (x : Nat → Nat) : z_td (u_at s x) = z_td s := rfl
theorem z_fd_u_at (s : SP) (x : Nat → Nat) : z_fd (u_at s x) = z_fd s := rfl
theorem z_fk_u_at (s : SP) (x : Nat → Nat) : z_fk (u_at s x) = z_fk s := rfl
theorem z_fp_u_at (s : SP) (x : Nat → Nat) : z_fp (u_at s x) = z_fp s := rfl
theorem z_tl_u_at (s : SP) (x : Nat → Nat) : z_tl (u_at s x) = z_tl s := rfl
theorem z_tp_u_at (s : SP) (x : Nat → Nat) : z_tp (u_at s x) = z_tp s := rfl
theorem z_n_u_ab (s : SP) (x : Nat → Nat) : z_n (u_ab s x) = z_n s := rfl
theorem z_th_u_ab (s : SP) (x : Nat → Nat) : z_th (u_ab s x) = z_th s := rfl
theorem z_nm_u_ab (s : SP) (x : Nat → Nat) : z_nm (u_ab s x) = z_nm s := rfl
theorem z_so_u_ab (s : SP) (x : Nat → Nat) : z_so (u_ab s x) = z_so s := rfl
theorem z_nc_u_ab (s : SP) (x : Nat → Nat) : z_nc (u_ab s x) = z_nc s := rfl
theorem z_cn_u_ab (s : SP) (x : Nat → Nat) : z_cn (u_ab s x) = z_cn s := rfl
theorem z_ty_u_ab (s : SP) (x : Nat → Nat) : z_ty (u_ab s x) = z_ty s := rfl
theorem z_nb_u_ab (s : SP) (x : Nat → Nat) : z_nb (u_ab s x) = z_nb s := rfl
theorem z_fr_u_ab (s : SP) (x : Nat → Nat) : z_fr (u_ab s x) = z_fr s := rfl
theorem z_ow_u_ab (s : SP) (x : Nat → Nat) : z_ow (u_ab s x) = z_ow s := rfl
theorem z_lg_u_ab (s : SP) (x : Nat → Nat) : z_lg (u_ab s x) = z_lg s := rfl
theorem z_ol_u_ab (s : SP) (x : Nat → Nat) : z_ol (u_ab s x) = z_ol s := rfl
theorem z_nw_u_ab (s : SP) (x : Nat → Nat) : z_nw (u_ab s x) = z_nw s := rfl
theorem z_fo_u_ab (s : SP) (x : Nat → Nat) : z_fo (u_ab s x) = z_fo s := rfl
theorem z_hw_u_ab (s : SP) (x : Nat → Nat) : z_hw (u_ab s x) = z_hw s := rfl
theorem z_tx_u_ab (s : SP) (x : Nat → Nat) : z_tx (u_ab s x) = z_tx s := rfl
theorem z_na_u_ab (s : SP) (x : Nat → Nat) : z_na (u_ab s x) = z_na s := rfl
theorem z_at_u_ab (s : SP) (x : Nat → Nat) : z_at (u_ab s x) = z_at s := rfl
theorem z_ab_u_ab (s : SP) (x : Nat → Nat) : z_ab (u_ab s x) = x := rfl
theorem z_ad_u_ab (s : SP) (x : Nat → Nat) : z_ad (u_ab s x) = z_ad s := rfl
theorem z_td_u_ab (s : SP) (x : Nat → Nat) : z_td (u_ab s x) = z_td s := rfl
theorem z_fd_u_ab (s : SP) (x : Nat → Nat) : z_fd (u_ab s x) = z_fd s := rfl
theorem z_fk_u_ab (s : SP) (x : Nat → Nat) : z_fk (u_ab s x) = z_fk s := rfl
theorem z_fp_u_ab (s : SP) (x : Nat → Nat) : z_fp (u_ab s x) = z_fp s := rfl
theorem z_tl_u_ab (s : SP) (x : Nat → Nat) : z_tl (u_ab s x) = z_tl s := rfl
theorem z_tp_u_ab (s : SP) (x : Nat → Nat) : z_tp (u_ab s x) = z_tp s := rfl
theorem z_n_u_ad (s : SP) (x : Nat → Int32) : z_n (u_ad s x) = z_n s := rfl
theorem z_th_u_ad (s : SP) (x : Nat → Int32) : z_th (u_ad s x) = z_th s := rfl
theorem z_nm_u_ad (s : SP) (x : Nat → Int32) : z_nm (u_ad s x) = z_nm s := rfl
theorem z_so_u_ad (s : SP) (x : Nat → Int32) : z_so (u_ad s x) = z_so s := rfl
theorem z_nc_u_ad (s : SP) (x : Nat → Int32) : z_nc (u_ad s x) = z_nc s := rfl
theorem z_cn_u_ad (s : SP) (x : Nat → Int32) : z_cn (u_ad s x) = z_cn s := rfl
theorem z_ty_u_ad (s : SP) (x : Nat → Int32) : z_ty (u_ad s x) = z_ty s := rfl
theorem z_nb_u_ad (s : SP) (x : Nat → Int32) : z_nb (u_ad s x) = z_nb s := rfl
theorem z_fr_u_ad (s : SP) (x : Nat → Int32) : z_fr (u_ad s x) = z_fr s := rfl
theorem z_ow_u_ad (s : SP) (x : Nat → Int32) : z_ow (u_ad s x) = z_ow s := rfl
theorem z_lg_u_ad (s : SP) (x : Nat → Int32) : z_lg (u_ad s x) = z_lg s := rfl
theorem z_ol_u_ad (s : SP) (x : Nat → Int32) : z_ol (u_ad s x) = z_ol s := rfl
theorem z_nw_u_ad (s : SP) (x : Nat → Int32) : z_nw (u_ad s x) = z_nw s := rfl
theorem z_fo_u_ad (s : SP) (x : Nat → Int32) : z_fo (u_ad s x) = z_fo s := rfl
theorem z_hw_u_ad (s : SP) (x : Nat → Int32) : z_hw (u_ad s x) = z_hw s := rfl
theorem z_tx_u_ad (s : SP) (x : Nat → Int32) : z_tx (u_ad s x) = z_tx s := rfl
theorem z_na_u_ad (s : SP) (x : Nat → Int32) : z_na (u_ad s x) = z_na s := rfl
theorem z_at_u_ad (s : SP) (x : Nat → Int32) : z_at (u_ad s x) = z_at s := rfl
theorem z_ab_u_ad (s : SP) (x : Nat → Int32) : z_ab (u_ad s x) = z_ab s := rfl
theorem z_ad_u_ad (s : SP) (x : Nat → Int32) : z_ad (u_ad s x) = x := rfl
theorem z_td_u_ad (s : SP) (x : Nat → Int32) : z_td (u_ad s x) = z_td s := rfl
theorem z_fd_u_ad (s : SP) (x : Nat → Int32) : z_fd (u_ad s x) = z_fd s := rfl
theorem z_fk_u_ad (s : SP) (x : Nat → Int32) : z_fk (u_ad s x) = z_fk s := rfl
theorem z_fp_u_ad (s : SP) (x : Nat → Int32) : z_fp (u_ad s x) = z_fp s := rfl
theorem z_tl_u_ad (s : SP) (x : Nat → Int32) : z_tl (u_ad s x) = z_tl s := rfl
theorem z_tp_u_ad (s : SP) (x : Nat → Int32) : z_tp (u_ad s x) = z_tp s := rfl
theorem z_n_u_td (s : SP) (x : Int32) : z_n (u_td s x) = z_n s := rfl
theorem z_th_u_td (s : SP) (x : Int32) : z_th (u_td s x) = z_th s := rfl
theorem z_nm_u_td (s : SP) (x : Int32) : z_nm (u_td s x) = z_nm s := rfl
theorem z_so_u_td (s : SP) (x : Int32) : z_so (u_td s x) = z_so s := rfl
theorem z_nc_u_td (s : SP) (x : Int32) : z_nc (u_td s x) = z_nc s := rfl
theorem z_cn_u_td (s : SP) (x : Int32) : z_cn (u_td s x) = z_cn s := rfl
theorem z_ty_u_td (s : SP) (x : Int32) : z_ty (u_td s x) = z_ty s := rfl
theorem z_nb_u_td (s : SP) (x : Int32) : z_nb (u_td s x) = z_nb s := rfl
theorem z_fr_u_td (s : SP) (x : Int32) : z_fr (u_td s x) = z_fr s := rfl
theorem z_ow_u_td (s : SP) (x : Int32) : z_ow (u_td s x) = z_ow s := rfl
theorem z_lg_u_td (s : SP) (x : Int32) : z_lg (u_td s x) = z_lg s := rfl
theorem z_ol_u_td (s : SP) (x : Int32) : z_ol (u_td s x) = z_ol s := rfl
theorem z_nw_u_td (s : SP) (x : Int32) : z_nw (u_td s x) = z_nw s := rfl
theorem z_fo_u_td (s : SP) (x : Int32) : z_fo (u_td s x) = z_fo s := rfl
theorem z_hw_u_td (s : SP) (x : Int32) : z_hw (u_td s x) = z_hw s := rfl
theorem z_tx_u_td (s : SP) (x : Int32) : z_tx (u_td s x) = z_tx s := rfl
theorem z_na_u_td (s : SP) (x : Int32) : z_na (u_td s x) = z_na s := rfl
theorem z_at_u_td (s : SP) (x : Int32) : z_at (u_td s x) = z_at s := rfl
theorem z_ab_u_td (s : SP) (x : Int32) : z_ab (u_td s x) = z_ab s := rfl
theorem z_ad_u_td (s : SP) (x : Int32) : z_ad (u_td s x) = z_ad s := rfl
theorem z_td_u_td (s : SP) (x : Int32) : z_td (u_td s x) = x := rfl
theorem z_fd_u_td (s : SP) (x : Int32) : z_fd (u_td s x) = z_fd s := rfl
theorem z_fk_u_td (s : SP) (x : Int32) : z_fk (u_td s x) = z_fk s := rfl
theorem z_fp_u_td (s : SP) (x : Int32) : z_fp (u_td s x) = z_fp s := rfl
theorem z_tl_u_td (s : SP) (x : Int32) : z_tl (u_td s x) = z_tl s := rfl
theorem z_tp_u_td (s : SP) (x : Int32) : z_tp (u_td s x) = z_tp s := rfl
theorem z_n_u_fd (s : SP) (x : List Nat) : z_n (u_fd s x) = z_n s := rfl
theorem z_th_u_fd (s : SP) (x : List Nat) : z_th (u_fd s x) = z_th s := rfl
theorem z_nm_u_fd (s : SP) (x : List Nat) : z_nm (u_fd s x) = z_nm s := rfl
theorem z_so_u_fd (s : SP) (x : List Nat) : z_so (u_fd s x) = z_so s := rfl
theorem z_nc_u_fd (s : SP) (x : List Nat) : z_nc (u_fd s x) = z_nc s := rfl
theorem z_cn_u_fd (s : SP) (x : List Nat) : z_cn (u_fd s x) = z_cn s := rfl
theorem z_ty_u_fd (s : SP) (x : List Nat) : z_ty (u_fd s x) = z_ty s := rfl
theorem z_nb_u_fd (s : SP) (x : List Nat) : z_nb (u_fd s x) = z_nb s := rfl
theorem z_fr_u_fd (s : SP) (x : List Nat) : z_fr (u_fd s x) = z_fr s := rfl
theorem z_ow_u_fd (s : SP) (x : List Nat) : z_ow (u_fd s x) = z_ow s := rfl
theorem z_lg_u_fd (s : SP) (x : List Nat) : z_lg (u_fd s x) = z_lg s := rfl
theorem z_ol_u_fd (s : SP) (x : List Nat) : z_ol (u_fd s x) = z_ol s := rfl
theorem z_nw_u_fd (s : SP) (x : List Nat) : z_nw (u_fd s x) = z_nw s := rfl
theorem z_fo_u_fd (s : SP) (x : List Nat) : z_fo (u_fd s x) = z_fo s := rfl
theorem z_hw_u_fd (s : SP) (x : List Nat) : z_hw (u_fd s x) = z_hw s := rfl
theorem z_tx_u_fd (s : SP) (x : List Nat) : z_tx (u_fd s x) = z_tx s := rfl
theorem z_na_u_fd (s : SP) (x : List Nat) : z_na (u_fd s x) = z_na s := rfl
theorem z_at_u_fd (s : SP) (x : List Nat) : z_at (u_fd s x) = z_at s := rfl
theorem z_ab_u_fd (s : SP) (x : List Nat) : z_ab (u_fd s x) = z_ab s := rfl
theorem z_ad_u_fd (s : SP) (x : List Nat) : z_ad (u_fd s x) = z_ad s := rfl
theorem z_td_u_fd (s : SP) (x : List Nat) : z_td (u_fd s x) = z_td s := rfl
theorem z_fd_u_fd (s : SP) (x : List Nat) : z_fd (u_fd s x) = x := rfl
theorem z_fk_u_fd (s : SP) (x : List Nat) : z_fk (u_fd s x) = z_fk s := rfl
theorem z_fp_u_fd (s : SP) (x : List Nat) : z_fp (u_fd s x) = z_fp s := rfl
theorem z_tl_u_fd (s : SP) (x : List Nat) : z_tl (u_fd s x) = z_tl s := rfl
theorem z_tp_u_fd (s : SP) (x : List Nat) : z_tp (u_fd s x) = z_tp s := rfl
theorem z_n_u_fk (s : SP) (x : Int32) : z_n (u_fk s x) = z_n s := rfl
theorem z_th_u_fk (s : SP) (x : Int32) : z_th (u_fk s x) = z_th s := rfl
theorem z_nm_u_fk (s : SP) (x : Int32) : z_nm (u_fk s x) = z_nm s := rfl
theorem z_so_u_fk (s : SP) (x : Int32) : z_so (u_fk s x) = z_so s := rfl
theorem z_nc_u_fk (s : SP) (x : Int32) : z_nc (u_fk s x) = z_nc s := rfl
theorem z_cn_u_fk (s : SP) (x : Int32) : z_cn (u_fk s x) = z_cn s := rfl
theorem z_ty_u_fk (s : SP) (x : Int32) : z_ty (u_fk s x) = z_ty s := rfl
theorem z_nb_u_fk (s : SP) (x : Int32) : z_nb (u_fk s x) = z_nb s := rfl
theorem z_fr_u_fk (s : SP) (x : Int32) : z_fr (u_fk s x) = z_fr s := rfl
theorem z_ow_u_fk (s : SP) (x : Int32) : z_ow (u_fk s x) = z_ow s := rfl
theorem z_lg_u_fk (s : SP) (x : Int32) : z_lg (u_fk s x) = z_lg s := rfl
theorem z_ol_u_fk (s : SP) (x : Int32) : z_ol (u_fk s x) = z_ol s := rfl
theorem z_nw_u_fk (s : SP) (x : Int32) : z_nw (u_fk s x) = z_nw s := rfl
theorem z_fo_u_fk (s : SP) (x : Int32) : z_fo (u_fk s x) = z_fo s := rfl
theorem z_hw_u_fk (s : SP) (x : Int32) : z_hw (u_fk s x) = z_hw s := rfl
theorem z_tx_u_fk (s : SP) (x : Int32) : z_tx (u_fk s x) = z_tx s := rfl
theorem z_na_u_fk (s : SP) (x : Int32) : z_na (u_fk s x) = z_na s := rfl
theorem z_at_u_fk (s : SP) (x : Int32) : z_at (u_fk s x) = z_at s := rfl
theorem z_ab_u_fk (s : SP) (x : Int32) : z_ab (u_fk s x) = z_ab s := rfl
theorem z_ad_u_fk (s : SP) (x : Int32) : z_ad (u_fk s x) = z_ad s := rfl
theorem z_td_u_fk (s : SP) (x : Int32) : z_td (u_fk s x) = z_td s := rfl
theorem z_fd_u_fk (s : SP) (x : Int32) : z_fd (u_fk s x) = z_fd s := rfl
theorem z_fk_u_fk (s : SP) (x : Int32) : z_fk (u_fk s x) = x := rfl
theorem z_fp_u_fk (s : SP) (x : Int32) : z_fp (u_fk s x) = z_fp s := rfl
theorem z_tl_u_fk (s : SP) (x : Int32) : z_tl (u_fk s x) = z_tl s := rfl
theorem z_tp_u_fk (s : SP) (x : Int32) : z_tp (u_fk s x) = z_tp s := rfl
theorem z_n_u_fp (s : SP) (x : Int32) : z_n (u_fp s x) = z_n s := rfl
theorem z_th_u_fp (s : SP) (x : Int32) : z_th (u_fp s x) = z_th s := rfl
theorem z_nm_u_fp (s : SP) (x : Int32) : z_nm (u_fp s x) = z_nm s := rfl
theorem z_so_u_fp (s : SP) (x : Int32) : z_so (u_fp s x) = z_so s := rfl
theorem z_nc_u_fp (s : SP) (x : Int32) : z_nc (u_fp s x) = z_nc s := rfl
theorem z_cn_u_fp (s : SP) (x : Int32) : z_cn (u_fp s x) = z_cn s := rfl
theorem z_ty_u_fp (s : SP) (x : Int32) : z_ty (u_fp s x) = z_ty s := rfl
theorem z_nb_u_fp (s : SP) (x : Int32) : z_nb (u_fp s x) = z_nb s := rfl
theorem z_fr_u_fp (s : SP) (x : Int32) : z_fr (u_fp s x) = z_fr s := rfl
theorem z_ow_u_fp (s : SP) (x : Int32) : z_ow (u_fp s x) = z_ow s := rfl
theorem z_lg_u_fp (s : SP) (x : Int32) : z_lg (u_fp s x) = z_lg s := rfl
theorem z_ol_u_fp (s : SP) (x : Int32) : z_ol (u_fp s x) = z_ol s := rfl
theorem z_nw_u_fp (s : SP) (x : Int32) : z_nw (u_fp s x) = z_nw s := rfl
theorem z_fo_u_fp (s : SP) (x : Int32) : z_fo (u_fp s x) = z_fo s := rfl
theorem z_hw_u_fp (s : SP) (x : Int32) : z_hw (u_fp s x) = z_hw s := rfl
theorem z_tx_u_fp (s : SP) (x : Int32) : z_tx (u_fp s x) = z_tx s := rfl
theorem z_na_u_fp (s : SP) (x : Int32) : z_na (u_fp s x) = z_na s := rfl
theorem z_at_u_fp (s : SP) (x : Int32) : z_at (u_fp s x) = z_at s := rfl
theorem z_ab_u_fp (s : SP) (x : Int32) : z_ab (u_fp s x) = z_ab s := rfl
theorem z_ad_u_fp (s : SP) (x : Int32) : z_ad (u_fp s x) = z_ad s := rfl
theorem z_td_u_fp (s : SP) (x : Int32) : z_td (u_fp s x) = z_td s := rfl
theorem z_fd_u_fp (s : SP) (x : Int32) : z_fd (u_fp s x) = z_fd s := rfl
theorem z_fk_u_fp (s : SP) (x : Int32) : z_fk (u_fp s x) = z_fk s := rfl
theorem z_fp_u_fp (s : SP) (x : Int32) : z_fp (u_fp s x) = x := rfl
theorem z_tl_u_fp (s : SP) (x : Int32) : z_tl (u_fp s x) = z_tl s := rfl
theorem z_tp_u_fp (s : SP) (x : Int32) : z_tp (u_fp s x) = z_tp s := rfl
theorem z_n_u_tl (s : SP) (x : Nat) : z_n (u_tl s x) = z_n s := rfl
theorem z_th_u_tl (s : SP) (x : Nat) : z_th (u_tl s x) = z_th s := rfl
theorem z_nm_u_tl (s : SP) (x : Nat) : z_nm (u_tl s x) = z_nm s := rfl
theorem z_so_u_tl (s : SP) (x : Nat) : z_so (u_tl s x) = z_so s := rfl
theorem z_nc_u_tl (s : SP) (x : Nat) : z_nc (u_tl s x) = z_nc s := rfl
theorem z_cn_u_tl (s : SP) (x : Nat) : z_cn (u_tl s x) = z_cn s := rfl
theorem z_ty_u_tl (s : SP) (x : Nat) : z_ty (u_tl s x) = z_ty s := rfl
theorem z_nb_u_tl (s : SP) (x : Nat) : z_nb (u_tl s x) = z_nb s := rfl
theorem z_fr_u_tl (s : SP) (x : Nat) : z_fr (u_tl s x) = z_fr s := rfl
theorem z_ow_u_tl (s : SP) (x : Nat) : z_ow (u_tl s x) = z_ow s := rfl
theorem z_lg_u_tl (s : SP) (x : Nat) : z_lg (u_tl s x) = z_lg s := rfl
theorem z_ol_u_tl (s : SP) (x : Nat) : z_ol (u_tl s x) = z_ol s := rfl
theorem z_nw_u_tl (s : SP) (x : Nat) : z_nw (u_tl s x) = z_nw s := rfl
theorem z_fo_u_tl (s : SP) (x : Nat) : z_fo (u_tl s x) = z_fo s := rfl
theorem z_hw_u_tl (s : SP) (x : Nat) : z_hw (u_tl s x) = z_hw s := rfl
theorem z_tx_u_tl (s : SP) (x : Nat) : z_tx (u_tl s x) = z_tx s := rfl
theorem z_na_u_tl (s : SP) (x : Nat) : z_na (u_tl s x) = z_na s := rfl
theorem z_at_u_tl (s : SP) (x : Nat) : z_at (u_tl s x) = z_at s := rfl
theorem z_ab_u_tl (s : SP) (x : Nat) : z_ab (u_tl s x) = z_ab s := rfl
theorem z_ad_u_tl (s : SP) (x : Nat) : z_ad (u_tl s x) = z_ad s := rfl
theorem z_td_u_tl (s : SP) (x : Nat) : z_td (u_tl s x) = z_td s := rfl
theorem z_fd_u_tl (s : SP) (x : Nat) : z_fd (u_tl s x) = z_fd s := rfl
theorem z_fk_u_tl (s : SP) (x : Nat) : z_fk (u_tl s x) = z_fk s := rfl
theorem z_fp_u_tl (s : SP) (x : Nat) : z_fp (u_tl s x) = z_fp s := rfl
theorem z_tl_u_tl (s : SP) (x : Nat) : z_tl (u_tl s x) = x := rfl
theorem z_tp_u_tl (s : SP) (x : Nat) : z_tp (u_tl s x) = z_tp s := rfl
theorem z_n_u_tp (s : SP) (x : Nat → Nat) : z_n (u_tp s x) = z_n s := rfl
theorem z_th_u_tp (s : SP) (x : Nat → Nat) : z_th (u_tp s x) = z_th s := rfl
theorem z_nm_u_tp (s : SP) (x : Nat → Nat) : z_nm (u_tp s x) = z_nm s := rfl
theorem z_so_u_tp (s : SP) (x : Nat → Nat) : z_so (u_tp s x) = z_so s := rfl
theorem z_nc_u_tp (s : SP) (x : Nat → Nat) : z_nc (u_tp s x) = z_nc s := rfl
theorem z_cn_u_tp (s : SP) (x : Nat → Nat) : z_cn (u_tp s x) = z_cn s := rfl
theorem z_ty_u_tp (s : SP) (x : Nat → Nat) : z_ty (u_tp s x) = z_ty s := rfl
theorem z_nb_u_tp (s : SP) (x : Nat → Nat) : z_nb (u_tp s x) = z_nb s := rfl
theorem z_fr_u_tp (s : SP) (x : Nat → Nat) : z_fr (u_tp s x) = z_fr s := rfl
theorem z_ow_u_tp (s : SP) (x : Nat → Nat) : z_ow (u_tp s x) = z_ow s := rfl
theorem z_lg_u_tp (s : SP) (x : Nat → Nat) : z_lg (u_tp s x) = z_lg s := rfl
theorem z_ol_u_tp (s : SP) (x : Nat → Nat) : z_ol (u_tp s x) = z_ol s := rfl
theorem z_nw_u_tp (s : SP) (x : Nat → Nat) : z_nw (u_tp s x) = z_nw s := rfl
theorem z_fo_u_tp (s : SP) (x : Nat → Nat) : z_fo (u_tp s x) = z_fo s := rfl
theorem z_hw_u_tp (s : SP) (x : Nat → Nat) : z_hw (u_tp s x) = z_hw s := rfl
theorem z_tx_u_tp (s : SP) (x : Nat → Nat) : z_tx (u_tp s x) = z_tx s := rfl
theorem z_na_u_tp (s : SP) (x : Nat → Nat) : z_na (u_tp s x) = z_na s := rfl
theorem z_at_u_tp (s : SP) (x : Nat → Nat) : z_at (u_tp s x) = z_at s := rfl
theorem z_ab_u_tp (s : SP) (x : Nat → Nat) : z_ab (u_tp s x) = z_ab s := rfl
theorem z_ad_u_tp (s : SP) (x : Nat → Nat) : z_ad (u_tp s x) = z_ad s := rfl
theorem z_td_u_tp (s : SP) (x : Nat → Nat) : z_td (u_tp s x) = z_td s := rfl
theorem z_fd_u_tp (s : SP) (x : Nat → Nat) : z_fd (u_tp s x) = z_fd s := rfl
theorem z_fk_u_tp (s : SP) (x : Nat → Nat) : z_fk (u_tp s x) = z_fk s := rfl
theorem z_fp_u_tp (s : SP) (x : Nat → Nat) : z_fp (u_tp s x) = z_fp s := rfl
theorem z_tl_u_tp (s : SP) (x : Nat → Nat) : z_tl (u_tp s x) = z_tl s := rfl
theorem z_tp_u_tp (s : SP) (x : Nat → Nat) : z_tp (u_tp s x) = x := rfl
