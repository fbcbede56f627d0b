/-! DOCUMENTS: backspace, where items are selected, where there is nothing -/
set_option maxRecDepth 100000
section BACK
variable {w : XW} {id d D : Nat} {g : XG} {m : XM} {T : XT} {top r : Nat} {P N Q : List XE} {q : Option Nat} {S : XK}
theorem c_backA (h : DC w g m id D T top r P N Q q S) (hd : 50 ≤ d) (hN : 0 < (drs r N).length) : CT w MX3_backspace d 64 410 [.ref D] m (fun v m' => some (.int (nI (cnt N))) = v ∧ ∃ g', FrD id D g m g' m' ∧ DP w g' m' id D ((P ++ Q).map sg, P.length, none)) xN := by
  have h60 := dc_60 h
  have hDC := h
  obtain ⟨h1, h2, h3, h4, ⟨sl0, cap0, h5⟩, h6, h7, h8, h9⟩ := h
  have hNh : hts N ≤ 5 := Nat.le_trans (hts_in P Q h7) h9
  refine ct_intro (lv := [some (.ref D), none, none]) 2 (by decide) rfl (Nat.le_of_ble_eq_true rfl) rfl ?_
  first | refine g_aload_n dX3_backspace_0 rfl rfl rfl ?_ | refine g_aload_nR dX3_backspace_0 rfl rfl rfl ?_ | refine g_aload_nN dX3_backspace_0 rfl rfl rfl ?_
  refine g_get fl_X3_50_X3 dX3_backspace_1 rfl (Or.inl (by first | assumption | exact xu_eq _ _ _ | exact (xu_ne (by first | assumption | exact Ne.symm (by assumption))).trans (by first | assumption | exact xu_eq _ _ _) | exact (xu_ne (by first | assumption | exact Ne.symm (by assumption))).trans ((xu_ne (by first | assumption | exact Ne.symm (by assumption))).trans (by first | assumption | exact xu_eq _ _ _)) | exact (xu_ne (by first | assumption | exact Ne.symm (by assumption))).trans ((xu_ne (by first | assumption | exact Ne.symm (by assumption))).trans ((xu_ne (by first | assumption | exact Ne.symm (by assumption))).trans (by first | assumption | exact xu_eq _ _ _))))) rfl ?_
  refine g_ifn_le (tgt := 15) dX3_backspace_4 (by decide) rfl (by omega) (fun c_4 => by omega) (fun c_4 => ?_)
  first | refine g_aload_n dX3_backspace_7 rfl rfl rfl ?_ | refine g_aload_nR dX3_backspace_7 rfl rfl rfl ?_ | refine g_aload_nN dX3_backspace_7 rfl rfl rfl ?_
  refine g_virtual iV_X3_takeSelected q2139 (c_takeSel (d := d - 1) hDC (by omega)) (Or.inl (by first | assumption | exact xu_eq _ _ _ | exact (xu_ne (by first | assumption | exact Ne.symm (by assumption))).trans (by first | assumption | exact xu_eq _ _ _) | exact (xu_ne (by first | assumption | exact Ne.symm (by assumption))).trans ((xu_ne (by first | assumption | exact Ne.symm (by assumption))).trans (by first | assumption | exact xu_eq _ _ _)) | exact (xu_ne (by first | assumption | exact Ne.symm (by assumption))).trans ((xu_ne (by first | assumption | exact Ne.symm (by assumption))).trans ((xu_ne (by first | assumption | exact Ne.symm (by assumption))).trans (by first | assumption | exact xu_eq _ _ _))))) rfl (by decide) dX3_backspace_8 rfl rfl rfl (by first | exact Nat.le_of_ble_eq_true rfl | simp [Value.category, rf_cat]) (by omega) (by omega) (by omega) xN_no (fun v_8 m_8 h_8 => ?_)
  obtain ⟨t, g1, T1, cap1, rfl, ht, hD1, hF1, hNT, hTt⟩ := h_8
  have hDT := pt_dt hNT hTt
  have hh : hts (rnL r t N) = hts N := sh_hts (rn_sh r t N)
  have hc : cnt (rnL r t N) = cnt N := (sh_cnt (rn_sh r t N)).1
  have hrs := c_rsize (d := d - 1) hD1.1 hDT (by omega)
  rw [hc] at hrs
  obtain ⟨la, ar, bx, mc, hr1, -⟩ := sm_row hD1.1 hTt
  refine g_virtualP iV_X4_size q2137 (hrs) (Or.inl (by first | assumption | exact xu_eq _ _ _ | exact (xu_ne (by first | assumption | exact Ne.symm (by assumption))).trans (by first | assumption | exact xu_eq _ _ _) | exact (xu_ne (by first | assumption | exact Ne.symm (by assumption))).trans ((xu_ne (by first | assumption | exact Ne.symm (by assumption))).trans (by first | assumption | exact xu_eq _ _ _)) | exact (xu_ne (by first | assumption | exact Ne.symm (by assumption))).trans ((xu_ne (by first | assumption | exact Ne.symm (by assumption))).trans ((xu_ne (by first | assumption | exact Ne.symm (by assumption))).trans (by first | assumption | exact xu_eq _ _ _))))) rfl (by decide) dX3_backspace_11 rfl rfl rfl (by first | exact Nat.le_of_ble_eq_true rfl | simp [Value.category, rf_cat]) (by omega) xN_no ?_
  exact g_ireturn dX3_backspace_14 rfl ⟨rfl, g1, hF1, T1, top, r, P, [], Q, q, S, hD1, by rw [List.nil_append, List.append_nil, if_pos rfl]⟩
theorem c_backD (h : DC w g m id D T top r P N Q q S) (hd : 10 ≤ d) (hN : ¬ 0 < (drs r N).length) (hP : ¬ 0 < (drs r (P ++ N)).length) (hS : S = []) : CT w MX3_backspace d 0 0 [.ref D] m (xRet (some (.int (-9))) m) xN := by
  have h60 := dc_60 h
  obtain ⟨own, sl, cap, hR⟩ := dc_row h
  obtain ⟨h1, h2, h3, h4, ⟨sl0, cap0, h5⟩, h6, h7, h8, h9⟩ := h
  obtain ⟨la, ar, bx, mc, hr1, k1, hA, -⟩ := sm_row h1 hR
  have hpn : (drs r (P ++ N)).length = (drs r P).length + (drs r N).length := by rw [drs_app, List.length_append]
  subst hS
  obtain ⟨rfl, -, -⟩ := bd_whole h6
  have hown := (Prod.mk.inj (Option.some.inj (hR.symm.trans h5))).1
  subst hown
  refine ct_intro (lv := [some (.ref D), none, none]) 2 (by decide) rfl (Nat.le_of_ble_eq_true rfl) rfl ?_
  first | refine g_aload_n dX3_backspace_0 rfl rfl rfl ?_ | refine g_aload_nR dX3_backspace_0 rfl rfl rfl ?_ | refine g_aload_nN dX3_backspace_0 rfl rfl rfl ?_
  refine g_get fl_X3_50_X3 dX3_backspace_1 rfl (Or.inl (by first | assumption | exact xu_eq _ _ _ | exact (xu_ne (by first | assumption | exact Ne.symm (by assumption))).trans (by first | assumption | exact xu_eq _ _ _) | exact (xu_ne (by first | assumption | exact Ne.symm (by assumption))).trans ((xu_ne (by first | assumption | exact Ne.symm (by assumption))).trans (by first | assumption | exact xu_eq _ _ _)) | exact (xu_ne (by first | assumption | exact Ne.symm (by assumption))).trans ((xu_ne (by first | assumption | exact Ne.symm (by assumption))).trans ((xu_ne (by first | assumption | exact Ne.symm (by assumption))).trans (by first | assumption | exact xu_eq _ _ _))))) rfl ?_
  refine g_ifn_le (tgt := 15) dX3_backspace_4 (by decide) rfl (by omega) (fun c_4 => ?_) (fun c_4 => by omega)
  first | refine g_aload_n dX3_backspace_15 rfl rfl rfl ?_ | refine g_aload_nR dX3_backspace_15 rfl rfl rfl ?_ | refine g_aload_nN dX3_backspace_15 rfl rfl rfl ?_
  refine g_get fl_X3_38_X3 dX3_backspace_16 rfl (Or.inl (by first | assumption | exact xu_eq _ _ _ | exact (xu_ne (by first | assumption | exact Ne.symm (by assumption))).trans (by first | assumption | exact xu_eq _ _ _) | exact (xu_ne (by first | assumption | exact Ne.symm (by assumption))).trans ((xu_ne (by first | assumption | exact Ne.symm (by assumption))).trans (by first | assumption | exact xu_eq _ _ _)) | exact (xu_ne (by first | assumption | exact Ne.symm (by assumption))).trans ((xu_ne (by first | assumption | exact Ne.symm (by assumption))).trans ((xu_ne (by first | assumption | exact Ne.symm (by assumption))).trans (by first | assumption | exact xu_eq _ _ _))))) rfl ?_
  refine g_ifn_le (tgt := 116) dX3_backspace_19 (by decide) rfl (by omega) (fun c_19 => ?_) (fun c_19 => by omega)
  first | refine g_aload_n dX3_backspace_116 rfl rfl rfl ?_ | refine g_aload_nR dX3_backspace_116 rfl rfl rfl ?_ | refine g_aload_nN dX3_backspace_116 rfl rfl rfl ?_
  refine g_get fl_X3_15_X3 dX3_backspace_117 rfl (Or.inl (by first | assumption | exact xu_eq _ _ _ | exact (xu_ne (by first | assumption | exact Ne.symm (by assumption))).trans (by first | assumption | exact xu_eq _ _ _) | exact (xu_ne (by first | assumption | exact Ne.symm (by assumption))).trans ((xu_ne (by first | assumption | exact Ne.symm (by assumption))).trans (by first | assumption | exact xu_eq _ _ _)) | exact (xu_ne (by first | assumption | exact Ne.symm (by assumption))).trans ((xu_ne (by first | assumption | exact Ne.symm (by assumption))).trans ((xu_ne (by first | assumption | exact Ne.symm (by assumption))).trans (by first | assumption | exact xu_eq _ _ _))))) rfl ?_
  refine g_get fl_X3_87_X4 dX3_backspace_120 rfl (Or.inl (by first | assumption | exact xu_eq _ _ _ | exact (xu_ne (by first | assumption | exact Ne.symm (by assumption))).trans (by first | assumption | exact xu_eq _ _ _) | exact (xu_ne (by first | assumption | exact Ne.symm (by assumption))).trans ((xu_ne (by first | assumption | exact Ne.symm (by assumption))).trans (by first | assumption | exact xu_eq _ _ _)) | exact (xu_ne (by first | assumption | exact Ne.symm (by assumption))).trans ((xu_ne (by first | assumption | exact Ne.symm (by assumption))).trans ((xu_ne (by first | assumption | exact Ne.symm (by assumption))).trans (by first | assumption | exact xu_eq _ _ _))))) rfl ?_
  refine g_ifnonnullN dX3_backspace_123 rfl ?_
  refine g_bipush (v := (-9)) dX3_backspace_126 rfl rfl ?_
  exact g_ireturn dX3_backspace_128 rfl ⟨rfl, rfl⟩
end BACK
