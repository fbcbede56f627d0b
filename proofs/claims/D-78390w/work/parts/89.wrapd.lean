/-! DOCUMENTS: wrap, its contract -/
set_option maxRecDepth 100000
section WRAPD
variable {w : XW} {id d D : Nat} {g : XG} {m : XM} {T : XT} {top r : Nat} {P N Q : List XE} {q : Option Nat} {S : XK}
theorem c_depthSel (h : DC w g m id D T top r P N Q q S) (hd : 30 ≤ d) : CT w MX4_depthOf d 0 0 [.ref r, .int (nI ((drs r (P ++ N)).length - (drs r N).length)), .int (nI (drs r (P ++ N)).length)] m (xRet (some (.int (nI (hts N)))) m) xN := by
  have hL := dc_len h
  obtain ⟨h1, h2, h3, h4, ⟨sl0, cap0, h5⟩, h6, h7, h8, h9⟩ := h
  obtain ⟨U, M1, M2, V, e1, e2, e3, e4, e5, e6, e7, e8, e9, e10, e11⟩ := rc3 h4 h6 h7
  have hM : (M1 ++ (N ++ M2)).length ≤ 180 := by
    have := hL.1; rw [e1, e2] at this
    simp only [List.length_append] at this ⊢; omega
  have hH : hts (M1 ++ (N ++ M2)) ≤ 5 := by
    have e : P ++ (N ++ Q) = U ++ ((M1 ++ (N ++ M2)) ++ V) := by rw [e1, e2]; simp
    rw [e] at h9
    exact Nat.le_trans (hts_in U V (bd_app e3 (bd_app h7 e4))) h9
  have hpn : (drs r (P ++ N)).length = (drs r M1).length + (drs r N).length := by rw [drs_app, e11, List.length_append]
  exact c_depthOf h1 (M1 ++ (N ++ M2)).length (M1 ++ (N ++ M2)) r (Nat.le_refl _) (by omega) e7 M1 N M2 _ _ d rfl e3 h7 e4 (by omega) hpn (by omega)
theorem c_wrapY {k : Nat} (h : DC w g m id D T top r P N Q q S) (hd : 50 ≤ d) (hk1 : 1 ≤ k) (hk2 : k < 6) (c1 : cnt (P ++ (N ++ Q)) < 60) (c2 : S.length + 1 + hts N ≤ 5) : CT w MX3_wrap d 140 910 [.ref D, .int (nI k)] m (wpP w g m id D k P N Q) xN := by
  have hL := dc_len h
  have h60 := dc_60 h
  have hDC := h
  have hH := dc_ho h
  obtain ⟨own, sl, cap, hR⟩ := dc_row h
  obtain ⟨h1, h2, ⟨h3, h3'⟩, h4, ⟨sl0, cap0, h5⟩, h6, h7, h8, h9⟩ := h
  obtain ⟨la, ar, bx, mc, hr1, -⟩ := sm_row h1 h5
  obtain ⟨la2, ar2, bx2, mc2, hr2, -⟩ := sm_row h1 hR
  have hpn : (drs r (P ++ N)).length = (drs r P).length + (drs r N).length := by rw [drs_app, List.length_append]
  have hNh : hts N ≤ 5 := Nat.le_trans (hts_in P Q h7) h9
  refine ct_intro (lv := [some (.ref D), some (.int (nI k)), none, none, none]) 3 (by decide) rfl (Nat.le_of_ble_eq_true rfl) rfl ?_
  have hPN := pt_of h4 hH h7
  have hop := h4.2.1
  have hio := h4.2.2.1
  rw [opn_app, opn_app] at hop
  rw [itm_app, itm_app] at hio
  rw [List.nodup_cons, List.nodup_append, List.nodup_append] at hop
  rw [List.nodup_append, List.nodup_append] at hio
  have hdis : ∀ s ∈ opn N, s ≠ top ∧ s ∉ opn P ∧ s ∉ opn Q := by
    intro s hs
    refine ⟨?_, fun hx => hop.2.2.2 s hx s (List.mem_append_left _ hs) rfl, fun hy => hop.2.2.1.2.2 s hs s hy rfl⟩
    rintro rfl
    exact hop.1 (List.mem_append_right _ (List.mem_append_left _ hs))
  have hdisi : ∀ s ∈ itm N, s ∉ itm P ∧ s ∉ itm Q := fun s hs => ⟨fun hx => hio.2.2 s hx s (List.mem_append_left _ hs) rfl, fun hy => hio.2.1.2.2 s hs s hy rfl⟩
  have hrN : r ∉ opn N := (List.nodup_cons.mp hPN.2.1).1
  have hkt : ∀ t, m t = none → t ∉ top :: (opn P ++ (opn N ++ opn Q)) := fun t ht hm => dt_known h1 h4 (by rw [opn_app, opn_app]; exact hm) ht
  have hrm := sm_Rm h1 hR
  have hcl := cnt_app P (N ++ Q)
  rw [cnt_app] at hcl
  first | refine g_aload_n dX3_wrap_0 rfl rfl rfl ?_ | refine g_aload_nR dX3_wrap_0 rfl rfl rfl ?_ | refine g_aload_nN dX3_wrap_0 rfl rfl rfl ?_
  refine g_get fl_X3_9_X3 dX3_wrap_1 rfl (Or.inl (by first | assumption | exact xu_eq _ _ _ | exact (xu_ne (by first | assumption | exact Ne.symm (by assumption))).trans (by first | assumption | exact xu_eq _ _ _) | exact (xu_ne (by first | assumption | exact Ne.symm (by assumption))).trans ((xu_ne (by first | assumption | exact Ne.symm (by assumption))).trans (by first | assumption | exact xu_eq _ _ _)) | exact (xu_ne (by first | assumption | exact Ne.symm (by assumption))).trans ((xu_ne (by first | assumption | exact Ne.symm (by assumption))).trans ((xu_ne (by first | assumption | exact Ne.symm (by assumption))).trans (by first | assumption | exact xu_eq _ _ _))))) rfl ?_
  refine g_virtualP iV_X4_size q2137 (c_rsize (d := d - 1) h1 h4 (by omega)) (Or.inl (by first | assumption | exact xu_eq _ _ _ | exact (xu_ne (by first | assumption | exact Ne.symm (by assumption))).trans (by first | assumption | exact xu_eq _ _ _) | exact (xu_ne (by first | assumption | exact Ne.symm (by assumption))).trans ((xu_ne (by first | assumption | exact Ne.symm (by assumption))).trans (by first | assumption | exact xu_eq _ _ _)) | exact (xu_ne (by first | assumption | exact Ne.symm (by assumption))).trans ((xu_ne (by first | assumption | exact Ne.symm (by assumption))).trans ((xu_ne (by first | assumption | exact Ne.symm (by assumption))).trans (by first | assumption | exact xu_eq _ _ _))))) rfl (by decide) dX3_wrap_4 rfl rfl rfl (by first | exact Nat.le_of_ble_eq_true rfl | simp [Value.category, rf_cat]) (by omega) xN_no ?_
  refine g_bipush (v := (nI 60)) dX3_wrap_7 rfl rfl ?_
  refine g_icmpn_ge (tgt := 50) dX3_wrap_9 (by decide) rfl (by omega) (by omega) (fun c_9 => by omega) (fun c_9 => ?_)
  first | refine g_aload_n dX3_wrap_12 rfl rfl rfl ?_ | refine g_aload_nR dX3_wrap_12 rfl rfl rfl ?_ | refine g_aload_nN dX3_wrap_12 rfl rfl rfl ?_
  refine g_get fl_X3_15_X3 dX3_wrap_13 rfl (Or.inl (by first | assumption | exact xu_eq _ _ _ | exact (xu_ne (by first | assumption | exact Ne.symm (by assumption))).trans (by first | assumption | exact xu_eq _ _ _) | exact (xu_ne (by first | assumption | exact Ne.symm (by assumption))).trans ((xu_ne (by first | assumption | exact Ne.symm (by assumption))).trans (by first | assumption | exact xu_eq _ _ _)) | exact (xu_ne (by first | assumption | exact Ne.symm (by assumption))).trans ((xu_ne (by first | assumption | exact Ne.symm (by assumption))).trans ((xu_ne (by first | assumption | exact Ne.symm (by assumption))).trans (by first | assumption | exact xu_eq _ _ _))))) rfl ?_
  refine g_virtualP iV_X4_level q2194 (c_level h1 h5 S.length P (N ++ Q) r q S (Nat.le_refl _) h4 h6 (d - 1) (by omega)) (Or.inl (by first | assumption | exact xu_eq _ _ _ | exact (xu_ne (by first | assumption | exact Ne.symm (by assumption))).trans (by first | assumption | exact xu_eq _ _ _) | exact (xu_ne (by first | assumption | exact Ne.symm (by assumption))).trans ((xu_ne (by first | assumption | exact Ne.symm (by assumption))).trans (by first | assumption | exact xu_eq _ _ _)) | exact (xu_ne (by first | assumption | exact Ne.symm (by assumption))).trans ((xu_ne (by first | assumption | exact Ne.symm (by assumption))).trans ((xu_ne (by first | assumption | exact Ne.symm (by assumption))).trans (by first | assumption | exact xu_eq _ _ _))))) rfl (by decide) dX3_wrap_16 rfl rfl rfl (by first | exact Nat.le_of_ble_eq_true rfl | simp [Value.category, rf_cat]) (by omega) xN_no ?_
  refine g_iconst (v := (nI 1)) dX3_wrap_19 rfl rfl ?_
  refine g_iaddn dX3_wrap_20 rfl ?_
  first | refine g_aload_n dX3_wrap_21 rfl rfl rfl ?_ | refine g_aload_nR dX3_wrap_21 rfl rfl rfl ?_ | refine g_aload_nN dX3_wrap_21 rfl rfl rfl ?_
  refine g_get fl_X3_15_X3 dX3_wrap_22 rfl (Or.inl (by first | assumption | exact xu_eq _ _ _ | exact (xu_ne (by first | assumption | exact Ne.symm (by assumption))).trans (by first | assumption | exact xu_eq _ _ _) | exact (xu_ne (by first | assumption | exact Ne.symm (by assumption))).trans ((xu_ne (by first | assumption | exact Ne.symm (by assumption))).trans (by first | assumption | exact xu_eq _ _ _)) | exact (xu_ne (by first | assumption | exact Ne.symm (by assumption))).trans ((xu_ne (by first | assumption | exact Ne.symm (by assumption))).trans ((xu_ne (by first | assumption | exact Ne.symm (by assumption))).trans (by first | assumption | exact xu_eq _ _ _))))) rfl ?_
  first | refine g_aload_n dX3_wrap_25 rfl rfl rfl ?_ | refine g_aload_nR dX3_wrap_25 rfl rfl rfl ?_ | refine g_aload_nN dX3_wrap_25 rfl rfl rfl ?_
  refine g_get fl_X3_38_X3 dX3_wrap_26 rfl (Or.inl (by first | assumption | exact xu_eq _ _ _ | exact (xu_ne (by first | assumption | exact Ne.symm (by assumption))).trans (by first | assumption | exact xu_eq _ _ _) | exact (xu_ne (by first | assumption | exact Ne.symm (by assumption))).trans ((xu_ne (by first | assumption | exact Ne.symm (by assumption))).trans (by first | assumption | exact xu_eq _ _ _)) | exact (xu_ne (by first | assumption | exact Ne.symm (by assumption))).trans ((xu_ne (by first | assumption | exact Ne.symm (by assumption))).trans ((xu_ne (by first | assumption | exact Ne.symm (by assumption))).trans (by first | assumption | exact xu_eq _ _ _))))) rfl ?_
  first | refine g_aload_n dX3_wrap_29 rfl rfl rfl ?_ | refine g_aload_nR dX3_wrap_29 rfl rfl rfl ?_ | refine g_aload_nN dX3_wrap_29 rfl rfl rfl ?_
  refine g_get fl_X3_50_X3 dX3_wrap_30 rfl (Or.inl (by first | assumption | exact xu_eq _ _ _ | exact (xu_ne (by first | assumption | exact Ne.symm (by assumption))).trans (by first | assumption | exact xu_eq _ _ _) | exact (xu_ne (by first | assumption | exact Ne.symm (by assumption))).trans ((xu_ne (by first | assumption | exact Ne.symm (by assumption))).trans (by first | assumption | exact xu_eq _ _ _)) | exact (xu_ne (by first | assumption | exact Ne.symm (by assumption))).trans ((xu_ne (by first | assumption | exact Ne.symm (by assumption))).trans ((xu_ne (by first | assumption | exact Ne.symm (by assumption))).trans (by first | assumption | exact xu_eq _ _ _))))) rfl ?_
  refine g_isubn dX3_wrap_33 rfl (by omega) ?_
  first | refine g_aload_n dX3_wrap_34 rfl rfl rfl ?_ | refine g_aload_nR dX3_wrap_34 rfl rfl rfl ?_ | refine g_aload_nN dX3_wrap_34 rfl rfl rfl ?_
  refine g_get fl_X3_38_X3 dX3_wrap_35 rfl (Or.inl (by first | assumption | exact xu_eq _ _ _ | exact (xu_ne (by first | assumption | exact Ne.symm (by assumption))).trans (by first | assumption | exact xu_eq _ _ _) | exact (xu_ne (by first | assumption | exact Ne.symm (by assumption))).trans ((xu_ne (by first | assumption | exact Ne.symm (by assumption))).trans (by first | assumption | exact xu_eq _ _ _)) | exact (xu_ne (by first | assumption | exact Ne.symm (by assumption))).trans ((xu_ne (by first | assumption | exact Ne.symm (by assumption))).trans ((xu_ne (by first | assumption | exact Ne.symm (by assumption))).trans (by first | assumption | exact xu_eq _ _ _))))) rfl ?_
  refine g_virtualP iV_X4_depthOf q2195 (c_depthSel (d := d - 1) hDC (by omega)) (Or.inl (by first | assumption | exact xu_eq _ _ _ | exact (xu_ne (by first | assumption | exact Ne.symm (by assumption))).trans (by first | assumption | exact xu_eq _ _ _) | exact (xu_ne (by first | assumption | exact Ne.symm (by assumption))).trans ((xu_ne (by first | assumption | exact Ne.symm (by assumption))).trans (by first | assumption | exact xu_eq _ _ _)) | exact (xu_ne (by first | assumption | exact Ne.symm (by assumption))).trans ((xu_ne (by first | assumption | exact Ne.symm (by assumption))).trans ((xu_ne (by first | assumption | exact Ne.symm (by assumption))).trans (by first | assumption | exact xu_eq _ _ _))))) rfl (by decide) dX3_wrap_38 rfl rfl rfl (by first | exact Nat.le_of_ble_eq_true rfl | simp [Value.category, rf_cat]) (by omega) xN_no ?_
  refine g_iaddn dX3_wrap_41 rfl ?_
  refine g_iconst (v := (nI 5)) dX3_wrap_42 rfl rfl ?_
  refine g_icmpn_gt (tgt := 50) dX3_wrap_43 (by decide) rfl (by omega) (by omega) (fun c_43 => by omega) (fun c_43 => ?_)
  refine g_iconst (v := (nI 1)) dX3_wrap_46 rfl rfl ?_
  refine g_goto (tgt := 51) dX3_wrap_47 (by decide) ?_
  refine g_ist2 dX3_wrap_51 rfl (by decide) (k := ?_)
  refine g_iload_n dX3_wrap_52 rfl rfl rfl ?_
  refine g_ifn_eq (tgt := 155) dX3_wrap_53 (by decide) rfl (by omega) (fun c_53 => by omega) (fun _ => ?_)
  first | refine g_aload_n dX3_wrap_56 rfl rfl rfl ?_ | refine g_aload_nR dX3_wrap_56 rfl rfl rfl ?_ | refine g_aload_nN dX3_wrap_56 rfl rfl rfl ?_
  refine g_virtual iV_X3_takeSelected q2139 (c_takeSel (d := d - 1) hDC (by omega)) (Or.inl (by first | assumption | exact xu_eq _ _ _ | exact (xu_ne (by first | assumption | exact Ne.symm (by assumption))).trans (by first | assumption | exact xu_eq _ _ _) | exact (xu_ne (by first | assumption | exact Ne.symm (by assumption))).trans ((xu_ne (by first | assumption | exact Ne.symm (by assumption))).trans (by first | assumption | exact xu_eq _ _ _)) | exact (xu_ne (by first | assumption | exact Ne.symm (by assumption))).trans ((xu_ne (by first | assumption | exact Ne.symm (by assumption))).trans ((xu_ne (by first | assumption | exact Ne.symm (by assumption))).trans (by first | assumption | exact xu_eq _ _ _))))) rfl (by decide) dX3_wrap_57 rfl rfl rfl (by first | exact Nat.le_of_ble_eq_true rfl | simp [Value.category, rf_cat]) (by omega) (by omega) (by omega) xN_no (fun v_57 m_57 h_57 => ?_)
  obtain ⟨t, g1, T1, cap1, rfl, ht, hD1, hF1, hNT, hTt⟩ := h_57
  have hshN : (rnL r t N).map shE = N.map shE := rn_sh r t N
  have hnl : (drs t (rnL r t N)).length ≤ 60 := by
    have a1 := drs_cnt t (rnL r t N)
    have a2 := (sh_cnt hshN).1
    omega
  have hdisT : ∀ s ∈ opn (rnL r t N), s ≠ top ∧ s ∉ opn P ∧ s ∉ opn Q := by rw [rn_opn]; exact hdis
  have hdisiT : ∀ s ∈ itm (rnL r t N), s ∉ itm P ∧ s ∉ itm Q := by rw [rn_itm]; exact hdisi
  have htT : t ∉ top :: (opn P ++ (opn (rnL r t N) ++ opn Q)) := by rw [rn_opn]; exact hkt t ht
  have hrT : r ∉ opn (rnL r t N) := by rw [rn_opn]; exact hrN
  have hrt : r ≠ t := fun e => by subst e; exact hrm ht
  first | refine g_ast3 dX3_wrap_60 rfl (by decide) (k := ?_) | refine g_astR3 dX3_wrap_60 rfl (by decide) (k := ?_) | refine g_astN3 dX3_wrap_60 rfl (by decide) (k := ?_)
  refine g_iload_n dX3_wrap_61 rfl rfl rfl ?_
  by_cases hk : k = 1
  · subst hk
    refine g_static iS_X9_empty q2196 (c_empty2 (d := d - 1) (by omega) hD1.1) dX3_wrap_62 rfl rfl rfl (by first | exact Nat.le_of_ble_eq_true rfl | simp [Value.category, rf_cat]) (by omega) (by omega) (by omega) xN_no (fun v_62 m_62 h_62 => ?_)
    obtain ⟨a, o, p, g2, rfl, ha, ho, hp, hao, hap, hpo, hS2, hF2⟩ := h_62
    exact l_wrap65 (by omega) hF1 hD1 hNT hTt hS2 hF2 ha ho (fun _ => ⟨hp, hpo⟩) ((uF_ne hpo.symm).trans (uF_eq _ _ _)) (fun _ => uF_eq _ _ _) (uF_eq _ _ _) (fun s hs => (uF_ne (fun e => by subst e; exact hs hp)).trans (uF_ne (fun e => by subst e; exact hs ho))) (fun i hi => ⟨uF_ne (fun e => by subst e; exact hi ha), uF_ne (fun e => by subst e; exact hi ha)⟩) hdisT hdisiT htT hrT hrt hshN c1 c2 (by omega) (by omega)
  · refine g_static iS_X9_empty q2196 (c_empty1 (d := d - 1) 0 (by omega) hD1.1 hk hk1 hk2) dX3_wrap_62 rfl rfl rfl (by first | exact Nat.le_of_ble_eq_true rfl | simp [Value.category, rf_cat]) (by omega) (by omega) (by omega) xN_no (fun v_62 m_62 h_62 => ?_)
    obtain ⟨a, o, g2, rfl, ha, ho, hao, hS2, hF2⟩ := h_62
    exact l_wrap65 (p := 0) (by omega) hF1 hD1 hNT hTt hS2 hF2 ha ho (fun h => absurd h hk) (uF_eq _ _ _) (fun h => absurd h hk) (uF_eq _ _ _) (fun s hs => uF_ne (fun e => by subst e; exact hs ho)) (fun i hi => ⟨uF_ne (fun e => by subst e; exact hi ha), uF_ne (fun e => by subst e; exact hi ha)⟩) hdisT hdisiT htT hrT hrt hshN c1 c2 (by omega) (by omega)
theorem c_wrapN {k : Nat} (h : DC w g m id D T top r P N Q q S) (hd : 50 ≤ d) (hc : ¬ (cnt (P ++ (N ++ Q)) < 60 ∧ S.length + 1 + hts N ≤ 5)) : CT w MX3_wrap d 0 0 [.ref D, .int (nI k)] m (xRet (some (.int (nI 0))) m) xN := by
  have hL := dc_len h
  have h60 := dc_60 h
  have hDC := h
  have hH := dc_ho h
  obtain ⟨own, sl, cap, hR⟩ := dc_row h
  obtain ⟨h1, h2, ⟨h3, h3'⟩, h4, ⟨sl0, cap0, h5⟩, h6, h7, h8, h9⟩ := h
  obtain ⟨la, ar, bx, mc, hr1, -⟩ := sm_row h1 h5
  obtain ⟨la2, ar2, bx2, mc2, hr2, -⟩ := sm_row h1 hR
  have hpn : (drs r (P ++ N)).length = (drs r P).length + (drs r N).length := by rw [drs_app, List.length_append]
  have hNh : hts N ≤ 5 := Nat.le_trans (hts_in P Q h7) h9
  refine ct_intro (lv := [some (.ref D), some (.int (nI k)), none, none, none]) 3 (by decide) rfl (Nat.le_of_ble_eq_true rfl) rfl ?_
  by_cases c1 : cnt (P ++ (N ++ Q)) < 60
  · have c2 : ¬ S.length + 1 + hts N ≤ 5 := fun h => hc ⟨c1, h⟩
    first | refine g_aload_n dX3_wrap_0 rfl rfl rfl ?_ | refine g_aload_nR dX3_wrap_0 rfl rfl rfl ?_ | refine g_aload_nN dX3_wrap_0 rfl rfl rfl ?_
    refine g_get fl_X3_9_X3 dX3_wrap_1 rfl (Or.inl (by first | assumption | exact xu_eq _ _ _ | exact (xu_ne (by first | assumption | exact Ne.symm (by assumption))).trans (by first | assumption | exact xu_eq _ _ _) | exact (xu_ne (by first | assumption | exact Ne.symm (by assumption))).trans ((xu_ne (by first | assumption | exact Ne.symm (by assumption))).trans (by first | assumption | exact xu_eq _ _ _)) | exact (xu_ne (by first | assumption | exact Ne.symm (by assumption))).trans ((xu_ne (by first | assumption | exact Ne.symm (by assumption))).trans ((xu_ne (by first | assumption | exact Ne.symm (by assumption))).trans (by first | assumption | exact xu_eq _ _ _))))) rfl ?_
    refine g_virtualP iV_X4_size q2137 (c_rsize (d := d - 1) h1 h4 (by omega)) (Or.inl (by first | assumption | exact xu_eq _ _ _ | exact (xu_ne (by first | assumption | exact Ne.symm (by assumption))).trans (by first | assumption | exact xu_eq _ _ _) | exact (xu_ne (by first | assumption | exact Ne.symm (by assumption))).trans ((xu_ne (by first | assumption | exact Ne.symm (by assumption))).trans (by first | assumption | exact xu_eq _ _ _)) | exact (xu_ne (by first | assumption | exact Ne.symm (by assumption))).trans ((xu_ne (by first | assumption | exact Ne.symm (by assumption))).trans ((xu_ne (by first | assumption | exact Ne.symm (by assumption))).trans (by first | assumption | exact xu_eq _ _ _))))) rfl (by decide) dX3_wrap_4 rfl rfl rfl (by first | exact Nat.le_of_ble_eq_true rfl | simp [Value.category, rf_cat]) (by omega) xN_no ?_
    refine g_bipush (v := (nI 60)) dX3_wrap_7 rfl rfl ?_
    refine g_icmpn_ge (tgt := 50) dX3_wrap_9 (by decide) rfl (by omega) (by omega) (fun c_9 => by omega) (fun c_9 => ?_)
    first | refine g_aload_n dX3_wrap_12 rfl rfl rfl ?_ | refine g_aload_nR dX3_wrap_12 rfl rfl rfl ?_ | refine g_aload_nN dX3_wrap_12 rfl rfl rfl ?_
    refine g_get fl_X3_15_X3 dX3_wrap_13 rfl (Or.inl (by first | assumption | exact xu_eq _ _ _ | exact (xu_ne (by first | assumption | exact Ne.symm (by assumption))).trans (by first | assumption | exact xu_eq _ _ _) | exact (xu_ne (by first | assumption | exact Ne.symm (by assumption))).trans ((xu_ne (by first | assumption | exact Ne.symm (by assumption))).trans (by first | assumption | exact xu_eq _ _ _)) | exact (xu_ne (by first | assumption | exact Ne.symm (by assumption))).trans ((xu_ne (by first | assumption | exact Ne.symm (by assumption))).trans ((xu_ne (by first | assumption | exact Ne.symm (by assumption))).trans (by first | assumption | exact xu_eq _ _ _))))) rfl ?_
    refine g_virtualP iV_X4_level q2194 (c_level h1 h5 S.length P (N ++ Q) r q S (Nat.le_refl _) h4 h6 (d - 1) (by omega)) (Or.inl (by first | assumption | exact xu_eq _ _ _ | exact (xu_ne (by first | assumption | exact Ne.symm (by assumption))).trans (by first | assumption | exact xu_eq _ _ _) | exact (xu_ne (by first | assumption | exact Ne.symm (by assumption))).trans ((xu_ne (by first | assumption | exact Ne.symm (by assumption))).trans (by first | assumption | exact xu_eq _ _ _)) | exact (xu_ne (by first | assumption | exact Ne.symm (by assumption))).trans ((xu_ne (by first | assumption | exact Ne.symm (by assumption))).trans ((xu_ne (by first | assumption | exact Ne.symm (by assumption))).trans (by first | assumption | exact xu_eq _ _ _))))) rfl (by decide) dX3_wrap_16 rfl rfl rfl (by first | exact Nat.le_of_ble_eq_true rfl | simp [Value.category, rf_cat]) (by omega) xN_no ?_
    refine g_iconst (v := (nI 1)) dX3_wrap_19 rfl rfl ?_
    refine g_iaddn dX3_wrap_20 rfl ?_
    first | refine g_aload_n dX3_wrap_21 rfl rfl rfl ?_ | refine g_aload_nR dX3_wrap_21 rfl rfl rfl ?_ | refine g_aload_nN dX3_wrap_21 rfl rfl rfl ?_
    refine g_get fl_X3_15_X3 dX3_wrap_22 rfl (Or.inl (by first | assumption | exact xu_eq _ _ _ | exact (xu_ne (by first | assumption | exact Ne.symm (by assumption))).trans (by first | assumption | exact xu_eq _ _ _) | exact (xu_ne (by first | assumption | exact Ne.symm (by assumption))).trans ((xu_ne (by first | assumption | exact Ne.symm (by assumption))).trans (by first | assumption | exact xu_eq _ _ _)) | exact (xu_ne (by first | assumption | exact Ne.symm (by assumption))).trans ((xu_ne (by first | assumption | exact Ne.symm (by assumption))).trans ((xu_ne (by first | assumption | exact Ne.symm (by assumption))).trans (by first | assumption | exact xu_eq _ _ _))))) rfl ?_
    first | refine g_aload_n dX3_wrap_25 rfl rfl rfl ?_ | refine g_aload_nR dX3_wrap_25 rfl rfl rfl ?_ | refine g_aload_nN dX3_wrap_25 rfl rfl rfl ?_
    refine g_get fl_X3_38_X3 dX3_wrap_26 rfl (Or.inl (by first | assumption | exact xu_eq _ _ _ | exact (xu_ne (by first | assumption | exact Ne.symm (by assumption))).trans (by first | assumption | exact xu_eq _ _ _) | exact (xu_ne (by first | assumption | exact Ne.symm (by assumption))).trans ((xu_ne (by first | assumption | exact Ne.symm (by assumption))).trans (by first | assumption | exact xu_eq _ _ _)) | exact (xu_ne (by first | assumption | exact Ne.symm (by assumption))).trans ((xu_ne (by first | assumption | exact Ne.symm (by assumption))).trans ((xu_ne (by first | assumption | exact Ne.symm (by assumption))).trans (by first | assumption | exact xu_eq _ _ _))))) rfl ?_
    first | refine g_aload_n dX3_wrap_29 rfl rfl rfl ?_ | refine g_aload_nR dX3_wrap_29 rfl rfl rfl ?_ | refine g_aload_nN dX3_wrap_29 rfl rfl rfl ?_
    refine g_get fl_X3_50_X3 dX3_wrap_30 rfl (Or.inl (by first | assumption | exact xu_eq _ _ _ | exact (xu_ne (by first | assumption | exact Ne.symm (by assumption))).trans (by first | assumption | exact xu_eq _ _ _) | exact (xu_ne (by first | assumption | exact Ne.symm (by assumption))).trans ((xu_ne (by first | assumption | exact Ne.symm (by assumption))).trans (by first | assumption | exact xu_eq _ _ _)) | exact (xu_ne (by first | assumption | exact Ne.symm (by assumption))).trans ((xu_ne (by first | assumption | exact Ne.symm (by assumption))).trans ((xu_ne (by first | assumption | exact Ne.symm (by assumption))).trans (by first | assumption | exact xu_eq _ _ _))))) rfl ?_
    refine g_isubn dX3_wrap_33 rfl (by omega) ?_
    first | refine g_aload_n dX3_wrap_34 rfl rfl rfl ?_ | refine g_aload_nR dX3_wrap_34 rfl rfl rfl ?_ | refine g_aload_nN dX3_wrap_34 rfl rfl rfl ?_
    refine g_get fl_X3_38_X3 dX3_wrap_35 rfl (Or.inl (by first | assumption | exact xu_eq _ _ _ | exact (xu_ne (by first | assumption | exact Ne.symm (by assumption))).trans (by first | assumption | exact xu_eq _ _ _) | exact (xu_ne (by first | assumption | exact Ne.symm (by assumption))).trans ((xu_ne (by first | assumption | exact Ne.symm (by assumption))).trans (by first | assumption | exact xu_eq _ _ _)) | exact (xu_ne (by first | assumption | exact Ne.symm (by assumption))).trans ((xu_ne (by first | assumption | exact Ne.symm (by assumption))).trans ((xu_ne (by first | assumption | exact Ne.symm (by assumption))).trans (by first | assumption | exact xu_eq _ _ _))))) rfl ?_
    refine g_virtualP iV_X4_depthOf q2195 (c_depthSel (d := d - 1) hDC (by omega)) (Or.inl (by first | assumption | exact xu_eq _ _ _ | exact (xu_ne (by first | assumption | exact Ne.symm (by assumption))).trans (by first | assumption | exact xu_eq _ _ _) | exact (xu_ne (by first | assumption | exact Ne.symm (by assumption))).trans ((xu_ne (by first | assumption | exact Ne.symm (by assumption))).trans (by first | assumption | exact xu_eq _ _ _)) | exact (xu_ne (by first | assumption | exact Ne.symm (by assumption))).trans ((xu_ne (by first | assumption | exact Ne.symm (by assumption))).trans ((xu_ne (by first | assumption | exact Ne.symm (by assumption))).trans (by first | assumption | exact xu_eq _ _ _))))) rfl (by decide) dX3_wrap_38 rfl rfl rfl (by first | exact Nat.le_of_ble_eq_true rfl | simp [Value.category, rf_cat]) (by omega) xN_no ?_
    refine g_iaddn dX3_wrap_41 rfl ?_
    refine g_iconst (v := (nI 5)) dX3_wrap_42 rfl rfl ?_
    refine g_icmpn_gt (tgt := 50) dX3_wrap_43 (by decide) rfl (by omega) (by omega) (fun c_43 => ?_) (fun c_43 => by omega)
    refine g_iconst (v := (nI 0)) dX3_wrap_50 rfl rfl ?_
    refine g_ist2 dX3_wrap_51 rfl (by decide) (k := ?_)
    refine g_iload_n dX3_wrap_52 rfl rfl rfl ?_
    refine g_ifn_eq (tgt := 155) dX3_wrap_53 (by decide) rfl (by omega) (fun _ => ?_) (fun c_53 => by omega)
    refine g_iload_n dX3_wrap_155 rfl rfl rfl ?_
    exact g_zreturn dX3_wrap_156 rfl rfl ⟨rfl, rfl⟩
  · skip
    first | refine g_aload_n dX3_wrap_0 rfl rfl rfl ?_ | refine g_aload_nR dX3_wrap_0 rfl rfl rfl ?_ | refine g_aload_nN dX3_wrap_0 rfl rfl rfl ?_
    refine g_get fl_X3_9_X3 dX3_wrap_1 rfl (Or.inl (by first | assumption | exact xu_eq _ _ _ | exact (xu_ne (by first | assumption | exact Ne.symm (by assumption))).trans (by first | assumption | exact xu_eq _ _ _) | exact (xu_ne (by first | assumption | exact Ne.symm (by assumption))).trans ((xu_ne (by first | assumption | exact Ne.symm (by assumption))).trans (by first | assumption | exact xu_eq _ _ _)) | exact (xu_ne (by first | assumption | exact Ne.symm (by assumption))).trans ((xu_ne (by first | assumption | exact Ne.symm (by assumption))).trans ((xu_ne (by first | assumption | exact Ne.symm (by assumption))).trans (by first | assumption | exact xu_eq _ _ _))))) rfl ?_
    refine g_virtualP iV_X4_size q2137 (c_rsize (d := d - 1) h1 h4 (by omega)) (Or.inl (by first | assumption | exact xu_eq _ _ _ | exact (xu_ne (by first | assumption | exact Ne.symm (by assumption))).trans (by first | assumption | exact xu_eq _ _ _) | exact (xu_ne (by first | assumption | exact Ne.symm (by assumption))).trans ((xu_ne (by first | assumption | exact Ne.symm (by assumption))).trans (by first | assumption | exact xu_eq _ _ _)) | exact (xu_ne (by first | assumption | exact Ne.symm (by assumption))).trans ((xu_ne (by first | assumption | exact Ne.symm (by assumption))).trans ((xu_ne (by first | assumption | exact Ne.symm (by assumption))).trans (by first | assumption | exact xu_eq _ _ _))))) rfl (by decide) dX3_wrap_4 rfl rfl rfl (by first | exact Nat.le_of_ble_eq_true rfl | simp [Value.category, rf_cat]) (by omega) xN_no ?_
    refine g_bipush (v := (nI 60)) dX3_wrap_7 rfl rfl ?_
    refine g_icmpn_ge (tgt := 50) dX3_wrap_9 (by decide) rfl (by omega) (by omega) (fun c_9 => ?_) (fun c_9 => by omega)
    refine g_iconst (v := (nI 0)) dX3_wrap_50 rfl rfl ?_
    refine g_ist2 dX3_wrap_51 rfl (by decide) (k := ?_)
    refine g_iload_n dX3_wrap_52 rfl rfl rfl ?_
    refine g_ifn_eq (tgt := 155) dX3_wrap_53 (by decide) rfl (by omega) (fun _ => ?_) (fun c_53 => by omega)
    refine g_iload_n dX3_wrap_155 rfl rfl rfl ?_
    exact g_zreturn dX3_wrap_156 rfl rfl ⟨rfl, rfl⟩
end WRAPD
