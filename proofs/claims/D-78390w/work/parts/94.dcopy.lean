/-! DOCUMENTS: copy -/
set_option maxRecDepth 100000
section DCOPY
variable {w : XW} {id d D jd : Nat} {g : XG} {m : XM} {T : XT} {top r : Nat} {P N Q : List XE} {q : Option Nat} {S : XK}
theorem c_dinit {a t : Nat} {x y c e : Value} (hd : 2 ≤ d) (hm : m a = some (.inr (2, [x, y, c, e]))) : CT w MX3_init d 0 0 [.ref a, .ref t] m (xRet none (xu m a (.inr (2, [.ref t, .ref t, c, e])))) xN := by
  refine ct_intro (lv := [some (.ref a), some (.ref t)]) 0 (by decide) rfl (Nat.le_of_ble_eq_true rfl) rfl ?_
  first | refine g_aload_n dX3_init_0 rfl rfl rfl ?_ | refine g_aload_nR dX3_init_0 rfl rfl rfl ?_ | refine g_aload_nN dX3_init_0 rfl rfl rfl ?_
  refine g_objInit q1215 q110 q111 dX3_init_1 rfl (by omega) (by first | exact Nat.le_of_ble_eq_true rfl | simp [Value.category, rf_cat]) ?_
  first | refine g_aload_n dX3_init_4 rfl rfl rfl ?_ | refine g_aload_nR dX3_init_4 rfl rfl rfl ?_ | refine g_aload_nN dX3_init_4 rfl rfl rfl ?_
  first | refine g_aload_n dX3_init_5 rfl rfl rfl ?_ | refine g_aload_nR dX3_init_5 rfl rfl rfl ?_ | refine g_aload_nN dX3_init_5 rfl rfl rfl ?_
  refine g_put0 fl_X3_9_X3 dX3_init_6 rfl (by first | assumption | exact xu_eq _ _ _ | exact (xu_ne (by first | assumption | exact Ne.symm (by assumption))).trans (by first | assumption | exact xu_eq _ _ _) | exact (xu_ne (by first | assumption | exact Ne.symm (by assumption))).trans ((xu_ne (by first | assumption | exact Ne.symm (by assumption))).trans (by first | assumption | exact xu_eq _ _ _)) | exact (xu_ne (by first | assumption | exact Ne.symm (by assumption))).trans ((xu_ne (by first | assumption | exact Ne.symm (by assumption))).trans ((xu_ne (by first | assumption | exact Ne.symm (by assumption))).trans (by first | assumption | exact xu_eq _ _ _)))) rfl rfl ?_
  first | refine g_aload_n dX3_init_9 rfl rfl rfl ?_ | refine g_aload_nR dX3_init_9 rfl rfl rfl ?_ | refine g_aload_nN dX3_init_9 rfl rfl rfl ?_
  first | refine g_aload_n dX3_init_10 rfl rfl rfl ?_ | refine g_aload_nR dX3_init_10 rfl rfl rfl ?_ | refine g_aload_nN dX3_init_10 rfl rfl rfl ?_
  refine g_put1 fl_X3_15_X3 dX3_init_11 rfl (by first | assumption | exact xu_eq _ _ _ | exact (xu_ne (by first | assumption | exact Ne.symm (by assumption))).trans (by first | assumption | exact xu_eq _ _ _) | exact (xu_ne (by first | assumption | exact Ne.symm (by assumption))).trans ((xu_ne (by first | assumption | exact Ne.symm (by assumption))).trans (by first | assumption | exact xu_eq _ _ _)) | exact (xu_ne (by first | assumption | exact Ne.symm (by assumption))).trans ((xu_ne (by first | assumption | exact Ne.symm (by assumption))).trans ((xu_ne (by first | assumption | exact Ne.symm (by assumption))).trans (by first | assumption | exact xu_eq _ _ _)))) rfl rfl ?_
  refine g_return dX3_init_14 rfl ⟨rfl, ?_⟩
  rw [xu_xu]
theorem scn_ne {S S2 : XK} {f : Nat × Option Nat} {A : List XE} (h : scn S A = some (f :: S2)) : ∃ f' S', S = f' :: S' := by
  cases S with
  | cons f' S' => exact ⟨f', S', rfl⟩
  | nil =>
    cases A with
    | nil => rw [scn_nil] at h; cases h
    | cons x A => obtain ⟨S1, h1, -⟩ := scn_cons' h; exact (stp_0 h1).elim
theorem c_dcopy (h : DC w g m id D T top r P N Q q S) (hd : 60 ≤ d) (hjd : jd ≠ id) (hj0 : jd ≠ 0) (hfr : ∀ a, m a ≠ none → (g a).1 ≠ jd) : CT w MX3_copy d 430 5400 [.ref D] m (fun v m' => ∃ D' g', some (.ref D') = v ∧ m D' = none ∧ (∀ a, m a ≠ none → g' a = g a ∧ m' a = m a) ∧ (∀ a, m a = none → m' a ≠ none → (g' a).1 = jd ∨ a = D') ∧ DP w g' m' jd D' ((P ++ (N ++ Q)).map sg, (P ++ N).length, if N = [] then none else some P.length)) xN := by
  have hL := dc_len h
  have hDC := h
  have hH := dc_ho h
  obtain ⟨own, sl, cap, hR⟩ := dc_row h
  obtain ⟨h1, h2, ⟨h3, h3'⟩, h4, ⟨sl0, cap0, h5⟩, h6, h7, h8, h9⟩ := h
  have hS0 : SM w g m jd ((fun _ => none), (fun _ => none), (fun _ => none)) := ⟨(fun r v h => (by cases (show (none : Option XR) = some v from h))), (fun i v h => (by cases (show (none : Option XI) = some v from h)))⟩
  have hDn : m D ≠ none := by rw [h2]; exact fun h => by cases h
  have hgDj : (g D).1 ≠ jd := by rw [h3]; exact fun e => hj0 e.symm
  refine ct_intro (lv := [some (.ref D), none, none]) 2 (by decide) rfl (Nat.le_of_ble_eq_true rfl) rfl ?_
  refine g_new nw_X3_18 dX3_copy_0 rfl (by omega) (by omega) (fun a_0 hno_0 hb_0 => ?_)
  refine g_dup dX3_copy_3 rfl (by first | rfl | exact rf_cat _) ?_
  refine g_ctorN iC_X4_init q2156 (c_rinit (d := d - 1) (by omega) hS0 hno_0) dX3_copy_4 rfl rfl rfl (by first | exact Nat.le_of_ble_eq_true rfl | simp [Value.category, rf_cat]) (by omega) (by omega) (by omega) xN_no (fun v_4 m_4 h_4 => ?_)
  obtain ⟨rfl, g1, hS1, hF1, hne1, -⟩ := h_4
  have h11 := SM_fr hF1 (fun e => hjd e.symm) h1
  have hm1 := (Fr_al hF1 hDn hgDj).trans h2
  have hg1 : g1 D = g D := (hF1.1 D hDn).1
  obtain ⟨la, ar, bx, mc, hr1, k1, hA, -⟩ := sm_row h11 h5
  obtain ⟨lb, ab, bb, mb, hrb, -⟩ := sm_row hS1 (uF_eq _ _ _)
  first | refine g_ast1 dX3_copy_7 rfl (by decide) (k := ?_) | refine g_astR1 dX3_copy_7 rfl (by decide) (k := ?_) | refine g_astN1 dX3_copy_7 rfl (by decide) (k := ?_)
  first | refine g_aload_n dX3_copy_8 rfl rfl rfl ?_ | refine g_aload_nR dX3_copy_8 rfl rfl rfl ?_ | refine g_aload_nN dX3_copy_8 rfl rfl rfl ?_
  first | refine g_aload_n dX3_copy_9 rfl rfl rfl ?_ | refine g_aload_nR dX3_copy_9 rfl rfl rfl ?_ | refine g_aload_nN dX3_copy_9 rfl rfl rfl ?_
  refine g_get fl_X3_9_X3 dX3_copy_10 rfl (Or.inl (by first | assumption | exact xu_eq _ _ _ | exact (xu_ne (by first | assumption | exact Ne.symm (by assumption))).trans (by first | assumption | exact xu_eq _ _ _) | exact (xu_ne (by first | assumption | exact Ne.symm (by assumption))).trans ((xu_ne (by first | assumption | exact Ne.symm (by assumption))).trans (by first | assumption | exact xu_eq _ _ _)) | exact (xu_ne (by first | assumption | exact Ne.symm (by assumption))).trans ((xu_ne (by first | assumption | exact Ne.symm (by assumption))).trans ((xu_ne (by first | assumption | exact Ne.symm (by assumption))).trans (by first | assumption | exact xu_eq _ _ _))))) rfl ?_
  refine g_iconst (v := (nI 0)) dX3_copy_13 rfl rfl ?_
  first | refine g_aload_n dX3_copy_14 rfl rfl rfl ?_ | refine g_aload_nR dX3_copy_14 rfl rfl rfl ?_ | refine g_aload_nN dX3_copy_14 rfl rfl rfl ?_
  refine g_get fl_X3_9_X3 dX3_copy_15 rfl (Or.inl (by first | assumption | exact xu_eq _ _ _ | exact (xu_ne (by first | assumption | exact Ne.symm (by assumption))).trans (by first | assumption | exact xu_eq _ _ _) | exact (xu_ne (by first | assumption | exact Ne.symm (by assumption))).trans ((xu_ne (by first | assumption | exact Ne.symm (by assumption))).trans (by first | assumption | exact xu_eq _ _ _)) | exact (xu_ne (by first | assumption | exact Ne.symm (by assumption))).trans ((xu_ne (by first | assumption | exact Ne.symm (by assumption))).trans ((xu_ne (by first | assumption | exact Ne.symm (by assumption))).trans (by first | assumption | exact xu_eq _ _ _))))) rfl ?_
  refine g_get fl_X3_21_X4 dX3_copy_18 rfl (Or.inl (by first | assumption | exact xu_eq _ _ _ | exact (xu_ne (by first | assumption | exact Ne.symm (by assumption))).trans (by first | assumption | exact xu_eq _ _ _) | exact (xu_ne (by first | assumption | exact Ne.symm (by assumption))).trans ((xu_ne (by first | assumption | exact Ne.symm (by assumption))).trans (by first | assumption | exact xu_eq _ _ _)) | exact (xu_ne (by first | assumption | exact Ne.symm (by assumption))).trans ((xu_ne (by first | assumption | exact Ne.symm (by assumption))).trans ((xu_ne (by first | assumption | exact Ne.symm (by assumption))).trans (by first | assumption | exact xu_eq _ _ _))))) rfl ?_
  refine g_ifaceP iI_J26_size_J26 q1826 (c_size (d := d - 1) (by omega) hA) (Or.inl (by first | assumption | exact xu_eq _ _ _ | exact (xu_ne (by first | assumption | exact Ne.symm (by assumption))).trans (by first | assumption | exact xu_eq _ _ _) | exact (xu_ne (by first | assumption | exact Ne.symm (by assumption))).trans ((xu_ne (by first | assumption | exact Ne.symm (by assumption))).trans (by first | assumption | exact xu_eq _ _ _)) | exact (xu_ne (by first | assumption | exact Ne.symm (by assumption))).trans ((xu_ne (by first | assumption | exact Ne.symm (by assumption))).trans ((xu_ne (by first | assumption | exact Ne.symm (by assumption))).trans (by first | assumption | exact xu_eq _ _ _))))) rfl (by decide) dX3_copy_21 rfl rfl rfl (by first | exact Nat.le_of_ble_eq_true rfl | simp [Value.category, rf_cat]) (by omega) xN_no ?_
  refine g_virtual iV_X4_addCopies q2157 (c_addCopies (w := w) (jd := id) (T2 := T) (id := jd) hjd (P ++ (N ++ Q)).length (P ++ (N ++ Q)) top (Nat.le_refl _) h4 [] (P ++ (N ++ Q)) [] (by simp) (bd_nil top) h4.1 (bd_nil top) g1 _ _ a_0 0 _ 0 0 (d - 1) 420 5310 none [] h11 hS1 (uF_eq _ _ _) (by simpa using (show (P ++ (N ++ Q)).length ≤ 250 by omega)) rfl (by simp [drs]) (by omega) (by omega) (by simp only [Psi, List.length_nil]; omega)) (Or.inl (by first | assumption | exact xu_eq _ _ _ | exact (xu_ne (by first | assumption | exact Ne.symm (by assumption))).trans (by first | assumption | exact xu_eq _ _ _) | exact (xu_ne (by first | assumption | exact Ne.symm (by assumption))).trans ((xu_ne (by first | assumption | exact Ne.symm (by assumption))).trans (by first | assumption | exact xu_eq _ _ _)) | exact (xu_ne (by first | assumption | exact Ne.symm (by assumption))).trans ((xu_ne (by first | assumption | exact Ne.symm (by assumption))).trans ((xu_ne (by first | assumption | exact Ne.symm (by assumption))).trans (by first | assumption | exact xu_eq _ _ _))))) rfl (by decide) dX3_copy_26 rfl rfl rfl (by first | exact Nat.le_of_ble_eq_true rfl | simp [Value.category, rf_cat]) (by omega) (by omega) (by omega) xN_no (fun v_26 m_26 h_26 => ?_)
  obtain ⟨L', g2, T3, cb3, rfl, hS2, hF2, hFT, hTb, hsh, hdl⟩ := h_26
  rw [List.nil_append] at hTb
  have h12 := SM_fr hF2 (fun e => hjd e.symm) h11
  have hD1n : m_4 D ≠ none := by rw [hm1]; exact fun h => by cases h
  have hm2 := (Fr_al hF2 hD1n (by rw [hg1]; exact hgDj)).trans hm1
  have hD2n : m_26 D ≠ none := by rw [hm2]; exact fun h => by cases h
  refine g_new nw_X3_10 dX3_copy_29 rfl (by omega) (by omega) (fun a_29 hno_29 hb_29 => ?_)
  refine g_dup dX3_copy_32 rfl (by first | rfl | exact rf_cat _) ?_
  first | refine g_aload_n dX3_copy_33 rfl rfl rfl ?_ | refine g_aload_nR dX3_copy_33 rfl rfl rfl ?_ | refine g_aload_nN dX3_copy_33 rfl rfl rfl ?_
  refine g_ctorR iC_X3_init q2159 (c_dinit (d := d - 1) (by omega) (xu_eq _ _ _)) dX3_copy_34 rfl rfl rfl (by first | exact Nat.le_of_ble_eq_true rfl | simp [Value.category, rf_cat]) (by omega) (by omega) (by omega) xN_no ?_
  rw [xu_xu]
  have hDa : D ≠ a_29 := fun e => by subst e; exact hD2n hno_29
  have keep3 : ∀ b, m_26 b ≠ none → (xu m_26 a_29 (.inr (2, [.ref a_0, .ref a_0, .int 0, .int 0]))) b = m_26 b ∧ (uF g2 a_29 (0, 5, 0)) b = g2 b := fun b hb => by
    have : b ≠ a_29 := fun e => by subst e; exact hb hno_29
    exact ⟨xu_ne this, uF_ne this⟩
  have h13 := sm_old keep3 h12
  have hS3 := sm_old keep3 hS2
  have hm3 := (keep3 D hD2n).1.trans hm2
  have ha3 := xu_eq m_26 a_29 (.inr (2, [.ref a_0, .ref a_0, .int 0, .int 0]))
  obtain ⟨lr, ar4, br, mr, hrr, -⟩ := sm_row h13 hR
  have hc := c_place h13 h5 S.length (P ++ N) Q r q S (Nat.le_refl _) (by rw [List.append_assoc]; exact h4) (by rw [List.append_assoc]; omega) (by rw [scn_app' _ h6]; exact bd_any h7 _ _) (d - 1) _ rfl (by rw [List.append_assoc]; omega)
  have hDT3 : DT T3 a_0 L' := pt_dt (ft_pt hFT hne1) hTb
  have hga : ((uF g2 a_29 (0, 5, 0)) a_29).1 = 0 := by rw [uF_eq]
  have hll := (sh_cnt hsh)
  have hmt := c_moveTo (d := d - 1) (c := (P ++ N).length) (by omega) hS3 hDT3 ha3 (by rw [hga]; exact fun e => hj0 e.symm) (by omega) (by rw [sh_hts hsh]; exact h9) (by rw [hll.2, ← List.append_assoc, List.length_append (as := P ++ N)]; omega)
  generalize hm3e : xu m_26 a_29 (.inr (2, [.ref a_0, .ref a_0, .int 0, .int 0])) = m3 at *
  first | refine g_ast2 dX3_copy_37 rfl (by decide) (k := ?_) | refine g_astR2 dX3_copy_37 rfl (by decide) (k := ?_) | refine g_astN2 dX3_copy_37 rfl (by decide) (k := ?_)
  first | refine g_aload_n dX3_copy_38 rfl rfl rfl ?_ | refine g_aload_nR dX3_copy_38 rfl rfl rfl ?_ | refine g_aload_nN dX3_copy_38 rfl rfl rfl ?_
  first | refine g_aload_n dX3_copy_39 rfl rfl rfl ?_ | refine g_aload_nR dX3_copy_39 rfl rfl rfl ?_ | refine g_aload_nN dX3_copy_39 rfl rfl rfl ?_
  refine g_get fl_X3_15_X3 dX3_copy_40 rfl (Or.inl (by first | assumption | exact xu_eq _ _ _ | exact (xu_ne (by first | assumption | exact Ne.symm (by assumption))).trans (by first | assumption | exact xu_eq _ _ _) | exact (xu_ne (by first | assumption | exact Ne.symm (by assumption))).trans ((xu_ne (by first | assumption | exact Ne.symm (by assumption))).trans (by first | assumption | exact xu_eq _ _ _)) | exact (xu_ne (by first | assumption | exact Ne.symm (by assumption))).trans ((xu_ne (by first | assumption | exact Ne.symm (by assumption))).trans ((xu_ne (by first | assumption | exact Ne.symm (by assumption))).trans (by first | assumption | exact xu_eq _ _ _))))) rfl ?_
  first | refine g_aload_n dX3_copy_43 rfl rfl rfl ?_ | refine g_aload_nR dX3_copy_43 rfl rfl rfl ?_ | refine g_aload_nN dX3_copy_43 rfl rfl rfl ?_
  refine g_get fl_X3_38_X3 dX3_copy_44 rfl (Or.inl (by first | assumption | exact xu_eq _ _ _ | exact (xu_ne (by first | assumption | exact Ne.symm (by assumption))).trans (by first | assumption | exact xu_eq _ _ _) | exact (xu_ne (by first | assumption | exact Ne.symm (by assumption))).trans ((xu_ne (by first | assumption | exact Ne.symm (by assumption))).trans (by first | assumption | exact xu_eq _ _ _)) | exact (xu_ne (by first | assumption | exact Ne.symm (by assumption))).trans ((xu_ne (by first | assumption | exact Ne.symm (by assumption))).trans ((xu_ne (by first | assumption | exact Ne.symm (by assumption))).trans (by first | assumption | exact xu_eq _ _ _))))) rfl ?_
  refine g_virtualP iV_X4_place q1845 (hc) (Or.inl (by first | assumption | exact xu_eq _ _ _ | exact (xu_ne (by first | assumption | exact Ne.symm (by assumption))).trans (by first | assumption | exact xu_eq _ _ _) | exact (xu_ne (by first | assumption | exact Ne.symm (by assumption))).trans ((xu_ne (by first | assumption | exact Ne.symm (by assumption))).trans (by first | assumption | exact xu_eq _ _ _)) | exact (xu_ne (by first | assumption | exact Ne.symm (by assumption))).trans ((xu_ne (by first | assumption | exact Ne.symm (by assumption))).trans ((xu_ne (by first | assumption | exact Ne.symm (by assumption))).trans (by first | assumption | exact xu_eq _ _ _))))) rfl (by decide) dX3_copy_47 rfl rfl rfl (by first | exact Nat.le_of_ble_eq_true rfl | simp [Value.category, rf_cat]) (by omega) xN_no ?_
  refine g_virtual iV_X3_moveTo q2064 (hmt) (Or.inl (by first | assumption | exact xu_eq _ _ _ | exact (xu_ne (by first | assumption | exact Ne.symm (by assumption))).trans (by first | assumption | exact xu_eq _ _ _) | exact (xu_ne (by first | assumption | exact Ne.symm (by assumption))).trans ((xu_ne (by first | assumption | exact Ne.symm (by assumption))).trans (by first | assumption | exact xu_eq _ _ _)) | exact (xu_ne (by first | assumption | exact Ne.symm (by assumption))).trans ((xu_ne (by first | assumption | exact Ne.symm (by assumption))).trans ((xu_ne (by first | assumption | exact Ne.symm (by assumption))).trans (by first | assumption | exact xu_eq _ _ _))))) rfl (by decide) dX3_copy_50 rfl rfl rfl (by first | exact Nat.le_of_ble_eq_true rfl | simp [Value.category, rf_cat]) (by omega) (by omega) (by omega) xN_no (fun v_50 m_50 h_50 => ?_)
  obtain ⟨rfl, r', P', Q', q', S', e1, e2, e3, e4⟩ := h_50
  have ha4 : m_50 a_29 = some (.inr (2, [.ref a_0, .ref r', .int (nI (drs r' P').length), .int (nI 0)])) := by rw [e4]; exact xu_eq _ _ _
  have hm4 := (xu_ne (m := m3) (a := a_29) (e := .inr (2, [.ref a_0, .ref r', .int (nI (drs r' P').length), .int (nI 0)])) hDa).trans hm3
  rw [← e4] at hm4
  first | refine g_aload_n dX3_copy_53 rfl rfl rfl ?_ | refine g_aload_nR dX3_copy_53 rfl rfl rfl ?_ | refine g_aload_nN dX3_copy_53 rfl rfl rfl ?_
  first | refine g_aload_n dX3_copy_54 rfl rfl rfl ?_ | refine g_aload_nR dX3_copy_54 rfl rfl rfl ?_ | refine g_aload_nN dX3_copy_54 rfl rfl rfl ?_
  refine g_get fl_X3_50_X3 dX3_copy_55 rfl (Or.inl (by first | assumption | exact xu_eq _ _ _ | exact (xu_ne (by first | assumption | exact Ne.symm (by assumption))).trans (by first | assumption | exact xu_eq _ _ _) | exact (xu_ne (by first | assumption | exact Ne.symm (by assumption))).trans ((xu_ne (by first | assumption | exact Ne.symm (by assumption))).trans (by first | assumption | exact xu_eq _ _ _)) | exact (xu_ne (by first | assumption | exact Ne.symm (by assumption))).trans ((xu_ne (by first | assumption | exact Ne.symm (by assumption))).trans ((xu_ne (by first | assumption | exact Ne.symm (by assumption))).trans (by first | assumption | exact xu_eq _ _ _))))) rfl ?_
  refine g_put3 fl_X3_50_X3 dX3_copy_58 rfl ha4 rfl rfl ?_
  rw [e4, xu_xu]
  first | refine g_aload_n dX3_copy_61 rfl rfl rfl ?_ | refine g_aload_nR dX3_copy_61 rfl rfl rfl ?_ | refine g_aload_nN dX3_copy_61 rfl rfl rfl ?_
  refine g_areturn dX3_copy_62 rfl (Or.inl ⟨_, rfl⟩) (Or.inr ⟨_, rfl⟩) ?_
  obtain ⟨A1, X2, eL, s1, s2⟩ := sh_app hsh
  obtain ⟨A2, A3, rfl, s3, s4⟩ := sh_app s2
  have l1 := (sh_cnt s1).2
  have l2 := (sh_cnt s3).2
  have eP : P' = A1 ++ A2 := by
    have : P' ++ Q' = (A1 ++ A2) ++ A3 := by rw [← e1, eL]; simp
    exact (List.append_inj this (by rw [e2, List.length_append, List.length_append, l1, l2])).1
  rw [eP] at e3
  obtain ⟨S1, t1, t2⟩ := scn_split e3
  obtain ⟨f', S1', rfl⟩ := scn_ne t2
  obtain ⟨u1, u2, u3⟩ := sh_bd r N h7 A2 f' S1' _ s3 t2
  cases u2
  have hDT4 := hDT3
  rw [eL] at hDT4
  have hHO3 := ho_of hDT4.1 t1 u1
  have hcount := u3 (pt_of hDT4 hHO3 u1).2.1 (pt_of h4 hH h7).2.1
  have eL2 : A1 ++ (A2 ++ A3) = L' := eL.symm
  have hNA : A2 = [] ↔ N = [] := by
    constructor
    · intro e; subst e; exact List.eq_nil_of_length_eq_zero (by simpa using l2.symm)
    · intro e; subst e; exact List.eq_nil_of_length_eq_zero (by simpa using l2)
  have ma0 : m a_29 = none := by
    by_cases e : m a_29 = none
    · exact e
    · exact absurd hno_29 (hF2.1 a_29 (hF1.1 a_29 e).2.1).2.1
  refine ⟨a_29, uF g2 a_29 (0, 5, 0), rfl, ma0, fun b hb => ?_, fun b hb hb2 => ?_, T3, a_0, r', A1, A2, A3, q', S', ⟨sm_D hS3 (by rw [hga]; exact fun e => hj0 e.symm) (by rw [ha3]; exact fun h => by cases h), ?_, ⟨hga, hj0⟩, hDT4, ⟨0, cb3, by rw [eL2]; exact hTb⟩, t1, u1, ?_, ?_⟩, ?_⟩
  · have n1 : b ≠ a_29 := fun e => by subst e; exact hb ma0
    obtain ⟨f1, f2, f3⟩ := hF1.1 b hb
    obtain ⟨f4, f5, f6⟩ := hF2.1 b f2
    refine ⟨by rw [uF_ne n1, f4, f1], ?_⟩
    rw [xu_ne n1, ← hm3e, xu_ne n1, f6 (by rw [f1]; exact hfr b hb), f3 (hfr b hb)]
  · by_cases n1 : b = a_29
    · exact Or.inr n1
    · rw [xu_ne n1, ← hm3e, xu_ne n1] at hb2
      rw [uF_ne n1]
      exact Or.inl ((Fr_tr hF1 hF2).2 b hb hb2)
  · rw [xu_eq, ← eP, hcount]
  · rw [eL2, hll.1]; exact h8
  · rw [eL2, sh_hts hsh]; exact h9
  · rw [eL2, sh_sg hsh, List.length_append, List.length_append, l1, l2]
    by_cases hN : N = []
    · rw [if_pos hN, if_pos (hNA.mpr hN)]
    · rw [if_neg hN, if_neg (fun e => hN (hNA.mp e))]
end DCOPY
