/-! DOCUMENTS: backspace, an item goes -/
set_option maxRecDepth 100000
section BACK2
variable {w : XW} {id d D : Nat} {g : XG} {m : XM} {T : XT} {top r : Nat} {P Q : List XE} {q : Option Nat} {S : XK}
def bkP (w : XW) (g : XG) (m : XM) (id D : Nat) (P' Q : List XE) : Option Value → XM → Prop := fun v m' => some (.int (nI 1)) = v ∧ ∃ g', FrD id D g m g' m' ∧ DP w g' m' id D ((P' ++ Q).map sg, P'.length, none)
theorem l_back85 {P' X : List XE} {x kc ks : Nat} (h : DC w g m id D T top r P [] Q q S) (hd : 20 ≤ d) (eP : P = P' ++ X) (hP' : scn [(top, none)] P' = some ((r, q) :: S)) (hX : Bd r X) (hx : drs r X = [x]) : G w MX3_backspace (xZ w (bkP w g m id D P' Q) xN) d kc ks 85 [some (.ref D), none, none] [] m := by
  have h60 := dc_60 h
  obtain ⟨own, sl, cap, hR⟩ := dc_row h
  obtain ⟨h1, h2, ⟨h3, h3'⟩, h4, ⟨sl0, cap0, h5⟩, h6, h7, h8, h9⟩ := h
  have hgD : (g D).1 ≠ id := by rw [h3]; exact fun e => h3' e.symm
  have hDn : m D ≠ none := by rw [h2]; exact fun h => by cases h
  have edr : drs r P = drs r P' ++ [x] := by rw [eP, drs_app, hx]
  have eR : drs r P ++ (drs r [] ++ drs r Q) = drs r P' ++ x :: drs r Q := by rw [edr]; simp [drs]
  rw [eR] at hR
  obtain ⟨la, ar, bx, mc, hr1, k1, hA, g3, g4, g5, hz⟩ := sm_row h1 hR
  have hi0 : (drs r (P ++ [])).length = (drs r P').length + 1 := by rw [List.append_nil, edr]; simp
  have hi1 : (drs r (P ++ [])).length - 1 = (drs r P').length := by omega
  have hb := h60.1
  rw [edr] at hb
  simp only [List.length_append, List.length_cons, List.length_nil] at hb
  first | refine g_aload_n dX3_backspace_85 rfl rfl rfl ?_ | refine g_aload_nR dX3_backspace_85 rfl rfl rfl ?_ | refine g_aload_nN dX3_backspace_85 rfl rfl rfl ?_
  refine g_get fl_X3_15_X3 dX3_backspace_86 rfl (Or.inl (by first | assumption | exact xu_eq _ _ _ | exact (xu_ne (by first | assumption | exact Ne.symm (by assumption))).trans (by first | assumption | exact xu_eq _ _ _) | exact (xu_ne (by first | assumption | exact Ne.symm (by assumption))).trans ((xu_ne (by first | assumption | exact Ne.symm (by assumption))).trans (by first | assumption | exact xu_eq _ _ _)) | exact (xu_ne (by first | assumption | exact Ne.symm (by assumption))).trans ((xu_ne (by first | assumption | exact Ne.symm (by assumption))).trans ((xu_ne (by first | assumption | exact Ne.symm (by assumption))).trans (by first | assumption | exact xu_eq _ _ _))))) rfl ?_
  refine g_get fl_X3_21_X4 dX3_backspace_89 rfl (Or.inl (by first | assumption | exact xu_eq _ _ _ | exact (xu_ne (by first | assumption | exact Ne.symm (by assumption))).trans (by first | assumption | exact xu_eq _ _ _) | exact (xu_ne (by first | assumption | exact Ne.symm (by assumption))).trans ((xu_ne (by first | assumption | exact Ne.symm (by assumption))).trans (by first | assumption | exact xu_eq _ _ _)) | exact (xu_ne (by first | assumption | exact Ne.symm (by assumption))).trans ((xu_ne (by first | assumption | exact Ne.symm (by assumption))).trans ((xu_ne (by first | assumption | exact Ne.symm (by assumption))).trans (by first | assumption | exact xu_eq _ _ _))))) rfl ?_
  first | refine g_aload_n dX3_backspace_92 rfl rfl rfl ?_ | refine g_aload_nR dX3_backspace_92 rfl rfl rfl ?_ | refine g_aload_nN dX3_backspace_92 rfl rfl rfl ?_
  refine g_get fl_X3_38_X3 dX3_backspace_93 rfl (Or.inl (by first | assumption | exact xu_eq _ _ _ | exact (xu_ne (by first | assumption | exact Ne.symm (by assumption))).trans (by first | assumption | exact xu_eq _ _ _) | exact (xu_ne (by first | assumption | exact Ne.symm (by assumption))).trans ((xu_ne (by first | assumption | exact Ne.symm (by assumption))).trans (by first | assumption | exact xu_eq _ _ _)) | exact (xu_ne (by first | assumption | exact Ne.symm (by assumption))).trans ((xu_ne (by first | assumption | exact Ne.symm (by assumption))).trans ((xu_ne (by first | assumption | exact Ne.symm (by assumption))).trans (by first | assumption | exact xu_eq _ _ _))))) rfl ?_
  refine g_iconst (v := (nI 1)) dX3_backspace_96 rfl rfl ?_
  refine g_isubn dX3_backspace_97 rfl (by omega) ?_
  rw [hi1]
  refine g_iface iI_J26_remove_J26 q2233 (c_remv (d := d - 1) (by omega) hA (at_mid (drs r P') (drs r Q) x) (fun z hq => sm_xob h1 (hz z hq))) (Or.inl (by first | assumption | exact xu_eq _ _ _ | exact (xu_ne (by first | assumption | exact Ne.symm (by assumption))).trans (by first | assumption | exact xu_eq _ _ _) | exact (xu_ne (by first | assumption | exact Ne.symm (by assumption))).trans ((xu_ne (by first | assumption | exact Ne.symm (by assumption))).trans (by first | assumption | exact xu_eq _ _ _)) | exact (xu_ne (by first | assumption | exact Ne.symm (by assumption))).trans ((xu_ne (by first | assumption | exact Ne.symm (by assumption))).trans ((xu_ne (by first | assumption | exact Ne.symm (by assumption))).trans (by first | assumption | exact xu_eq _ _ _))))) rfl (by decide) dX3_backspace_98 rfl rfl rfl (by first | exact Nat.le_of_ble_eq_true rfl | simp [Value.category, rf_cat]) (by omega) (by omega) (by omega) xN_no (fun v_98 m_98 h_98 => ?_)
  obtain ⟨rfl, hA', hK, hcap, hob⟩ := h_98
  rw [rmvN_mid] at hA'
  obtain ⟨g1, hS1, hF1⟩ := sm_lst (is' := drs r P' ++ drs r Q) h1 hR hr1 hA g4 g5 hA' (by rw [if_neg (by omega)]; exact hK) (fun z hq => hz z (by
    rcases List.mem_append.mp hq with hq | hq
    · exact List.mem_append_left _ hq
    · exact List.mem_append_right _ (List.mem_cons_of_mem _ hq)))
  have hm1 := (Fr_al hF1 hDn hgD).trans h2
  have hg1 : g1 D = g D := (hF1.1 D hDn).1
  rw [hi0] at hm1
  refine g_pop dX3_backspace_103 rfl (by first | rfl | exact rf_cat _) ?_
  first | refine g_aload_n dX3_backspace_104 rfl rfl rfl ?_ | refine g_aload_nR dX3_backspace_104 rfl rfl rfl ?_ | refine g_aload_nN dX3_backspace_104 rfl rfl rfl ?_
  refine g_dup dX3_backspace_105 rfl (by first | rfl | exact rf_cat _) ?_
  refine g_get fl_X3_38_X3 dX3_backspace_106 rfl (Or.inl (by first | assumption | exact xu_eq _ _ _ | exact (xu_ne (by first | assumption | exact Ne.symm (by assumption))).trans (by first | assumption | exact xu_eq _ _ _) | exact (xu_ne (by first | assumption | exact Ne.symm (by assumption))).trans ((xu_ne (by first | assumption | exact Ne.symm (by assumption))).trans (by first | assumption | exact xu_eq _ _ _)) | exact (xu_ne (by first | assumption | exact Ne.symm (by assumption))).trans ((xu_ne (by first | assumption | exact Ne.symm (by assumption))).trans ((xu_ne (by first | assumption | exact Ne.symm (by assumption))).trans (by first | assumption | exact xu_eq _ _ _))))) rfl ?_
  refine g_iconst (v := (nI 1)) dX3_backspace_109 rfl rfl ?_
  refine g_isubn dX3_backspace_110 rfl (by omega) ?_
  refine g_put2 fl_X3_38_X3 dX3_backspace_111 rfl (by first | assumption | exact xu_eq _ _ _ | exact (xu_ne (by first | assumption | exact Ne.symm (by assumption))).trans (by first | assumption | exact xu_eq _ _ _) | exact (xu_ne (by first | assumption | exact Ne.symm (by assumption))).trans ((xu_ne (by first | assumption | exact Ne.symm (by assumption))).trans (by first | assumption | exact xu_eq _ _ _)) | exact (xu_ne (by first | assumption | exact Ne.symm (by assumption))).trans ((xu_ne (by first | assumption | exact Ne.symm (by assumption))).trans ((xu_ne (by first | assumption | exact Ne.symm (by assumption))).trans (by first | assumption | exact xu_eq _ _ _)))) rfl rfl ?_
  refine g_iconst (v := (nI 1)) dX3_backspace_114 rfl rfl ?_
  refine g_ireturn dX3_backspace_115 rfl ?_
  have h4' : DT T top (P' ++ (X ++ Q)) := by
    have e : P ++ ([] ++ Q) = P' ++ (X ++ Q) := by rw [eP]; simp
    rw [← e]; exact h4
  have hH' := ho_of h4'.1 hP' hX
  have eRr : T.1 r = some (own, sl, cap, drs r (P' ++ (X ++ Q))) := by rw [hR, drs_app, drs_app, hx]; rfl
  have hDT := dt_new (T' := (uF T.1 r (some (own, sl, cap, drs r P' ++ drs r Q)), T.2)) h4' hH' hX (pt_nil _ r) (fun s hs => by simp [opn] at hs) (fun s hs => by simp [itm] at hs) eRr ⟨cap, by rw [List.nil_append, drs_app]; exact uF_eq _ _ _⟩ (fun s hs hsr => uF_ne hsr) (fun i hi => ⟨rfl, rfl⟩)
  obtain ⟨sl1, cap1, htop⟩ := top_own (T' := (uF T.1 r (some (own, sl, cap, drs r P' ++ drs r Q)), T.2)) h5 hR (uF_eq _ _ _) (fun hn => uF_ne hn) hDT
  refine ⟨rfl, g1, FrD_tr (FrD_of hF1) (FrD_u (by rw [hm1]; exact fun h => by cases h)), _, top, r, P', [], Q, q, S, ⟨sm_D hS1 (by rw [hg1]; exact hgD) (by rw [hm1]; exact fun h => by cases h), ?_, ⟨by rw [hg1]; exact h3, h3'⟩, hDT, ⟨sl1, cap1, htop⟩, hP', bd_nil r, ?_, ?_⟩, ?_⟩
  · rw [xu_eq, List.append_nil]; rfl
  · rw [List.nil_append, cnt_app]
    rw [eP, List.nil_append, cnt_app, cnt_app] at h8; omega
  · rw [List.nil_append]
    refine Nat.le_trans (hts_rem hX) ?_
    have e : P ++ ([] ++ Q) = P' ++ (X ++ Q) := by rw [eP]; simp
    rw [← e]; exact h9
  · rw [List.nil_append, List.append_nil, if_pos rfl]
theorem c_backC1 {P' : List XE} {c x : Nat} (h : DC w g m id D T top r P [] Q q S) (hd : 20 ≤ d) (eP : P = P' ++ [eS c x r]) (hP' : scn [(top, none)] P' = some ((r, q) :: S)) : CT w MX3_backspace d 0 0 [.ref D] m (bkP w g m id D P' Q) xN := by
  have h60 := dc_60 h
  have hDC := h
  obtain ⟨own, sl, cap, hR⟩ := dc_row h
  obtain ⟨h1, h2, h3, h4, -⟩ := h
  have edr : drs r P = drs r P' ++ [x] := by rw [eP, drs_app, drs_sS]; rfl
  have eR : drs r P ++ (drs r [] ++ drs r Q) = drs r P' ++ x :: drs r Q := by rw [edr]; simp [drs]
  rw [eR] at hR
  obtain ⟨la, ar, bx, mc, hr1, k1, hA, -⟩ := sm_row h1 hR
  have hi0 : (drs r (P ++ [])).length = (drs r P').length + 1 := by rw [List.append_nil, edr]; simp
  have hi1 : (drs r (P ++ [])).length - 1 = (drs r P').length := by omega
  have hz0 : (drs r ([] : List XE)).length = 0 := rfl
  have hb := h60.1
  rw [edr] at hb
  simp only [List.length_append, List.length_cons, List.length_nil] at hb
  have hek : EK T (eS c x r) := h4.2.2.2.2 _ (by rw [eP]; simp)
  obtain ⟨hx1, -⟩ := sm_sym h1 hek.1
  have hci := sm_castI h1 (i := x) (by rw [hek.1]; exact fun h => by cases h)
  refine ct_intro (lv := [some (.ref D), none, none]) 2 (by decide) rfl (Nat.le_of_ble_eq_true rfl) rfl ?_
  first | refine g_aload_n dX3_backspace_0 rfl rfl rfl ?_ | refine g_aload_nR dX3_backspace_0 rfl rfl rfl ?_ | refine g_aload_nN dX3_backspace_0 rfl rfl rfl ?_
  refine g_get fl_X3_50_X3 dX3_backspace_1 rfl (Or.inl (by first | assumption | exact xu_eq _ _ _ | exact (xu_ne (by first | assumption | exact Ne.symm (by assumption))).trans (by first | assumption | exact xu_eq _ _ _) | exact (xu_ne (by first | assumption | exact Ne.symm (by assumption))).trans ((xu_ne (by first | assumption | exact Ne.symm (by assumption))).trans (by first | assumption | exact xu_eq _ _ _)) | exact (xu_ne (by first | assumption | exact Ne.symm (by assumption))).trans ((xu_ne (by first | assumption | exact Ne.symm (by assumption))).trans ((xu_ne (by first | assumption | exact Ne.symm (by assumption))).trans (by first | assumption | exact xu_eq _ _ _))))) rfl ?_
  refine g_ifn_le (tgt := 15) dX3_backspace_4 (by decide) rfl (by omega) (fun c_4 => ?_) (fun c_4 => by omega)
  first | refine g_aload_n dX3_backspace_15 rfl rfl rfl ?_ | refine g_aload_nR dX3_backspace_15 rfl rfl rfl ?_ | refine g_aload_nN dX3_backspace_15 rfl rfl rfl ?_
  refine g_get fl_X3_38_X3 dX3_backspace_16 rfl (Or.inl (by first | assumption | exact xu_eq _ _ _ | exact (xu_ne (by first | assumption | exact Ne.symm (by assumption))).trans (by first | assumption | exact xu_eq _ _ _) | exact (xu_ne (by first | assumption | exact Ne.symm (by assumption))).trans ((xu_ne (by first | assumption | exact Ne.symm (by assumption))).trans (by first | assumption | exact xu_eq _ _ _)) | exact (xu_ne (by first | assumption | exact Ne.symm (by assumption))).trans ((xu_ne (by first | assumption | exact Ne.symm (by assumption))).trans ((xu_ne (by first | assumption | exact Ne.symm (by assumption))).trans (by first | assumption | exact xu_eq _ _ _))))) rfl ?_
  refine g_ifn_le (tgt := 116) dX3_backspace_19 (by decide) rfl (by omega) (fun c_19 => by omega) (fun c_19 => ?_)
  first | refine g_aload_n dX3_backspace_22 rfl rfl rfl ?_ | refine g_aload_nR dX3_backspace_22 rfl rfl rfl ?_ | refine g_aload_nN dX3_backspace_22 rfl rfl rfl ?_
  refine g_get fl_X3_15_X3 dX3_backspace_23 rfl (Or.inl (by first | assumption | exact xu_eq _ _ _ | exact (xu_ne (by first | assumption | exact Ne.symm (by assumption))).trans (by first | assumption | exact xu_eq _ _ _) | exact (xu_ne (by first | assumption | exact Ne.symm (by assumption))).trans ((xu_ne (by first | assumption | exact Ne.symm (by assumption))).trans (by first | assumption | exact xu_eq _ _ _)) | exact (xu_ne (by first | assumption | exact Ne.symm (by assumption))).trans ((xu_ne (by first | assumption | exact Ne.symm (by assumption))).trans ((xu_ne (by first | assumption | exact Ne.symm (by assumption))).trans (by first | assumption | exact xu_eq _ _ _))))) rfl ?_
  refine g_get fl_X3_21_X4 dX3_backspace_26 rfl (Or.inl (by first | assumption | exact xu_eq _ _ _ | exact (xu_ne (by first | assumption | exact Ne.symm (by assumption))).trans (by first | assumption | exact xu_eq _ _ _) | exact (xu_ne (by first | assumption | exact Ne.symm (by assumption))).trans ((xu_ne (by first | assumption | exact Ne.symm (by assumption))).trans (by first | assumption | exact xu_eq _ _ _)) | exact (xu_ne (by first | assumption | exact Ne.symm (by assumption))).trans ((xu_ne (by first | assumption | exact Ne.symm (by assumption))).trans ((xu_ne (by first | assumption | exact Ne.symm (by assumption))).trans (by first | assumption | exact xu_eq _ _ _))))) rfl ?_
  first | refine g_aload_n dX3_backspace_29 rfl rfl rfl ?_ | refine g_aload_nR dX3_backspace_29 rfl rfl rfl ?_ | refine g_aload_nN dX3_backspace_29 rfl rfl rfl ?_
  refine g_get fl_X3_38_X3 dX3_backspace_30 rfl (Or.inl (by first | assumption | exact xu_eq _ _ _ | exact (xu_ne (by first | assumption | exact Ne.symm (by assumption))).trans (by first | assumption | exact xu_eq _ _ _) | exact (xu_ne (by first | assumption | exact Ne.symm (by assumption))).trans ((xu_ne (by first | assumption | exact Ne.symm (by assumption))).trans (by first | assumption | exact xu_eq _ _ _)) | exact (xu_ne (by first | assumption | exact Ne.symm (by assumption))).trans ((xu_ne (by first | assumption | exact Ne.symm (by assumption))).trans ((xu_ne (by first | assumption | exact Ne.symm (by assumption))).trans (by first | assumption | exact xu_eq _ _ _))))) rfl ?_
  refine g_iconst (v := (nI 1)) dX3_backspace_33 rfl rfl ?_
  refine g_isubn dX3_backspace_34 rfl (by omega) ?_
  refine g_ifaceP iI_J26_get_J26 q1837 (c_get (d := d - 1) (by omega) hA (by rw [hi1]; exact at_mid (drs r P') (drs r Q) x)) (Or.inl (by first | assumption | exact xu_eq _ _ _ | exact (xu_ne (by first | assumption | exact Ne.symm (by assumption))).trans (by first | assumption | exact xu_eq _ _ _) | exact (xu_ne (by first | assumption | exact Ne.symm (by assumption))).trans ((xu_ne (by first | assumption | exact Ne.symm (by assumption))).trans (by first | assumption | exact xu_eq _ _ _)) | exact (xu_ne (by first | assumption | exact Ne.symm (by assumption))).trans ((xu_ne (by first | assumption | exact Ne.symm (by assumption))).trans ((xu_ne (by first | assumption | exact Ne.symm (by assumption))).trans (by first | assumption | exact xu_eq _ _ _))))) rfl (by decide) dX3_backspace_35 rfl rfl rfl (by first | exact Nat.le_of_ble_eq_true rfl | simp [Value.category, rf_cat]) (by omega) xN_no ?_
  refine g_castI q1838 dX3_backspace_40 rfl (by assumption) ?_
  first | refine g_ast1 dX3_backspace_43 rfl (by decide) (k := ?_) | refine g_astR1 dX3_backspace_43 rfl (by decide) (k := ?_) | refine g_astN1 dX3_backspace_43 rfl (by decide) (k := ?_)
  first | refine g_aload_n dX3_backspace_44 rfl rfl rfl ?_ | refine g_aload_nR dX3_backspace_44 rfl rfl rfl ?_ | refine g_aload_nN dX3_backspace_44 rfl rfl rfl ?_
  refine g_instN q1840 xc_X11.1 (by decide) (xnc (by decide)) dX3_backspace_45 rfl (by first | assumption | exact Or.inl (by first | assumption | exact xu_eq _ _ _ | exact (xu_ne (by first | assumption | exact Ne.symm (by assumption))).trans (by first | assumption | exact xu_eq _ _ _) | exact (xu_ne (by first | assumption | exact Ne.symm (by assumption))).trans ((xu_ne (by first | assumption | exact Ne.symm (by assumption))).trans (by first | assumption | exact xu_eq _ _ _)) | exact (xu_ne (by first | assumption | exact Ne.symm (by assumption))).trans ((xu_ne (by first | assumption | exact Ne.symm (by assumption))).trans ((xu_ne (by first | assumption | exact Ne.symm (by assumption))).trans (by first | assumption | exact xu_eq _ _ _))))) ?_
  refine g_ifn_eq (tgt := 85) dX3_backspace_48 (by decide) rfl (by omega) (fun _ => ?_) (fun c_48 => by omega)
  refine g_fg [some (.ref D), none, none] ⟨rfl, trivial⟩ ?_
  exact l_back85 hDC hd eP hP' (bd_sym c x (bd_nil r)) (by rw [drs_sS]; rfl)
theorem c_backC2 {P' A B : List XE} {k x o p : Nat} (h : DC w g m id D T top r P [] Q q S) (hd : 20 ≤ d) (eP : P = P' ++ sI k x r o p A B) (hbA : Bd o A) (hbB : k = 1 → Bd p B) (hP' : scn [(top, none)] P' = some ((r, q) :: S)) (hA0 : A = []) (hB0 : k = 1 → B = []) : CT w MX3_backspace d 0 0 [.ref D] m (bkP w g m id D P' Q) xN := by
  have h60 := dc_60 h
  have hDC := h
  obtain ⟨own, sl, cap, hR⟩ := dc_row h
  obtain ⟨h1, h2, h3, h4, -⟩ := h
  have h4' : DT T top (P' ++ (sI k x r o p A B ++ Q)) := by
    have e : P ++ ([] ++ Q) = P' ++ (sI k x r o p A B ++ Q) := by rw [eP]; simp
    rw [← e]; exact h4
  have hbS : Bd r (sI k x r o p A B) := bd_sI hbA hbB
  obtain ⟨e1, e2, eA, eBB, ⟨rs, rd, e3⟩, e4, ⟨ca, e5⟩, e6⟩ := dt_strH h4' (ho_of h4'.1 hP' hbS) hbA hbB
  have edr : drs r P = drs r P' ++ [x] := by rw [eP, drs_app, e2]
  have eR : drs r P ++ (drs r [] ++ drs r Q) = drs r P' ++ x :: drs r Q := by rw [edr]; simp [drs]
  rw [eR] at hR
  obtain ⟨la, ar, bx, mc, hr1, k1, hA, -⟩ := sm_row h1 hR
  have hi0 : (drs r (P ++ [])).length = (drs r P').length + 1 := by rw [List.append_nil, edr]; simp
  have hi1 : (drs r (P ++ [])).length - 1 = (drs r P').length := by omega
  have hz0 : (drs r ([] : List XE)).length = 0 := rfl
  have hb := h60.1
  rw [edr] at hb
  simp only [List.length_append, List.length_cons, List.length_nil] at hb
  obtain ⟨sa, bx2, f, hx1, hsa, hfp, hfq, -⟩ := sm_str h1 e3
  have hci := sm_castI h1 (i := x) (by rw [e3]; exact fun h => by cases h)
  have hep : ∃ cb, k = 1 → T.1 p = some (some x, 1, cb, drs p B) := by
    by_cases hk : k = 1
    · obtain ⟨-, cb, e7⟩ := e6 hk
      exact ⟨cb, fun _ => e7⟩
    · exact ⟨0, fun h => absurd h hk⟩
  obtain ⟨cb, hep⟩ := hep
  have hemp := c_sEmpty (d := d - 1) (by omega) h1 e3 e5 hep
  have hv : (decide (drs o A = []) && (if k = 1 then decide (drs p B = []) else true)) = true := by
    subst hA0
    by_cases hk : k = 1
    · rw [if_pos hk, hB0 hk]; rfl
    · rw [if_neg hk]; rfl
  rw [hv] at hemp
  refine ct_intro (lv := [some (.ref D), none, none]) 2 (by decide) rfl (Nat.le_of_ble_eq_true rfl) rfl ?_
  first | refine g_aload_n dX3_backspace_0 rfl rfl rfl ?_ | refine g_aload_nR dX3_backspace_0 rfl rfl rfl ?_ | refine g_aload_nN dX3_backspace_0 rfl rfl rfl ?_
  refine g_get fl_X3_50_X3 dX3_backspace_1 rfl (Or.inl (by first | assumption | exact xu_eq _ _ _ | exact (xu_ne (by first | assumption | exact Ne.symm (by assumption))).trans (by first | assumption | exact xu_eq _ _ _) | exact (xu_ne (by first | assumption | exact Ne.symm (by assumption))).trans ((xu_ne (by first | assumption | exact Ne.symm (by assumption))).trans (by first | assumption | exact xu_eq _ _ _)) | exact (xu_ne (by first | assumption | exact Ne.symm (by assumption))).trans ((xu_ne (by first | assumption | exact Ne.symm (by assumption))).trans ((xu_ne (by first | assumption | exact Ne.symm (by assumption))).trans (by first | assumption | exact xu_eq _ _ _))))) rfl ?_
  refine g_ifn_le (tgt := 15) dX3_backspace_4 (by decide) rfl (by omega) (fun c_4 => ?_) (fun c_4 => by omega)
  first | refine g_aload_n dX3_backspace_15 rfl rfl rfl ?_ | refine g_aload_nR dX3_backspace_15 rfl rfl rfl ?_ | refine g_aload_nN dX3_backspace_15 rfl rfl rfl ?_
  refine g_get fl_X3_38_X3 dX3_backspace_16 rfl (Or.inl (by first | assumption | exact xu_eq _ _ _ | exact (xu_ne (by first | assumption | exact Ne.symm (by assumption))).trans (by first | assumption | exact xu_eq _ _ _) | exact (xu_ne (by first | assumption | exact Ne.symm (by assumption))).trans ((xu_ne (by first | assumption | exact Ne.symm (by assumption))).trans (by first | assumption | exact xu_eq _ _ _)) | exact (xu_ne (by first | assumption | exact Ne.symm (by assumption))).trans ((xu_ne (by first | assumption | exact Ne.symm (by assumption))).trans ((xu_ne (by first | assumption | exact Ne.symm (by assumption))).trans (by first | assumption | exact xu_eq _ _ _))))) rfl ?_
  refine g_ifn_le (tgt := 116) dX3_backspace_19 (by decide) rfl (by omega) (fun c_19 => by omega) (fun c_19 => ?_)
  first | refine g_aload_n dX3_backspace_22 rfl rfl rfl ?_ | refine g_aload_nR dX3_backspace_22 rfl rfl rfl ?_ | refine g_aload_nN dX3_backspace_22 rfl rfl rfl ?_
  refine g_get fl_X3_15_X3 dX3_backspace_23 rfl (Or.inl (by first | assumption | exact xu_eq _ _ _ | exact (xu_ne (by first | assumption | exact Ne.symm (by assumption))).trans (by first | assumption | exact xu_eq _ _ _) | exact (xu_ne (by first | assumption | exact Ne.symm (by assumption))).trans ((xu_ne (by first | assumption | exact Ne.symm (by assumption))).trans (by first | assumption | exact xu_eq _ _ _)) | exact (xu_ne (by first | assumption | exact Ne.symm (by assumption))).trans ((xu_ne (by first | assumption | exact Ne.symm (by assumption))).trans ((xu_ne (by first | assumption | exact Ne.symm (by assumption))).trans (by first | assumption | exact xu_eq _ _ _))))) rfl ?_
  refine g_get fl_X3_21_X4 dX3_backspace_26 rfl (Or.inl (by first | assumption | exact xu_eq _ _ _ | exact (xu_ne (by first | assumption | exact Ne.symm (by assumption))).trans (by first | assumption | exact xu_eq _ _ _) | exact (xu_ne (by first | assumption | exact Ne.symm (by assumption))).trans ((xu_ne (by first | assumption | exact Ne.symm (by assumption))).trans (by first | assumption | exact xu_eq _ _ _)) | exact (xu_ne (by first | assumption | exact Ne.symm (by assumption))).trans ((xu_ne (by first | assumption | exact Ne.symm (by assumption))).trans ((xu_ne (by first | assumption | exact Ne.symm (by assumption))).trans (by first | assumption | exact xu_eq _ _ _))))) rfl ?_
  first | refine g_aload_n dX3_backspace_29 rfl rfl rfl ?_ | refine g_aload_nR dX3_backspace_29 rfl rfl rfl ?_ | refine g_aload_nN dX3_backspace_29 rfl rfl rfl ?_
  refine g_get fl_X3_38_X3 dX3_backspace_30 rfl (Or.inl (by first | assumption | exact xu_eq _ _ _ | exact (xu_ne (by first | assumption | exact Ne.symm (by assumption))).trans (by first | assumption | exact xu_eq _ _ _) | exact (xu_ne (by first | assumption | exact Ne.symm (by assumption))).trans ((xu_ne (by first | assumption | exact Ne.symm (by assumption))).trans (by first | assumption | exact xu_eq _ _ _)) | exact (xu_ne (by first | assumption | exact Ne.symm (by assumption))).trans ((xu_ne (by first | assumption | exact Ne.symm (by assumption))).trans ((xu_ne (by first | assumption | exact Ne.symm (by assumption))).trans (by first | assumption | exact xu_eq _ _ _))))) rfl ?_
  refine g_iconst (v := (nI 1)) dX3_backspace_33 rfl rfl ?_
  refine g_isubn dX3_backspace_34 rfl (by omega) ?_
  refine g_ifaceP iI_J26_get_J26 q1837 (c_get (d := d - 1) (by omega) hA (by rw [hi1]; exact at_mid (drs r P') (drs r Q) x)) (Or.inl (by first | assumption | exact xu_eq _ _ _ | exact (xu_ne (by first | assumption | exact Ne.symm (by assumption))).trans (by first | assumption | exact xu_eq _ _ _) | exact (xu_ne (by first | assumption | exact Ne.symm (by assumption))).trans ((xu_ne (by first | assumption | exact Ne.symm (by assumption))).trans (by first | assumption | exact xu_eq _ _ _)) | exact (xu_ne (by first | assumption | exact Ne.symm (by assumption))).trans ((xu_ne (by first | assumption | exact Ne.symm (by assumption))).trans ((xu_ne (by first | assumption | exact Ne.symm (by assumption))).trans (by first | assumption | exact xu_eq _ _ _))))) rfl (by decide) dX3_backspace_35 rfl rfl rfl (by first | exact Nat.le_of_ble_eq_true rfl | simp [Value.category, rf_cat]) (by omega) xN_no ?_
  refine g_castI q1838 dX3_backspace_40 rfl (by assumption) ?_
  first | refine g_ast1 dX3_backspace_43 rfl (by decide) (k := ?_) | refine g_astR1 dX3_backspace_43 rfl (by decide) (k := ?_) | refine g_astN1 dX3_backspace_43 rfl (by decide) (k := ?_)
  first | refine g_aload_n dX3_backspace_44 rfl rfl rfl ?_ | refine g_aload_nR dX3_backspace_44 rfl rfl rfl ?_ | refine g_aload_nN dX3_backspace_44 rfl rfl rfl ?_
  refine g_instY q1840 xc_X9.1 (by decide) rfl dX3_backspace_45 rfl (by first | assumption | exact Or.inl (by first | assumption | exact xu_eq _ _ _ | exact (xu_ne (by first | assumption | exact Ne.symm (by assumption))).trans (by first | assumption | exact xu_eq _ _ _) | exact (xu_ne (by first | assumption | exact Ne.symm (by assumption))).trans ((xu_ne (by first | assumption | exact Ne.symm (by assumption))).trans (by first | assumption | exact xu_eq _ _ _)) | exact (xu_ne (by first | assumption | exact Ne.symm (by assumption))).trans ((xu_ne (by first | assumption | exact Ne.symm (by assumption))).trans ((xu_ne (by first | assumption | exact Ne.symm (by assumption))).trans (by first | assumption | exact xu_eq _ _ _))))) ?_
  refine g_ifn_eq (tgt := 85) dX3_backspace_48 (by decide) rfl (by omega) (fun c_48 => by omega) (fun _ => ?_)
  first | refine g_aload_n dX3_backspace_51 rfl rfl rfl ?_ | refine g_aload_nR dX3_backspace_51 rfl rfl rfl ?_ | refine g_aload_nN dX3_backspace_51 rfl rfl rfl ?_
  refine g_castO q1840 xc_X9.1 (by decide) (Or.inl rfl) dX3_backspace_52 rfl (by first | assumption | exact Or.inl (by first | assumption | exact xu_eq _ _ _ | exact (xu_ne (by first | assumption | exact Ne.symm (by assumption))).trans (by first | assumption | exact xu_eq _ _ _) | exact (xu_ne (by first | assumption | exact Ne.symm (by assumption))).trans ((xu_ne (by first | assumption | exact Ne.symm (by assumption))).trans (by first | assumption | exact xu_eq _ _ _)) | exact (xu_ne (by first | assumption | exact Ne.symm (by assumption))).trans ((xu_ne (by first | assumption | exact Ne.symm (by assumption))).trans ((xu_ne (by first | assumption | exact Ne.symm (by assumption))).trans (by first | assumption | exact xu_eq _ _ _))))) ?_
  first | refine g_ast2 dX3_backspace_55 rfl (by decide) (k := ?_) | refine g_astR2 dX3_backspace_55 rfl (by decide) (k := ?_) | refine g_astN2 dX3_backspace_55 rfl (by decide) (k := ?_)
  first | refine g_aload_n dX3_backspace_56 rfl rfl rfl ?_ | refine g_aload_nR dX3_backspace_56 rfl rfl rfl ?_ | refine g_aload_nN dX3_backspace_56 rfl rfl rfl ?_
  refine g_virtualP iV_X9_isEmpty q2210 (hemp) (Or.inl (by first | assumption | exact xu_eq _ _ _ | exact (xu_ne (by first | assumption | exact Ne.symm (by assumption))).trans (by first | assumption | exact xu_eq _ _ _) | exact (xu_ne (by first | assumption | exact Ne.symm (by assumption))).trans ((xu_ne (by first | assumption | exact Ne.symm (by assumption))).trans (by first | assumption | exact xu_eq _ _ _)) | exact (xu_ne (by first | assumption | exact Ne.symm (by assumption))).trans ((xu_ne (by first | assumption | exact Ne.symm (by assumption))).trans ((xu_ne (by first | assumption | exact Ne.symm (by assumption))).trans (by first | assumption | exact xu_eq _ _ _))))) rfl (by decide) dX3_backspace_57 rfl rfl rfl (by first | exact Nat.le_of_ble_eq_true rfl | simp [Value.category, rf_cat]) (by omega) xN_no ?_
  refine g_ifB_ne (tgt := 85) dX3_backspace_60 (by decide) rfl (fun c_60 => ?_) (fun c_60 => Bool.noConfusion c_60)
  refine g_fg [some (.ref D), none, none] ⟨rfl, trivial⟩ ?_
  exact l_back85 hDC hd eP hP' hbS e2
theorem c_backB {P' A B : List XE} {k x o p : Nat} (h : DC w g m id D T top r P [] Q q S) (hd : 20 ≤ d) (eP : P = P' ++ sI k x r o p A B) (hbA : Bd o A) (hbB : k = 1 → Bd p B) (hP' : scn [(top, none)] P' = some ((r, q) :: S)) (hne : ¬ (A = [] ∧ (k = 1 → B = []))) : CT w MX3_backspace d 0 0 [.ref D] m (xRet (some (.int (nI 0))) (xu m D (.inr (2, [.ref top, .ref (if k = 1 then p else o), .int (nI (if k = 1 then drs p B else drs o A).length), .int (nI 0)])))) xN := by
  have h60 := dc_60 h
  have hDC := h
  obtain ⟨own, sl, cap, hR⟩ := dc_row h
  obtain ⟨h1, h2, h3, h4, -⟩ := h
  have h4' : DT T top (P' ++ (sI k x r o p A B ++ Q)) := by
    have e : P ++ ([] ++ Q) = P' ++ (sI k x r o p A B ++ Q) := by rw [eP]; simp
    rw [← e]; exact h4
  have hbS : Bd r (sI k x r o p A B) := bd_sI hbA hbB
  obtain ⟨e1, e2, eA, eBB, ⟨rs, rd, e3⟩, e4, ⟨ca, e5⟩, e6⟩ := dt_strH h4' (ho_of h4'.1 hP' hbS) hbA hbB
  have edr : drs r P = drs r P' ++ [x] := by rw [eP, drs_app, e2]
  have eR : drs r P ++ (drs r [] ++ drs r Q) = drs r P' ++ x :: drs r Q := by rw [edr]; simp [drs]
  rw [eR] at hR
  obtain ⟨la, ar, bx, mc, hr1, k1, hA, -⟩ := sm_row h1 hR
  have hi0 : (drs r (P ++ [])).length = (drs r P').length + 1 := by rw [List.append_nil, edr]; simp
  have hi1 : (drs r (P ++ [])).length - 1 = (drs r P').length := by omega
  have hz0 : (drs r ([] : List XE)).length = 0 := rfl
  have hb := h60.1
  rw [edr] at hb
  simp only [List.length_append, List.length_cons, List.length_nil] at hb
  obtain ⟨sa, bx2, f, hx1, hsa, hfp, hfq, -⟩ := sm_str h1 e3
  have hci := sm_castI h1 (i := x) (by rw [e3]; exact fun h => by cases h)
  have hep : ∃ cb, k = 1 → T.1 p = some (some x, 1, cb, drs p B) := by
    by_cases hk : k = 1
    · obtain ⟨-, cb, e7⟩ := e6 hk
      exact ⟨cb, fun _ => e7⟩
    · exact ⟨0, fun h => absurd h hk⟩
  obtain ⟨cb, hep⟩ := hep
  have hemp := c_sEmpty (d := d - 1) (by omega) h1 e3 e5 hep
  have hv : (decide (drs o A = []) && (if k = 1 then decide (drs p B = []) else true)) = false := by
    by_cases ha : A = []
    · by_cases hk : k = 1
      · have hb0 : B ≠ [] := fun e => hne ⟨ha, fun _ => e⟩
        rw [if_pos hk, decide_eq_false (fun e => hb0 (drs_nil (hbB hk) e)), Bool.and_false]
      · exact absurd ⟨ha, fun h => absurd h hk⟩ hne
    · rw [decide_eq_false (fun e => ha (drs_nil hbA e)), Bool.false_and]
  rw [hv] at hemp
  have hlast := c_last (w := w) (d := d - 1) (by omega) hx1 hsa hfp hfq
  have hrow : ∃ sl2 cap2, T.1 (if k = 1 then p else o) = some (some x, sl2, cap2, if k = 1 then drs p B else drs o A) := by
    by_cases hk : k = 1
    · rw [if_pos hk, if_pos hk]; exact ⟨_, _, hep hk⟩
    · rw [if_neg hk, if_neg hk]; exact ⟨_, _, e5⟩
  obtain ⟨sl2, cap2, hrow⟩ := hrow
  generalize (if k = 1 then p else o) = lr at *
  generalize (if k = 1 then drs p B else drs o A) = li at *
  obtain ⟨ll, al, bl, ml, hl1, kl1, hAl, -⟩ := sm_row h1 hrow
  refine ct_intro (lv := [some (.ref D), none, none]) 2 (by decide) rfl (Nat.le_of_ble_eq_true rfl) rfl ?_
  first | refine g_aload_n dX3_backspace_0 rfl rfl rfl ?_ | refine g_aload_nR dX3_backspace_0 rfl rfl rfl ?_ | refine g_aload_nN dX3_backspace_0 rfl rfl rfl ?_
  refine g_get fl_X3_50_X3 dX3_backspace_1 rfl (Or.inl (by first | assumption | exact xu_eq _ _ _ | exact (xu_ne (by first | assumption | exact Ne.symm (by assumption))).trans (by first | assumption | exact xu_eq _ _ _) | exact (xu_ne (by first | assumption | exact Ne.symm (by assumption))).trans ((xu_ne (by first | assumption | exact Ne.symm (by assumption))).trans (by first | assumption | exact xu_eq _ _ _)) | exact (xu_ne (by first | assumption | exact Ne.symm (by assumption))).trans ((xu_ne (by first | assumption | exact Ne.symm (by assumption))).trans ((xu_ne (by first | assumption | exact Ne.symm (by assumption))).trans (by first | assumption | exact xu_eq _ _ _))))) rfl ?_
  refine g_ifn_le (tgt := 15) dX3_backspace_4 (by decide) rfl (by omega) (fun c_4 => ?_) (fun c_4 => by omega)
  first | refine g_aload_n dX3_backspace_15 rfl rfl rfl ?_ | refine g_aload_nR dX3_backspace_15 rfl rfl rfl ?_ | refine g_aload_nN dX3_backspace_15 rfl rfl rfl ?_
  refine g_get fl_X3_38_X3 dX3_backspace_16 rfl (Or.inl (by first | assumption | exact xu_eq _ _ _ | exact (xu_ne (by first | assumption | exact Ne.symm (by assumption))).trans (by first | assumption | exact xu_eq _ _ _) | exact (xu_ne (by first | assumption | exact Ne.symm (by assumption))).trans ((xu_ne (by first | assumption | exact Ne.symm (by assumption))).trans (by first | assumption | exact xu_eq _ _ _)) | exact (xu_ne (by first | assumption | exact Ne.symm (by assumption))).trans ((xu_ne (by first | assumption | exact Ne.symm (by assumption))).trans ((xu_ne (by first | assumption | exact Ne.symm (by assumption))).trans (by first | assumption | exact xu_eq _ _ _))))) rfl ?_
  refine g_ifn_le (tgt := 116) dX3_backspace_19 (by decide) rfl (by omega) (fun c_19 => by omega) (fun c_19 => ?_)
  first | refine g_aload_n dX3_backspace_22 rfl rfl rfl ?_ | refine g_aload_nR dX3_backspace_22 rfl rfl rfl ?_ | refine g_aload_nN dX3_backspace_22 rfl rfl rfl ?_
  refine g_get fl_X3_15_X3 dX3_backspace_23 rfl (Or.inl (by first | assumption | exact xu_eq _ _ _ | exact (xu_ne (by first | assumption | exact Ne.symm (by assumption))).trans (by first | assumption | exact xu_eq _ _ _) | exact (xu_ne (by first | assumption | exact Ne.symm (by assumption))).trans ((xu_ne (by first | assumption | exact Ne.symm (by assumption))).trans (by first | assumption | exact xu_eq _ _ _)) | exact (xu_ne (by first | assumption | exact Ne.symm (by assumption))).trans ((xu_ne (by first | assumption | exact Ne.symm (by assumption))).trans ((xu_ne (by first | assumption | exact Ne.symm (by assumption))).trans (by first | assumption | exact xu_eq _ _ _))))) rfl ?_
  refine g_get fl_X3_21_X4 dX3_backspace_26 rfl (Or.inl (by first | assumption | exact xu_eq _ _ _ | exact (xu_ne (by first | assumption | exact Ne.symm (by assumption))).trans (by first | assumption | exact xu_eq _ _ _) | exact (xu_ne (by first | assumption | exact Ne.symm (by assumption))).trans ((xu_ne (by first | assumption | exact Ne.symm (by assumption))).trans (by first | assumption | exact xu_eq _ _ _)) | exact (xu_ne (by first | assumption | exact Ne.symm (by assumption))).trans ((xu_ne (by first | assumption | exact Ne.symm (by assumption))).trans ((xu_ne (by first | assumption | exact Ne.symm (by assumption))).trans (by first | assumption | exact xu_eq _ _ _))))) rfl ?_
  first | refine g_aload_n dX3_backspace_29 rfl rfl rfl ?_ | refine g_aload_nR dX3_backspace_29 rfl rfl rfl ?_ | refine g_aload_nN dX3_backspace_29 rfl rfl rfl ?_
  refine g_get fl_X3_38_X3 dX3_backspace_30 rfl (Or.inl (by first | assumption | exact xu_eq _ _ _ | exact (xu_ne (by first | assumption | exact Ne.symm (by assumption))).trans (by first | assumption | exact xu_eq _ _ _) | exact (xu_ne (by first | assumption | exact Ne.symm (by assumption))).trans ((xu_ne (by first | assumption | exact Ne.symm (by assumption))).trans (by first | assumption | exact xu_eq _ _ _)) | exact (xu_ne (by first | assumption | exact Ne.symm (by assumption))).trans ((xu_ne (by first | assumption | exact Ne.symm (by assumption))).trans ((xu_ne (by first | assumption | exact Ne.symm (by assumption))).trans (by first | assumption | exact xu_eq _ _ _))))) rfl ?_
  refine g_iconst (v := (nI 1)) dX3_backspace_33 rfl rfl ?_
  refine g_isubn dX3_backspace_34 rfl (by omega) ?_
  refine g_ifaceP iI_J26_get_J26 q1837 (c_get (d := d - 1) (by omega) hA (by rw [hi1]; exact at_mid (drs r P') (drs r Q) x)) (Or.inl (by first | assumption | exact xu_eq _ _ _ | exact (xu_ne (by first | assumption | exact Ne.symm (by assumption))).trans (by first | assumption | exact xu_eq _ _ _) | exact (xu_ne (by first | assumption | exact Ne.symm (by assumption))).trans ((xu_ne (by first | assumption | exact Ne.symm (by assumption))).trans (by first | assumption | exact xu_eq _ _ _)) | exact (xu_ne (by first | assumption | exact Ne.symm (by assumption))).trans ((xu_ne (by first | assumption | exact Ne.symm (by assumption))).trans ((xu_ne (by first | assumption | exact Ne.symm (by assumption))).trans (by first | assumption | exact xu_eq _ _ _))))) rfl (by decide) dX3_backspace_35 rfl rfl rfl (by first | exact Nat.le_of_ble_eq_true rfl | simp [Value.category, rf_cat]) (by omega) xN_no ?_
  refine g_castI q1838 dX3_backspace_40 rfl (by assumption) ?_
  first | refine g_ast1 dX3_backspace_43 rfl (by decide) (k := ?_) | refine g_astR1 dX3_backspace_43 rfl (by decide) (k := ?_) | refine g_astN1 dX3_backspace_43 rfl (by decide) (k := ?_)
  first | refine g_aload_n dX3_backspace_44 rfl rfl rfl ?_ | refine g_aload_nR dX3_backspace_44 rfl rfl rfl ?_ | refine g_aload_nN dX3_backspace_44 rfl rfl rfl ?_
  refine g_instY q1840 xc_X9.1 (by decide) rfl dX3_backspace_45 rfl (by first | assumption | exact Or.inl (by first | assumption | exact xu_eq _ _ _ | exact (xu_ne (by first | assumption | exact Ne.symm (by assumption))).trans (by first | assumption | exact xu_eq _ _ _) | exact (xu_ne (by first | assumption | exact Ne.symm (by assumption))).trans ((xu_ne (by first | assumption | exact Ne.symm (by assumption))).trans (by first | assumption | exact xu_eq _ _ _)) | exact (xu_ne (by first | assumption | exact Ne.symm (by assumption))).trans ((xu_ne (by first | assumption | exact Ne.symm (by assumption))).trans ((xu_ne (by first | assumption | exact Ne.symm (by assumption))).trans (by first | assumption | exact xu_eq _ _ _))))) ?_
  refine g_ifn_eq (tgt := 85) dX3_backspace_48 (by decide) rfl (by omega) (fun c_48 => by omega) (fun _ => ?_)
  first | refine g_aload_n dX3_backspace_51 rfl rfl rfl ?_ | refine g_aload_nR dX3_backspace_51 rfl rfl rfl ?_ | refine g_aload_nN dX3_backspace_51 rfl rfl rfl ?_
  refine g_castO q1840 xc_X9.1 (by decide) (Or.inl rfl) dX3_backspace_52 rfl (by first | assumption | exact Or.inl (by first | assumption | exact xu_eq _ _ _ | exact (xu_ne (by first | assumption | exact Ne.symm (by assumption))).trans (by first | assumption | exact xu_eq _ _ _) | exact (xu_ne (by first | assumption | exact Ne.symm (by assumption))).trans ((xu_ne (by first | assumption | exact Ne.symm (by assumption))).trans (by first | assumption | exact xu_eq _ _ _)) | exact (xu_ne (by first | assumption | exact Ne.symm (by assumption))).trans ((xu_ne (by first | assumption | exact Ne.symm (by assumption))).trans ((xu_ne (by first | assumption | exact Ne.symm (by assumption))).trans (by first | assumption | exact xu_eq _ _ _))))) ?_
  first | refine g_ast2 dX3_backspace_55 rfl (by decide) (k := ?_) | refine g_astR2 dX3_backspace_55 rfl (by decide) (k := ?_) | refine g_astN2 dX3_backspace_55 rfl (by decide) (k := ?_)
  first | refine g_aload_n dX3_backspace_56 rfl rfl rfl ?_ | refine g_aload_nR dX3_backspace_56 rfl rfl rfl ?_ | refine g_aload_nN dX3_backspace_56 rfl rfl rfl ?_
  refine g_virtualP iV_X9_isEmpty q2210 (hemp) (Or.inl (by first | assumption | exact xu_eq _ _ _ | exact (xu_ne (by first | assumption | exact Ne.symm (by assumption))).trans (by first | assumption | exact xu_eq _ _ _) | exact (xu_ne (by first | assumption | exact Ne.symm (by assumption))).trans ((xu_ne (by first | assumption | exact Ne.symm (by assumption))).trans (by first | assumption | exact xu_eq _ _ _)) | exact (xu_ne (by first | assumption | exact Ne.symm (by assumption))).trans ((xu_ne (by first | assumption | exact Ne.symm (by assumption))).trans ((xu_ne (by first | assumption | exact Ne.symm (by assumption))).trans (by first | assumption | exact xu_eq _ _ _))))) rfl (by decide) dX3_backspace_57 rfl rfl rfl (by first | exact Nat.le_of_ble_eq_true rfl | simp [Value.category, rf_cat]) (by omega) xN_no ?_
  refine g_ifB_ne (tgt := 85) dX3_backspace_60 (by decide) rfl (fun c_60 => Bool.noConfusion c_60) (fun c_60 => ?_)
  first | refine g_aload_n dX3_backspace_63 rfl rfl rfl ?_ | refine g_aload_nR dX3_backspace_63 rfl rfl rfl ?_ | refine g_aload_nN dX3_backspace_63 rfl rfl rfl ?_
  first | refine g_aload_n dX3_backspace_64 rfl rfl rfl ?_ | refine g_aload_nR dX3_backspace_64 rfl rfl rfl ?_ | refine g_aload_nN dX3_backspace_64 rfl rfl rfl ?_
  refine g_virtualP iV_X9_last q2216 (hlast) (Or.inl (by first | assumption | exact xu_eq _ _ _ | exact (xu_ne (by first | assumption | exact Ne.symm (by assumption))).trans (by first | assumption | exact xu_eq _ _ _) | exact (xu_ne (by first | assumption | exact Ne.symm (by assumption))).trans ((xu_ne (by first | assumption | exact Ne.symm (by assumption))).trans (by first | assumption | exact xu_eq _ _ _)) | exact (xu_ne (by first | assumption | exact Ne.symm (by assumption))).trans ((xu_ne (by first | assumption | exact Ne.symm (by assumption))).trans ((xu_ne (by first | assumption | exact Ne.symm (by assumption))).trans (by first | assumption | exact xu_eq _ _ _))))) rfl (by decide) dX3_backspace_65 rfl rfl rfl (by first | exact Nat.le_of_ble_eq_true rfl | simp [Value.category, rf_cat]) (by omega) xN_no ?_
  first | refine g_aload_n dX3_backspace_68 rfl rfl rfl ?_ | refine g_aload_nR dX3_backspace_68 rfl rfl rfl ?_ | refine g_aload_nN dX3_backspace_68 rfl rfl rfl ?_
  refine g_virtualP iV_X9_last q2216 (hlast) (Or.inl (by first | assumption | exact xu_eq _ _ _ | exact (xu_ne (by first | assumption | exact Ne.symm (by assumption))).trans (by first | assumption | exact xu_eq _ _ _) | exact (xu_ne (by first | assumption | exact Ne.symm (by assumption))).trans ((xu_ne (by first | assumption | exact Ne.symm (by assumption))).trans (by first | assumption | exact xu_eq _ _ _)) | exact (xu_ne (by first | assumption | exact Ne.symm (by assumption))).trans ((xu_ne (by first | assumption | exact Ne.symm (by assumption))).trans ((xu_ne (by first | assumption | exact Ne.symm (by assumption))).trans (by first | assumption | exact xu_eq _ _ _))))) rfl (by decide) dX3_backspace_69 rfl rfl rfl (by first | exact Nat.le_of_ble_eq_true rfl | simp [Value.category, rf_cat]) (by omega) xN_no ?_
  refine g_get fl_X3_21_X4 dX3_backspace_72 rfl (Or.inl (by first | assumption | exact xu_eq _ _ _ | exact (xu_ne (by first | assumption | exact Ne.symm (by assumption))).trans (by first | assumption | exact xu_eq _ _ _) | exact (xu_ne (by first | assumption | exact Ne.symm (by assumption))).trans ((xu_ne (by first | assumption | exact Ne.symm (by assumption))).trans (by first | assumption | exact xu_eq _ _ _)) | exact (xu_ne (by first | assumption | exact Ne.symm (by assumption))).trans ((xu_ne (by first | assumption | exact Ne.symm (by assumption))).trans ((xu_ne (by first | assumption | exact Ne.symm (by assumption))).trans (by first | assumption | exact xu_eq _ _ _))))) rfl ?_
  refine g_ifaceP iI_J26_size_J26 q1826 (c_size (d := d - 1) (by omega) hAl) (Or.inl (by first | assumption | exact xu_eq _ _ _ | exact (xu_ne (by first | assumption | exact Ne.symm (by assumption))).trans (by first | assumption | exact xu_eq _ _ _) | exact (xu_ne (by first | assumption | exact Ne.symm (by assumption))).trans ((xu_ne (by first | assumption | exact Ne.symm (by assumption))).trans (by first | assumption | exact xu_eq _ _ _)) | exact (xu_ne (by first | assumption | exact Ne.symm (by assumption))).trans ((xu_ne (by first | assumption | exact Ne.symm (by assumption))).trans ((xu_ne (by first | assumption | exact Ne.symm (by assumption))).trans (by first | assumption | exact xu_eq _ _ _))))) rfl (by decide) dX3_backspace_75 rfl rfl rfl (by first | exact Nat.le_of_ble_eq_true rfl | simp [Value.category, rf_cat]) (by omega) xN_no ?_
  refine g_virtualR iV_X3_goTo q1828 (c_goTo (d := d - 1) (by omega) h2) (Or.inl (by first | assumption | exact xu_eq _ _ _ | exact (xu_ne (by first | assumption | exact Ne.symm (by assumption))).trans (by first | assumption | exact xu_eq _ _ _) | exact (xu_ne (by first | assumption | exact Ne.symm (by assumption))).trans ((xu_ne (by first | assumption | exact Ne.symm (by assumption))).trans (by first | assumption | exact xu_eq _ _ _)) | exact (xu_ne (by first | assumption | exact Ne.symm (by assumption))).trans ((xu_ne (by first | assumption | exact Ne.symm (by assumption))).trans ((xu_ne (by first | assumption | exact Ne.symm (by assumption))).trans (by first | assumption | exact xu_eq _ _ _))))) rfl (by decide) dX3_backspace_80 rfl rfl rfl (by first | exact Nat.le_of_ble_eq_true rfl | simp [Value.category, rf_cat]) (by omega) (by omega) (by omega) xN_no ?_
  refine g_iconst (v := (nI 0)) dX3_backspace_83 rfl rfl ?_
  exact g_ireturn dX3_backspace_84 rfl ⟨rfl, rfl⟩
end BACK2
