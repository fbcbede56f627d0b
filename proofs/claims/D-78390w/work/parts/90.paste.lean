/-! DOCUMENTS: paste -/
set_option maxRecDepth 100000
section PASTE
variable {w : XW} {id d D : Nat}
/-- new items moved to a gap -/
theorem dt_paste {T1 T4 : XT} {m1 : XM} {top r b sl cap cap4 : Nat} {P Q C : List XE} {q : Option Nat} {S : XK} {own : Option Nat} {T3 : XT}
    (h1 : DT T1 top (P ++ ([] ++ Q))) (hH : HO top P Q r q S) (hC : PT T3 b C) (hR : T1.1 r = some (own, sl, cap, drs r P ++ drs r Q))
    (hkn : ∀ s ∈ top :: (opn P ++ opn Q), m1 s ≠ none) (hki : ∀ i ∈ itm P ++ itm Q, m1 i ≠ none) (hrm : m1 r ≠ none)
    (hfr : ∀ s ∈ opn C, m1 s = none) (hfi : ∀ i ∈ itm C, m1 i = none) (hb : m1 b = none)
    (hrows : ∀ s, m1 s ≠ none → s ≠ r → T4.1 s = T1.1 s) (hitems : ∀ i, m1 i ≠ none → T4.2.1 i = T1.2.1 i ∧ T4.2.2 i = T1.2.2 i)
    (hCr : ∀ s ∈ opn C, T4.1 s = T3.1 s) (hCk : ∀ i ∈ itm C, T4.2.1 i = T3.2.1 i) (hCw : ∀ i ∈ drs b C, T4.2.2 i = some r) (hCw2 : ∀ i ∈ itm C, i ∉ drs b C → T4.2.2 i = T3.2.2 i)
    (hr4 : T4.1 r = some (own, sl, cap4, drs r P ++ (drs b C ++ drs r Q))) : DT T4 top (P ++ (rnL b r C ++ Q)) ∧ drs r (rnL b r C) = drs b C := by
  have hrC : r ∉ opn C := fun h => hrm (hfr r h)
  have hbr : b ≠ r := fun e => by subst e; exact hrm hb
  have hdr : drs r (rnL b r C) = drs b C := rn_drs_t C (fun hm => (rws_in b C hC.1 r hm).elim (fun e => hbr e.symm) hrC)
  refine ⟨dt_new h1 hH (bd_nil r) (pt_ren hC hCr hCk hCw hCw2 hrC) (fun s hs => Or.inr (fun hm => ?_)) (fun i hi => Or.inr (fun hm => ?_)) (by rw [hR, List.nil_append, drs_app]) ⟨cap4, by rw [hr4, drs_app, drs_app, hdr]⟩ (fun s hs hsr => hrows s (hkn s hs) hsr) (fun i hi => hitems i (hki i hi)), hdr⟩
  · rw [rn_opn] at hs; exact hkn s hm (hfr s hs)
  · rw [rn_itm] at hi; exact hki i hm (hfi i hi)
variable {jd : Nat} {g : XG} {m : XM} {T T2 : XT} {top r cb : Nat} {P N Q C : List XE} {q : Option Nat} {S : XK}
def psP (w : XW) (g : XG) (m : XM) (id D : Nat) (P C Q : List XE) : Option Value → XM → Prop := fun v m' => some (.int (nI 1)) = v ∧ ∃ g', FrD id D g m g' m' ∧ DP w g' m' id D ((P ++ (C ++ Q)).map sg, (P ++ C).length, none)
theorem c_pasteY (h : DC w g m id D T top r P N Q q S) (hd : 60 ≤ d) (h2 : SM w g m jd T2) (hjd : jd ≠ id) (hj0 : jd ≠ 0) (hC : DT T2 cb C) (hC6 : cnt C ≤ 60) (hC5 : hts C ≤ 5) (c1 : cnt (P ++ (N ++ Q)) - cnt N + cnt C ≤ 60) (c2 : S.length + hts C ≤ 5) : CT w MX3_paste d 560 6300 [.ref D, .ref cb] m (psP w g m id D P C Q) xN := by
  have hL := dc_len h
  have h60 := dc_60 h
  have hDC := h
  have hH := dc_ho h
  obtain ⟨own, sl, cap, hR⟩ := dc_row h
  obtain ⟨h1, h2', ⟨h3, h3'⟩, h4, ⟨sl0, cap0, h5⟩, h6, h7, h8, h9⟩ := h
  obtain ⟨la, ar, bx, mc, hr1, -⟩ := sm_row h1 h5
  obtain ⟨la2, ar2, bx2, mc2, hr2, -⟩ := sm_row h1 hR
  obtain ⟨owc, slc, capc, hRc⟩ := dt_row hC
  obtain ⟨lc, ac, bc, mcc, hrc, klc, hAc, -⟩ := sm_row h2 hRc
  have hCl := bd_len3 cb C hC.1
  have hcl : cnt (P ++ (N ++ Q)) = cnt P + (cnt N + cnt Q) := by rw [cnt_app, cnt_app]
  have hcd := drs_cnt cb C
  refine ct_intro (lv := [some (.ref D), some (.ref cb), none, none]) 2 (by decide) rfl (Nat.le_of_ble_eq_true rfl) rfl ?_
  first | refine g_aload_n dX3_paste_0 rfl rfl rfl ?_ | refine g_aload_nR dX3_paste_0 rfl rfl rfl ?_ | refine g_aload_nN dX3_paste_0 rfl rfl rfl ?_
  refine g_get fl_X3_9_X3 dX3_paste_1 rfl (Or.inl (by first | assumption | exact xu_eq _ _ _ | exact (xu_ne (by first | assumption | exact Ne.symm (by assumption))).trans (by first | assumption | exact xu_eq _ _ _) | exact (xu_ne (by first | assumption | exact Ne.symm (by assumption))).trans ((xu_ne (by first | assumption | exact Ne.symm (by assumption))).trans (by first | assumption | exact xu_eq _ _ _)) | exact (xu_ne (by first | assumption | exact Ne.symm (by assumption))).trans ((xu_ne (by first | assumption | exact Ne.symm (by assumption))).trans ((xu_ne (by first | assumption | exact Ne.symm (by assumption))).trans (by first | assumption | exact xu_eq _ _ _))))) rfl ?_
  refine g_virtualP iV_X4_size q2137 (c_rsize (d := d - 1) h1 h4 (by omega)) (Or.inl (by first | assumption | exact xu_eq _ _ _ | exact (xu_ne (by first | assumption | exact Ne.symm (by assumption))).trans (by first | assumption | exact xu_eq _ _ _) | exact (xu_ne (by first | assumption | exact Ne.symm (by assumption))).trans ((xu_ne (by first | assumption | exact Ne.symm (by assumption))).trans (by first | assumption | exact xu_eq _ _ _)) | exact (xu_ne (by first | assumption | exact Ne.symm (by assumption))).trans ((xu_ne (by first | assumption | exact Ne.symm (by assumption))).trans ((xu_ne (by first | assumption | exact Ne.symm (by assumption))).trans (by first | assumption | exact xu_eq _ _ _))))) rfl (by decide) dX3_paste_4 rfl rfl rfl (by first | exact Nat.le_of_ble_eq_true rfl | simp [Value.category, rf_cat]) (by omega) xN_no ?_
  first | refine g_aload_n dX3_paste_7 rfl rfl rfl ?_ | refine g_aload_nR dX3_paste_7 rfl rfl rfl ?_ | refine g_aload_nN dX3_paste_7 rfl rfl rfl ?_
  refine g_virtualP iV_X3_selectedSize q2138 (c_selSize (d := d - 1) hDC (by omega)) (Or.inl (by first | assumption | exact xu_eq _ _ _ | exact (xu_ne (by first | assumption | exact Ne.symm (by assumption))).trans (by first | assumption | exact xu_eq _ _ _) | exact (xu_ne (by first | assumption | exact Ne.symm (by assumption))).trans ((xu_ne (by first | assumption | exact Ne.symm (by assumption))).trans (by first | assumption | exact xu_eq _ _ _)) | exact (xu_ne (by first | assumption | exact Ne.symm (by assumption))).trans ((xu_ne (by first | assumption | exact Ne.symm (by assumption))).trans ((xu_ne (by first | assumption | exact Ne.symm (by assumption))).trans (by first | assumption | exact xu_eq _ _ _))))) rfl (by decide) dX3_paste_8 rfl rfl rfl (by first | exact Nat.le_of_ble_eq_true rfl | simp [Value.category, rf_cat]) (by omega) xN_no ?_
  refine g_isubn dX3_paste_11 rfl (by omega) ?_
  first | refine g_aload_n dX3_paste_12 rfl rfl rfl ?_ | refine g_aload_nR dX3_paste_12 rfl rfl rfl ?_ | refine g_aload_nN dX3_paste_12 rfl rfl rfl ?_
  refine g_virtualP iV_X4_size q2137 (c_rsize (d := d - 1) h2 hC (by omega)) (Or.inl (by first | assumption | exact xu_eq _ _ _ | exact (xu_ne (by first | assumption | exact Ne.symm (by assumption))).trans (by first | assumption | exact xu_eq _ _ _) | exact (xu_ne (by first | assumption | exact Ne.symm (by assumption))).trans ((xu_ne (by first | assumption | exact Ne.symm (by assumption))).trans (by first | assumption | exact xu_eq _ _ _)) | exact (xu_ne (by first | assumption | exact Ne.symm (by assumption))).trans ((xu_ne (by first | assumption | exact Ne.symm (by assumption))).trans ((xu_ne (by first | assumption | exact Ne.symm (by assumption))).trans (by first | assumption | exact xu_eq _ _ _))))) rfl (by decide) dX3_paste_13 rfl rfl rfl (by first | exact Nat.le_of_ble_eq_true rfl | simp [Value.category, rf_cat]) (by omega) xN_no ?_
  refine g_iaddn dX3_paste_16 rfl ?_
  refine g_bipush (v := (nI 60)) dX3_paste_17 rfl rfl ?_
  refine g_icmpn_gt (tgt := 42) dX3_paste_19 (by decide) rfl (by omega) (by omega) (fun c_19 => by omega) (fun c_19 => ?_)
  first | refine g_aload_n dX3_paste_22 rfl rfl rfl ?_ | refine g_aload_nR dX3_paste_22 rfl rfl rfl ?_ | refine g_aload_nN dX3_paste_22 rfl rfl rfl ?_
  refine g_get fl_X3_15_X3 dX3_paste_23 rfl (Or.inl (by first | assumption | exact xu_eq _ _ _ | exact (xu_ne (by first | assumption | exact Ne.symm (by assumption))).trans (by first | assumption | exact xu_eq _ _ _) | exact (xu_ne (by first | assumption | exact Ne.symm (by assumption))).trans ((xu_ne (by first | assumption | exact Ne.symm (by assumption))).trans (by first | assumption | exact xu_eq _ _ _)) | exact (xu_ne (by first | assumption | exact Ne.symm (by assumption))).trans ((xu_ne (by first | assumption | exact Ne.symm (by assumption))).trans ((xu_ne (by first | assumption | exact Ne.symm (by assumption))).trans (by first | assumption | exact xu_eq _ _ _))))) rfl ?_
  refine g_virtualP iV_X4_level q2194 (c_level h1 h5 S.length P (N ++ Q) r q S (Nat.le_refl _) h4 h6 (d - 1) (by omega)) (Or.inl (by first | assumption | exact xu_eq _ _ _ | exact (xu_ne (by first | assumption | exact Ne.symm (by assumption))).trans (by first | assumption | exact xu_eq _ _ _) | exact (xu_ne (by first | assumption | exact Ne.symm (by assumption))).trans ((xu_ne (by first | assumption | exact Ne.symm (by assumption))).trans (by first | assumption | exact xu_eq _ _ _)) | exact (xu_ne (by first | assumption | exact Ne.symm (by assumption))).trans ((xu_ne (by first | assumption | exact Ne.symm (by assumption))).trans ((xu_ne (by first | assumption | exact Ne.symm (by assumption))).trans (by first | assumption | exact xu_eq _ _ _))))) rfl (by decide) dX3_paste_26 rfl rfl rfl (by first | exact Nat.le_of_ble_eq_true rfl | simp [Value.category, rf_cat]) (by omega) xN_no ?_
  first | refine g_aload_n dX3_paste_29 rfl rfl rfl ?_ | refine g_aload_nR dX3_paste_29 rfl rfl rfl ?_ | refine g_aload_nN dX3_paste_29 rfl rfl rfl ?_
  refine g_virtualP iV_X4_depth q2251 (c_rdepth (d := d - 1) h2 hC (by omega) (by omega)) (Or.inl (by first | assumption | exact xu_eq _ _ _ | exact (xu_ne (by first | assumption | exact Ne.symm (by assumption))).trans (by first | assumption | exact xu_eq _ _ _) | exact (xu_ne (by first | assumption | exact Ne.symm (by assumption))).trans ((xu_ne (by first | assumption | exact Ne.symm (by assumption))).trans (by first | assumption | exact xu_eq _ _ _)) | exact (xu_ne (by first | assumption | exact Ne.symm (by assumption))).trans ((xu_ne (by first | assumption | exact Ne.symm (by assumption))).trans ((xu_ne (by first | assumption | exact Ne.symm (by assumption))).trans (by first | assumption | exact xu_eq _ _ _))))) rfl (by decide) dX3_paste_30 rfl rfl rfl (by first | exact Nat.le_of_ble_eq_true rfl | simp [Value.category, rf_cat]) (by omega) xN_no ?_
  refine g_iaddn dX3_paste_33 rfl ?_
  refine g_iconst (v := (nI 5)) dX3_paste_34 rfl rfl ?_
  refine g_icmpn_gt (tgt := 42) dX3_paste_35 (by decide) rfl (by omega) (by omega) (fun c_35 => by omega) (fun c_35 => ?_)
  refine g_iconst (v := (nI 1)) dX3_paste_38 rfl rfl ?_
  refine g_goto (tgt := 43) dX3_paste_39 (by decide) ?_
  refine g_ist2 dX3_paste_43 rfl (by decide) (k := ?_)
  refine g_iload_n dX3_paste_44 rfl rfl rfl ?_
  refine g_ifn_eq (tgt := 97) dX3_paste_45 (by decide) rfl (by omega) (fun c_45 => by omega) (fun _ => ?_)
  first | refine g_aload_n dX3_paste_48 rfl rfl rfl ?_ | refine g_aload_nR dX3_paste_48 rfl rfl rfl ?_ | refine g_aload_nN dX3_paste_48 rfl rfl rfl ?_
  refine g_virtual iV_X3_takeSelected q2139 (c_takeSel (d := d - 1) hDC (by omega)) (Or.inl (by first | assumption | exact xu_eq _ _ _ | exact (xu_ne (by first | assumption | exact Ne.symm (by assumption))).trans (by first | assumption | exact xu_eq _ _ _) | exact (xu_ne (by first | assumption | exact Ne.symm (by assumption))).trans ((xu_ne (by first | assumption | exact Ne.symm (by assumption))).trans (by first | assumption | exact xu_eq _ _ _)) | exact (xu_ne (by first | assumption | exact Ne.symm (by assumption))).trans ((xu_ne (by first | assumption | exact Ne.symm (by assumption))).trans ((xu_ne (by first | assumption | exact Ne.symm (by assumption))).trans (by first | assumption | exact xu_eq _ _ _))))) rfl (by decide) dX3_paste_49 rfl rfl rfl (by first | exact Nat.le_of_ble_eq_true rfl | simp [Value.category, rf_cat]) (by omega) (by omega) (by omega) xN_no (fun v_49 m_49 h_49 => ?_)
  obtain ⟨t, g1, T1, cap1, rfl, ht, hD1, hF1, -, -⟩ := h_49
  have hD1' := hD1
  have h21 := SM_frD hF1 hjd (by rw [h3]; exact fun e => hj0 e.symm) h2
  obtain ⟨ow1, sl1, cp1, hR1⟩ := dc_row hD1
  obtain ⟨b1, b2, ⟨b3, b3'⟩, b4, ⟨slb, capb, b5⟩, b6, -, b8, b9⟩ := hD1
  have h601 := dc_60 hD1'
  have hgD1 : (g1 D).1 ≠ id := by rw [b3]; exact fun e => b3' e.symm
  simp only [List.append_nil, List.nil_append] at b2 b5 b8 b9 hR1
  simp only [show drs r [] = [] from rfl, List.nil_append, List.length_nil] at b2 hR1 h601
  have hD1n : m_49 D ≠ none := by rw [b2]; exact fun h => by cases h
  refine g_pop dX3_paste_52 rfl (by first | rfl | exact rf_cat _) ?_
  refine g_new nw_X3_18 dX3_paste_53 rfl (by omega) (by omega) (fun a_53 hno_53 hb_53 => ?_)
  refine g_dup dX3_paste_56 rfl (by first | rfl | exact rf_cat _) ?_
  refine g_ctorN iC_X4_init q2156 (c_rinit (d := d - 1) (by omega) b1 hno_53) dX3_paste_57 rfl rfl rfl (by first | exact Nat.le_of_ble_eq_true rfl | simp [Value.category, rf_cat]) (by omega) (by omega) (by omega) xN_no (fun v_57 m_57 h_57 => ?_)
  obtain ⟨rfl, g2, hS2, hF2, hne2, -⟩ := h_57
  have h22 := SM_fr hF2 hjd h21
  obtain ⟨lc, ac, bc, mcc, hrc, klc, hAc, -⟩ := sm_row h22 hRc
  obtain ⟨lb, ab, bb, mb, hrb, -⟩ := sm_row hS2 (uF_eq _ _ _)
  have hm2 := (Fr_al hF2 hD1n hgD1).trans b2
  have hg2 : g2 D = g1 D := (hF2.1 D hD1n).1
  first | refine g_ast3 dX3_paste_60 rfl (by decide) (k := ?_) | refine g_astR3 dX3_paste_60 rfl (by decide) (k := ?_) | refine g_astN3 dX3_paste_60 rfl (by decide) (k := ?_)
  first | refine g_aload_n dX3_paste_61 rfl rfl rfl ?_ | refine g_aload_nR dX3_paste_61 rfl rfl rfl ?_ | refine g_aload_nN dX3_paste_61 rfl rfl rfl ?_
  first | refine g_aload_n dX3_paste_62 rfl rfl rfl ?_ | refine g_aload_nR dX3_paste_62 rfl rfl rfl ?_ | refine g_aload_nN dX3_paste_62 rfl rfl rfl ?_
  refine g_iconst (v := (nI 0)) dX3_paste_63 rfl rfl ?_
  first | refine g_aload_n dX3_paste_64 rfl rfl rfl ?_ | refine g_aload_nR dX3_paste_64 rfl rfl rfl ?_ | refine g_aload_nN dX3_paste_64 rfl rfl rfl ?_
  refine g_get fl_X3_21_X4 dX3_paste_65 rfl (Or.inl (by first | assumption | exact xu_eq _ _ _ | exact (xu_ne (by first | assumption | exact Ne.symm (by assumption))).trans (by first | assumption | exact xu_eq _ _ _) | exact (xu_ne (by first | assumption | exact Ne.symm (by assumption))).trans ((xu_ne (by first | assumption | exact Ne.symm (by assumption))).trans (by first | assumption | exact xu_eq _ _ _)) | exact (xu_ne (by first | assumption | exact Ne.symm (by assumption))).trans ((xu_ne (by first | assumption | exact Ne.symm (by assumption))).trans ((xu_ne (by first | assumption | exact Ne.symm (by assumption))).trans (by first | assumption | exact xu_eq _ _ _))))) rfl ?_
  refine g_ifaceP iI_J26_size_J26 q1826 (c_size (d := d - 1) (by omega) hAc) (Or.inl (by first | assumption | exact xu_eq _ _ _ | exact (xu_ne (by first | assumption | exact Ne.symm (by assumption))).trans (by first | assumption | exact xu_eq _ _ _) | exact (xu_ne (by first | assumption | exact Ne.symm (by assumption))).trans ((xu_ne (by first | assumption | exact Ne.symm (by assumption))).trans (by first | assumption | exact xu_eq _ _ _)) | exact (xu_ne (by first | assumption | exact Ne.symm (by assumption))).trans ((xu_ne (by first | assumption | exact Ne.symm (by assumption))).trans ((xu_ne (by first | assumption | exact Ne.symm (by assumption))).trans (by first | assumption | exact xu_eq _ _ _))))) rfl (by decide) dX3_paste_68 rfl rfl rfl (by first | exact Nat.le_of_ble_eq_true rfl | simp [Value.category, rf_cat]) (by omega) xN_no ?_
  refine g_virtual iV_X4_addCopies q2157 (c_addCopies (w := w) (jd := jd) (T2 := T2) (id := id) (fun e => hjd e.symm) C.length C cb (Nat.le_refl _) hC [] C [] (by simp) (bd_nil cb) hC.1 (bd_nil cb) g2 _ _ a_53 0 _ 0 0 (d - 1) 420 5310 none [] h22 hS2 (uF_eq _ _ _) (by simp; omega) rfl (by simp [drs]) (by omega) (by omega) (by simp [Psi]; omega)) (Or.inl (by first | assumption | exact xu_eq _ _ _ | exact (xu_ne (by first | assumption | exact Ne.symm (by assumption))).trans (by first | assumption | exact xu_eq _ _ _) | exact (xu_ne (by first | assumption | exact Ne.symm (by assumption))).trans ((xu_ne (by first | assumption | exact Ne.symm (by assumption))).trans (by first | assumption | exact xu_eq _ _ _)) | exact (xu_ne (by first | assumption | exact Ne.symm (by assumption))).trans ((xu_ne (by first | assumption | exact Ne.symm (by assumption))).trans ((xu_ne (by first | assumption | exact Ne.symm (by assumption))).trans (by first | assumption | exact xu_eq _ _ _))))) rfl (by decide) dX3_paste_73 rfl rfl rfl (by first | exact Nat.le_of_ble_eq_true rfl | simp [Value.category, rf_cat]) (by omega) (by omega) (by omega) xN_no (fun v_73 m_73 h_73 => ?_)
  obtain ⟨Cb, g3, T3, cb3, rfl, hS3, hF3, hFT, hTb, hsh, hdl⟩ := h_73
  rw [List.nil_append] at hTb
  have hD2n : m_57 D ≠ none := by rw [hm2]; exact fun h => by cases h
  have hg2D : (g2 D).1 ≠ id := by rw [hg2]; exact hgD1
  have hm3 := (Fr_al hF3 hD2n hg2D).trans hm2
  have hg3 : g3 D = g1 D := ((hF3.1 D hD2n).1).trans hg2
  have hrm1 := sm_Rm b1 hR1
  have hbr : a_53 ≠ r := fun e => by subst e; exact hrm1 hno_53
  have m2k : ∀ s, m_49 s ≠ none → m_57 s ≠ none := fun s hs => (hF2.1 s hs).2.1
  have hR3 : T3.1 r = some (ow1, sl1, cp1, drs r P ++ drs r Q) := (hFT.2.2.2.2.2.2.2.1 r (m2k r hrm1) hbr.symm).trans ((uF_ne hbr.symm).trans hR1)
  have hlen3 := sm_len hS3 hR3
  simp only at hlen3
  have hPs := Psi_le hlen3.1
  obtain ⟨lr, ar3, br, mr, hrr, -⟩ := sm_row hS3 hR3
  have hpq : (drs r P ++ drs r Q).length ≤ 60 := by rw [List.length_append]; omega
  first | refine g_aload_n dX3_paste_76 rfl rfl rfl ?_ | refine g_aload_nR dX3_paste_76 rfl rfl rfl ?_ | refine g_aload_nN dX3_paste_76 rfl rfl rfl ?_
  refine g_dup dX3_paste_77 rfl (by first | rfl | exact rf_cat _) ?_
  refine g_get fl_X3_38_X3 dX3_paste_78 rfl (Or.inl (by first | assumption | exact xu_eq _ _ _ | exact (xu_ne (by first | assumption | exact Ne.symm (by assumption))).trans (by first | assumption | exact xu_eq _ _ _) | exact (xu_ne (by first | assumption | exact Ne.symm (by assumption))).trans ((xu_ne (by first | assumption | exact Ne.symm (by assumption))).trans (by first | assumption | exact xu_eq _ _ _)) | exact (xu_ne (by first | assumption | exact Ne.symm (by assumption))).trans ((xu_ne (by first | assumption | exact Ne.symm (by assumption))).trans ((xu_ne (by first | assumption | exact Ne.symm (by assumption))).trans (by first | assumption | exact xu_eq _ _ _))))) rfl ?_
  first | refine g_aload_n dX3_paste_81 rfl rfl rfl ?_ | refine g_aload_nR dX3_paste_81 rfl rfl rfl ?_ | refine g_aload_nN dX3_paste_81 rfl rfl rfl ?_
  refine g_get fl_X3_15_X3 dX3_paste_82 rfl (Or.inl (by first | assumption | exact xu_eq _ _ _ | exact (xu_ne (by first | assumption | exact Ne.symm (by assumption))).trans (by first | assumption | exact xu_eq _ _ _) | exact (xu_ne (by first | assumption | exact Ne.symm (by assumption))).trans ((xu_ne (by first | assumption | exact Ne.symm (by assumption))).trans (by first | assumption | exact xu_eq _ _ _)) | exact (xu_ne (by first | assumption | exact Ne.symm (by assumption))).trans ((xu_ne (by first | assumption | exact Ne.symm (by assumption))).trans ((xu_ne (by first | assumption | exact Ne.symm (by assumption))).trans (by first | assumption | exact xu_eq _ _ _))))) rfl ?_
  first | refine g_aload_n dX3_paste_85 rfl rfl rfl ?_ | refine g_aload_nR dX3_paste_85 rfl rfl rfl ?_ | refine g_aload_nN dX3_paste_85 rfl rfl rfl ?_
  refine g_get fl_X3_38_X3 dX3_paste_86 rfl (Or.inl (by first | assumption | exact xu_eq _ _ _ | exact (xu_ne (by first | assumption | exact Ne.symm (by assumption))).trans (by first | assumption | exact xu_eq _ _ _) | exact (xu_ne (by first | assumption | exact Ne.symm (by assumption))).trans ((xu_ne (by first | assumption | exact Ne.symm (by assumption))).trans (by first | assumption | exact xu_eq _ _ _)) | exact (xu_ne (by first | assumption | exact Ne.symm (by assumption))).trans ((xu_ne (by first | assumption | exact Ne.symm (by assumption))).trans ((xu_ne (by first | assumption | exact Ne.symm (by assumption))).trans (by first | assumption | exact xu_eq _ _ _))))) rfl ?_
  first | refine g_aload_n dX3_paste_89 rfl rfl rfl ?_ | refine g_aload_nR dX3_paste_89 rfl rfl rfl ?_ | refine g_aload_nN dX3_paste_89 rfl rfl rfl ?_
  refine g_virtual iV_X4_take q2197 (c_take (d := d - 1) (kc := 60) (ks := 480) (by omega) hS3 hR3 hTb hbr (by simp only [List.length_append]; omega) rfl (by omega) (by omega)) (Or.inl (by first | assumption | exact xu_eq _ _ _ | exact (xu_ne (by first | assumption | exact Ne.symm (by assumption))).trans (by first | assumption | exact xu_eq _ _ _) | exact (xu_ne (by first | assumption | exact Ne.symm (by assumption))).trans ((xu_ne (by first | assumption | exact Ne.symm (by assumption))).trans (by first | assumption | exact xu_eq _ _ _)) | exact (xu_ne (by first | assumption | exact Ne.symm (by assumption))).trans ((xu_ne (by first | assumption | exact Ne.symm (by assumption))).trans ((xu_ne (by first | assumption | exact Ne.symm (by assumption))).trans (by first | assumption | exact xu_eq _ _ _))))) rfl (by decide) dX3_paste_90 rfl rfl rfl (by first | exact Nat.le_of_ble_eq_true rfl | simp [Value.category, rf_cat]) (by omega) (by omega) (by omega) xN_no (fun v_90 m_90 h_90 => ?_)
  obtain ⟨g4, cap4, rfl, hS4, hF4⟩ := h_90
  have hD3n : m_73 D ≠ none := by rw [hm3]; exact fun h => by cases h
  have hm4 := (Fr_al hF4 hD3n (by rw [hg3]; exact hgD1)).trans hm3
  have hg4 : g4 D = g1 D := ((hF4.1 D hD3n).1).trans hg3
  refine g_iaddn dX3_paste_93 rfl ?_
  refine g_put2 fl_X3_38_X3 dX3_paste_94 rfl (by first | assumption | exact xu_eq _ _ _ | exact (xu_ne (by first | assumption | exact Ne.symm (by assumption))).trans (by first | assumption | exact xu_eq _ _ _) | exact (xu_ne (by first | assumption | exact Ne.symm (by assumption))).trans ((xu_ne (by first | assumption | exact Ne.symm (by assumption))).trans (by first | assumption | exact xu_eq _ _ _)) | exact (xu_ne (by first | assumption | exact Ne.symm (by assumption))).trans ((xu_ne (by first | assumption | exact Ne.symm (by assumption))).trans ((xu_ne (by first | assumption | exact Ne.symm (by assumption))).trans (by first | assumption | exact xu_eq _ _ _)))) rfl rfl ?_
  refine g_iload_n dX3_paste_97 rfl rfl rfl ?_
  refine g_zreturn dX3_paste_98 rfl rfl ?_
  have b4' : DT T1 top (P ++ Q) := b4
  have hkn : ∀ s ∈ top :: (opn P ++ opn Q), m_49 s ≠ none := fun s hs => dt_known b1 b4' (by rw [opn_app]; exact hs)
  have hki : ∀ i ∈ itm P ++ itm Q, m_49 i ≠ none := fun i hi => dt_knownI b1 b4' (by rw [itm_app]; exact hi)
  have m2n : ∀ s, m_57 s = none → m_49 s = none := fun s hs => by
    by_cases e : m_49 s = none
    · exact e
    · exact absurd hs (m2k s e)
  have hCP : PT T3 a_53 Cb := ft_pt hFT hne2
  have nb : ∀ s, m_49 s ≠ none → s ≠ a_53 := fun s hs e => by subst e; exact hs hno_53
  have hCi : ∀ i ∈ drs a_53 Cb, m_49 i = none := fun i hi => m2n i (hFT.2.2.2.2.1 i (drs_itm hi))
  have hbC : a_53 ∉ opn Cb := (List.nodup_cons.mp hCP.2.1).1
  have hrC : ∀ s ∈ opn Cb, s ≠ r := fun s hs e => by subst e; exact hrm1 (m2n _ (hFT.2.2.2.1 _ hs))
  obtain ⟨hDT, hdr⟩ := dt_paste (T4 := (uF (uF T3.1 r (some (ow1, sl1, cap4, drs r P ++ (drs a_53 Cb ++ drs r Q)))) a_53 (some (none, 0, cb3, [])), T3.2.1, uW T3.2.2 (drs a_53 Cb) r)) b4 (dc_ho hD1') hCP hR1 hkn hki hrm1 (fun s hs => m2n s (hFT.2.2.2.1 s hs)) (fun i hi => m2n i (hFT.2.2.2.2.1 i hi)) hno_53
    (fun s hs hsr => (uF_ne (nb s hs)).trans ((uF_ne hsr).trans ((hFT.2.2.2.2.2.2.2.1 s (m2k s hs) (nb s hs)).trans (uF_ne (nb s hs))))) (fun i hi => ⟨(hFT.2.2.2.2.2.2.2.2 i (m2k i hi)).1, (uW_out (fun hm => hi (hCi i hm))).trans (hFT.2.2.2.2.2.2.2.2 i (m2k i hi)).2⟩)
    (fun s hs => (uF_ne (fun e => by subst e; exact hbC hs)).trans (uF_ne (hrC s hs))) (fun i _ => rfl) (fun i hi => uW_in hi) (fun i _ hn => uW_out hn) ((uF_ne hbr.symm).trans (uF_eq _ _ _))
  have hshA : (rnL a_53 r Cb).map shE = C.map shE := (rn_sh _ _ _).trans hsh
  have hbA : Bd r (rnL a_53 r Cb) := rn_bd hCP.1 hbC
  have eL : (P ++ rnL a_53 r Cb) ++ ([] ++ Q) = P ++ (rnL a_53 r Cb ++ Q) := by simp
  have htop := top_own (T' := (uF (uF T3.1 r (some (ow1, sl1, cap4, drs r P ++ (drs a_53 Cb ++ drs r Q)))) a_53 (some (none, 0, cb3, [])), T3.2.1, uW T3.2.2 (drs a_53 Cb) r)) (T := T1) (r := r) b5 hR1 (sl' := sl1) (cap' := cap4) (is' := drs r P ++ (drs a_53 Cb ++ drs r Q)) ((uF_ne hbr.symm).trans (uF_eq _ _ _)) (fun hne => (uF_ne (nb top (hkn top List.mem_cons_self))).trans ((uF_ne hne).trans ((hFT.2.2.2.2.2.2.2.1 top (m2k top (hkn top List.mem_cons_self)) (nb top (hkn top List.mem_cons_self))).trans (uF_ne (nb top (hkn top List.mem_cons_self)))))) hDT
  obtain ⟨sl5, cap5, htop⟩ := htop
  refine ⟨rfl, g4, FrD_tr hF1 (FrD_tr (FrD_of hF2) (FrD_tr (FrD_of hF3) (FrD_tr (FrD_of hF4) (FrD_u (by rw [hm4]; exact fun h => by cases h))))), _, top, r, P ++ rnL a_53 r Cb, [], Q, q, S, ⟨sm_D hS4 (by rw [hg4]; exact hgD1) (by rw [hm4]; exact fun h => by cases h), ?_, ⟨by rw [hg4]; exact b3, b3'⟩, by rw [eL]; exact hDT, ⟨sl5, cap5, by rw [eL]; exact htop⟩, by rw [scn_app' _ b6]; exact bd_any hbA _ _, bd_nil r, ?_, ?_⟩, ?_⟩
  · rw [xu_eq, List.append_nil, drs_app, hdr, List.length_append]; rfl
  · rw [eL, cnt_app, cnt_app, (sh_cnt hshA).1]; omega
  · rw [eL, hts_gap b6 hbA, sh_hts hshA]
    split <;> omega
  · rw [eL, if_pos rfl, List.append_nil]
    refine Prod.ext ?_ (Prod.ext ?_ rfl)
    · refine sh_sg ?_
      rw [List.map_append, List.map_append, List.map_append, List.map_append, hshA]
    · show (P ++ C).length = (P ++ rnL a_53 r Cb).length
      rw [List.length_append, List.length_append, (sh_cnt hshA).2]
end PASTE
