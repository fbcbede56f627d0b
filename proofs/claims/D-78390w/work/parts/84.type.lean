/-! DOCUMENTS: type -/
set_option maxRecDepth 100000
theorem drs_cnt (r : Nat) (L : List XE) : (drs r L).length ≤ cnt L := by
  induction L with
  | nil => exact Nat.le_refl _
  | cons x L ih =>
    obtain ⟨c, i, r'⟩ | ⟨k, i, r', o, p⟩ | b := x
    · simp only [drs, cnt]; split <;> (try simp only [List.length_cons]) <;> omega
    · simp only [drs, cnt]; split <;> (try simp only [List.length_cons]) <;> omega
    · simp only [drs, cnt]; omega
theorem al_90 {len cap : Nat} (h : len ≤ 60) : alS len cap ≤ 90 := by
  unfold alS alN
  by_cases e : len = cap
  · rw [if_pos e, if_pos e]
    by_cases e0 : cap = 0
    · rw [if_pos e0]; omega
    · rw [if_neg e0]
      have : max 1 (cap / 2) = 1 ∨ max 1 (cap / 2) = cap / 2 := by omega
      omega
  · rw [if_neg e]; omega
section TYPE
variable {w : XW} {id d D : Nat} {g : XG} {m : XM} {T : XT} {top r : Nat} {P N Q : List XE} {q : Option Nat} {S : XK}
theorem dc_60 (h : DC w g m id D T top r P N Q q S) : (drs r P).length + ((drs r N).length + (drs r Q).length) ≤ 60 ∧ cnt P + (cnt N + cnt Q) ≤ 60 := by
  have h8 := h.2.2.2.2.2.2.2.1
  rw [cnt_app, cnt_app] at h8
  have a := drs_cnt r P
  have b := drs_cnt r N
  have c := drs_cnt r Q
  omega
/-- the top row's owner stays none -/
theorem top_own {T' : XT} {top r sl0 cap0 sl cap sl' cap' : Nat} {own : Option Nat} {is0 is is' : List Nat} {L : List XE} (h0 : T.1 top = some (none, sl0, cap0, is0)) (hr : T.1 r = some (own, sl, cap, is)) (hr' : T'.1 r = some (own, sl', cap', is')) (hs : top ≠ r → T'.1 top = T.1 top) (hD : DT T' top L) : ∃ sl1 cap1, T'.1 top = some (none, sl1, cap1, drs top L) := by
  obtain ⟨ow, s1, c1, e⟩ := dt_row hD
  by_cases hrr : top = r
  · subst hrr
    have ho := (Prod.mk.inj (Option.some.inj (h0.symm.trans hr))).1
    subst ho
    have ho := (Prod.mk.inj (Option.some.inj (hr'.symm.trans e))).1
    subst ho
    exact ⟨_, _, e⟩
  · have e2 := (hs hrr).trans h0
    have ho := (Prod.mk.inj (Option.some.inj (e2.symm.trans e))).1
    subst ho
    exact ⟨_, _, e⟩
theorem hts_sym (P Q : List XE) (c a r : Nat) : hts (P ++ ([eS c a r] ++ Q)) = hts (P ++ Q) := by
  obtain ⟨c', mx', e⟩ := dpF_app P 0 0
  show dpF 0 0 _ = dpF 0 0 _
  rw [e, e]; rfl
theorem dt_sym1 {c a v sl cap : Nat} {own : Option Nat} (h1 : SM w g m id T) (h : DT T top (P ++ ([] ++ Q))) (hH : HO top P Q r q S) (ha : m a = none) (hR : T.1 r = some (own, sl, cap, drs r P ++ drs r Q)) :
    DT (uF T.1 r (some (own, sl, v, insN (drs r P ++ drs r Q) (drs r P).length a)), uF T.2.1 a (some (.inl c)), uF (uF T.2.2 a none) a (some r)) top (P ++ ([eS c a r] ++ Q)) := by
  have hi : ∀ i ∈ itm P ++ itm Q, i ≠ a := fun i hi e => by
    subst e
    refine dt_knownI h1 h (i := i) ?_ ha
    rw [itm_app, itm_app]; exact hi
  refine dt_new h hH (bd_nil r) ⟨bd_sym c a (bd_nil r), by simp [opn], by simp [itm], fun s hs => by simp [opn] at hs, fun x hx => ?_⟩ (fun s hs => by simp [opn] at hs) (fun i hi' => Or.inr (fun hm => ?_)) (by rw [hR, List.nil_append, drs_app]) ⟨v, ?_⟩ (fun s hs hsr => uF_ne hsr) (fun i hi' => ⟨uF_ne (hi i hi'), (uF_ne (hi i hi')).trans (uF_ne (hi i hi'))⟩)
  · simp only [List.mem_cons, List.not_mem_nil, or_false] at hx
    subst hx
    exact ⟨uF_eq _ _ _, uF_eq _ _ _⟩
  · simp only [itm, List.mem_cons, List.not_mem_nil, or_false] at hi'
    subst hi'
    exact hi i hm rfl
  · refine (uF_eq _ _ _).trans ?_
    rw [insN_mid, drs_app, List.cons_append, List.nil_append, drs_sS]
theorem c_type {c : Nat} (h : DC w g m id D T top r P N Q q S) (hd : 40 ≤ d) (hc : c < 65536) : CT w MX3_type d 66 500 [.ref D, .int (nI c)] m (fun v m' => some (.int (xB (decide (cnt (P ++ (N ++ Q)) - cnt N < 60)))) = v ∧ ∃ g', FrD id D g m g' m' ∧ (cnt (P ++ (N ++ Q)) - cnt N < 60 → ∃ T' a, DC w g' m' id D T' top r (P ++ [eS c a r]) [] Q q S) ∧ (¬ cnt (P ++ (N ++ Q)) - cnt N < 60 → m' = m ∧ g' = g)) xN := by
  have hL := dc_len h
  have h60 := dc_60 h
  have hDC := h
  obtain ⟨own, sl, cap, hR⟩ := dc_row h
  obtain ⟨h1, h2, ⟨h3, h3'⟩, h4, ⟨sl0, cap0, h5⟩, h6, h7, h8, h9⟩ := h
  obtain ⟨la, ar, bx, mc, hr1, -⟩ := sm_row h1 h5
  have hcl : cnt (P ++ (N ++ Q)) = cnt P + (cnt N + cnt Q) := by rw [cnt_app, cnt_app]
  refine ct_intro (lv := [some (.ref D), some (.int (nI c)), none]) 1 (by decide) rfl (Nat.le_of_ble_eq_true rfl) rfl ?_
  by_cases hcan : cnt (P ++ (N ++ Q)) - cnt N < 60
  · skip
    first | refine g_aload_n dX3_type_0 rfl rfl rfl ?_ | refine g_aload_nR dX3_type_0 rfl rfl rfl ?_ | refine g_aload_nN dX3_type_0 rfl rfl rfl ?_
    refine g_get fl_X3_9_X3 dX3_type_1 rfl (Or.inl (by first | assumption | exact xu_eq _ _ _ | exact (xu_ne (by first | assumption | exact Ne.symm (by assumption))).trans (by first | assumption | exact xu_eq _ _ _) | exact (xu_ne (by first | assumption | exact Ne.symm (by assumption))).trans ((xu_ne (by first | assumption | exact Ne.symm (by assumption))).trans (by first | assumption | exact xu_eq _ _ _)) | exact (xu_ne (by first | assumption | exact Ne.symm (by assumption))).trans ((xu_ne (by first | assumption | exact Ne.symm (by assumption))).trans ((xu_ne (by first | assumption | exact Ne.symm (by assumption))).trans (by first | assumption | exact xu_eq _ _ _))))) rfl ?_
    refine g_virtualP iV_X4_size q2137 (c_rsize (d := d - 1) h1 h4 (by omega)) (Or.inl (by first | assumption | exact xu_eq _ _ _ | exact (xu_ne (by first | assumption | exact Ne.symm (by assumption))).trans (by first | assumption | exact xu_eq _ _ _) | exact (xu_ne (by first | assumption | exact Ne.symm (by assumption))).trans ((xu_ne (by first | assumption | exact Ne.symm (by assumption))).trans (by first | assumption | exact xu_eq _ _ _)) | exact (xu_ne (by first | assumption | exact Ne.symm (by assumption))).trans ((xu_ne (by first | assumption | exact Ne.symm (by assumption))).trans ((xu_ne (by first | assumption | exact Ne.symm (by assumption))).trans (by first | assumption | exact xu_eq _ _ _))))) rfl (by decide) dX3_type_4 rfl rfl rfl (by first | exact Nat.le_of_ble_eq_true rfl | simp [Value.category, rf_cat]) (by omega) xN_no ?_
    first | refine g_aload_n dX3_type_7 rfl rfl rfl ?_ | refine g_aload_nR dX3_type_7 rfl rfl rfl ?_ | refine g_aload_nN dX3_type_7 rfl rfl rfl ?_
    refine g_virtualP iV_X3_selectedSize q2138 (c_selSize (d := d - 1) hDC (by omega)) (Or.inl (by first | assumption | exact xu_eq _ _ _ | exact (xu_ne (by first | assumption | exact Ne.symm (by assumption))).trans (by first | assumption | exact xu_eq _ _ _) | exact (xu_ne (by first | assumption | exact Ne.symm (by assumption))).trans ((xu_ne (by first | assumption | exact Ne.symm (by assumption))).trans (by first | assumption | exact xu_eq _ _ _)) | exact (xu_ne (by first | assumption | exact Ne.symm (by assumption))).trans ((xu_ne (by first | assumption | exact Ne.symm (by assumption))).trans ((xu_ne (by first | assumption | exact Ne.symm (by assumption))).trans (by first | assumption | exact xu_eq _ _ _))))) rfl (by decide) dX3_type_8 rfl rfl rfl (by first | exact Nat.le_of_ble_eq_true rfl | simp [Value.category, rf_cat]) (by omega) xN_no ?_
    refine g_isubn dX3_type_11 rfl (by omega) ?_
    refine g_bipush (v := (nI 60)) dX3_type_12 rfl rfl ?_
    refine g_icmpn_ge (tgt := 21) dX3_type_14 (by decide) rfl (by omega) (by omega) (fun c_14 => by omega) (fun c_14 => ?_)
    refine g_iconst (v := (nI 1)) dX3_type_17 rfl rfl ?_
    refine g_goto (tgt := 22) dX3_type_18 (by decide) ?_
    refine g_ist2 dX3_type_22 rfl (by decide) (k := ?_)
    refine g_iload_n dX3_type_23 rfl rfl rfl ?_
    refine g_ifn_eq (tgt := 61) dX3_type_24 (by decide) rfl (by omega) (fun c_24 => by omega) (fun _ => ?_)
    first | refine g_aload_n dX3_type_27 rfl rfl rfl ?_ | refine g_aload_nR dX3_type_27 rfl rfl rfl ?_ | refine g_aload_nN dX3_type_27 rfl rfl rfl ?_
    refine g_virtual iV_X3_takeSelected q2139 (c_takeSel (d := d - 1) hDC (by omega)) (Or.inl (by first | assumption | exact xu_eq _ _ _ | exact (xu_ne (by first | assumption | exact Ne.symm (by assumption))).trans (by first | assumption | exact xu_eq _ _ _) | exact (xu_ne (by first | assumption | exact Ne.symm (by assumption))).trans ((xu_ne (by first | assumption | exact Ne.symm (by assumption))).trans (by first | assumption | exact xu_eq _ _ _)) | exact (xu_ne (by first | assumption | exact Ne.symm (by assumption))).trans ((xu_ne (by first | assumption | exact Ne.symm (by assumption))).trans ((xu_ne (by first | assumption | exact Ne.symm (by assumption))).trans (by first | assumption | exact xu_eq _ _ _))))) rfl (by decide) dX3_type_28 rfl rfl rfl (by first | exact Nat.le_of_ble_eq_true rfl | simp [Value.category, rf_cat]) (by omega) (by omega) (by omega) xN_no (fun v_28 m_28 h_28 => ?_)
    obtain ⟨t, g1, T1, cap1, rfl, ht, hD1, hF1, -, -⟩ := h_28
    have hD1' := hD1
    obtain ⟨ow1, sl1, cp1, hR1⟩ := dc_row hD1
    obtain ⟨b1, b2, ⟨b3, b3'⟩, b4, ⟨slb, capb, b5⟩, b6, b7, b8, b9⟩ := hD1
    have h601 := dc_60 hD1'
    have hgD1 : (g1 D).1 ≠ id := by rw [b3]; exact fun e => b3' e.symm
    simp only [List.append_nil, List.nil_append] at b2 b4 b5 b8 b9 hR1
    simp only [show drs r [] = [] from rfl, List.nil_append, List.length_nil] at b2 hR1 h601
    refine g_pop dX3_type_31 rfl (by first | rfl | exact rf_cat _) ?_
    first | refine g_aload_n dX3_type_32 rfl rfl rfl ?_ | refine g_aload_nR dX3_type_32 rfl rfl rfl ?_ | refine g_aload_nN dX3_type_32 rfl rfl rfl ?_
    refine g_get fl_X3_15_X3 dX3_type_33 rfl (Or.inl (by first | assumption | exact xu_eq _ _ _ | exact (xu_ne (by first | assumption | exact Ne.symm (by assumption))).trans (by first | assumption | exact xu_eq _ _ _) | exact (xu_ne (by first | assumption | exact Ne.symm (by assumption))).trans ((xu_ne (by first | assumption | exact Ne.symm (by assumption))).trans (by first | assumption | exact xu_eq _ _ _)) | exact (xu_ne (by first | assumption | exact Ne.symm (by assumption))).trans ((xu_ne (by first | assumption | exact Ne.symm (by assumption))).trans ((xu_ne (by first | assumption | exact Ne.symm (by assumption))).trans (by first | assumption | exact xu_eq _ _ _))))) rfl ?_
    first | refine g_aload_n dX3_type_36 rfl rfl rfl ?_ | refine g_aload_nR dX3_type_36 rfl rfl rfl ?_ | refine g_aload_nN dX3_type_36 rfl rfl rfl ?_
    refine g_get fl_X3_38_X3 dX3_type_37 rfl (Or.inl (by first | assumption | exact xu_eq _ _ _ | exact (xu_ne (by first | assumption | exact Ne.symm (by assumption))).trans (by first | assumption | exact xu_eq _ _ _) | exact (xu_ne (by first | assumption | exact Ne.symm (by assumption))).trans ((xu_ne (by first | assumption | exact Ne.symm (by assumption))).trans (by first | assumption | exact xu_eq _ _ _)) | exact (xu_ne (by first | assumption | exact Ne.symm (by assumption))).trans ((xu_ne (by first | assumption | exact Ne.symm (by assumption))).trans ((xu_ne (by first | assumption | exact Ne.symm (by assumption))).trans (by first | assumption | exact xu_eq _ _ _))))) rfl ?_
    refine g_new nw_X3_123 dX3_type_40 rfl (by omega) (by omega) (fun a_40 hno_40 hb_40 => ?_)
    refine g_dup dX3_type_43 rfl (by first | rfl | exact rf_cat _) ?_
    refine g_iload_n dX3_type_44 rfl rfl rfl ?_
    refine g_ctor iC_X11_init q2145 (c_syminit (d := d - 1) (by omega) b1 hno_40 hc) dX3_type_45 rfl rfl rfl (by first | exact Nat.le_of_ble_eq_true rfl | simp [Value.category, rf_cat]) (by omega) (by omega) (by omega) xN_no (fun v_45 m_45 h_45 => ?_)
    obtain ⟨rfl, g2, hS2, hF2⟩ := h_45
    obtain ⟨la2, ar2, bx2, mc2, hr2, -⟩ := sm_row hS2 hR1
    have hm2 : m_45 D = _ := (Fr_al hF2 (by rw [b2]; exact fun h => by cases h) hgD1).trans b2
    have hg2 : (g2 D).1 ≠ id := by rw [(hF2.1 D (by rw [b2]; exact fun h => by cases h)).1]; exact hgD1
    have hal : alS (drs r P ++ drs r Q).length cp1 ≤ 90 := al_90 (by rw [List.length_append]; omega)
    refine g_virtual iV_X4_insert q2146 (c_insert (d := d - 1) (x := a_40) (by omega) hS2 hR1 (by rw [List.length_append]; omega) (by rw [List.length_append]; omega) (fun hn => by have hn2 := (uF_eq T1.2.1 a_40 (some (.inl c))).symm.trans hn; cases hn2)) (Or.inl (by first | assumption | exact xu_eq _ _ _ | exact (xu_ne (by first | assumption | exact Ne.symm (by assumption))).trans (by first | assumption | exact xu_eq _ _ _) | exact (xu_ne (by first | assumption | exact Ne.symm (by assumption))).trans ((xu_ne (by first | assumption | exact Ne.symm (by assumption))).trans (by first | assumption | exact xu_eq _ _ _)) | exact (xu_ne (by first | assumption | exact Ne.symm (by assumption))).trans ((xu_ne (by first | assumption | exact Ne.symm (by assumption))).trans ((xu_ne (by first | assumption | exact Ne.symm (by assumption))).trans (by first | assumption | exact xu_eq _ _ _))))) rfl (by decide) dX3_type_48 rfl rfl rfl (by first | exact Nat.le_of_ble_eq_true rfl | simp [Value.category, rf_cat]) (by omega) (by omega) (by omega) xN_no (fun v_48 m_48 h_48 => ?_)
    obtain ⟨rfl, g3, hS3, hF3⟩ := h_48
    have hm3 : m_48 D = some (.inr (2, [.ref top, .ref r, .int (nI (drs r P).length), .int (nI 0)])) := (Fr_al hF3 (by rw [hm2]; exact fun h => by cases h) hg2).trans hm2
    have hg3 : g3 D = g1 D := ((hF3.1 D (by rw [hm2]; exact fun h => by cases h)).1).trans ((hF2.1 D (by rw [b2]; exact fun h => by cases h)).1)
    first | refine g_aload_n dX3_type_51 rfl rfl rfl ?_ | refine g_aload_nR dX3_type_51 rfl rfl rfl ?_ | refine g_aload_nN dX3_type_51 rfl rfl rfl ?_
    refine g_dup dX3_type_52 rfl (by first | rfl | exact rf_cat _) ?_
    refine g_get fl_X3_38_X3 dX3_type_53 rfl (Or.inl (by first | assumption | exact xu_eq _ _ _ | exact (xu_ne (by first | assumption | exact Ne.symm (by assumption))).trans (by first | assumption | exact xu_eq _ _ _) | exact (xu_ne (by first | assumption | exact Ne.symm (by assumption))).trans ((xu_ne (by first | assumption | exact Ne.symm (by assumption))).trans (by first | assumption | exact xu_eq _ _ _)) | exact (xu_ne (by first | assumption | exact Ne.symm (by assumption))).trans ((xu_ne (by first | assumption | exact Ne.symm (by assumption))).trans ((xu_ne (by first | assumption | exact Ne.symm (by assumption))).trans (by first | assumption | exact xu_eq _ _ _))))) rfl ?_
    refine g_iconst (v := (nI 1)) dX3_type_56 rfl rfl ?_
    refine g_iaddn dX3_type_57 rfl ?_
    refine g_put2 fl_X3_38_X3 dX3_type_58 rfl (by first | assumption | exact xu_eq _ _ _ | exact (xu_ne (by first | assumption | exact Ne.symm (by assumption))).trans (by first | assumption | exact xu_eq _ _ _) | exact (xu_ne (by first | assumption | exact Ne.symm (by assumption))).trans ((xu_ne (by first | assumption | exact Ne.symm (by assumption))).trans (by first | assumption | exact xu_eq _ _ _)) | exact (xu_ne (by first | assumption | exact Ne.symm (by assumption))).trans ((xu_ne (by first | assumption | exact Ne.symm (by assumption))).trans ((xu_ne (by first | assumption | exact Ne.symm (by assumption))).trans (by first | assumption | exact xu_eq _ _ _)))) rfl rfl ?_
    refine g_iload_n dX3_type_61 rfl rfl rfl ?_
    refine g_zreturn dX3_type_62 rfl rfl ?_
    have eL : (P ++ [eS c a_40 r]) ++ ([] ++ Q) = P ++ ([eS c a_40 r] ++ Q) := by simp
    have b4' : DT T1 top (P ++ ([] ++ Q)) := b4
    have hDT := dt_sym1 (c := c) (v := alN (drs r P ++ drs r Q).length cp1) b1 b4' (dc_ho hD1') hno_40 hR1
    refine ⟨by rw [decide_eq_true hcan]; rfl, g3, ?_, fun _ => ⟨_, a_40, sm_D hS3 (by rw [hg3]; exact hgD1) (by rw [hm3]; exact fun h => by cases h), ?_, ⟨by rw [hg3]; exact b3, b3'⟩, ?_, ?_, ?_, bd_nil r, ?_, ?_⟩, fun hn => absurd hcan hn⟩
    · exact FrD_tr hF1 (FrD_tr (FrD_of hF2) (FrD_tr (FrD_of hF3) (FrD_u (by rw [hm3]; exact fun h => by cases h))))
    · rw [xu_eq, List.append_nil, drs_app, drs_sS, List.length_append]; rfl
    · rw [eL]; exact hDT
    · rw [eL]; exact top_own (T := T1) b5 hR1 (uF_eq _ _ _) (fun hn => uF_ne hn) hDT
    · rw [scn_app' _ b6, scn_cons, stp_sS]; rfl
    · rw [eL, cnt_app]; show cnt P + (cnt Q + 1) ≤ 60; omega
    · rw [eL]; rw [hts_sym]; exact b9
  · skip
    first | refine g_aload_n dX3_type_0 rfl rfl rfl ?_ | refine g_aload_nR dX3_type_0 rfl rfl rfl ?_ | refine g_aload_nN dX3_type_0 rfl rfl rfl ?_
    refine g_get fl_X3_9_X3 dX3_type_1 rfl (Or.inl (by first | assumption | exact xu_eq _ _ _ | exact (xu_ne (by first | assumption | exact Ne.symm (by assumption))).trans (by first | assumption | exact xu_eq _ _ _) | exact (xu_ne (by first | assumption | exact Ne.symm (by assumption))).trans ((xu_ne (by first | assumption | exact Ne.symm (by assumption))).trans (by first | assumption | exact xu_eq _ _ _)) | exact (xu_ne (by first | assumption | exact Ne.symm (by assumption))).trans ((xu_ne (by first | assumption | exact Ne.symm (by assumption))).trans ((xu_ne (by first | assumption | exact Ne.symm (by assumption))).trans (by first | assumption | exact xu_eq _ _ _))))) rfl ?_
    refine g_virtualP iV_X4_size q2137 (c_rsize (d := d - 1) h1 h4 (by omega)) (Or.inl (by first | assumption | exact xu_eq _ _ _ | exact (xu_ne (by first | assumption | exact Ne.symm (by assumption))).trans (by first | assumption | exact xu_eq _ _ _) | exact (xu_ne (by first | assumption | exact Ne.symm (by assumption))).trans ((xu_ne (by first | assumption | exact Ne.symm (by assumption))).trans (by first | assumption | exact xu_eq _ _ _)) | exact (xu_ne (by first | assumption | exact Ne.symm (by assumption))).trans ((xu_ne (by first | assumption | exact Ne.symm (by assumption))).trans ((xu_ne (by first | assumption | exact Ne.symm (by assumption))).trans (by first | assumption | exact xu_eq _ _ _))))) rfl (by decide) dX3_type_4 rfl rfl rfl (by first | exact Nat.le_of_ble_eq_true rfl | simp [Value.category, rf_cat]) (by omega) xN_no ?_
    first | refine g_aload_n dX3_type_7 rfl rfl rfl ?_ | refine g_aload_nR dX3_type_7 rfl rfl rfl ?_ | refine g_aload_nN dX3_type_7 rfl rfl rfl ?_
    refine g_virtualP iV_X3_selectedSize q2138 (c_selSize (d := d - 1) hDC (by omega)) (Or.inl (by first | assumption | exact xu_eq _ _ _ | exact (xu_ne (by first | assumption | exact Ne.symm (by assumption))).trans (by first | assumption | exact xu_eq _ _ _) | exact (xu_ne (by first | assumption | exact Ne.symm (by assumption))).trans ((xu_ne (by first | assumption | exact Ne.symm (by assumption))).trans (by first | assumption | exact xu_eq _ _ _)) | exact (xu_ne (by first | assumption | exact Ne.symm (by assumption))).trans ((xu_ne (by first | assumption | exact Ne.symm (by assumption))).trans ((xu_ne (by first | assumption | exact Ne.symm (by assumption))).trans (by first | assumption | exact xu_eq _ _ _))))) rfl (by decide) dX3_type_8 rfl rfl rfl (by first | exact Nat.le_of_ble_eq_true rfl | simp [Value.category, rf_cat]) (by omega) xN_no ?_
    refine g_isubn dX3_type_11 rfl (by omega) ?_
    refine g_bipush (v := (nI 60)) dX3_type_12 rfl rfl ?_
    refine g_icmpn_ge (tgt := 21) dX3_type_14 (by decide) rfl (by omega) (by omega) (fun c_14 => ?_) (fun c_14 => by omega)
    refine g_iconst (v := (nI 0)) dX3_type_21 rfl rfl ?_
    refine g_ist2 dX3_type_22 rfl (by decide) (k := ?_)
    refine g_iload_n dX3_type_23 rfl rfl rfl ?_
    refine g_ifn_eq (tgt := 61) dX3_type_24 (by decide) rfl (by omega) (fun _ => ?_) (fun c_24 => by omega)
    refine g_iload_n dX3_type_61 rfl rfl rfl ?_
    refine g_zreturn dX3_type_62 rfl rfl ?_
    exact ⟨by rw [decide_eq_false hcan]; rfl, g, ⟨fun a ha => ⟨rfl, ha, fun _ _ => rfl⟩, fun a ha h2 => absurd ha h2⟩, fun hn => absurd hn hcan, fun _ => ⟨rfl, rfl⟩⟩
end TYPE
