/-! DOCUMENTS: the selected items are taken out -/
set_option maxRecDepth 100000
theorem dpF_mono : ∀ (M : List XE) (c a b : Nat), a ≤ b → dpF c a M ≤ dpF c b M := by
  intro M
  induction M with
  | nil => intro c a b h; exact h
  | cons x M ih =>
    intro c a b h
    obtain ⟨c', i, r'⟩ | ⟨k, i, r', o, p⟩ | b' := x
    · exact ih c a b h
    · exact ih (c + 1) _ _ (by omega)
    · cases b' with
      | false => exact ih c a b h
      | true => exact ih (c - 1) a b h
theorem hts_rem {r : Nat} {P N Q : List XE} (h : Bd r N) : hts (P ++ Q) ≤ hts (P ++ (N ++ Q)) := by
  obtain ⟨c', mx', e⟩ := dpF_app P 0 0
  show dpF 0 0 _ ≤ dpF 0 0 _
  rw [e, e, dpF_bd r N h]
  exact dpF_mono _ _ _ _ (Nat.le_max_left _ _)
section TAKE
variable {w : XW} {id d D : Nat} {g : XG} {m : XM} {T : XT} {top r : Nat} {P N Q : List XE} {q : Option Nat} {S : XK}
theorem dt_known {s : Nat} {M : List XE} (h1 : SM w g m id T) (h : DT T top M) (hs : s ∈ top :: opn M) : m s ≠ none := by
  obtain ⟨ow, sl, cap, e⟩ := h.2.2.2.1 s hs
  exact sm_Rm h1 e
theorem dt_knownI {i : Nat} {M : List XE} (h1 : SM w g m id T) (h : DT T top M) (hi : i ∈ itm M) : m i ≠ none := by
  obtain ⟨v, e⟩ := ek_itm h.2.2.2.2 i hi
  exact sm_Km h1 e
theorem c_takeSel (h : DC w g m id D T top r P N Q q S) (hd : 30 ≤ d) : CT w MX3_takeSelected d (2 + (drs r N).length) (6 * (drs r N).length + 40) [.ref D] m (fun v m' => ∃ t g' T' cap', some (.ref t) = v ∧ m t = none ∧ DC w g' m' id D T' top r P [] Q q S ∧ FrD id D g m g' m' ∧ PT T' t (rnL r t N) ∧ T'.1 t = some (none, 0, cap', drs t (rnL r t N))) xN := by
  have hL := dc_len h
  have hl := dc_l h
  have hH := dc_ho h
  have hDC := h
  obtain ⟨own, sl, cap, hR⟩ := dc_row h
  obtain ⟨h1, h2, ⟨h3, h3'⟩, h4, ⟨sl0, cap0, h5⟩, h6, h7, h8, h9⟩ := h
  obtain ⟨la, ar, bx, mc, hr1, -⟩ := sm_row h1 hR
  have hpn : (drs r (P ++ N)).length = (drs r P).length + (drs r N).length := by rw [drs_app, List.length_append]
  have hpn2 : (drs r (P ++ N)).length - (drs r N).length = (drs r P).length := by omega
  have hb : (drs r (P ++ N)).length ≤ 180 := by omega
  have hsp := c_split (A := drs r P) (B := drs r N) (C := drs r Q) (i := (drs r (P ++ N)).length - (drs r N).length) (j := (drs r (P ++ N)).length) (d := d - 1) (by omega) h1 hR (by simp only [List.length_append]; omega) hpn2 hpn
  have hgD : (g D).1 ≠ id := by rw [h3]; exact fun e => h3' e.symm
  refine ct_intro (lv := [some (.ref D), none]) 1 (by decide) rfl (Nat.le_of_ble_eq_true rfl) rfl ?_
  first | refine g_aload_n dX3_takeSelected_0 rfl rfl rfl ?_ | refine g_aload_nR dX3_takeSelected_0 rfl rfl rfl ?_ | refine g_aload_nN dX3_takeSelected_0 rfl rfl rfl ?_
  refine g_get fl_X3_15_X3 dX3_takeSelected_1 rfl (Or.inl (by first | assumption | exact xu_eq _ _ _ | exact (xu_ne (by first | assumption | exact Ne.symm (by assumption))).trans (by first | assumption | exact xu_eq _ _ _) | exact (xu_ne (by first | assumption | exact Ne.symm (by assumption))).trans ((xu_ne (by first | assumption | exact Ne.symm (by assumption))).trans (by first | assumption | exact xu_eq _ _ _)) | exact (xu_ne (by first | assumption | exact Ne.symm (by assumption))).trans ((xu_ne (by first | assumption | exact Ne.symm (by assumption))).trans ((xu_ne (by first | assumption | exact Ne.symm (by assumption))).trans (by first | assumption | exact xu_eq _ _ _))))) rfl ?_
  first | refine g_aload_n dX3_takeSelected_4 rfl rfl rfl ?_ | refine g_aload_nR dX3_takeSelected_4 rfl rfl rfl ?_ | refine g_aload_nN dX3_takeSelected_4 rfl rfl rfl ?_
  refine g_get fl_X3_38_X3 dX3_takeSelected_5 rfl (Or.inl (by first | assumption | exact xu_eq _ _ _ | exact (xu_ne (by first | assumption | exact Ne.symm (by assumption))).trans (by first | assumption | exact xu_eq _ _ _) | exact (xu_ne (by first | assumption | exact Ne.symm (by assumption))).trans ((xu_ne (by first | assumption | exact Ne.symm (by assumption))).trans (by first | assumption | exact xu_eq _ _ _)) | exact (xu_ne (by first | assumption | exact Ne.symm (by assumption))).trans ((xu_ne (by first | assumption | exact Ne.symm (by assumption))).trans ((xu_ne (by first | assumption | exact Ne.symm (by assumption))).trans (by first | assumption | exact xu_eq _ _ _))))) rfl ?_
  first | refine g_aload_n dX3_takeSelected_8 rfl rfl rfl ?_ | refine g_aload_nR dX3_takeSelected_8 rfl rfl rfl ?_ | refine g_aload_nN dX3_takeSelected_8 rfl rfl rfl ?_
  refine g_get fl_X3_50_X3 dX3_takeSelected_9 rfl (Or.inl (by first | assumption | exact xu_eq _ _ _ | exact (xu_ne (by first | assumption | exact Ne.symm (by assumption))).trans (by first | assumption | exact xu_eq _ _ _) | exact (xu_ne (by first | assumption | exact Ne.symm (by assumption))).trans ((xu_ne (by first | assumption | exact Ne.symm (by assumption))).trans (by first | assumption | exact xu_eq _ _ _)) | exact (xu_ne (by first | assumption | exact Ne.symm (by assumption))).trans ((xu_ne (by first | assumption | exact Ne.symm (by assumption))).trans ((xu_ne (by first | assumption | exact Ne.symm (by assumption))).trans (by first | assumption | exact xu_eq _ _ _))))) rfl ?_
  refine g_isubn dX3_takeSelected_12 rfl (by omega) ?_
  first | refine g_aload_n dX3_takeSelected_13 rfl rfl rfl ?_ | refine g_aload_nR dX3_takeSelected_13 rfl rfl rfl ?_ | refine g_aload_nN dX3_takeSelected_13 rfl rfl rfl ?_
  refine g_get fl_X3_38_X3 dX3_takeSelected_14 rfl (Or.inl (by first | assumption | exact xu_eq _ _ _ | exact (xu_ne (by first | assumption | exact Ne.symm (by assumption))).trans (by first | assumption | exact xu_eq _ _ _) | exact (xu_ne (by first | assumption | exact Ne.symm (by assumption))).trans ((xu_ne (by first | assumption | exact Ne.symm (by assumption))).trans (by first | assumption | exact xu_eq _ _ _)) | exact (xu_ne (by first | assumption | exact Ne.symm (by assumption))).trans ((xu_ne (by first | assumption | exact Ne.symm (by assumption))).trans ((xu_ne (by first | assumption | exact Ne.symm (by assumption))).trans (by first | assumption | exact xu_eq _ _ _))))) rfl ?_
  refine g_virtual iV_X4_split q2143 (hsp) (Or.inl (by first | assumption | exact xu_eq _ _ _ | exact (xu_ne (by first | assumption | exact Ne.symm (by assumption))).trans (by first | assumption | exact xu_eq _ _ _) | exact (xu_ne (by first | assumption | exact Ne.symm (by assumption))).trans ((xu_ne (by first | assumption | exact Ne.symm (by assumption))).trans (by first | assumption | exact xu_eq _ _ _)) | exact (xu_ne (by first | assumption | exact Ne.symm (by assumption))).trans ((xu_ne (by first | assumption | exact Ne.symm (by assumption))).trans ((xu_ne (by first | assumption | exact Ne.symm (by assumption))).trans (by first | assumption | exact xu_eq _ _ _))))) rfl (by decide) dX3_takeSelected_17 rfl rfl rfl (by first | exact Nat.le_of_ble_eq_true rfl | simp [Value.category, rf_cat]) (by omega) (by omega) (by omega) xN_no (fun v_17 m_17 h_17 => ?_)
  obtain ⟨t, g1, cap', rfl, ht, hS1, hF1⟩ := h_17
  have hm1 : m_17 D = some (.inr (2, [.ref top, .ref r, .int (nI (drs r (P ++ N)).length), .int (nI (drs r N).length)])) := (Fr_al hF1 (by rw [h2]; exact fun h => by cases h) hgD).trans h2
  have hg1 : (g1 D).1 = 0 := by rw [(hF1.1 D (by rw [h2]; exact fun h => by cases h)).1]; exact h3
  first | refine g_ast1 dX3_takeSelected_20 rfl (by decide) (k := ?_) | refine g_astR1 dX3_takeSelected_20 rfl (by decide) (k := ?_) | refine g_astN1 dX3_takeSelected_20 rfl (by decide) (k := ?_)
  first | refine g_aload_n dX3_takeSelected_21 rfl rfl rfl ?_ | refine g_aload_nR dX3_takeSelected_21 rfl rfl rfl ?_ | refine g_aload_nN dX3_takeSelected_21 rfl rfl rfl ?_
  refine g_dup dX3_takeSelected_22 rfl (by first | rfl | exact rf_cat _) ?_
  refine g_get fl_X3_38_X3 dX3_takeSelected_23 rfl (Or.inl (by first | assumption | exact xu_eq _ _ _ | exact (xu_ne (by first | assumption | exact Ne.symm (by assumption))).trans (by first | assumption | exact xu_eq _ _ _) | exact (xu_ne (by first | assumption | exact Ne.symm (by assumption))).trans ((xu_ne (by first | assumption | exact Ne.symm (by assumption))).trans (by first | assumption | exact xu_eq _ _ _)) | exact (xu_ne (by first | assumption | exact Ne.symm (by assumption))).trans ((xu_ne (by first | assumption | exact Ne.symm (by assumption))).trans ((xu_ne (by first | assumption | exact Ne.symm (by assumption))).trans (by first | assumption | exact xu_eq _ _ _))))) rfl ?_
  first | refine g_aload_n dX3_takeSelected_26 rfl rfl rfl ?_ | refine g_aload_nR dX3_takeSelected_26 rfl rfl rfl ?_ | refine g_aload_nN dX3_takeSelected_26 rfl rfl rfl ?_
  refine g_get fl_X3_50_X3 dX3_takeSelected_27 rfl (Or.inl (by first | assumption | exact xu_eq _ _ _ | exact (xu_ne (by first | assumption | exact Ne.symm (by assumption))).trans (by first | assumption | exact xu_eq _ _ _) | exact (xu_ne (by first | assumption | exact Ne.symm (by assumption))).trans ((xu_ne (by first | assumption | exact Ne.symm (by assumption))).trans (by first | assumption | exact xu_eq _ _ _)) | exact (xu_ne (by first | assumption | exact Ne.symm (by assumption))).trans ((xu_ne (by first | assumption | exact Ne.symm (by assumption))).trans ((xu_ne (by first | assumption | exact Ne.symm (by assumption))).trans (by first | assumption | exact xu_eq _ _ _))))) rfl ?_
  refine g_isubn dX3_takeSelected_30 rfl (by omega) ?_
  refine g_put2 fl_X3_38_X3 dX3_takeSelected_31 rfl (by first | assumption | exact xu_eq _ _ _ | exact (xu_ne (by first | assumption | exact Ne.symm (by assumption))).trans (by first | assumption | exact xu_eq _ _ _) | exact (xu_ne (by first | assumption | exact Ne.symm (by assumption))).trans ((xu_ne (by first | assumption | exact Ne.symm (by assumption))).trans (by first | assumption | exact xu_eq _ _ _)) | exact (xu_ne (by first | assumption | exact Ne.symm (by assumption))).trans ((xu_ne (by first | assumption | exact Ne.symm (by assumption))).trans ((xu_ne (by first | assumption | exact Ne.symm (by assumption))).trans (by first | assumption | exact xu_eq _ _ _)))) rfl rfl ?_
  first | refine g_aload_n dX3_takeSelected_34 rfl rfl rfl ?_ | refine g_aload_nR dX3_takeSelected_34 rfl rfl rfl ?_ | refine g_aload_nN dX3_takeSelected_34 rfl rfl rfl ?_
  refine g_iconst (v := (nI 0)) dX3_takeSelected_35 rfl rfl ?_
  refine g_put3 fl_X3_50_X3 dX3_takeSelected_36 rfl (by first | assumption | exact xu_eq _ _ _ | exact (xu_ne (by first | assumption | exact Ne.symm (by assumption))).trans (by first | assumption | exact xu_eq _ _ _) | exact (xu_ne (by first | assumption | exact Ne.symm (by assumption))).trans ((xu_ne (by first | assumption | exact Ne.symm (by assumption))).trans (by first | assumption | exact xu_eq _ _ _)) | exact (xu_ne (by first | assumption | exact Ne.symm (by assumption))).trans ((xu_ne (by first | assumption | exact Ne.symm (by assumption))).trans ((xu_ne (by first | assumption | exact Ne.symm (by assumption))).trans (by first | assumption | exact xu_eq _ _ _)))) rfl rfl ?_
  first | refine g_aload_n dX3_takeSelected_39 rfl rfl rfl ?_ | refine g_aload_nR dX3_takeSelected_39 rfl rfl rfl ?_ | refine g_aload_nN dX3_takeSelected_39 rfl rfl rfl ?_
  refine g_areturn dX3_takeSelected_40 rfl (Or.inl ⟨_, rfl⟩) (Or.inr ⟨_, rfl⟩) ?_
  rw [xu_xu]
  have htk : ∀ s ∈ top :: opn (P ++ (N ++ Q)), s ≠ t := fun s hs e => by subst e; exact dt_known h1 h4 hs ht
  have hop : ∀ s, s ∈ top :: (opn P ++ opn Q) → s ∈ top :: opn (P ++ (N ++ Q)) := by
    intro s hs
    rw [opn_app, opn_app]
    simp only [List.mem_cons, List.mem_append] at hs ⊢
    rcases hs with hs | hs | hs
    · exact Or.inl hs
    · exact Or.inr (Or.inl hs)
    · exact Or.inr (Or.inr (Or.inr hs))
  have hopN : ∀ s ∈ opn N, s ∈ top :: opn (P ++ (N ++ Q)) := by
    intro s hs
    rw [opn_app, opn_app]
    exact List.mem_cons_of_mem _ (List.mem_append_right _ (List.mem_append_left _ hs))
  have hrt : r ≠ t := fun e => by
    subst e
    exact sm_Rm h1 hR ht
  have hPN := pt_of h4 hH h7
  have hrN : r ∉ opn N := (List.nodup_cons.mp hPN.2.1).1
  have htN : t ∉ opn N := fun hm => htk t (hopN t hm) rfl
  have hPT : PT (uF (uF T.1 r (some (own, sl, cap, drs r P ++ drs r Q))) t (some (none, 0, cap', drs r N)), T.2.1, uW T.2.2 (drs r N) t) t (rnL r t N) := by
    refine pt_ren hPN (fun s hs => ?_) (fun i _ => rfl) (fun i hi => uW_in hi) (fun i _ hi => uW_out hi) htN
    have n1 : s ≠ r := fun e => by subst e; exact hrN hs
    exact (uF_ne (htk s (hopN s hs))).trans (uF_ne n1)
  have hdt : drs t (rnL r t N) = drs r N := rn_drs_t N (fun hm => (rws_in r N h7 t hm).elim (fun e => hrt e.symm) htN)
  have hinN : ∀ i ∈ itm P ++ itm Q, i ∉ drs r N := by
    intro i hi hm
    have hn := h4.2.2.1
    rw [itm_app, itm_app, List.nodup_append, List.nodup_append] at hn
    rcases List.mem_append.mp hi with hi | hi
    · exact hn.2.2 i hi i (List.mem_append_left _ (drs_itm hm)) rfl
    · exact hn.2.1.2.2 i (drs_itm hm) i hi rfl
  have hDT : DT (uF (uF T.1 r (some (own, sl, cap, drs r P ++ drs r Q))) t (some (none, 0, cap', drs r N)), T.2.1, uW T.2.2 (drs r N) t) top (P ++ ([] ++ Q)) := by
    refine dt_new h4 hH h7 (pt_nil _ r) (fun s hs => by simp [opn] at hs) (fun s hs => by simp [itm] at hs) (by rw [hR, drs_app, drs_app]) ⟨cap, ?_⟩ (fun s hs hsr => ?_) (fun i hi => ⟨rfl, uW_out (hinN i hi)⟩)
    · rw [List.nil_append, drs_app]
      exact (uF_ne hrt).trans (uF_eq _ _ _)
    · exact (uF_ne (htk s (hop s hs))).trans (uF_ne hsr)
  have htop : ∃ sl1 cap1, (uF (uF T.1 r (some (own, sl, cap, drs r P ++ drs r Q))) t (some (none, 0, cap', drs r N))) top = some (none, sl1, cap1, drs top (P ++ ([] ++ Q))) := by
    obtain ⟨ow, s1, c1, e⟩ := dt_row hDT
    have htt : top ≠ t := htk top List.mem_cons_self
    by_cases hrr : top = r
    · subst hrr
      have ho := (Prod.mk.inj (Option.some.inj (h5.symm.trans hR))).1
      subst ho
      have e2 := (uF_ne (v := some (none, 0, cap', drs top N)) htt).trans (uF_eq T.1 top (some (none, sl, cap, drs top P ++ drs top Q)))
      exact ⟨_, _, by rw [List.nil_append, drs_app]; exact e2⟩
    · have e2 := (uF_ne (f := uF T.1 r (some (own, sl, cap, drs r P ++ drs r Q))) (v := some (none, 0, cap', drs r N)) htt).trans ((uF_ne hrr).trans h5)
      have ho := (Prod.mk.inj (Option.some.inj (e2.symm.trans e))).1
      subst ho
      exact ⟨_, _, e⟩
  refine ⟨t, g1, _, cap', rfl, ht, ⟨sm_D hS1 (by rw [hg1]; exact fun e => h3' e.symm) (by rw [hm1]; exact fun h => by cases h), ?_, ⟨hg1, h3'⟩, hDT, htop, h6, bd_nil r, ?_, ?_⟩, FrD_tr (FrD_of hF1) (FrD_u (by rw [hm1]; exact fun h => by cases h)), hPT, ?_⟩
  · rw [xu_eq, List.append_nil, hpn2]; rfl
  · rw [List.nil_append, cnt_app]
    rw [cnt_app, cnt_app] at h8; omega
  · exact Nat.le_trans (hts_rem h7) h9
  · rw [hdt]; exact uF_eq _ _ _
end TAKE
