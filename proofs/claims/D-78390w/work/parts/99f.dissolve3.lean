/-! DOCUMENTS: dissolve, its contract -/
set_option maxRecDepth 100000
section DISS3
variable {w : XW} {id d D : Nat} {g : XG} {m : XM} {T : XT} {top r : Nat} {P Q : List XE} {q : Option Nat} {S : XK}
theorem c_dissolve {gg : Nat × Option Nat} {S' : XK} {k i o p sl : Nat} {X1 A B V' : List XE} (h : DC w g m id D T top r P [] Q q S) (hd : 30 ≤ d) (a1 : scn [(top, none)] X1 = some (gg :: S')) (a2 : P ++ Q = X1 ++ (sI k i gg.1 o p A B ++ V')) (bA : Bd o A) (bB : k = 1 → Bd p B) (hH : HO top X1 V' gg.1 gg.2 S') (hsl : sl = 0 ∨ (sl = 1 ∧ k = 1)) : CT w MX3_dissolve d 130 1700 [.ref D, .ref i, .int (nI sl)] m (dsP w g m id D k sl X1 A B V') xN := by
  have hDC := h
  obtain ⟨h1, h2, ⟨h3, h3'⟩, h4, ⟨sl0, cap0, h5⟩, h6, h7, h8, h9⟩ := h
  have hT2 : DT T top (X1 ++ (sI k i gg.1 o p A B ++ V')) := by rw [← a2]; exact h4
  obtain ⟨e1, e2, eA, eBB, ⟨rs, rd, e3⟩, e4, ⟨ca, e5⟩, e6⟩ := dt_strH hT2 hH bA bB
  obtain ⟨ow, s2, c2, e7⟩ := dt_at hT2 hH (bd_sI bA bB)
  have eR : T.1 gg.1 = some (ow, s2, c2, drs gg.1 X1 ++ i :: drs gg.1 V') := by rw [e7, e1]
  obtain ⟨la, ar, bx, mc, hr1, k1, hA, g3, g4, g5, hz⟩ := sm_row h1 eR
  obtain ⟨sa, bx2, f, hi, hsa, hfp, hfq, -⟩ := sm_str h1 e3
  rw [e4] at hi
  have hni : i ∉ drs gg.1 X1 := itm_no hT2.2.2.1
  have hgD : (g D).1 ≠ id := by rw [h3]; exact fun e => h3' e.symm
  have hDn : m D ≠ none := by rw [h2]; exact fun h => by cases h
  refine ct_intro (lv := [some (.ref D), some (.ref i), some (.int (nI sl)), none, none, none, none, none]) 5 (by decide) rfl (Nat.le_of_ble_eq_true rfl) rfl ?_
  have hlen := al_len hA
  have hll : (drs gg.1 X1).length ≤ 400 := by simp only [List.length_append] at hlen; omega
  first | refine g_aload_n dX3_dissolve_0 rfl rfl rfl ?_ | refine g_aload_nR dX3_dissolve_0 rfl rfl rfl ?_ | refine g_aload_nN dX3_dissolve_0 rfl rfl rfl ?_
  refine g_get fl_X3_101_X9 dX3_dissolve_1 rfl (Or.inl (by first | assumption | exact xu_eq _ _ _ | exact (xu_ne (by first | assumption | exact Ne.symm (by assumption))).trans (by first | assumption | exact xu_eq _ _ _) | exact (xu_ne (by first | assumption | exact Ne.symm (by assumption))).trans ((xu_ne (by first | assumption | exact Ne.symm (by assumption))).trans (by first | assumption | exact xu_eq _ _ _)) | exact (xu_ne (by first | assumption | exact Ne.symm (by assumption))).trans ((xu_ne (by first | assumption | exact Ne.symm (by assumption))).trans ((xu_ne (by first | assumption | exact Ne.symm (by assumption))).trans (by first | assumption | exact xu_eq _ _ _))))) rfl ?_
  first | refine g_ast3 dX3_dissolve_4 rfl (by decide) (k := ?_) | refine g_astR3 dX3_dissolve_4 rfl (by decide) (k := ?_) | refine g_astN3 dX3_dissolve_4 rfl (by decide) (k := ?_)
  first | refine g_aload_n dX3_dissolve_5 rfl rfl rfl ?_ | refine g_aload_nR dX3_dissolve_5 rfl rfl rfl ?_ | refine g_aload_nN dX3_dissolve_5 rfl rfl rfl ?_
  first | refine g_aload_n dX3_dissolve_6 rfl rfl rfl ?_ | refine g_aload_nR dX3_dissolve_6 rfl rfl rfl ?_ | refine g_aload_nN dX3_dissolve_6 rfl rfl rfl ?_
  refine g_virtualP iV_X4_indexOf q1832 (c_indexOf (d := d - 1) (by omega) h1 eR hni) (Or.inl (by first | assumption | exact xu_eq _ _ _ | exact (xu_ne (by first | assumption | exact Ne.symm (by assumption))).trans (by first | assumption | exact xu_eq _ _ _) | exact (xu_ne (by first | assumption | exact Ne.symm (by assumption))).trans ((xu_ne (by first | assumption | exact Ne.symm (by assumption))).trans (by first | assumption | exact xu_eq _ _ _)) | exact (xu_ne (by first | assumption | exact Ne.symm (by assumption))).trans ((xu_ne (by first | assumption | exact Ne.symm (by assumption))).trans ((xu_ne (by first | assumption | exact Ne.symm (by assumption))).trans (by first | assumption | exact xu_eq _ _ _))))) rfl (by decide) dX3_dissolve_7 rfl rfl rfl (by first | exact Nat.le_of_ble_eq_true rfl | simp [Value.category, rf_cat]) (by omega) xN_no ?_
  refine g_ist4 dX3_dissolve_10 rfl (by decide) (k := ?_)
  first | refine g_aload_n dX3_dissolve_12 rfl rfl rfl ?_ | refine g_aload_nR dX3_dissolve_12 rfl rfl rfl ?_ | refine g_aload_nN dX3_dissolve_12 rfl rfl rfl ?_
  refine g_get fl_X3_21_X4 dX3_dissolve_13 rfl (Or.inl (by first | assumption | exact xu_eq _ _ _ | exact (xu_ne (by first | assumption | exact Ne.symm (by assumption))).trans (by first | assumption | exact xu_eq _ _ _) | exact (xu_ne (by first | assumption | exact Ne.symm (by assumption))).trans ((xu_ne (by first | assumption | exact Ne.symm (by assumption))).trans (by first | assumption | exact xu_eq _ _ _)) | exact (xu_ne (by first | assumption | exact Ne.symm (by assumption))).trans ((xu_ne (by first | assumption | exact Ne.symm (by assumption))).trans ((xu_ne (by first | assumption | exact Ne.symm (by assumption))).trans (by first | assumption | exact xu_eq _ _ _))))) rfl ?_
  refine g_iload dX3_dissolve_16 rfl rfl ?_
  refine g_iface iI_J26_remove_J26 q2233 (c_remv (d := d - 1) (by omega) hA (at_mid _ _ _) (fun z hq => sm_xob h1 (hz z hq))) (Or.inl (by first | assumption | exact xu_eq _ _ _ | exact (xu_ne (by first | assumption | exact Ne.symm (by assumption))).trans (by first | assumption | exact xu_eq _ _ _) | exact (xu_ne (by first | assumption | exact Ne.symm (by assumption))).trans ((xu_ne (by first | assumption | exact Ne.symm (by assumption))).trans (by first | assumption | exact xu_eq _ _ _)) | exact (xu_ne (by first | assumption | exact Ne.symm (by assumption))).trans ((xu_ne (by first | assumption | exact Ne.symm (by assumption))).trans ((xu_ne (by first | assumption | exact Ne.symm (by assumption))).trans (by first | assumption | exact xu_eq _ _ _))))) rfl (by decide) dX3_dissolve_18 rfl rfl rfl (by first | exact Nat.le_of_ble_eq_true rfl | simp [Value.category, rf_cat]) (by omega) (by omega) (by omega) xN_no (fun v_18 m_18 h_18 => ?_)
  obtain ⟨rfl, hA', hK, hcap, hob⟩ := h_18
  rw [rmvN_mid] at hA'
  obtain ⟨g1, hS1, hF1⟩ := sm_lst (is' := drs gg.1 X1 ++ drs gg.1 V') h1 eR hr1 hA g4 g5 hA' (by rw [if_neg (by omega)]; exact hK) (fun z hq => hz z (by
    rcases List.mem_append.mp hq with hq | hq
    · exact List.mem_append_left _ hq
    · exact List.mem_append_right _ (List.mem_cons_of_mem _ hq)))
  refine g_pop dX3_dissolve_23 rfl (by first | rfl | exact rf_cat _) ?_
  refine g_iload dX3_dissolve_24 rfl rfl ?_
  refine g_ist5 dX3_dissolve_26 rfl (by decide) (k := ?_)
  refine g_iload dX3_dissolve_28 rfl rfl ?_
  refine g_ist6 dX3_dissolve_30 rfl (by decide) (k := ?_)
  refine g_iconst (v := (nI 0)) dX3_dissolve_32 rfl rfl ?_
  refine g_ist7 dX3_dissolve_33 rfl (by decide) (k := ?_)
  sorry
end DISS3
