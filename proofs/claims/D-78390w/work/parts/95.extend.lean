/-! DOCUMENTS: extend -/
set_option maxRecDepth 100000
/-- one item -/
def It1 (r : Nat) (X : List XE) : Prop := (∃ c i, X = [eS c i r]) ∨ ∃ k i o p A B, X = sI k i r o p A B ∧ Bd o A ∧ (k = 1 → Bd p B)
theorem it1_bd {r : Nat} {X : List XE} (h : It1 r X) : Bd r X := by
  rcases h with ⟨c, i, rfl⟩ | ⟨k, i, o, p, A, B, rfl, hA, hB⟩
  · exact bd_sym c i (bd_nil r)
  · exact bd_sI hA hB
theorem bd_first {r : Nat} {M : List XE} (h : Bd r M) : M = [] ∨ ∃ X M', M = X ++ M' ∧ It1 r X ∧ Bd r M' := by
  rcases bd_cases h with rfl | ⟨c, i, M', rfl, hb⟩ | ⟨k, i, o, p, A, B, M', rfl, hA, hB, hb⟩
  · exact Or.inl rfl
  · exact Or.inr ⟨[eS c i r], M', rfl, Or.inl ⟨c, i, rfl⟩, hb⟩
  · exact Or.inr ⟨_, M', rfl, Or.inr ⟨k, i, o, p, A, B, rfl, hA, hB⟩, hb⟩
theorem bd_last : ∀ (r : Nat) (M : List XE), Bd r M → M = [] ∨ ∃ M' X, M = M' ++ X ∧ Bd r M' ∧ It1 r X := by
  refine bd_ind (fun r => Or.inl rfl) (fun r c i M hb ih => Or.inr ?_) (fun r k i o p A B M hA hB hM iA iB iM => Or.inr ?_)
  · rcases ih with rfl | ⟨M', X, rfl, h1, h2⟩
    · exact ⟨[], [eS c i r], rfl, bd_nil r, Or.inl ⟨c, i, rfl⟩⟩
    · exact ⟨eS c i r :: M', X, rfl, bd_sym c i h1, h2⟩
  · rcases iM with rfl | ⟨M', X, rfl, h1, h2⟩
    · exact ⟨[], sI k i r o p A B, by simp, bd_nil r, Or.inr ⟨k, i, o, p, A, B, rfl, hA, hB⟩⟩
    · exact ⟨sI k i r o p A B ++ M', X, by simp, bd_app (bd_sI hA hB) h1, h2⟩
section EXT
variable {w : XW} {id d D : Nat} {g : XG} {m : XM} {T : XT} {top r : Nat} {P N Q : List XE} {q : Option Nat} {S : XK}
theorem c_extR1 (h : DC w g m id D T top r P N Q q S) (hd : 10 ≤ d) (hQ : 0 < (drs r Q).length) : CT w MX3_extend d 0 0 [.ref D, .int (nI 1)] m (xRet (some (.int (nI 1))) (xu m D (.inr (2, [.ref top, .ref r, .int (nI ((drs r (P ++ N)).length + 1)), .int (nI ((drs r N).length + 1))])))) xN := by
  have h60 := dc_60 h
  obtain ⟨own, sl, cap, hR⟩ := dc_row h
  obtain ⟨h1, h2, -⟩ := h
  obtain ⟨la, ar, bx, mc, hr1, k1, hA, -⟩ := sm_row h1 hR
  have hpn : (drs r (P ++ N)).length = (drs r P).length + (drs r N).length := by rw [drs_app, List.length_append]
  have hs : (drs r P ++ (drs r N ++ drs r Q)).length = (drs r P).length + ((drs r N).length + (drs r Q).length) := by simp
  refine ct_intro (lv := [some (.ref D), some (.int (nI 1)), none]) 1 (by decide) rfl (Nat.le_of_ble_eq_true rfl) rfl ?_
  refine g_iload_n dX3_extend_0 rfl rfl rfl ?_
  refine g_ifn_eq (tgt := 31) dX3_extend_1 (by decide) rfl (by omega) (fun c_1 => by omega) (fun _ => ?_)
  first | refine g_aload_n dX3_extend_4 rfl rfl rfl ?_ | refine g_aload_nR dX3_extend_4 rfl rfl rfl ?_ | refine g_aload_nN dX3_extend_4 rfl rfl rfl ?_
  refine g_get fl_X3_38_X3 dX3_extend_5 rfl (Or.inl (by first | assumption | exact xu_eq _ _ _ | exact (xu_ne (by first | assumption | exact Ne.symm (by assumption))).trans (by first | assumption | exact xu_eq _ _ _) | exact (xu_ne (by first | assumption | exact Ne.symm (by assumption))).trans ((xu_ne (by first | assumption | exact Ne.symm (by assumption))).trans (by first | assumption | exact xu_eq _ _ _)) | exact (xu_ne (by first | assumption | exact Ne.symm (by assumption))).trans ((xu_ne (by first | assumption | exact Ne.symm (by assumption))).trans ((xu_ne (by first | assumption | exact Ne.symm (by assumption))).trans (by first | assumption | exact xu_eq _ _ _))))) rfl ?_
  first | refine g_aload_n dX3_extend_8 rfl rfl rfl ?_ | refine g_aload_nR dX3_extend_8 rfl rfl rfl ?_ | refine g_aload_nN dX3_extend_8 rfl rfl rfl ?_
  refine g_get fl_X3_15_X3 dX3_extend_9 rfl (Or.inl (by first | assumption | exact xu_eq _ _ _ | exact (xu_ne (by first | assumption | exact Ne.symm (by assumption))).trans (by first | assumption | exact xu_eq _ _ _) | exact (xu_ne (by first | assumption | exact Ne.symm (by assumption))).trans ((xu_ne (by first | assumption | exact Ne.symm (by assumption))).trans (by first | assumption | exact xu_eq _ _ _)) | exact (xu_ne (by first | assumption | exact Ne.symm (by assumption))).trans ((xu_ne (by first | assumption | exact Ne.symm (by assumption))).trans ((xu_ne (by first | assumption | exact Ne.symm (by assumption))).trans (by first | assumption | exact xu_eq _ _ _))))) rfl ?_
  refine g_get fl_X3_21_X4 dX3_extend_12 rfl (Or.inl (by first | assumption | exact xu_eq _ _ _ | exact (xu_ne (by first | assumption | exact Ne.symm (by assumption))).trans (by first | assumption | exact xu_eq _ _ _) | exact (xu_ne (by first | assumption | exact Ne.symm (by assumption))).trans ((xu_ne (by first | assumption | exact Ne.symm (by assumption))).trans (by first | assumption | exact xu_eq _ _ _)) | exact (xu_ne (by first | assumption | exact Ne.symm (by assumption))).trans ((xu_ne (by first | assumption | exact Ne.symm (by assumption))).trans ((xu_ne (by first | assumption | exact Ne.symm (by assumption))).trans (by first | assumption | exact xu_eq _ _ _))))) rfl ?_
  refine g_ifaceP iI_J26_size_J26 q1826 (c_size (d := d - 1) (by omega) hA) (Or.inl (by first | assumption | exact xu_eq _ _ _ | exact (xu_ne (by first | assumption | exact Ne.symm (by assumption))).trans (by first | assumption | exact xu_eq _ _ _) | exact (xu_ne (by first | assumption | exact Ne.symm (by assumption))).trans ((xu_ne (by first | assumption | exact Ne.symm (by assumption))).trans (by first | assumption | exact xu_eq _ _ _)) | exact (xu_ne (by first | assumption | exact Ne.symm (by assumption))).trans ((xu_ne (by first | assumption | exact Ne.symm (by assumption))).trans ((xu_ne (by first | assumption | exact Ne.symm (by assumption))).trans (by first | assumption | exact xu_eq _ _ _))))) rfl (by decide) dX3_extend_15 rfl rfl rfl (by first | exact Nat.le_of_ble_eq_true rfl | simp [Value.category, rf_cat]) (by omega) xN_no ?_
  refine g_icmpn_ge (tgt := 27) dX3_extend_20 (by decide) rfl (by omega) (by omega) (fun c_20 => by omega) (fun c_20 => ?_)
  refine g_iconst (v := (nI 1)) dX3_extend_23 rfl rfl ?_
  refine g_goto (tgt := 48) dX3_extend_24 (by decide) ?_
  refine g_ist2 dX3_extend_48 rfl (by decide) (k := ?_)
  first | refine g_aload_n dX3_extend_49 rfl rfl rfl ?_ | refine g_aload_nR dX3_extend_49 rfl rfl rfl ?_ | refine g_aload_nN dX3_extend_49 rfl rfl rfl ?_
  refine g_dup dX3_extend_50 rfl (by first | rfl | exact rf_cat _) ?_
  refine g_get fl_X3_50_X3 dX3_extend_51 rfl (Or.inl (by first | assumption | exact xu_eq _ _ _ | exact (xu_ne (by first | assumption | exact Ne.symm (by assumption))).trans (by first | assumption | exact xu_eq _ _ _) | exact (xu_ne (by first | assumption | exact Ne.symm (by assumption))).trans ((xu_ne (by first | assumption | exact Ne.symm (by assumption))).trans (by first | assumption | exact xu_eq _ _ _)) | exact (xu_ne (by first | assumption | exact Ne.symm (by assumption))).trans ((xu_ne (by first | assumption | exact Ne.symm (by assumption))).trans ((xu_ne (by first | assumption | exact Ne.symm (by assumption))).trans (by first | assumption | exact xu_eq _ _ _))))) rfl ?_
  refine g_iload_n dX3_extend_54 rfl rfl rfl ?_
  refine g_ifn_eq (tgt := 62) dX3_extend_55 (by decide) rfl (by omega) (fun c_55 => by omega) (fun _ => ?_)
  refine g_iconst (v := (nI 1)) dX3_extend_58 rfl rfl ?_
  refine g_goto (tgt := 63) dX3_extend_59 (by decide) ?_
  refine g_iaddn dX3_extend_63 rfl ?_
  refine g_put3 fl_X3_50_X3 dX3_extend_64 rfl (by first | assumption | exact xu_eq _ _ _ | exact (xu_ne (by first | assumption | exact Ne.symm (by assumption))).trans (by first | assumption | exact xu_eq _ _ _) | exact (xu_ne (by first | assumption | exact Ne.symm (by assumption))).trans ((xu_ne (by first | assumption | exact Ne.symm (by assumption))).trans (by first | assumption | exact xu_eq _ _ _)) | exact (xu_ne (by first | assumption | exact Ne.symm (by assumption))).trans ((xu_ne (by first | assumption | exact Ne.symm (by assumption))).trans ((xu_ne (by first | assumption | exact Ne.symm (by assumption))).trans (by first | assumption | exact xu_eq _ _ _)))) rfl rfl ?_
  first | refine g_aload_n dX3_extend_67 rfl rfl rfl ?_ | refine g_aload_nR dX3_extend_67 rfl rfl rfl ?_ | refine g_aload_nN dX3_extend_67 rfl rfl rfl ?_
  refine g_dup dX3_extend_68 rfl (by first | rfl | exact rf_cat _) ?_
  refine g_get fl_X3_38_X3 dX3_extend_69 rfl (Or.inl (by first | assumption | exact xu_eq _ _ _ | exact (xu_ne (by first | assumption | exact Ne.symm (by assumption))).trans (by first | assumption | exact xu_eq _ _ _) | exact (xu_ne (by first | assumption | exact Ne.symm (by assumption))).trans ((xu_ne (by first | assumption | exact Ne.symm (by assumption))).trans (by first | assumption | exact xu_eq _ _ _)) | exact (xu_ne (by first | assumption | exact Ne.symm (by assumption))).trans ((xu_ne (by first | assumption | exact Ne.symm (by assumption))).trans ((xu_ne (by first | assumption | exact Ne.symm (by assumption))).trans (by first | assumption | exact xu_eq _ _ _))))) rfl ?_
  refine g_iload_n dX3_extend_72 rfl rfl rfl ?_
  refine g_ifn_eq (tgt := 84) dX3_extend_73 (by decide) rfl (by omega) (fun c_73 => by omega) (fun _ => ?_)
  refine g_iload_n dX3_extend_76 rfl rfl rfl ?_
  refine g_ifn_eq (tgt := 84) dX3_extend_77 (by decide) rfl (by omega) (fun c_77 => by omega) (fun _ => ?_)
  refine g_iconst (v := (nI 1)) dX3_extend_80 rfl rfl ?_
  refine g_goto (tgt := 85) dX3_extend_81 (by decide) ?_
  refine g_iaddn dX3_extend_85 rfl ?_
  refine g_put2 fl_X3_38_X3 dX3_extend_86 rfl (by first | assumption | exact xu_eq _ _ _ | exact (xu_ne (by first | assumption | exact Ne.symm (by assumption))).trans (by first | assumption | exact xu_eq _ _ _) | exact (xu_ne (by first | assumption | exact Ne.symm (by assumption))).trans ((xu_ne (by first | assumption | exact Ne.symm (by assumption))).trans (by first | assumption | exact xu_eq _ _ _)) | exact (xu_ne (by first | assumption | exact Ne.symm (by assumption))).trans ((xu_ne (by first | assumption | exact Ne.symm (by assumption))).trans ((xu_ne (by first | assumption | exact Ne.symm (by assumption))).trans (by first | assumption | exact xu_eq _ _ _)))) rfl rfl ?_
  refine g_iload_n dX3_extend_89 rfl rfl rfl ?_
  refine g_zreturn dX3_extend_90 rfl rfl ⟨rfl, ?_⟩
  rw [xu_xu]
theorem c_extR0 (h : DC w g m id D T top r P N Q q S) (hd : 10 ≤ d) (hQ : ¬ 0 < (drs r Q).length) : CT w MX3_extend d 0 0 [.ref D, .int (nI 1)] m (xRet (some (.int (nI 0))) m) xN := by
  have h60 := dc_60 h
  obtain ⟨own, sl, cap, hR⟩ := dc_row h
  obtain ⟨h1, h2, -⟩ := h
  obtain ⟨la, ar, bx, mc, hr1, k1, hA, -⟩ := sm_row h1 hR
  have hpn : (drs r (P ++ N)).length = (drs r P).length + (drs r N).length := by rw [drs_app, List.length_append]
  have hs : (drs r P ++ (drs r N ++ drs r Q)).length = (drs r P).length + ((drs r N).length + (drs r Q).length) := by simp
  refine ct_intro (lv := [some (.ref D), some (.int (nI 1)), none]) 1 (by decide) rfl (Nat.le_of_ble_eq_true rfl) rfl ?_
  refine g_iload_n dX3_extend_0 rfl rfl rfl ?_
  refine g_ifn_eq (tgt := 31) dX3_extend_1 (by decide) rfl (by omega) (fun c_1 => by omega) (fun _ => ?_)
  first | refine g_aload_n dX3_extend_4 rfl rfl rfl ?_ | refine g_aload_nR dX3_extend_4 rfl rfl rfl ?_ | refine g_aload_nN dX3_extend_4 rfl rfl rfl ?_
  refine g_get fl_X3_38_X3 dX3_extend_5 rfl (Or.inl (by first | assumption | exact xu_eq _ _ _ | exact (xu_ne (by first | assumption | exact Ne.symm (by assumption))).trans (by first | assumption | exact xu_eq _ _ _) | exact (xu_ne (by first | assumption | exact Ne.symm (by assumption))).trans ((xu_ne (by first | assumption | exact Ne.symm (by assumption))).trans (by first | assumption | exact xu_eq _ _ _)) | exact (xu_ne (by first | assumption | exact Ne.symm (by assumption))).trans ((xu_ne (by first | assumption | exact Ne.symm (by assumption))).trans ((xu_ne (by first | assumption | exact Ne.symm (by assumption))).trans (by first | assumption | exact xu_eq _ _ _))))) rfl ?_
  first | refine g_aload_n dX3_extend_8 rfl rfl rfl ?_ | refine g_aload_nR dX3_extend_8 rfl rfl rfl ?_ | refine g_aload_nN dX3_extend_8 rfl rfl rfl ?_
  refine g_get fl_X3_15_X3 dX3_extend_9 rfl (Or.inl (by first | assumption | exact xu_eq _ _ _ | exact (xu_ne (by first | assumption | exact Ne.symm (by assumption))).trans (by first | assumption | exact xu_eq _ _ _) | exact (xu_ne (by first | assumption | exact Ne.symm (by assumption))).trans ((xu_ne (by first | assumption | exact Ne.symm (by assumption))).trans (by first | assumption | exact xu_eq _ _ _)) | exact (xu_ne (by first | assumption | exact Ne.symm (by assumption))).trans ((xu_ne (by first | assumption | exact Ne.symm (by assumption))).trans ((xu_ne (by first | assumption | exact Ne.symm (by assumption))).trans (by first | assumption | exact xu_eq _ _ _))))) rfl ?_
  refine g_get fl_X3_21_X4 dX3_extend_12 rfl (Or.inl (by first | assumption | exact xu_eq _ _ _ | exact (xu_ne (by first | assumption | exact Ne.symm (by assumption))).trans (by first | assumption | exact xu_eq _ _ _) | exact (xu_ne (by first | assumption | exact Ne.symm (by assumption))).trans ((xu_ne (by first | assumption | exact Ne.symm (by assumption))).trans (by first | assumption | exact xu_eq _ _ _)) | exact (xu_ne (by first | assumption | exact Ne.symm (by assumption))).trans ((xu_ne (by first | assumption | exact Ne.symm (by assumption))).trans ((xu_ne (by first | assumption | exact Ne.symm (by assumption))).trans (by first | assumption | exact xu_eq _ _ _))))) rfl ?_
  refine g_ifaceP iI_J26_size_J26 q1826 (c_size (d := d - 1) (by omega) hA) (Or.inl (by first | assumption | exact xu_eq _ _ _ | exact (xu_ne (by first | assumption | exact Ne.symm (by assumption))).trans (by first | assumption | exact xu_eq _ _ _) | exact (xu_ne (by first | assumption | exact Ne.symm (by assumption))).trans ((xu_ne (by first | assumption | exact Ne.symm (by assumption))).trans (by first | assumption | exact xu_eq _ _ _)) | exact (xu_ne (by first | assumption | exact Ne.symm (by assumption))).trans ((xu_ne (by first | assumption | exact Ne.symm (by assumption))).trans ((xu_ne (by first | assumption | exact Ne.symm (by assumption))).trans (by first | assumption | exact xu_eq _ _ _))))) rfl (by decide) dX3_extend_15 rfl rfl rfl (by first | exact Nat.le_of_ble_eq_true rfl | simp [Value.category, rf_cat]) (by omega) xN_no ?_
  refine g_icmpn_ge (tgt := 27) dX3_extend_20 (by decide) rfl (by omega) (by omega) (fun c_20 => ?_) (fun c_20 => by omega)
  refine g_iconst (v := (nI 0)) dX3_extend_27 rfl rfl ?_
  refine g_goto (tgt := 48) dX3_extend_28 (by decide) ?_
  refine g_ist2 dX3_extend_48 rfl (by decide) (k := ?_)
  first | refine g_aload_n dX3_extend_49 rfl rfl rfl ?_ | refine g_aload_nR dX3_extend_49 rfl rfl rfl ?_ | refine g_aload_nN dX3_extend_49 rfl rfl rfl ?_
  refine g_dup dX3_extend_50 rfl (by first | rfl | exact rf_cat _) ?_
  refine g_get fl_X3_50_X3 dX3_extend_51 rfl (Or.inl (by first | assumption | exact xu_eq _ _ _ | exact (xu_ne (by first | assumption | exact Ne.symm (by assumption))).trans (by first | assumption | exact xu_eq _ _ _) | exact (xu_ne (by first | assumption | exact Ne.symm (by assumption))).trans ((xu_ne (by first | assumption | exact Ne.symm (by assumption))).trans (by first | assumption | exact xu_eq _ _ _)) | exact (xu_ne (by first | assumption | exact Ne.symm (by assumption))).trans ((xu_ne (by first | assumption | exact Ne.symm (by assumption))).trans ((xu_ne (by first | assumption | exact Ne.symm (by assumption))).trans (by first | assumption | exact xu_eq _ _ _))))) rfl ?_
  refine g_iload_n dX3_extend_54 rfl rfl rfl ?_
  refine g_ifn_eq (tgt := 62) dX3_extend_55 (by decide) rfl (by omega) (fun _ => ?_) (fun c_55 => by omega)
  refine g_iconst (v := (nI 0)) dX3_extend_62 rfl rfl ?_
  refine g_iaddn dX3_extend_63 rfl ?_
  refine g_put3 fl_X3_50_X3 dX3_extend_64 rfl (by first | assumption | exact xu_eq _ _ _ | exact (xu_ne (by first | assumption | exact Ne.symm (by assumption))).trans (by first | assumption | exact xu_eq _ _ _) | exact (xu_ne (by first | assumption | exact Ne.symm (by assumption))).trans ((xu_ne (by first | assumption | exact Ne.symm (by assumption))).trans (by first | assumption | exact xu_eq _ _ _)) | exact (xu_ne (by first | assumption | exact Ne.symm (by assumption))).trans ((xu_ne (by first | assumption | exact Ne.symm (by assumption))).trans ((xu_ne (by first | assumption | exact Ne.symm (by assumption))).trans (by first | assumption | exact xu_eq _ _ _)))) rfl rfl ?_
  first | refine g_aload_n dX3_extend_67 rfl rfl rfl ?_ | refine g_aload_nR dX3_extend_67 rfl rfl rfl ?_ | refine g_aload_nN dX3_extend_67 rfl rfl rfl ?_
  refine g_dup dX3_extend_68 rfl (by first | rfl | exact rf_cat _) ?_
  refine g_get fl_X3_38_X3 dX3_extend_69 rfl (Or.inl (by first | assumption | exact xu_eq _ _ _ | exact (xu_ne (by first | assumption | exact Ne.symm (by assumption))).trans (by first | assumption | exact xu_eq _ _ _) | exact (xu_ne (by first | assumption | exact Ne.symm (by assumption))).trans ((xu_ne (by first | assumption | exact Ne.symm (by assumption))).trans (by first | assumption | exact xu_eq _ _ _)) | exact (xu_ne (by first | assumption | exact Ne.symm (by assumption))).trans ((xu_ne (by first | assumption | exact Ne.symm (by assumption))).trans ((xu_ne (by first | assumption | exact Ne.symm (by assumption))).trans (by first | assumption | exact xu_eq _ _ _))))) rfl ?_
  refine g_iload_n dX3_extend_72 rfl rfl rfl ?_
  refine g_ifn_eq (tgt := 84) dX3_extend_73 (by decide) rfl (by omega) (fun _ => ?_) (fun c_73 => by omega)
  refine g_iconst (v := (nI 0)) dX3_extend_84 rfl rfl ?_
  refine g_iaddn dX3_extend_85 rfl ?_
  refine g_put2 fl_X3_38_X3 dX3_extend_86 rfl (by first | assumption | exact xu_eq _ _ _ | exact (xu_ne (by first | assumption | exact Ne.symm (by assumption))).trans (by first | assumption | exact xu_eq _ _ _) | exact (xu_ne (by first | assumption | exact Ne.symm (by assumption))).trans ((xu_ne (by first | assumption | exact Ne.symm (by assumption))).trans (by first | assumption | exact xu_eq _ _ _)) | exact (xu_ne (by first | assumption | exact Ne.symm (by assumption))).trans ((xu_ne (by first | assumption | exact Ne.symm (by assumption))).trans ((xu_ne (by first | assumption | exact Ne.symm (by assumption))).trans (by first | assumption | exact xu_eq _ _ _)))) rfl rfl ?_
  refine g_iload_n dX3_extend_89 rfl rfl rfl ?_
  refine g_zreturn dX3_extend_90 rfl rfl ⟨rfl, ?_⟩
  rw [xu_xu]
  exact (xu_self h2).symm
theorem c_extL1 (h : DC w g m id D T top r P N Q q S) (hd : 10 ≤ d) (hP : 0 < (drs r P).length) : CT w MX3_extend d 0 0 [.ref D, .int (nI 0)] m (xRet (some (.int (nI 1))) (xu m D (.inr (2, [.ref top, .ref r, .int (nI (drs r (P ++ N)).length), .int (nI ((drs r N).length + 1))])))) xN := by
  have h60 := dc_60 h
  obtain ⟨h1, h2, -⟩ := h
  have hpn : (drs r (P ++ N)).length = (drs r P).length + (drs r N).length := by rw [drs_app, List.length_append]
  refine ct_intro (lv := [some (.ref D), some (.int (nI 0)), none]) 1 (by decide) rfl (Nat.le_of_ble_eq_true rfl) rfl ?_
  refine g_iload_n dX3_extend_0 rfl rfl rfl ?_
  refine g_ifn_eq (tgt := 31) dX3_extend_1 (by decide) rfl (by omega) (fun _ => ?_) (fun c_1 => by omega)
  first | refine g_aload_n dX3_extend_31 rfl rfl rfl ?_ | refine g_aload_nR dX3_extend_31 rfl rfl rfl ?_ | refine g_aload_nN dX3_extend_31 rfl rfl rfl ?_
  refine g_get fl_X3_38_X3 dX3_extend_32 rfl (Or.inl (by first | assumption | exact xu_eq _ _ _ | exact (xu_ne (by first | assumption | exact Ne.symm (by assumption))).trans (by first | assumption | exact xu_eq _ _ _) | exact (xu_ne (by first | assumption | exact Ne.symm (by assumption))).trans ((xu_ne (by first | assumption | exact Ne.symm (by assumption))).trans (by first | assumption | exact xu_eq _ _ _)) | exact (xu_ne (by first | assumption | exact Ne.symm (by assumption))).trans ((xu_ne (by first | assumption | exact Ne.symm (by assumption))).trans ((xu_ne (by first | assumption | exact Ne.symm (by assumption))).trans (by first | assumption | exact xu_eq _ _ _))))) rfl ?_
  first | refine g_aload_n dX3_extend_35 rfl rfl rfl ?_ | refine g_aload_nR dX3_extend_35 rfl rfl rfl ?_ | refine g_aload_nN dX3_extend_35 rfl rfl rfl ?_
  refine g_get fl_X3_50_X3 dX3_extend_36 rfl (Or.inl (by first | assumption | exact xu_eq _ _ _ | exact (xu_ne (by first | assumption | exact Ne.symm (by assumption))).trans (by first | assumption | exact xu_eq _ _ _) | exact (xu_ne (by first | assumption | exact Ne.symm (by assumption))).trans ((xu_ne (by first | assumption | exact Ne.symm (by assumption))).trans (by first | assumption | exact xu_eq _ _ _)) | exact (xu_ne (by first | assumption | exact Ne.symm (by assumption))).trans ((xu_ne (by first | assumption | exact Ne.symm (by assumption))).trans ((xu_ne (by first | assumption | exact Ne.symm (by assumption))).trans (by first | assumption | exact xu_eq _ _ _))))) rfl ?_
  refine g_isubn dX3_extend_39 rfl (by omega) ?_
  refine g_ifn_le (tgt := 47) dX3_extend_40 (by decide) rfl (by omega) (fun c_40 => by omega) (fun c_40 => ?_)
  refine g_iconst (v := (nI 1)) dX3_extend_43 rfl rfl ?_
  refine g_goto (tgt := 48) dX3_extend_44 (by decide) ?_
  refine g_ist2 dX3_extend_48 rfl (by decide) (k := ?_)
  first | refine g_aload_n dX3_extend_49 rfl rfl rfl ?_ | refine g_aload_nR dX3_extend_49 rfl rfl rfl ?_ | refine g_aload_nN dX3_extend_49 rfl rfl rfl ?_
  refine g_dup dX3_extend_50 rfl (by first | rfl | exact rf_cat _) ?_
  refine g_get fl_X3_50_X3 dX3_extend_51 rfl (Or.inl (by first | assumption | exact xu_eq _ _ _ | exact (xu_ne (by first | assumption | exact Ne.symm (by assumption))).trans (by first | assumption | exact xu_eq _ _ _) | exact (xu_ne (by first | assumption | exact Ne.symm (by assumption))).trans ((xu_ne (by first | assumption | exact Ne.symm (by assumption))).trans (by first | assumption | exact xu_eq _ _ _)) | exact (xu_ne (by first | assumption | exact Ne.symm (by assumption))).trans ((xu_ne (by first | assumption | exact Ne.symm (by assumption))).trans ((xu_ne (by first | assumption | exact Ne.symm (by assumption))).trans (by first | assumption | exact xu_eq _ _ _))))) rfl ?_
  refine g_iload_n dX3_extend_54 rfl rfl rfl ?_
  refine g_ifn_eq (tgt := 62) dX3_extend_55 (by decide) rfl (by omega) (fun c_55 => by omega) (fun _ => ?_)
  refine g_iconst (v := (nI 1)) dX3_extend_58 rfl rfl ?_
  refine g_goto (tgt := 63) dX3_extend_59 (by decide) ?_
  refine g_iaddn dX3_extend_63 rfl ?_
  refine g_put3 fl_X3_50_X3 dX3_extend_64 rfl (by first | assumption | exact xu_eq _ _ _ | exact (xu_ne (by first | assumption | exact Ne.symm (by assumption))).trans (by first | assumption | exact xu_eq _ _ _) | exact (xu_ne (by first | assumption | exact Ne.symm (by assumption))).trans ((xu_ne (by first | assumption | exact Ne.symm (by assumption))).trans (by first | assumption | exact xu_eq _ _ _)) | exact (xu_ne (by first | assumption | exact Ne.symm (by assumption))).trans ((xu_ne (by first | assumption | exact Ne.symm (by assumption))).trans ((xu_ne (by first | assumption | exact Ne.symm (by assumption))).trans (by first | assumption | exact xu_eq _ _ _)))) rfl rfl ?_
  first | refine g_aload_n dX3_extend_67 rfl rfl rfl ?_ | refine g_aload_nR dX3_extend_67 rfl rfl rfl ?_ | refine g_aload_nN dX3_extend_67 rfl rfl rfl ?_
  refine g_dup dX3_extend_68 rfl (by first | rfl | exact rf_cat _) ?_
  refine g_get fl_X3_38_X3 dX3_extend_69 rfl (Or.inl (by first | assumption | exact xu_eq _ _ _ | exact (xu_ne (by first | assumption | exact Ne.symm (by assumption))).trans (by first | assumption | exact xu_eq _ _ _) | exact (xu_ne (by first | assumption | exact Ne.symm (by assumption))).trans ((xu_ne (by first | assumption | exact Ne.symm (by assumption))).trans (by first | assumption | exact xu_eq _ _ _)) | exact (xu_ne (by first | assumption | exact Ne.symm (by assumption))).trans ((xu_ne (by first | assumption | exact Ne.symm (by assumption))).trans ((xu_ne (by first | assumption | exact Ne.symm (by assumption))).trans (by first | assumption | exact xu_eq _ _ _))))) rfl ?_
  refine g_iload_n dX3_extend_72 rfl rfl rfl ?_
  refine g_ifn_eq (tgt := 84) dX3_extend_73 (by decide) rfl (by omega) (fun c_73 => by omega) (fun _ => ?_)
  refine g_iload_n dX3_extend_76 rfl rfl rfl ?_
  refine g_ifn_eq (tgt := 84) dX3_extend_77 (by decide) rfl (by omega) (fun _ => ?_) (fun c_77 => by omega)
  refine g_iconst (v := (nI 0)) dX3_extend_84 rfl rfl ?_
  refine g_iaddn dX3_extend_85 rfl ?_
  refine g_put2 fl_X3_38_X3 dX3_extend_86 rfl (by first | assumption | exact xu_eq _ _ _ | exact (xu_ne (by first | assumption | exact Ne.symm (by assumption))).trans (by first | assumption | exact xu_eq _ _ _) | exact (xu_ne (by first | assumption | exact Ne.symm (by assumption))).trans ((xu_ne (by first | assumption | exact Ne.symm (by assumption))).trans (by first | assumption | exact xu_eq _ _ _)) | exact (xu_ne (by first | assumption | exact Ne.symm (by assumption))).trans ((xu_ne (by first | assumption | exact Ne.symm (by assumption))).trans ((xu_ne (by first | assumption | exact Ne.symm (by assumption))).trans (by first | assumption | exact xu_eq _ _ _)))) rfl rfl ?_
  refine g_iload_n dX3_extend_89 rfl rfl rfl ?_
  refine g_zreturn dX3_extend_90 rfl rfl ⟨rfl, ?_⟩
  rw [xu_xu]; rfl
theorem c_extL0 (h : DC w g m id D T top r P N Q q S) (hd : 10 ≤ d) (hP : ¬ 0 < (drs r P).length) : CT w MX3_extend d 0 0 [.ref D, .int (nI 0)] m (xRet (some (.int (nI 0))) m) xN := by
  have h60 := dc_60 h
  obtain ⟨h1, h2, -⟩ := h
  have hpn : (drs r (P ++ N)).length = (drs r P).length + (drs r N).length := by rw [drs_app, List.length_append]
  refine ct_intro (lv := [some (.ref D), some (.int (nI 0)), none]) 1 (by decide) rfl (Nat.le_of_ble_eq_true rfl) rfl ?_
  refine g_iload_n dX3_extend_0 rfl rfl rfl ?_
  refine g_ifn_eq (tgt := 31) dX3_extend_1 (by decide) rfl (by omega) (fun _ => ?_) (fun c_1 => by omega)
  first | refine g_aload_n dX3_extend_31 rfl rfl rfl ?_ | refine g_aload_nR dX3_extend_31 rfl rfl rfl ?_ | refine g_aload_nN dX3_extend_31 rfl rfl rfl ?_
  refine g_get fl_X3_38_X3 dX3_extend_32 rfl (Or.inl (by first | assumption | exact xu_eq _ _ _ | exact (xu_ne (by first | assumption | exact Ne.symm (by assumption))).trans (by first | assumption | exact xu_eq _ _ _) | exact (xu_ne (by first | assumption | exact Ne.symm (by assumption))).trans ((xu_ne (by first | assumption | exact Ne.symm (by assumption))).trans (by first | assumption | exact xu_eq _ _ _)) | exact (xu_ne (by first | assumption | exact Ne.symm (by assumption))).trans ((xu_ne (by first | assumption | exact Ne.symm (by assumption))).trans ((xu_ne (by first | assumption | exact Ne.symm (by assumption))).trans (by first | assumption | exact xu_eq _ _ _))))) rfl ?_
  first | refine g_aload_n dX3_extend_35 rfl rfl rfl ?_ | refine g_aload_nR dX3_extend_35 rfl rfl rfl ?_ | refine g_aload_nN dX3_extend_35 rfl rfl rfl ?_
  refine g_get fl_X3_50_X3 dX3_extend_36 rfl (Or.inl (by first | assumption | exact xu_eq _ _ _ | exact (xu_ne (by first | assumption | exact Ne.symm (by assumption))).trans (by first | assumption | exact xu_eq _ _ _) | exact (xu_ne (by first | assumption | exact Ne.symm (by assumption))).trans ((xu_ne (by first | assumption | exact Ne.symm (by assumption))).trans (by first | assumption | exact xu_eq _ _ _)) | exact (xu_ne (by first | assumption | exact Ne.symm (by assumption))).trans ((xu_ne (by first | assumption | exact Ne.symm (by assumption))).trans ((xu_ne (by first | assumption | exact Ne.symm (by assumption))).trans (by first | assumption | exact xu_eq _ _ _))))) rfl ?_
  refine g_isubn dX3_extend_39 rfl (by omega) ?_
  refine g_ifn_le (tgt := 47) dX3_extend_40 (by decide) rfl (by omega) (fun c_40 => ?_) (fun c_40 => by omega)
  refine g_iconst (v := (nI 0)) dX3_extend_47 rfl rfl ?_
  refine g_ist2 dX3_extend_48 rfl (by decide) (k := ?_)
  first | refine g_aload_n dX3_extend_49 rfl rfl rfl ?_ | refine g_aload_nR dX3_extend_49 rfl rfl rfl ?_ | refine g_aload_nN dX3_extend_49 rfl rfl rfl ?_
  refine g_dup dX3_extend_50 rfl (by first | rfl | exact rf_cat _) ?_
  refine g_get fl_X3_50_X3 dX3_extend_51 rfl (Or.inl (by first | assumption | exact xu_eq _ _ _ | exact (xu_ne (by first | assumption | exact Ne.symm (by assumption))).trans (by first | assumption | exact xu_eq _ _ _) | exact (xu_ne (by first | assumption | exact Ne.symm (by assumption))).trans ((xu_ne (by first | assumption | exact Ne.symm (by assumption))).trans (by first | assumption | exact xu_eq _ _ _)) | exact (xu_ne (by first | assumption | exact Ne.symm (by assumption))).trans ((xu_ne (by first | assumption | exact Ne.symm (by assumption))).trans ((xu_ne (by first | assumption | exact Ne.symm (by assumption))).trans (by first | assumption | exact xu_eq _ _ _))))) rfl ?_
  refine g_iload_n dX3_extend_54 rfl rfl rfl ?_
  refine g_ifn_eq (tgt := 62) dX3_extend_55 (by decide) rfl (by omega) (fun _ => ?_) (fun c_55 => by omega)
  refine g_iconst (v := (nI 0)) dX3_extend_62 rfl rfl ?_
  refine g_iaddn dX3_extend_63 rfl ?_
  refine g_put3 fl_X3_50_X3 dX3_extend_64 rfl (by first | assumption | exact xu_eq _ _ _ | exact (xu_ne (by first | assumption | exact Ne.symm (by assumption))).trans (by first | assumption | exact xu_eq _ _ _) | exact (xu_ne (by first | assumption | exact Ne.symm (by assumption))).trans ((xu_ne (by first | assumption | exact Ne.symm (by assumption))).trans (by first | assumption | exact xu_eq _ _ _)) | exact (xu_ne (by first | assumption | exact Ne.symm (by assumption))).trans ((xu_ne (by first | assumption | exact Ne.symm (by assumption))).trans ((xu_ne (by first | assumption | exact Ne.symm (by assumption))).trans (by first | assumption | exact xu_eq _ _ _)))) rfl rfl ?_
  first | refine g_aload_n dX3_extend_67 rfl rfl rfl ?_ | refine g_aload_nR dX3_extend_67 rfl rfl rfl ?_ | refine g_aload_nN dX3_extend_67 rfl rfl rfl ?_
  refine g_dup dX3_extend_68 rfl (by first | rfl | exact rf_cat _) ?_
  refine g_get fl_X3_38_X3 dX3_extend_69 rfl (Or.inl (by first | assumption | exact xu_eq _ _ _ | exact (xu_ne (by first | assumption | exact Ne.symm (by assumption))).trans (by first | assumption | exact xu_eq _ _ _) | exact (xu_ne (by first | assumption | exact Ne.symm (by assumption))).trans ((xu_ne (by first | assumption | exact Ne.symm (by assumption))).trans (by first | assumption | exact xu_eq _ _ _)) | exact (xu_ne (by first | assumption | exact Ne.symm (by assumption))).trans ((xu_ne (by first | assumption | exact Ne.symm (by assumption))).trans ((xu_ne (by first | assumption | exact Ne.symm (by assumption))).trans (by first | assumption | exact xu_eq _ _ _))))) rfl ?_
  refine g_iload_n dX3_extend_72 rfl rfl rfl ?_
  refine g_ifn_eq (tgt := 84) dX3_extend_73 (by decide) rfl (by omega) (fun _ => ?_) (fun c_73 => by omega)
  refine g_iconst (v := (nI 0)) dX3_extend_84 rfl rfl ?_
  refine g_iaddn dX3_extend_85 rfl ?_
  refine g_put2 fl_X3_38_X3 dX3_extend_86 rfl (by first | assumption | exact xu_eq _ _ _ | exact (xu_ne (by first | assumption | exact Ne.symm (by assumption))).trans (by first | assumption | exact xu_eq _ _ _) | exact (xu_ne (by first | assumption | exact Ne.symm (by assumption))).trans ((xu_ne (by first | assumption | exact Ne.symm (by assumption))).trans (by first | assumption | exact xu_eq _ _ _)) | exact (xu_ne (by first | assumption | exact Ne.symm (by assumption))).trans ((xu_ne (by first | assumption | exact Ne.symm (by assumption))).trans ((xu_ne (by first | assumption | exact Ne.symm (by assumption))).trans (by first | assumption | exact xu_eq _ _ _)))) rfl rfl ?_
  refine g_iload_n dX3_extend_89 rfl rfl rfl ?_
  refine g_zreturn dX3_extend_90 rfl rfl ⟨rfl, ?_⟩
  rw [xu_xu]
  exact (xu_self h2).symm
end EXT
