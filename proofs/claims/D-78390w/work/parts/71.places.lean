/-! TREES: places -/
set_option maxRecDepth 100000
section PLACES
variable {w : XW} {id d : Nat} {g : XG} {m : XM} {T : XT}
theorem c_pinC {x : Nat} {ro c : Value} (hd : 1 ≤ d) (hx : m x = some (.inr (9, [ro, c]))) : CT w MX4_placesIn d 0 0 [.ref x] m (xRet (some (.int (nI 0))) m) xN := by
  refine ct_intro (lv := [some (.ref x), none, none, none]) 3 (by decide) rfl (Nat.le_of_ble_eq_true rfl) rfl ?_
  refine g_iconst (v := (nI 0)) dX4_placesIn_0 rfl rfl ?_
  refine g_ist1 dX4_placesIn_1 rfl (by decide) (k := ?_)
  first | refine g_aload_n dX4_placesIn_2 rfl rfl rfl ?_ | refine g_aload_nR dX4_placesIn_2 rfl rfl rfl ?_ | refine g_aload_nN dX4_placesIn_2 rfl rfl rfl ?_
  refine g_instN q1553 xc_X11.1 (by decide) (xnc (by decide)) dX4_placesIn_3 rfl (by first | assumption | exact Or.inl (by first | assumption | exact xu_eq _ _ _ | exact (xu_ne (by first | assumption | exact Ne.symm (by assumption))).trans (by first | assumption | exact xu_eq _ _ _) | exact (xu_ne (by first | assumption | exact Ne.symm (by assumption))).trans ((xu_ne (by first | assumption | exact Ne.symm (by assumption))).trans (by first | assumption | exact xu_eq _ _ _)) | exact (xu_ne (by first | assumption | exact Ne.symm (by assumption))).trans ((xu_ne (by first | assumption | exact Ne.symm (by assumption))).trans ((xu_ne (by first | assumption | exact Ne.symm (by assumption))).trans (by first | assumption | exact xu_eq _ _ _))))) ?_
  refine g_ifn_eq (tgt := 43) dX4_placesIn_6 (by decide) rfl (by omega) (fun _ => ?_) (fun c_6 => by omega)
  refine g_iload_n dX4_placesIn_43 rfl rfl rfl ?_
  refine g_ireturn dX4_placesIn_44 rfl ?_
  exact ⟨by first | rfl | simp [*], rfl⟩
theorem l_pinS {i k sa o p a b : Nat} {f : Nat → Option Nat} {ro rs rd bx : Value} {fo fp : List Value} (hd : 1 ≤ d) (hi : m i = some (.inr (7, [ro, .int (nI k), .ref sa, rs, rd, bx]))) (hsa : m sa = some (rA 6 (if k = 1 then 2 else 1) f)) (hp : f 0 = some o) (hq : k = 1 → f 1 = some p) (ho : m o = some (.inr (3, fo))) (hpp : k = 1 → m p = some (.inr (3, fp)))
    (cA : CT w MX4_places (d - 1) 0 0 [.ref o] m (xRet (some (.int (nI a))) m) xN) (cB : k = 1 → CT w MX4_places (d - 1) 0 0 [.ref p] m (xRet (some (.int (nI b))) m) xN) : CT w MX4_placesIn d 0 0 [.ref i] m (xRet (some (.int (nI (a + if k = 1 then b else 0)))) m) xN := by
  refine ct_intro (lv := [some (.ref i), none, none, none]) 3 (by decide) rfl (Nat.le_of_ble_eq_true rfl) rfl ?_
  by_cases hk : k = 1
  · rw [if_pos hk] at hsa ⊢
    have cB := cB hk
    have hq := hq hk
    have hpp := hpp hk
    refine g_iconst (v := (nI 0)) dX4_placesIn_0 rfl rfl ?_
    refine g_ist1 dX4_placesIn_1 rfl (by decide) (k := ?_)
    first | refine g_aload_n dX4_placesIn_2 rfl rfl rfl ?_ | refine g_aload_nR dX4_placesIn_2 rfl rfl rfl ?_ | refine g_aload_nN dX4_placesIn_2 rfl rfl rfl ?_
    refine g_instY q1553 xc_X9.1 (by decide) rfl dX4_placesIn_3 rfl (by first | assumption | exact Or.inl (by first | assumption | exact xu_eq _ _ _ | exact (xu_ne (by first | assumption | exact Ne.symm (by assumption))).trans (by first | assumption | exact xu_eq _ _ _) | exact (xu_ne (by first | assumption | exact Ne.symm (by assumption))).trans ((xu_ne (by first | assumption | exact Ne.symm (by assumption))).trans (by first | assumption | exact xu_eq _ _ _)) | exact (xu_ne (by first | assumption | exact Ne.symm (by assumption))).trans ((xu_ne (by first | assumption | exact Ne.symm (by assumption))).trans ((xu_ne (by first | assumption | exact Ne.symm (by assumption))).trans (by first | assumption | exact xu_eq _ _ _))))) ?_
    refine g_ifn_eq (tgt := 43) dX4_placesIn_6 (by decide) rfl (by omega) (fun c_6 => by omega) (fun _ => ?_)
    first | refine g_aload_n dX4_placesIn_9 rfl rfl rfl ?_ | refine g_aload_nR dX4_placesIn_9 rfl rfl rfl ?_ | refine g_aload_nN dX4_placesIn_9 rfl rfl rfl ?_
    refine g_castO q1553 xc_X9.1 (by decide) (Or.inl rfl) dX4_placesIn_10 rfl (by first | assumption | exact Or.inl (by first | assumption | exact xu_eq _ _ _ | exact (xu_ne (by first | assumption | exact Ne.symm (by assumption))).trans (by first | assumption | exact xu_eq _ _ _) | exact (xu_ne (by first | assumption | exact Ne.symm (by assumption))).trans ((xu_ne (by first | assumption | exact Ne.symm (by assumption))).trans (by first | assumption | exact xu_eq _ _ _)) | exact (xu_ne (by first | assumption | exact Ne.symm (by assumption))).trans ((xu_ne (by first | assumption | exact Ne.symm (by assumption))).trans ((xu_ne (by first | assumption | exact Ne.symm (by assumption))).trans (by first | assumption | exact xu_eq _ _ _))))) ?_
    first | refine g_ast2 dX4_placesIn_13 rfl (by decide) (k := ?_) | refine g_astR2 dX4_placesIn_13 rfl (by decide) (k := ?_) | refine g_astN2 dX4_placesIn_13 rfl (by decide) (k := ?_)
    refine g_iconst (v := (nI 0)) dX4_placesIn_14 rfl rfl ?_
    refine g_ist3 dX4_placesIn_15 rfl (by decide) (k := ?_)
    refine g_iload_n dX4_placesIn_16 rfl rfl rfl ?_
    first | refine g_aload_n dX4_placesIn_17 rfl rfl rfl ?_ | refine g_aload_nR dX4_placesIn_17 rfl rfl rfl ?_ | refine g_aload_nN dX4_placesIn_17 rfl rfl rfl ?_
    refine g_get fl_X4_89_X9 dX4_placesIn_18 rfl (Or.inl (by first | assumption | exact xu_eq _ _ _ | exact (xu_ne (by first | assumption | exact Ne.symm (by assumption))).trans (by first | assumption | exact xu_eq _ _ _) | exact (xu_ne (by first | assumption | exact Ne.symm (by assumption))).trans ((xu_ne (by first | assumption | exact Ne.symm (by assumption))).trans (by first | assumption | exact xu_eq _ _ _)) | exact (xu_ne (by first | assumption | exact Ne.symm (by assumption))).trans ((xu_ne (by first | assumption | exact Ne.symm (by assumption))).trans ((xu_ne (by first | assumption | exact Ne.symm (by assumption))).trans (by first | assumption | exact xu_eq _ _ _))))) rfl ?_
    refine g_alenq (t := 6) rfl dX4_placesIn_21 rfl (by first | assumption | exact Or.inl (by first | assumption | exact xu_eq _ _ _ | exact (xu_ne (by first | assumption | exact Ne.symm (by assumption))).trans (by first | assumption | exact xu_eq _ _ _) | exact (xu_ne (by first | assumption | exact Ne.symm (by assumption))).trans ((xu_ne (by first | assumption | exact Ne.symm (by assumption))).trans (by first | assumption | exact xu_eq _ _ _)) | exact (xu_ne (by first | assumption | exact Ne.symm (by assumption))).trans ((xu_ne (by first | assumption | exact Ne.symm (by assumption))).trans ((xu_ne (by first | assumption | exact Ne.symm (by assumption))).trans (by first | assumption | exact xu_eq _ _ _))))) ?_
    refine g_icmpn_ge (tgt := 43) dX4_placesIn_22 (by decide) rfl (by omega) (by omega) (fun c_22 => by omega) (fun c_22 => ?_)
    refine g_iload_n dX4_placesIn_25 rfl rfl rfl ?_
    first | refine g_aload_n dX4_placesIn_26 rfl rfl rfl ?_ | refine g_aload_nR dX4_placesIn_26 rfl rfl rfl ?_ | refine g_aload_nN dX4_placesIn_26 rfl rfl rfl ?_
    refine g_get fl_X4_89_X9 dX4_placesIn_27 rfl (Or.inl (by first | assumption | exact xu_eq _ _ _ | exact (xu_ne (by first | assumption | exact Ne.symm (by assumption))).trans (by first | assumption | exact xu_eq _ _ _) | exact (xu_ne (by first | assumption | exact Ne.symm (by assumption))).trans ((xu_ne (by first | assumption | exact Ne.symm (by assumption))).trans (by first | assumption | exact xu_eq _ _ _)) | exact (xu_ne (by first | assumption | exact Ne.symm (by assumption))).trans ((xu_ne (by first | assumption | exact Ne.symm (by assumption))).trans ((xu_ne (by first | assumption | exact Ne.symm (by assumption))).trans (by first | assumption | exact xu_eq _ _ _))))) rfl ?_
    refine g_iload_n dX4_placesIn_30 rfl rfl rfl ?_
    refine g_aaldn (t := 6) rfl dX4_placesIn_31 rfl (by first | assumption | exact Or.inl (by first | assumption | exact xu_eq _ _ _ | exact (xu_ne (by first | assumption | exact Ne.symm (by assumption))).trans (by first | assumption | exact xu_eq _ _ _) | exact (xu_ne (by first | assumption | exact Ne.symm (by assumption))).trans ((xu_ne (by first | assumption | exact Ne.symm (by assumption))).trans (by first | assumption | exact xu_eq _ _ _)) | exact (xu_ne (by first | assumption | exact Ne.symm (by assumption))).trans ((xu_ne (by first | assumption | exact Ne.symm (by assumption))).trans ((xu_ne (by first | assumption | exact Ne.symm (by assumption))).trans (by first | assumption | exact xu_eq _ _ _))))) (by omega) (by omega) ?_
    rw [hp]
    refine g_virtualP iV_X4_places q1851 (cA) (Or.inl (by first | assumption | exact xu_eq _ _ _ | exact (xu_ne (by first | assumption | exact Ne.symm (by assumption))).trans (by first | assumption | exact xu_eq _ _ _) | exact (xu_ne (by first | assumption | exact Ne.symm (by assumption))).trans ((xu_ne (by first | assumption | exact Ne.symm (by assumption))).trans (by first | assumption | exact xu_eq _ _ _)) | exact (xu_ne (by first | assumption | exact Ne.symm (by assumption))).trans ((xu_ne (by first | assumption | exact Ne.symm (by assumption))).trans ((xu_ne (by first | assumption | exact Ne.symm (by assumption))).trans (by first | assumption | exact xu_eq _ _ _))))) rfl (by decide) dX4_placesIn_32 rfl rfl rfl (by first | exact Nat.le_of_ble_eq_true rfl | simp [Value.category, rf_cat]) (by omega) xN_no ?_
    refine g_iaddn dX4_placesIn_35 rfl ?_
    refine g_ist1 dX4_placesIn_36 rfl (by decide) (k := ?_)
    refine g_incn3 dX4_placesIn_37 rfl (by decide) (k := ?_)
    refine g_goto (tgt := 16) dX4_placesIn_40 (by decide) ?_
    refine g_iload_n dX4_placesIn_16 rfl rfl rfl ?_
    first | refine g_aload_n dX4_placesIn_17 rfl rfl rfl ?_ | refine g_aload_nR dX4_placesIn_17 rfl rfl rfl ?_ | refine g_aload_nN dX4_placesIn_17 rfl rfl rfl ?_
    refine g_get fl_X4_89_X9 dX4_placesIn_18 rfl (Or.inl (by first | assumption | exact xu_eq _ _ _ | exact (xu_ne (by first | assumption | exact Ne.symm (by assumption))).trans (by first | assumption | exact xu_eq _ _ _) | exact (xu_ne (by first | assumption | exact Ne.symm (by assumption))).trans ((xu_ne (by first | assumption | exact Ne.symm (by assumption))).trans (by first | assumption | exact xu_eq _ _ _)) | exact (xu_ne (by first | assumption | exact Ne.symm (by assumption))).trans ((xu_ne (by first | assumption | exact Ne.symm (by assumption))).trans ((xu_ne (by first | assumption | exact Ne.symm (by assumption))).trans (by first | assumption | exact xu_eq _ _ _))))) rfl ?_
    refine g_alenq (t := 6) rfl dX4_placesIn_21 rfl (by first | assumption | exact Or.inl (by first | assumption | exact xu_eq _ _ _ | exact (xu_ne (by first | assumption | exact Ne.symm (by assumption))).trans (by first | assumption | exact xu_eq _ _ _) | exact (xu_ne (by first | assumption | exact Ne.symm (by assumption))).trans ((xu_ne (by first | assumption | exact Ne.symm (by assumption))).trans (by first | assumption | exact xu_eq _ _ _)) | exact (xu_ne (by first | assumption | exact Ne.symm (by assumption))).trans ((xu_ne (by first | assumption | exact Ne.symm (by assumption))).trans ((xu_ne (by first | assumption | exact Ne.symm (by assumption))).trans (by first | assumption | exact xu_eq _ _ _))))) ?_
    refine g_icmpn_ge (tgt := 43) dX4_placesIn_22 (by decide) rfl (by omega) (by omega) (fun c_22 => by omega) (fun c_22 => ?_)
    refine g_iload_n dX4_placesIn_25 rfl rfl rfl ?_
    first | refine g_aload_n dX4_placesIn_26 rfl rfl rfl ?_ | refine g_aload_nR dX4_placesIn_26 rfl rfl rfl ?_ | refine g_aload_nN dX4_placesIn_26 rfl rfl rfl ?_
    refine g_get fl_X4_89_X9 dX4_placesIn_27 rfl (Or.inl (by first | assumption | exact xu_eq _ _ _ | exact (xu_ne (by first | assumption | exact Ne.symm (by assumption))).trans (by first | assumption | exact xu_eq _ _ _) | exact (xu_ne (by first | assumption | exact Ne.symm (by assumption))).trans ((xu_ne (by first | assumption | exact Ne.symm (by assumption))).trans (by first | assumption | exact xu_eq _ _ _)) | exact (xu_ne (by first | assumption | exact Ne.symm (by assumption))).trans ((xu_ne (by first | assumption | exact Ne.symm (by assumption))).trans ((xu_ne (by first | assumption | exact Ne.symm (by assumption))).trans (by first | assumption | exact xu_eq _ _ _))))) rfl ?_
    refine g_iload_n dX4_placesIn_30 rfl rfl rfl ?_
    refine g_aaldn (t := 6) rfl dX4_placesIn_31 rfl (by first | assumption | exact Or.inl (by first | assumption | exact xu_eq _ _ _ | exact (xu_ne (by first | assumption | exact Ne.symm (by assumption))).trans (by first | assumption | exact xu_eq _ _ _) | exact (xu_ne (by first | assumption | exact Ne.symm (by assumption))).trans ((xu_ne (by first | assumption | exact Ne.symm (by assumption))).trans (by first | assumption | exact xu_eq _ _ _)) | exact (xu_ne (by first | assumption | exact Ne.symm (by assumption))).trans ((xu_ne (by first | assumption | exact Ne.symm (by assumption))).trans ((xu_ne (by first | assumption | exact Ne.symm (by assumption))).trans (by first | assumption | exact xu_eq _ _ _))))) (by omega) (by omega) ?_
    rw [hq]
    refine g_virtualP iV_X4_places q1851 (cB) (Or.inl (by first | assumption | exact xu_eq _ _ _ | exact (xu_ne (by first | assumption | exact Ne.symm (by assumption))).trans (by first | assumption | exact xu_eq _ _ _) | exact (xu_ne (by first | assumption | exact Ne.symm (by assumption))).trans ((xu_ne (by first | assumption | exact Ne.symm (by assumption))).trans (by first | assumption | exact xu_eq _ _ _)) | exact (xu_ne (by first | assumption | exact Ne.symm (by assumption))).trans ((xu_ne (by first | assumption | exact Ne.symm (by assumption))).trans ((xu_ne (by first | assumption | exact Ne.symm (by assumption))).trans (by first | assumption | exact xu_eq _ _ _))))) rfl (by decide) dX4_placesIn_32 rfl rfl rfl (by first | exact Nat.le_of_ble_eq_true rfl | simp [Value.category, rf_cat]) (by omega) xN_no ?_
    refine g_iaddn dX4_placesIn_35 rfl ?_
    refine g_ist1 dX4_placesIn_36 rfl (by decide) (k := ?_)
    refine g_incn3 dX4_placesIn_37 rfl (by decide) (k := ?_)
    refine g_goto (tgt := 16) dX4_placesIn_40 (by decide) ?_
    refine g_iload_n dX4_placesIn_16 rfl rfl rfl ?_
    first | refine g_aload_n dX4_placesIn_17 rfl rfl rfl ?_ | refine g_aload_nR dX4_placesIn_17 rfl rfl rfl ?_ | refine g_aload_nN dX4_placesIn_17 rfl rfl rfl ?_
    refine g_get fl_X4_89_X9 dX4_placesIn_18 rfl (Or.inl (by first | assumption | exact xu_eq _ _ _ | exact (xu_ne (by first | assumption | exact Ne.symm (by assumption))).trans (by first | assumption | exact xu_eq _ _ _) | exact (xu_ne (by first | assumption | exact Ne.symm (by assumption))).trans ((xu_ne (by first | assumption | exact Ne.symm (by assumption))).trans (by first | assumption | exact xu_eq _ _ _)) | exact (xu_ne (by first | assumption | exact Ne.symm (by assumption))).trans ((xu_ne (by first | assumption | exact Ne.symm (by assumption))).trans ((xu_ne (by first | assumption | exact Ne.symm (by assumption))).trans (by first | assumption | exact xu_eq _ _ _))))) rfl ?_
    refine g_alenq (t := 6) rfl dX4_placesIn_21 rfl (by first | assumption | exact Or.inl (by first | assumption | exact xu_eq _ _ _ | exact (xu_ne (by first | assumption | exact Ne.symm (by assumption))).trans (by first | assumption | exact xu_eq _ _ _) | exact (xu_ne (by first | assumption | exact Ne.symm (by assumption))).trans ((xu_ne (by first | assumption | exact Ne.symm (by assumption))).trans (by first | assumption | exact xu_eq _ _ _)) | exact (xu_ne (by first | assumption | exact Ne.symm (by assumption))).trans ((xu_ne (by first | assumption | exact Ne.symm (by assumption))).trans ((xu_ne (by first | assumption | exact Ne.symm (by assumption))).trans (by first | assumption | exact xu_eq _ _ _))))) ?_
    refine g_icmpn_ge (tgt := 43) dX4_placesIn_22 (by decide) rfl (by omega) (by omega) (fun c_22 => ?_) (fun c_22 => by omega)
    refine g_iload_n dX4_placesIn_43 rfl rfl rfl ?_
    exact g_ireturn dX4_placesIn_44 rfl ⟨by congr 3 <;> omega, rfl⟩
  · rw [if_neg hk] at hsa ⊢
    refine g_iconst (v := (nI 0)) dX4_placesIn_0 rfl rfl ?_
    refine g_ist1 dX4_placesIn_1 rfl (by decide) (k := ?_)
    first | refine g_aload_n dX4_placesIn_2 rfl rfl rfl ?_ | refine g_aload_nR dX4_placesIn_2 rfl rfl rfl ?_ | refine g_aload_nN dX4_placesIn_2 rfl rfl rfl ?_
    refine g_instY q1553 xc_X9.1 (by decide) rfl dX4_placesIn_3 rfl (by first | assumption | exact Or.inl (by first | assumption | exact xu_eq _ _ _ | exact (xu_ne (by first | assumption | exact Ne.symm (by assumption))).trans (by first | assumption | exact xu_eq _ _ _) | exact (xu_ne (by first | assumption | exact Ne.symm (by assumption))).trans ((xu_ne (by first | assumption | exact Ne.symm (by assumption))).trans (by first | assumption | exact xu_eq _ _ _)) | exact (xu_ne (by first | assumption | exact Ne.symm (by assumption))).trans ((xu_ne (by first | assumption | exact Ne.symm (by assumption))).trans ((xu_ne (by first | assumption | exact Ne.symm (by assumption))).trans (by first | assumption | exact xu_eq _ _ _))))) ?_
    refine g_ifn_eq (tgt := 43) dX4_placesIn_6 (by decide) rfl (by omega) (fun c_6 => by omega) (fun _ => ?_)
    first | refine g_aload_n dX4_placesIn_9 rfl rfl rfl ?_ | refine g_aload_nR dX4_placesIn_9 rfl rfl rfl ?_ | refine g_aload_nN dX4_placesIn_9 rfl rfl rfl ?_
    refine g_castO q1553 xc_X9.1 (by decide) (Or.inl rfl) dX4_placesIn_10 rfl (by first | assumption | exact Or.inl (by first | assumption | exact xu_eq _ _ _ | exact (xu_ne (by first | assumption | exact Ne.symm (by assumption))).trans (by first | assumption | exact xu_eq _ _ _) | exact (xu_ne (by first | assumption | exact Ne.symm (by assumption))).trans ((xu_ne (by first | assumption | exact Ne.symm (by assumption))).trans (by first | assumption | exact xu_eq _ _ _)) | exact (xu_ne (by first | assumption | exact Ne.symm (by assumption))).trans ((xu_ne (by first | assumption | exact Ne.symm (by assumption))).trans ((xu_ne (by first | assumption | exact Ne.symm (by assumption))).trans (by first | assumption | exact xu_eq _ _ _))))) ?_
    first | refine g_ast2 dX4_placesIn_13 rfl (by decide) (k := ?_) | refine g_astR2 dX4_placesIn_13 rfl (by decide) (k := ?_) | refine g_astN2 dX4_placesIn_13 rfl (by decide) (k := ?_)
    refine g_iconst (v := (nI 0)) dX4_placesIn_14 rfl rfl ?_
    refine g_ist3 dX4_placesIn_15 rfl (by decide) (k := ?_)
    refine g_iload_n dX4_placesIn_16 rfl rfl rfl ?_
    first | refine g_aload_n dX4_placesIn_17 rfl rfl rfl ?_ | refine g_aload_nR dX4_placesIn_17 rfl rfl rfl ?_ | refine g_aload_nN dX4_placesIn_17 rfl rfl rfl ?_
    refine g_get fl_X4_89_X9 dX4_placesIn_18 rfl (Or.inl (by first | assumption | exact xu_eq _ _ _ | exact (xu_ne (by first | assumption | exact Ne.symm (by assumption))).trans (by first | assumption | exact xu_eq _ _ _) | exact (xu_ne (by first | assumption | exact Ne.symm (by assumption))).trans ((xu_ne (by first | assumption | exact Ne.symm (by assumption))).trans (by first | assumption | exact xu_eq _ _ _)) | exact (xu_ne (by first | assumption | exact Ne.symm (by assumption))).trans ((xu_ne (by first | assumption | exact Ne.symm (by assumption))).trans ((xu_ne (by first | assumption | exact Ne.symm (by assumption))).trans (by first | assumption | exact xu_eq _ _ _))))) rfl ?_
    refine g_alenq (t := 6) rfl dX4_placesIn_21 rfl (by first | assumption | exact Or.inl (by first | assumption | exact xu_eq _ _ _ | exact (xu_ne (by first | assumption | exact Ne.symm (by assumption))).trans (by first | assumption | exact xu_eq _ _ _) | exact (xu_ne (by first | assumption | exact Ne.symm (by assumption))).trans ((xu_ne (by first | assumption | exact Ne.symm (by assumption))).trans (by first | assumption | exact xu_eq _ _ _)) | exact (xu_ne (by first | assumption | exact Ne.symm (by assumption))).trans ((xu_ne (by first | assumption | exact Ne.symm (by assumption))).trans ((xu_ne (by first | assumption | exact Ne.symm (by assumption))).trans (by first | assumption | exact xu_eq _ _ _))))) ?_
    refine g_icmpn_ge (tgt := 43) dX4_placesIn_22 (by decide) rfl (by omega) (by omega) (fun c_22 => by omega) (fun c_22 => ?_)
    refine g_iload_n dX4_placesIn_25 rfl rfl rfl ?_
    first | refine g_aload_n dX4_placesIn_26 rfl rfl rfl ?_ | refine g_aload_nR dX4_placesIn_26 rfl rfl rfl ?_ | refine g_aload_nN dX4_placesIn_26 rfl rfl rfl ?_
    refine g_get fl_X4_89_X9 dX4_placesIn_27 rfl (Or.inl (by first | assumption | exact xu_eq _ _ _ | exact (xu_ne (by first | assumption | exact Ne.symm (by assumption))).trans (by first | assumption | exact xu_eq _ _ _) | exact (xu_ne (by first | assumption | exact Ne.symm (by assumption))).trans ((xu_ne (by first | assumption | exact Ne.symm (by assumption))).trans (by first | assumption | exact xu_eq _ _ _)) | exact (xu_ne (by first | assumption | exact Ne.symm (by assumption))).trans ((xu_ne (by first | assumption | exact Ne.symm (by assumption))).trans ((xu_ne (by first | assumption | exact Ne.symm (by assumption))).trans (by first | assumption | exact xu_eq _ _ _))))) rfl ?_
    refine g_iload_n dX4_placesIn_30 rfl rfl rfl ?_
    refine g_aaldn (t := 6) rfl dX4_placesIn_31 rfl (by first | assumption | exact Or.inl (by first | assumption | exact xu_eq _ _ _ | exact (xu_ne (by first | assumption | exact Ne.symm (by assumption))).trans (by first | assumption | exact xu_eq _ _ _) | exact (xu_ne (by first | assumption | exact Ne.symm (by assumption))).trans ((xu_ne (by first | assumption | exact Ne.symm (by assumption))).trans (by first | assumption | exact xu_eq _ _ _)) | exact (xu_ne (by first | assumption | exact Ne.symm (by assumption))).trans ((xu_ne (by first | assumption | exact Ne.symm (by assumption))).trans ((xu_ne (by first | assumption | exact Ne.symm (by assumption))).trans (by first | assumption | exact xu_eq _ _ _))))) (by omega) (by omega) ?_
    rw [hp]
    refine g_virtualP iV_X4_places q1851 (cA) (Or.inl (by first | assumption | exact xu_eq _ _ _ | exact (xu_ne (by first | assumption | exact Ne.symm (by assumption))).trans (by first | assumption | exact xu_eq _ _ _) | exact (xu_ne (by first | assumption | exact Ne.symm (by assumption))).trans ((xu_ne (by first | assumption | exact Ne.symm (by assumption))).trans (by first | assumption | exact xu_eq _ _ _)) | exact (xu_ne (by first | assumption | exact Ne.symm (by assumption))).trans ((xu_ne (by first | assumption | exact Ne.symm (by assumption))).trans ((xu_ne (by first | assumption | exact Ne.symm (by assumption))).trans (by first | assumption | exact xu_eq _ _ _))))) rfl (by decide) dX4_placesIn_32 rfl rfl rfl (by first | exact Nat.le_of_ble_eq_true rfl | simp [Value.category, rf_cat]) (by omega) xN_no ?_
    refine g_iaddn dX4_placesIn_35 rfl ?_
    refine g_ist1 dX4_placesIn_36 rfl (by decide) (k := ?_)
    refine g_incn3 dX4_placesIn_37 rfl (by decide) (k := ?_)
    refine g_goto (tgt := 16) dX4_placesIn_40 (by decide) ?_
    refine g_iload_n dX4_placesIn_16 rfl rfl rfl ?_
    first | refine g_aload_n dX4_placesIn_17 rfl rfl rfl ?_ | refine g_aload_nR dX4_placesIn_17 rfl rfl rfl ?_ | refine g_aload_nN dX4_placesIn_17 rfl rfl rfl ?_
    refine g_get fl_X4_89_X9 dX4_placesIn_18 rfl (Or.inl (by first | assumption | exact xu_eq _ _ _ | exact (xu_ne (by first | assumption | exact Ne.symm (by assumption))).trans (by first | assumption | exact xu_eq _ _ _) | exact (xu_ne (by first | assumption | exact Ne.symm (by assumption))).trans ((xu_ne (by first | assumption | exact Ne.symm (by assumption))).trans (by first | assumption | exact xu_eq _ _ _)) | exact (xu_ne (by first | assumption | exact Ne.symm (by assumption))).trans ((xu_ne (by first | assumption | exact Ne.symm (by assumption))).trans ((xu_ne (by first | assumption | exact Ne.symm (by assumption))).trans (by first | assumption | exact xu_eq _ _ _))))) rfl ?_
    refine g_alenq (t := 6) rfl dX4_placesIn_21 rfl (by first | assumption | exact Or.inl (by first | assumption | exact xu_eq _ _ _ | exact (xu_ne (by first | assumption | exact Ne.symm (by assumption))).trans (by first | assumption | exact xu_eq _ _ _) | exact (xu_ne (by first | assumption | exact Ne.symm (by assumption))).trans ((xu_ne (by first | assumption | exact Ne.symm (by assumption))).trans (by first | assumption | exact xu_eq _ _ _)) | exact (xu_ne (by first | assumption | exact Ne.symm (by assumption))).trans ((xu_ne (by first | assumption | exact Ne.symm (by assumption))).trans ((xu_ne (by first | assumption | exact Ne.symm (by assumption))).trans (by first | assumption | exact xu_eq _ _ _))))) ?_
    refine g_icmpn_ge (tgt := 43) dX4_placesIn_22 (by decide) rfl (by omega) (by omega) (fun c_22 => ?_) (fun c_22 => by omega)
    refine g_iload_n dX4_placesIn_43 rfl rfl rfl ?_
    exact g_ireturn dX4_placesIn_44 rfl ⟨by congr 3 <;> omega, rfl⟩
theorem c_places (h : SM w g m id T) : ∀ (n : Nat) (M : List XE) (r : Nat), M.length ≤ n → M.length < 2 ^ 30 → DT T r M → ∀ d, 4 + 2 * hts M ≤ d → CT w MX4_places d 0 0 [.ref r] m (xRet (some (.int (nI (M.length + 1)))) m) xN := by
  intro n
  induction n with
  | zero =>
    intro M r hM hH hT d hd
    obtain rfl : M = [] := List.eq_nil_of_length_eq_zero (by omega)
    obtain ⟨own, sl, cap, hR⟩ := dt_row hT
    obtain ⟨la, ar, bx, mc, h1, k1, hA, h3, h4, h5, hz⟩ := sm_row h hR
    refine ct_intro (lv := [some (.ref r), none, none]) 2 (by decide) rfl (Nat.le_of_ble_eq_true rfl) rfl ?_
    have hl : (drs r ([] : List XE)).length = 0 := rfl
    refine g_iconst (v := (nI 1)) dX4_places_0 rfl rfl ?_
    refine g_ist1 dX4_places_1 rfl (by decide) (k := ?_)
    refine g_iconst (v := (nI 0)) dX4_places_2 rfl rfl ?_
    refine g_ist2 dX4_places_3 rfl (by decide) (k := ?_)
    refine g_iload_n dX4_places_4 rfl rfl rfl ?_
    first | refine g_aload_n dX4_places_5 rfl rfl rfl ?_ | refine g_aload_nR dX4_places_5 rfl rfl rfl ?_ | refine g_aload_nN dX4_places_5 rfl rfl rfl ?_
    refine g_get fl_X4_12_X4 dX4_places_6 rfl (Or.inl (by first | assumption | exact xu_eq _ _ _ | exact (xu_ne (by first | assumption | exact Ne.symm (by assumption))).trans (by first | assumption | exact xu_eq _ _ _) | exact (xu_ne (by first | assumption | exact Ne.symm (by assumption))).trans ((xu_ne (by first | assumption | exact Ne.symm (by assumption))).trans (by first | assumption | exact xu_eq _ _ _)) | exact (xu_ne (by first | assumption | exact Ne.symm (by assumption))).trans ((xu_ne (by first | assumption | exact Ne.symm (by assumption))).trans ((xu_ne (by first | assumption | exact Ne.symm (by assumption))).trans (by first | assumption | exact xu_eq _ _ _))))) rfl ?_
    refine g_ifaceP iI_J26_size_J26 q1479 (c_size (d := d - 1) (by omega) hA) (Or.inl (by first | assumption | exact xu_eq _ _ _ | exact (xu_ne (by first | assumption | exact Ne.symm (by assumption))).trans (by first | assumption | exact xu_eq _ _ _) | exact (xu_ne (by first | assumption | exact Ne.symm (by assumption))).trans ((xu_ne (by first | assumption | exact Ne.symm (by assumption))).trans (by first | assumption | exact xu_eq _ _ _)) | exact (xu_ne (by first | assumption | exact Ne.symm (by assumption))).trans ((xu_ne (by first | assumption | exact Ne.symm (by assumption))).trans ((xu_ne (by first | assumption | exact Ne.symm (by assumption))).trans (by first | assumption | exact xu_eq _ _ _))))) rfl (by decide) dX4_places_9 rfl rfl rfl (by first | exact Nat.le_of_ble_eq_true rfl | simp [Value.category, rf_cat]) (by omega) xN_no ?_
    refine g_icmpn_ge (tgt := 44) dX4_places_14 (by decide) rfl (by omega) (by omega) (fun c_14 => ?_) (fun c_14 => by omega)
    refine g_iload_n dX4_places_44 rfl rfl rfl ?_
    exact g_ireturn dX4_places_45 rfl ⟨rfl, rfl⟩
  | succ n ih =>
    intro M r hM hH hT d hd
    obtain ⟨own, sl, cap, hR⟩ := dt_row hT
    obtain ⟨la, ar, bx, mc, h1, k1, hA, h3, h4, h5, hz⟩ := sm_row h hR
    have hlen := al_len hA
    refine ct_intro (lv := [some (.ref r), none, none]) 2 (by decide) rfl (Nat.le_of_ble_eq_true rfl) rfl ?_
    have loop : ∀ (l : Nat) (N2 : List XE), N2.length ≤ l → ∀ (N1 : List XE) (s : Nat), M = N1 ++ N2 → Bd r N1 → Bd r N2 → s + N2.length = M.length + 1 → G w MX4_places (xZ w (xRet (some (.int (nI (M.length + 1)))) m) xN) d 0 0 4 [some (.ref r), some (.int (nI s)), some (.int (nI (drs r N1).length))] [] m := by
      intro l
      induction l with
      | zero =>
        intro N2 hl N1 s hNe hN1 hN2 hs
        obtain rfl : N2 = [] := List.eq_nil_of_length_eq_zero (by omega)
        rw [List.append_nil] at hNe; subst hNe
        refine g_iload_n dX4_places_4 rfl rfl rfl ?_
        first | refine g_aload_n dX4_places_5 rfl rfl rfl ?_ | refine g_aload_nR dX4_places_5 rfl rfl rfl ?_ | refine g_aload_nN dX4_places_5 rfl rfl rfl ?_
        refine g_get fl_X4_12_X4 dX4_places_6 rfl (Or.inl (by first | assumption | exact xu_eq _ _ _ | exact (xu_ne (by first | assumption | exact Ne.symm (by assumption))).trans (by first | assumption | exact xu_eq _ _ _) | exact (xu_ne (by first | assumption | exact Ne.symm (by assumption))).trans ((xu_ne (by first | assumption | exact Ne.symm (by assumption))).trans (by first | assumption | exact xu_eq _ _ _)) | exact (xu_ne (by first | assumption | exact Ne.symm (by assumption))).trans ((xu_ne (by first | assumption | exact Ne.symm (by assumption))).trans ((xu_ne (by first | assumption | exact Ne.symm (by assumption))).trans (by first | assumption | exact xu_eq _ _ _))))) rfl ?_
        refine g_ifaceP iI_J26_size_J26 q1479 (c_size (d := d - 1) (by omega) hA) (Or.inl (by first | assumption | exact xu_eq _ _ _ | exact (xu_ne (by first | assumption | exact Ne.symm (by assumption))).trans (by first | assumption | exact xu_eq _ _ _) | exact (xu_ne (by first | assumption | exact Ne.symm (by assumption))).trans ((xu_ne (by first | assumption | exact Ne.symm (by assumption))).trans (by first | assumption | exact xu_eq _ _ _)) | exact (xu_ne (by first | assumption | exact Ne.symm (by assumption))).trans ((xu_ne (by first | assumption | exact Ne.symm (by assumption))).trans ((xu_ne (by first | assumption | exact Ne.symm (by assumption))).trans (by first | assumption | exact xu_eq _ _ _))))) rfl (by decide) dX4_places_9 rfl rfl rfl (by first | exact Nat.le_of_ble_eq_true rfl | simp [Value.category, rf_cat]) (by omega) xN_no ?_
        refine g_icmpn_ge (tgt := 44) dX4_places_14 (by decide) rfl (by omega) (by omega) (fun c_14 => ?_) (fun c_14 => by omega)
        refine g_iload_n dX4_places_44 rfl rfl rfl ?_
        exact g_ireturn dX4_places_45 rfl ⟨by rw [← hs]; rfl, rfl⟩
      | succ l il =>
        intro N2 hl N1 s hNe hN1 hN2 hs
        rcases bd_cases hN2 with rfl | ⟨c, x, N3, rfl, hb⟩ | ⟨k, x, o, p, A, B, N3, rfl, hbA, hbB, hb⟩
        · rw [List.append_nil] at hNe; subst hNe
          refine g_iload_n dX4_places_4 rfl rfl rfl ?_
          first | refine g_aload_n dX4_places_5 rfl rfl rfl ?_ | refine g_aload_nR dX4_places_5 rfl rfl rfl ?_ | refine g_aload_nN dX4_places_5 rfl rfl rfl ?_
          refine g_get fl_X4_12_X4 dX4_places_6 rfl (Or.inl (by first | assumption | exact xu_eq _ _ _ | exact (xu_ne (by first | assumption | exact Ne.symm (by assumption))).trans (by first | assumption | exact xu_eq _ _ _) | exact (xu_ne (by first | assumption | exact Ne.symm (by assumption))).trans ((xu_ne (by first | assumption | exact Ne.symm (by assumption))).trans (by first | assumption | exact xu_eq _ _ _)) | exact (xu_ne (by first | assumption | exact Ne.symm (by assumption))).trans ((xu_ne (by first | assumption | exact Ne.symm (by assumption))).trans ((xu_ne (by first | assumption | exact Ne.symm (by assumption))).trans (by first | assumption | exact xu_eq _ _ _))))) rfl ?_
          refine g_ifaceP iI_J26_size_J26 q1479 (c_size (d := d - 1) (by omega) hA) (Or.inl (by first | assumption | exact xu_eq _ _ _ | exact (xu_ne (by first | assumption | exact Ne.symm (by assumption))).trans (by first | assumption | exact xu_eq _ _ _) | exact (xu_ne (by first | assumption | exact Ne.symm (by assumption))).trans ((xu_ne (by first | assumption | exact Ne.symm (by assumption))).trans (by first | assumption | exact xu_eq _ _ _)) | exact (xu_ne (by first | assumption | exact Ne.symm (by assumption))).trans ((xu_ne (by first | assumption | exact Ne.symm (by assumption))).trans ((xu_ne (by first | assumption | exact Ne.symm (by assumption))).trans (by first | assumption | exact xu_eq _ _ _))))) rfl (by decide) dX4_places_9 rfl rfl rfl (by first | exact Nat.le_of_ble_eq_true rfl | simp [Value.category, rf_cat]) (by omega) xN_no ?_
          refine g_icmpn_ge (tgt := 44) dX4_places_14 (by decide) rfl (by omega) (by omega) (fun c_14 => ?_) (fun c_14 => by omega)
          refine g_iload_n dX4_places_44 rfl rfl rfl ?_
          exact g_ireturn dX4_places_45 rfl ⟨by rw [← hs]; rfl, rfl⟩
        · obtain ⟨e1, e2, e3, e4, hx1, hcc, hci⟩ := dt_C h hT hNe
          rw [List.length_cons] at hs hl
          refine g_iload_n dX4_places_4 rfl rfl rfl ?_
          first | refine g_aload_n dX4_places_5 rfl rfl rfl ?_ | refine g_aload_nR dX4_places_5 rfl rfl rfl ?_ | refine g_aload_nN dX4_places_5 rfl rfl rfl ?_
          refine g_get fl_X4_12_X4 dX4_places_6 rfl (Or.inl (by first | assumption | exact xu_eq _ _ _ | exact (xu_ne (by first | assumption | exact Ne.symm (by assumption))).trans (by first | assumption | exact xu_eq _ _ _) | exact (xu_ne (by first | assumption | exact Ne.symm (by assumption))).trans ((xu_ne (by first | assumption | exact Ne.symm (by assumption))).trans (by first | assumption | exact xu_eq _ _ _)) | exact (xu_ne (by first | assumption | exact Ne.symm (by assumption))).trans ((xu_ne (by first | assumption | exact Ne.symm (by assumption))).trans ((xu_ne (by first | assumption | exact Ne.symm (by assumption))).trans (by first | assumption | exact xu_eq _ _ _))))) rfl ?_
          refine g_ifaceP iI_J26_size_J26 q1479 (c_size (d := d - 1) (by omega) hA) (Or.inl (by first | assumption | exact xu_eq _ _ _ | exact (xu_ne (by first | assumption | exact Ne.symm (by assumption))).trans (by first | assumption | exact xu_eq _ _ _) | exact (xu_ne (by first | assumption | exact Ne.symm (by assumption))).trans ((xu_ne (by first | assumption | exact Ne.symm (by assumption))).trans (by first | assumption | exact xu_eq _ _ _)) | exact (xu_ne (by first | assumption | exact Ne.symm (by assumption))).trans ((xu_ne (by first | assumption | exact Ne.symm (by assumption))).trans ((xu_ne (by first | assumption | exact Ne.symm (by assumption))).trans (by first | assumption | exact xu_eq _ _ _))))) rfl (by decide) dX4_places_9 rfl rfl rfl (by first | exact Nat.le_of_ble_eq_true rfl | simp [Value.category, rf_cat]) (by omega) xN_no ?_
          refine g_icmpn_ge (tgt := 44) dX4_places_14 (by decide) rfl (by omega) (by omega) (fun c_14 => by omega) (fun c_14 => ?_)
          refine g_iload_n dX4_places_17 rfl rfl rfl ?_
          refine g_iconst (v := (nI 1)) dX4_places_18 rfl rfl ?_
          first | refine g_aload_n dX4_places_19 rfl rfl rfl ?_ | refine g_aload_nR dX4_places_19 rfl rfl rfl ?_ | refine g_aload_nN dX4_places_19 rfl rfl rfl ?_
          refine g_get fl_X4_12_X4 dX4_places_20 rfl (Or.inl (by first | assumption | exact xu_eq _ _ _ | exact (xu_ne (by first | assumption | exact Ne.symm (by assumption))).trans (by first | assumption | exact xu_eq _ _ _) | exact (xu_ne (by first | assumption | exact Ne.symm (by assumption))).trans ((xu_ne (by first | assumption | exact Ne.symm (by assumption))).trans (by first | assumption | exact xu_eq _ _ _)) | exact (xu_ne (by first | assumption | exact Ne.symm (by assumption))).trans ((xu_ne (by first | assumption | exact Ne.symm (by assumption))).trans ((xu_ne (by first | assumption | exact Ne.symm (by assumption))).trans (by first | assumption | exact xu_eq _ _ _))))) rfl ?_
          refine g_iload_n dX4_places_23 rfl rfl rfl ?_
          refine g_ifaceP iI_J26_get_J26 q1552 (c_get (d := d - 1) (by omega) hA e1) (Or.inl (by first | assumption | exact xu_eq _ _ _ | exact (xu_ne (by first | assumption | exact Ne.symm (by assumption))).trans (by first | assumption | exact xu_eq _ _ _) | exact (xu_ne (by first | assumption | exact Ne.symm (by assumption))).trans ((xu_ne (by first | assumption | exact Ne.symm (by assumption))).trans (by first | assumption | exact xu_eq _ _ _)) | exact (xu_ne (by first | assumption | exact Ne.symm (by assumption))).trans ((xu_ne (by first | assumption | exact Ne.symm (by assumption))).trans ((xu_ne (by first | assumption | exact Ne.symm (by assumption))).trans (by first | assumption | exact xu_eq _ _ _))))) rfl (by decide) dX4_places_24 rfl rfl rfl (by first | exact Nat.le_of_ble_eq_true rfl | simp [Value.category, rf_cat]) (by omega) xN_no ?_
          refine g_castI q1473 dX4_places_29 rfl (by assumption) ?_
          refine g_staticP iS_X4_placesIn q1855 (c_pinC (d := d - 1) (by omega) hx1) dX4_places_32 rfl rfl rfl (by first | exact Nat.le_of_ble_eq_true rfl | simp [Value.category, rf_cat]) (by omega) xN_no ?_
          refine g_iaddn dX4_places_35 rfl ?_
          refine g_iaddn dX4_places_36 rfl ?_
          refine g_ist1 dX4_places_37 rfl (by decide) (k := ?_)
          refine g_incn2 dX4_places_38 rfl (by decide) (k := ?_)
          refine g_goto (tgt := 4) dX4_places_41 (by decide) ?_
          have := il N3 (by omega) (N1 ++ [eS c x r]) (s + (1 + 0)) (by rw [hNe]; simp) (bd_app hN1 (bd_sym c x (bd_nil r))) hb (by omega)
          rw [drs_app, drs_sS] at this
          simp only [drs, List.length_append, List.length_cons, List.length_nil] at this
          exact this
        · obtain ⟨e1, e2, e3, eA, eB, ⟨ca, e5⟩, e6, hlen2, hht, ⟨sa, bx2, f, rs, rd, fo, fp, hx1, hsa, hfp, hfq, ho, hpp, -, -, -⟩, e7, hci⟩ := dt_S h hT hNe hN1 hbA hbB hb
          have hcA := ih A o (by omega) (by omega) eA (d - 1 - 1) (by omega)
          have hcB : k = 1 → CT w MX4_places (d - 1 - 1) 0 0 [.ref p] m (xRet (some (.int (nI (B.length + 1)))) m) xN := by
            intro hk
            rw [if_pos hk] at hlen2 hht
            exact ih B p (by omega) (by omega) (eB hk) (d - 1 - 1) (by omega)
          have hcS := l_pinS (d := d - 1) (a := A.length + 1) (b := B.length + 1) (by omega) hx1 hsa hfp hfq ho hpp hcA hcB
          have hls := sI_len k x r o p A B
          rw [List.length_append] at hs hl
          have hls2 : (sI k x r o p A B).length = 1 + (A.length + 1 + if k = 1 then B.length + 1 else 0) := by rw [hls]; omega
          rw [hls2] at hs hl
          generalize hu : A.length + 1 + (if k = 1 then B.length + 1 else 0) = u at *
          clear hht hlen2 hcA hcB ih hls hls2
          refine g_iload_n dX4_places_4 rfl rfl rfl ?_
          first | refine g_aload_n dX4_places_5 rfl rfl rfl ?_ | refine g_aload_nR dX4_places_5 rfl rfl rfl ?_ | refine g_aload_nN dX4_places_5 rfl rfl rfl ?_
          refine g_get fl_X4_12_X4 dX4_places_6 rfl (Or.inl (by first | assumption | exact xu_eq _ _ _ | exact (xu_ne (by first | assumption | exact Ne.symm (by assumption))).trans (by first | assumption | exact xu_eq _ _ _) | exact (xu_ne (by first | assumption | exact Ne.symm (by assumption))).trans ((xu_ne (by first | assumption | exact Ne.symm (by assumption))).trans (by first | assumption | exact xu_eq _ _ _)) | exact (xu_ne (by first | assumption | exact Ne.symm (by assumption))).trans ((xu_ne (by first | assumption | exact Ne.symm (by assumption))).trans ((xu_ne (by first | assumption | exact Ne.symm (by assumption))).trans (by first | assumption | exact xu_eq _ _ _))))) rfl ?_
          refine g_ifaceP iI_J26_size_J26 q1479 (c_size (d := d - 1) (by omega) hA) (Or.inl (by first | assumption | exact xu_eq _ _ _ | exact (xu_ne (by first | assumption | exact Ne.symm (by assumption))).trans (by first | assumption | exact xu_eq _ _ _) | exact (xu_ne (by first | assumption | exact Ne.symm (by assumption))).trans ((xu_ne (by first | assumption | exact Ne.symm (by assumption))).trans (by first | assumption | exact xu_eq _ _ _)) | exact (xu_ne (by first | assumption | exact Ne.symm (by assumption))).trans ((xu_ne (by first | assumption | exact Ne.symm (by assumption))).trans ((xu_ne (by first | assumption | exact Ne.symm (by assumption))).trans (by first | assumption | exact xu_eq _ _ _))))) rfl (by decide) dX4_places_9 rfl rfl rfl (by first | exact Nat.le_of_ble_eq_true rfl | simp [Value.category, rf_cat]) (by omega) xN_no ?_
          refine g_icmpn_ge (tgt := 44) dX4_places_14 (by decide) rfl (by omega) (by omega) (fun c_14 => by omega) (fun c_14 => ?_)
          refine g_iload_n dX4_places_17 rfl rfl rfl ?_
          refine g_iconst (v := (nI 1)) dX4_places_18 rfl rfl ?_
          first | refine g_aload_n dX4_places_19 rfl rfl rfl ?_ | refine g_aload_nR dX4_places_19 rfl rfl rfl ?_ | refine g_aload_nN dX4_places_19 rfl rfl rfl ?_
          refine g_get fl_X4_12_X4 dX4_places_20 rfl (Or.inl (by first | assumption | exact xu_eq _ _ _ | exact (xu_ne (by first | assumption | exact Ne.symm (by assumption))).trans (by first | assumption | exact xu_eq _ _ _) | exact (xu_ne (by first | assumption | exact Ne.symm (by assumption))).trans ((xu_ne (by first | assumption | exact Ne.symm (by assumption))).trans (by first | assumption | exact xu_eq _ _ _)) | exact (xu_ne (by first | assumption | exact Ne.symm (by assumption))).trans ((xu_ne (by first | assumption | exact Ne.symm (by assumption))).trans ((xu_ne (by first | assumption | exact Ne.symm (by assumption))).trans (by first | assumption | exact xu_eq _ _ _))))) rfl ?_
          refine g_iload_n dX4_places_23 rfl rfl rfl ?_
          refine g_ifaceP iI_J26_get_J26 q1552 (c_get (d := d - 1) (by omega) hA e1) (Or.inl (by first | assumption | exact xu_eq _ _ _ | exact (xu_ne (by first | assumption | exact Ne.symm (by assumption))).trans (by first | assumption | exact xu_eq _ _ _) | exact (xu_ne (by first | assumption | exact Ne.symm (by assumption))).trans ((xu_ne (by first | assumption | exact Ne.symm (by assumption))).trans (by first | assumption | exact xu_eq _ _ _)) | exact (xu_ne (by first | assumption | exact Ne.symm (by assumption))).trans ((xu_ne (by first | assumption | exact Ne.symm (by assumption))).trans ((xu_ne (by first | assumption | exact Ne.symm (by assumption))).trans (by first | assumption | exact xu_eq _ _ _))))) rfl (by decide) dX4_places_24 rfl rfl rfl (by first | exact Nat.le_of_ble_eq_true rfl | simp [Value.category, rf_cat]) (by omega) xN_no ?_
          refine g_castI q1473 dX4_places_29 rfl (by assumption) ?_
          refine g_staticP iS_X4_placesIn q1855 (hcS) dX4_places_32 rfl rfl rfl (by first | exact Nat.le_of_ble_eq_true rfl | simp [Value.category, rf_cat]) (by omega) xN_no ?_
          refine g_iaddn dX4_places_35 rfl ?_
          refine g_iaddn dX4_places_36 rfl ?_
          refine g_ist1 dX4_places_37 rfl (by decide) (k := ?_)
          refine g_incn2 dX4_places_38 rfl (by decide) (k := ?_)
          refine g_goto (tgt := 4) dX4_places_41 (by decide) ?_
          have := il N3 (by omega) (N1 ++ sI k x r o p A B) (s + (1 + u)) (by rw [hNe]; simp) (bd_app hN1 (bd_sI hbA hbB)) hb (by omega)
          rw [drs_app, e3] at this
          simp only [List.length_append, List.length_cons, List.length_nil] at this
          exact this
    refine g_iconst (v := (nI 1)) dX4_places_0 rfl rfl ?_
    refine g_ist1 dX4_places_1 rfl (by decide) (k := ?_)
    refine g_iconst (v := (nI 0)) dX4_places_2 rfl rfl ?_
    refine g_ist2 dX4_places_3 rfl (by decide) (k := ?_)
    exact loop M.length M (Nat.le_refl _) [] 1 rfl (bd_nil r) hT.1 (by omega)
/-- places in an item -/
theorem c_pinS {k x o p r : Nat} {A B : List XE} {M X Y : List XE} (h : SM w g m id T) (hT : DT T r M) (hM : M = X ++ (sI k x r o p A B ++ Y)) (hX : Bd r X) (hbA : Bd o A) (hbB : k = 1 → Bd p B) (hY : Bd r Y) (hl : M.length < 2 ^ 30) (hd : 3 + 2 * hts M ≤ d) : CT w MX4_placesIn d 0 0 [.ref x] m (xRet (some (.int (nI (A.length + 1 + if k = 1 then B.length + 1 else 0)))) m) xN := by
  obtain ⟨e1, e2, e3, eA, eB, ⟨ca, e5⟩, e6, hlen2, hht, ⟨sa, bx2, f, rs, rd, fo, fp, hx1, hsa, hfp, hfq, ho, hpp, -, -, -⟩, e7, hci⟩ := dt_S h hT hM hX hbA hbB hY
  refine l_pinS (by omega) hx1 hsa hfp hfq ho hpp (c_places h A.length A o (Nat.le_refl _) (by omega) eA (d - 1) (by omega)) (fun hk => ?_)
  rw [if_pos hk] at hlen2 hht
  exact c_places h B.length B p (Nat.le_refl _) (by omega) (eB hk) (d - 1) (by omega)
end PLACES
