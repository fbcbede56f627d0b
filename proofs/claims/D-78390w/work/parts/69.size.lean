/-! TREES: how many items, how deep -/
set_option maxRecDepth 100000
section SIZE
variable {w : XW} {id d : Nat} {g : XG} {m : XM} {T : XT}
theorem l_ssize {i k sa o p a b : Nat} {f : Nat → Option Nat} {ro rs rd bx : Value} {fo fp : List Value} (hd : 1 ≤ d) (hi : m i = some (.inr (7, [ro, .int (nI k), .ref sa, rs, rd, bx]))) (hsa : m sa = some (rA 6 (if k = 1 then 2 else 1) f)) (hp : f 0 = some o) (hq : k = 1 → f 1 = some p) (ho : m o = some (.inr (3, fo))) (hpp : k = 1 → m p = some (.inr (3, fp)))
    (cA : CT w MX4_size (d - 1) 0 0 [.ref o] m (xRet (some (.int (nI a))) m) xN) (cB : k = 1 → CT w MX4_size (d - 1) 0 0 [.ref p] m (xRet (some (.int (nI b))) m) xN) : CT w MX9_size d 0 0 [.ref i] m (xRet (some (.int (nI (1 + (a + if k = 1 then b else 0))))) m) xN := by
  refine ct_intro (lv := [some (.ref i), none, none]) 2 (by decide) rfl (Nat.le_of_ble_eq_true rfl) rfl ?_
  by_cases hk : k = 1
  · rw [if_pos hk] at hsa ⊢
    have cB := cB hk
    have hq := hq hk
    have hpp := hpp hk
    refine g_iconst (v := (nI 1)) dX9_size_0 rfl rfl ?_
    refine g_ist1 dX9_size_1 rfl (by decide) (k := ?_)
    refine g_iconst (v := (nI 0)) dX9_size_2 rfl rfl ?_
    refine g_ist2 dX9_size_3 rfl (by decide) (k := ?_)
    refine g_iload_n dX9_size_4 rfl rfl rfl ?_
    first | refine g_aload_n dX9_size_5 rfl rfl rfl ?_ | refine g_aload_nR dX9_size_5 rfl rfl rfl ?_ | refine g_aload_nN dX9_size_5 rfl rfl rfl ?_
    refine g_get fl_X9_15_X9 dX9_size_6 rfl (Or.inl (by first | assumption | exact xu_eq _ _ _ | exact (xu_ne (by first | assumption | exact Ne.symm (by assumption))).trans (by first | assumption | exact xu_eq _ _ _) | exact (xu_ne (by first | assumption | exact Ne.symm (by assumption))).trans ((xu_ne (by first | assumption | exact Ne.symm (by assumption))).trans (by first | assumption | exact xu_eq _ _ _)) | exact (xu_ne (by first | assumption | exact Ne.symm (by assumption))).trans ((xu_ne (by first | assumption | exact Ne.symm (by assumption))).trans ((xu_ne (by first | assumption | exact Ne.symm (by assumption))).trans (by first | assumption | exact xu_eq _ _ _))))) rfl ?_
    refine g_alenq (t := 6) rfl dX9_size_9 rfl (by first | assumption | exact Or.inl (by first | assumption | exact xu_eq _ _ _ | exact (xu_ne (by first | assumption | exact Ne.symm (by assumption))).trans (by first | assumption | exact xu_eq _ _ _) | exact (xu_ne (by first | assumption | exact Ne.symm (by assumption))).trans ((xu_ne (by first | assumption | exact Ne.symm (by assumption))).trans (by first | assumption | exact xu_eq _ _ _)) | exact (xu_ne (by first | assumption | exact Ne.symm (by assumption))).trans ((xu_ne (by first | assumption | exact Ne.symm (by assumption))).trans ((xu_ne (by first | assumption | exact Ne.symm (by assumption))).trans (by first | assumption | exact xu_eq _ _ _))))) ?_
    refine g_icmpn_ge (tgt := 31) dX9_size_10 (by decide) rfl (by omega) (by omega) (fun c_10 => by omega) (fun c_10 => ?_)
    refine g_iload_n dX9_size_13 rfl rfl rfl ?_
    first | refine g_aload_n dX9_size_14 rfl rfl rfl ?_ | refine g_aload_nR dX9_size_14 rfl rfl rfl ?_ | refine g_aload_nN dX9_size_14 rfl rfl rfl ?_
    refine g_get fl_X9_15_X9 dX9_size_15 rfl (Or.inl (by first | assumption | exact xu_eq _ _ _ | exact (xu_ne (by first | assumption | exact Ne.symm (by assumption))).trans (by first | assumption | exact xu_eq _ _ _) | exact (xu_ne (by first | assumption | exact Ne.symm (by assumption))).trans ((xu_ne (by first | assumption | exact Ne.symm (by assumption))).trans (by first | assumption | exact xu_eq _ _ _)) | exact (xu_ne (by first | assumption | exact Ne.symm (by assumption))).trans ((xu_ne (by first | assumption | exact Ne.symm (by assumption))).trans ((xu_ne (by first | assumption | exact Ne.symm (by assumption))).trans (by first | assumption | exact xu_eq _ _ _))))) rfl ?_
    refine g_iload_n dX9_size_18 rfl rfl rfl ?_
    refine g_aaldn (t := 6) rfl dX9_size_19 rfl (by first | assumption | exact Or.inl (by first | assumption | exact xu_eq _ _ _ | exact (xu_ne (by first | assumption | exact Ne.symm (by assumption))).trans (by first | assumption | exact xu_eq _ _ _) | exact (xu_ne (by first | assumption | exact Ne.symm (by assumption))).trans ((xu_ne (by first | assumption | exact Ne.symm (by assumption))).trans (by first | assumption | exact xu_eq _ _ _)) | exact (xu_ne (by first | assumption | exact Ne.symm (by assumption))).trans ((xu_ne (by first | assumption | exact Ne.symm (by assumption))).trans ((xu_ne (by first | assumption | exact Ne.symm (by assumption))).trans (by first | assumption | exact xu_eq _ _ _))))) (by omega) (by omega) ?_
    rw [hp]
    refine g_virtualP iV_X4_size q1924 (cA) (Or.inl (by first | assumption | exact xu_eq _ _ _ | exact (xu_ne (by first | assumption | exact Ne.symm (by assumption))).trans (by first | assumption | exact xu_eq _ _ _) | exact (xu_ne (by first | assumption | exact Ne.symm (by assumption))).trans ((xu_ne (by first | assumption | exact Ne.symm (by assumption))).trans (by first | assumption | exact xu_eq _ _ _)) | exact (xu_ne (by first | assumption | exact Ne.symm (by assumption))).trans ((xu_ne (by first | assumption | exact Ne.symm (by assumption))).trans ((xu_ne (by first | assumption | exact Ne.symm (by assumption))).trans (by first | assumption | exact xu_eq _ _ _))))) rfl (by decide) dX9_size_20 rfl rfl rfl (by first | exact Nat.le_of_ble_eq_true rfl | simp [Value.category, rf_cat]) (by omega) xN_no ?_
    refine g_iaddn dX9_size_23 rfl ?_
    refine g_ist1 dX9_size_24 rfl (by decide) (k := ?_)
    refine g_incn2 dX9_size_25 rfl (by decide) (k := ?_)
    refine g_goto (tgt := 4) dX9_size_28 (by decide) ?_
    refine g_iload_n dX9_size_4 rfl rfl rfl ?_
    first | refine g_aload_n dX9_size_5 rfl rfl rfl ?_ | refine g_aload_nR dX9_size_5 rfl rfl rfl ?_ | refine g_aload_nN dX9_size_5 rfl rfl rfl ?_
    refine g_get fl_X9_15_X9 dX9_size_6 rfl (Or.inl (by first | assumption | exact xu_eq _ _ _ | exact (xu_ne (by first | assumption | exact Ne.symm (by assumption))).trans (by first | assumption | exact xu_eq _ _ _) | exact (xu_ne (by first | assumption | exact Ne.symm (by assumption))).trans ((xu_ne (by first | assumption | exact Ne.symm (by assumption))).trans (by first | assumption | exact xu_eq _ _ _)) | exact (xu_ne (by first | assumption | exact Ne.symm (by assumption))).trans ((xu_ne (by first | assumption | exact Ne.symm (by assumption))).trans ((xu_ne (by first | assumption | exact Ne.symm (by assumption))).trans (by first | assumption | exact xu_eq _ _ _))))) rfl ?_
    refine g_alenq (t := 6) rfl dX9_size_9 rfl (by first | assumption | exact Or.inl (by first | assumption | exact xu_eq _ _ _ | exact (xu_ne (by first | assumption | exact Ne.symm (by assumption))).trans (by first | assumption | exact xu_eq _ _ _) | exact (xu_ne (by first | assumption | exact Ne.symm (by assumption))).trans ((xu_ne (by first | assumption | exact Ne.symm (by assumption))).trans (by first | assumption | exact xu_eq _ _ _)) | exact (xu_ne (by first | assumption | exact Ne.symm (by assumption))).trans ((xu_ne (by first | assumption | exact Ne.symm (by assumption))).trans ((xu_ne (by first | assumption | exact Ne.symm (by assumption))).trans (by first | assumption | exact xu_eq _ _ _))))) ?_
    refine g_icmpn_ge (tgt := 31) dX9_size_10 (by decide) rfl (by omega) (by omega) (fun c_10 => by omega) (fun c_10 => ?_)
    refine g_iload_n dX9_size_13 rfl rfl rfl ?_
    first | refine g_aload_n dX9_size_14 rfl rfl rfl ?_ | refine g_aload_nR dX9_size_14 rfl rfl rfl ?_ | refine g_aload_nN dX9_size_14 rfl rfl rfl ?_
    refine g_get fl_X9_15_X9 dX9_size_15 rfl (Or.inl (by first | assumption | exact xu_eq _ _ _ | exact (xu_ne (by first | assumption | exact Ne.symm (by assumption))).trans (by first | assumption | exact xu_eq _ _ _) | exact (xu_ne (by first | assumption | exact Ne.symm (by assumption))).trans ((xu_ne (by first | assumption | exact Ne.symm (by assumption))).trans (by first | assumption | exact xu_eq _ _ _)) | exact (xu_ne (by first | assumption | exact Ne.symm (by assumption))).trans ((xu_ne (by first | assumption | exact Ne.symm (by assumption))).trans ((xu_ne (by first | assumption | exact Ne.symm (by assumption))).trans (by first | assumption | exact xu_eq _ _ _))))) rfl ?_
    refine g_iload_n dX9_size_18 rfl rfl rfl ?_
    refine g_aaldn (t := 6) rfl dX9_size_19 rfl (by first | assumption | exact Or.inl (by first | assumption | exact xu_eq _ _ _ | exact (xu_ne (by first | assumption | exact Ne.symm (by assumption))).trans (by first | assumption | exact xu_eq _ _ _) | exact (xu_ne (by first | assumption | exact Ne.symm (by assumption))).trans ((xu_ne (by first | assumption | exact Ne.symm (by assumption))).trans (by first | assumption | exact xu_eq _ _ _)) | exact (xu_ne (by first | assumption | exact Ne.symm (by assumption))).trans ((xu_ne (by first | assumption | exact Ne.symm (by assumption))).trans ((xu_ne (by first | assumption | exact Ne.symm (by assumption))).trans (by first | assumption | exact xu_eq _ _ _))))) (by omega) (by omega) ?_
    rw [hq]
    refine g_virtualP iV_X4_size q1924 (cB) (Or.inl (by first | assumption | exact xu_eq _ _ _ | exact (xu_ne (by first | assumption | exact Ne.symm (by assumption))).trans (by first | assumption | exact xu_eq _ _ _) | exact (xu_ne (by first | assumption | exact Ne.symm (by assumption))).trans ((xu_ne (by first | assumption | exact Ne.symm (by assumption))).trans (by first | assumption | exact xu_eq _ _ _)) | exact (xu_ne (by first | assumption | exact Ne.symm (by assumption))).trans ((xu_ne (by first | assumption | exact Ne.symm (by assumption))).trans ((xu_ne (by first | assumption | exact Ne.symm (by assumption))).trans (by first | assumption | exact xu_eq _ _ _))))) rfl (by decide) dX9_size_20 rfl rfl rfl (by first | exact Nat.le_of_ble_eq_true rfl | simp [Value.category, rf_cat]) (by omega) xN_no ?_
    refine g_iaddn dX9_size_23 rfl ?_
    refine g_ist1 dX9_size_24 rfl (by decide) (k := ?_)
    refine g_incn2 dX9_size_25 rfl (by decide) (k := ?_)
    refine g_goto (tgt := 4) dX9_size_28 (by decide) ?_
    refine g_iload_n dX9_size_4 rfl rfl rfl ?_
    first | refine g_aload_n dX9_size_5 rfl rfl rfl ?_ | refine g_aload_nR dX9_size_5 rfl rfl rfl ?_ | refine g_aload_nN dX9_size_5 rfl rfl rfl ?_
    refine g_get fl_X9_15_X9 dX9_size_6 rfl (Or.inl (by first | assumption | exact xu_eq _ _ _ | exact (xu_ne (by first | assumption | exact Ne.symm (by assumption))).trans (by first | assumption | exact xu_eq _ _ _) | exact (xu_ne (by first | assumption | exact Ne.symm (by assumption))).trans ((xu_ne (by first | assumption | exact Ne.symm (by assumption))).trans (by first | assumption | exact xu_eq _ _ _)) | exact (xu_ne (by first | assumption | exact Ne.symm (by assumption))).trans ((xu_ne (by first | assumption | exact Ne.symm (by assumption))).trans ((xu_ne (by first | assumption | exact Ne.symm (by assumption))).trans (by first | assumption | exact xu_eq _ _ _))))) rfl ?_
    refine g_alenq (t := 6) rfl dX9_size_9 rfl (by first | assumption | exact Or.inl (by first | assumption | exact xu_eq _ _ _ | exact (xu_ne (by first | assumption | exact Ne.symm (by assumption))).trans (by first | assumption | exact xu_eq _ _ _) | exact (xu_ne (by first | assumption | exact Ne.symm (by assumption))).trans ((xu_ne (by first | assumption | exact Ne.symm (by assumption))).trans (by first | assumption | exact xu_eq _ _ _)) | exact (xu_ne (by first | assumption | exact Ne.symm (by assumption))).trans ((xu_ne (by first | assumption | exact Ne.symm (by assumption))).trans ((xu_ne (by first | assumption | exact Ne.symm (by assumption))).trans (by first | assumption | exact xu_eq _ _ _))))) ?_
    refine g_icmpn_ge (tgt := 31) dX9_size_10 (by decide) rfl (by omega) (by omega) (fun c_10 => ?_) (fun c_10 => by omega)
    refine g_iload_n dX9_size_31 rfl rfl rfl ?_
    exact g_ireturn dX9_size_32 rfl ⟨by congr 3; omega, rfl⟩
  · rw [if_neg hk] at hsa ⊢
    refine g_iconst (v := (nI 1)) dX9_size_0 rfl rfl ?_
    refine g_ist1 dX9_size_1 rfl (by decide) (k := ?_)
    refine g_iconst (v := (nI 0)) dX9_size_2 rfl rfl ?_
    refine g_ist2 dX9_size_3 rfl (by decide) (k := ?_)
    refine g_iload_n dX9_size_4 rfl rfl rfl ?_
    first | refine g_aload_n dX9_size_5 rfl rfl rfl ?_ | refine g_aload_nR dX9_size_5 rfl rfl rfl ?_ | refine g_aload_nN dX9_size_5 rfl rfl rfl ?_
    refine g_get fl_X9_15_X9 dX9_size_6 rfl (Or.inl (by first | assumption | exact xu_eq _ _ _ | exact (xu_ne (by first | assumption | exact Ne.symm (by assumption))).trans (by first | assumption | exact xu_eq _ _ _) | exact (xu_ne (by first | assumption | exact Ne.symm (by assumption))).trans ((xu_ne (by first | assumption | exact Ne.symm (by assumption))).trans (by first | assumption | exact xu_eq _ _ _)) | exact (xu_ne (by first | assumption | exact Ne.symm (by assumption))).trans ((xu_ne (by first | assumption | exact Ne.symm (by assumption))).trans ((xu_ne (by first | assumption | exact Ne.symm (by assumption))).trans (by first | assumption | exact xu_eq _ _ _))))) rfl ?_
    refine g_alenq (t := 6) rfl dX9_size_9 rfl (by first | assumption | exact Or.inl (by first | assumption | exact xu_eq _ _ _ | exact (xu_ne (by first | assumption | exact Ne.symm (by assumption))).trans (by first | assumption | exact xu_eq _ _ _) | exact (xu_ne (by first | assumption | exact Ne.symm (by assumption))).trans ((xu_ne (by first | assumption | exact Ne.symm (by assumption))).trans (by first | assumption | exact xu_eq _ _ _)) | exact (xu_ne (by first | assumption | exact Ne.symm (by assumption))).trans ((xu_ne (by first | assumption | exact Ne.symm (by assumption))).trans ((xu_ne (by first | assumption | exact Ne.symm (by assumption))).trans (by first | assumption | exact xu_eq _ _ _))))) ?_
    refine g_icmpn_ge (tgt := 31) dX9_size_10 (by decide) rfl (by omega) (by omega) (fun c_10 => by omega) (fun c_10 => ?_)
    refine g_iload_n dX9_size_13 rfl rfl rfl ?_
    first | refine g_aload_n dX9_size_14 rfl rfl rfl ?_ | refine g_aload_nR dX9_size_14 rfl rfl rfl ?_ | refine g_aload_nN dX9_size_14 rfl rfl rfl ?_
    refine g_get fl_X9_15_X9 dX9_size_15 rfl (Or.inl (by first | assumption | exact xu_eq _ _ _ | exact (xu_ne (by first | assumption | exact Ne.symm (by assumption))).trans (by first | assumption | exact xu_eq _ _ _) | exact (xu_ne (by first | assumption | exact Ne.symm (by assumption))).trans ((xu_ne (by first | assumption | exact Ne.symm (by assumption))).trans (by first | assumption | exact xu_eq _ _ _)) | exact (xu_ne (by first | assumption | exact Ne.symm (by assumption))).trans ((xu_ne (by first | assumption | exact Ne.symm (by assumption))).trans ((xu_ne (by first | assumption | exact Ne.symm (by assumption))).trans (by first | assumption | exact xu_eq _ _ _))))) rfl ?_
    refine g_iload_n dX9_size_18 rfl rfl rfl ?_
    refine g_aaldn (t := 6) rfl dX9_size_19 rfl (by first | assumption | exact Or.inl (by first | assumption | exact xu_eq _ _ _ | exact (xu_ne (by first | assumption | exact Ne.symm (by assumption))).trans (by first | assumption | exact xu_eq _ _ _) | exact (xu_ne (by first | assumption | exact Ne.symm (by assumption))).trans ((xu_ne (by first | assumption | exact Ne.symm (by assumption))).trans (by first | assumption | exact xu_eq _ _ _)) | exact (xu_ne (by first | assumption | exact Ne.symm (by assumption))).trans ((xu_ne (by first | assumption | exact Ne.symm (by assumption))).trans ((xu_ne (by first | assumption | exact Ne.symm (by assumption))).trans (by first | assumption | exact xu_eq _ _ _))))) (by omega) (by omega) ?_
    rw [hp]
    refine g_virtualP iV_X4_size q1924 (cA) (Or.inl (by first | assumption | exact xu_eq _ _ _ | exact (xu_ne (by first | assumption | exact Ne.symm (by assumption))).trans (by first | assumption | exact xu_eq _ _ _) | exact (xu_ne (by first | assumption | exact Ne.symm (by assumption))).trans ((xu_ne (by first | assumption | exact Ne.symm (by assumption))).trans (by first | assumption | exact xu_eq _ _ _)) | exact (xu_ne (by first | assumption | exact Ne.symm (by assumption))).trans ((xu_ne (by first | assumption | exact Ne.symm (by assumption))).trans ((xu_ne (by first | assumption | exact Ne.symm (by assumption))).trans (by first | assumption | exact xu_eq _ _ _))))) rfl (by decide) dX9_size_20 rfl rfl rfl (by first | exact Nat.le_of_ble_eq_true rfl | simp [Value.category, rf_cat]) (by omega) xN_no ?_
    refine g_iaddn dX9_size_23 rfl ?_
    refine g_ist1 dX9_size_24 rfl (by decide) (k := ?_)
    refine g_incn2 dX9_size_25 rfl (by decide) (k := ?_)
    refine g_goto (tgt := 4) dX9_size_28 (by decide) ?_
    refine g_iload_n dX9_size_4 rfl rfl rfl ?_
    first | refine g_aload_n dX9_size_5 rfl rfl rfl ?_ | refine g_aload_nR dX9_size_5 rfl rfl rfl ?_ | refine g_aload_nN dX9_size_5 rfl rfl rfl ?_
    refine g_get fl_X9_15_X9 dX9_size_6 rfl (Or.inl (by first | assumption | exact xu_eq _ _ _ | exact (xu_ne (by first | assumption | exact Ne.symm (by assumption))).trans (by first | assumption | exact xu_eq _ _ _) | exact (xu_ne (by first | assumption | exact Ne.symm (by assumption))).trans ((xu_ne (by first | assumption | exact Ne.symm (by assumption))).trans (by first | assumption | exact xu_eq _ _ _)) | exact (xu_ne (by first | assumption | exact Ne.symm (by assumption))).trans ((xu_ne (by first | assumption | exact Ne.symm (by assumption))).trans ((xu_ne (by first | assumption | exact Ne.symm (by assumption))).trans (by first | assumption | exact xu_eq _ _ _))))) rfl ?_
    refine g_alenq (t := 6) rfl dX9_size_9 rfl (by first | assumption | exact Or.inl (by first | assumption | exact xu_eq _ _ _ | exact (xu_ne (by first | assumption | exact Ne.symm (by assumption))).trans (by first | assumption | exact xu_eq _ _ _) | exact (xu_ne (by first | assumption | exact Ne.symm (by assumption))).trans ((xu_ne (by first | assumption | exact Ne.symm (by assumption))).trans (by first | assumption | exact xu_eq _ _ _)) | exact (xu_ne (by first | assumption | exact Ne.symm (by assumption))).trans ((xu_ne (by first | assumption | exact Ne.symm (by assumption))).trans ((xu_ne (by first | assumption | exact Ne.symm (by assumption))).trans (by first | assumption | exact xu_eq _ _ _))))) ?_
    refine g_icmpn_ge (tgt := 31) dX9_size_10 (by decide) rfl (by omega) (by omega) (fun c_10 => ?_) (fun c_10 => by omega)
    refine g_iload_n dX9_size_31 rfl rfl rfl ?_
    exact g_ireturn dX9_size_32 rfl ⟨by congr 3, rfl⟩
theorem c_size_of {r sl cap n : Nat} {own : Option Nat} {is : List Nat} (hd : 2 ≤ d) (h : SM w g m id T) (hR : T.1 r = some (own, sl, cap, is)) (hc : CT w MX4_sizeOf (d - 1) 0 0 [.ref r, .int (nI 0), .int (nI is.length)] m (xRet (some (.int (nI n))) m) xN) : CT w MX4_size d 0 0 [.ref r] m (xRet (some (.int (nI n))) m) xN := by
  obtain ⟨la, ar, bx, mc, h1, k1, hA, h3, h4, h5, hz⟩ := sm_row h hR
  refine ct_intro (lv := [some (.ref r)]) 0 (by decide) rfl (Nat.le_of_ble_eq_true rfl) rfl ?_
  first | refine g_aload_n dX4_size_0 rfl rfl rfl ?_ | refine g_aload_nR dX4_size_0 rfl rfl rfl ?_ | refine g_aload_nN dX4_size_0 rfl rfl rfl ?_
  refine g_iconst (v := (nI 0)) dX4_size_1 rfl rfl ?_
  first | refine g_aload_n dX4_size_2 rfl rfl rfl ?_ | refine g_aload_nR dX4_size_2 rfl rfl rfl ?_ | refine g_aload_nN dX4_size_2 rfl rfl rfl ?_
  refine g_get fl_X4_12_X4 dX4_size_3 rfl (Or.inl (by first | assumption | exact xu_eq _ _ _ | exact (xu_ne (by first | assumption | exact Ne.symm (by assumption))).trans (by first | assumption | exact xu_eq _ _ _) | exact (xu_ne (by first | assumption | exact Ne.symm (by assumption))).trans ((xu_ne (by first | assumption | exact Ne.symm (by assumption))).trans (by first | assumption | exact xu_eq _ _ _)) | exact (xu_ne (by first | assumption | exact Ne.symm (by assumption))).trans ((xu_ne (by first | assumption | exact Ne.symm (by assumption))).trans ((xu_ne (by first | assumption | exact Ne.symm (by assumption))).trans (by first | assumption | exact xu_eq _ _ _))))) rfl ?_
  refine g_ifaceP iI_J26_size_J26 q1479 (c_size (d := d - 1) (by omega) hA) (Or.inl (by first | assumption | exact xu_eq _ _ _ | exact (xu_ne (by first | assumption | exact Ne.symm (by assumption))).trans (by first | assumption | exact xu_eq _ _ _) | exact (xu_ne (by first | assumption | exact Ne.symm (by assumption))).trans ((xu_ne (by first | assumption | exact Ne.symm (by assumption))).trans (by first | assumption | exact xu_eq _ _ _)) | exact (xu_ne (by first | assumption | exact Ne.symm (by assumption))).trans ((xu_ne (by first | assumption | exact Ne.symm (by assumption))).trans ((xu_ne (by first | assumption | exact Ne.symm (by assumption))).trans (by first | assumption | exact xu_eq _ _ _))))) rfl (by decide) dX4_size_6 rfl rfl rfl (by first | exact Nat.le_of_ble_eq_true rfl | simp [Value.category, rf_cat]) (by omega) xN_no ?_
  refine g_virtualP iV_X4_sizeOf q1914 (hc) (Or.inl (by first | assumption | exact xu_eq _ _ _ | exact (xu_ne (by first | assumption | exact Ne.symm (by assumption))).trans (by first | assumption | exact xu_eq _ _ _) | exact (xu_ne (by first | assumption | exact Ne.symm (by assumption))).trans ((xu_ne (by first | assumption | exact Ne.symm (by assumption))).trans (by first | assumption | exact xu_eq _ _ _)) | exact (xu_ne (by first | assumption | exact Ne.symm (by assumption))).trans ((xu_ne (by first | assumption | exact Ne.symm (by assumption))).trans ((xu_ne (by first | assumption | exact Ne.symm (by assumption))).trans (by first | assumption | exact xu_eq _ _ _))))) rfl (by decide) dX4_size_11 rfl rfl rfl (by first | exact Nat.le_of_ble_eq_true rfl | simp [Value.category, rf_cat]) (by omega) xN_no ?_
  refine g_ireturn dX4_size_14 rfl ?_
  exact ⟨by first | rfl | simp [*], rfl⟩
theorem c_sizeOf (h : SM w g m id T) : ∀ (n : Nat) (M : List XE) (r : Nat), M.length ≤ n → DT T r M → ∀ (X N Y : List XE) (i j d : Nat), M = X ++ (N ++ Y) → Bd r X → Bd r N → Bd r Y → i = (drs r X).length → j = (drs r X).length + (drs r N).length → 4 + 3 * hts M ≤ d → CT w MX4_sizeOf d 0 0 [.ref r, .int (nI i), .int (nI j)] m (xRet (some (.int (nI (cnt N)))) m) xN := by
  intro n
  induction n with
  | zero =>
    intro M r hM hT X N Y i j d hMe hX hN hY hi hj hd
    obtain rfl : M = [] := List.eq_nil_of_length_eq_zero (by omega)
    have hN0 : N = [] := by
      have := congrArg List.length hMe
      simp at this; exact List.eq_nil_of_length_eq_zero (by omega)
    subst hN0; subst hi
    rw [show j = (drs r X).length from by rw [hj]; rfl]
    obtain ⟨own, sl, cap, hR⟩ := dt_row hT
    refine ct_intro (lv := [some (.ref r), some (.int (nI (drs r X).length)), some (.int (nI (drs r X).length)), none, none]) 2 (by decide) rfl (Nat.le_of_ble_eq_true rfl) rfl ?_
    have hl : (drs r X).length ≤ 400 := by
      have hX0 : X = [] := by
        have := congrArg List.length hMe
        simp at this; exact List.eq_nil_of_length_eq_zero (by omega)
      rw [hX0]; simp [drs]
    refine g_iconst (v := (nI 0)) dX4_sizeOf_0 rfl rfl ?_
    refine g_ist3 dX4_sizeOf_1 rfl (by decide) (k := ?_)
    refine g_iload_n dX4_sizeOf_2 rfl rfl rfl ?_
    refine g_ist4 dX4_sizeOf_3 rfl (by decide) (k := ?_)
    refine g_iload dX4_sizeOf_5 rfl rfl ?_
    refine g_iload_n dX4_sizeOf_7 rfl rfl rfl ?_
    refine g_icmpn_ge (tgt := 37) dX4_sizeOf_8 (by decide) rfl (by omega) (by omega) (fun c_8 => ?_) (fun c_8 => by omega)
    refine g_iload_n dX4_sizeOf_37 rfl rfl rfl ?_
    exact g_ireturn dX4_sizeOf_38 rfl ⟨rfl, rfl⟩
  | succ n ih =>
    intro M r hM hT X N Y i j d hMe hX hN hY hi hj hd
    subst hi; subst hj
    obtain ⟨own, sl, cap, hR⟩ := dt_row hT
    obtain ⟨la, ar, bx, mc, h1, k1, hA, h3, h4, h5, hz⟩ := sm_row h hR
    have hlen := al_len hA
    have hdl : drs r M = drs r X ++ (drs r N ++ drs r Y) := by rw [hMe, drs_app, drs_app]
    have hll : (drs r X).length + ((drs r N).length + (drs r Y).length) ≤ 400 := by
      rw [hdl] at hlen; simp at hlen; omega
    refine ct_intro (lv := [some (.ref r), some (.int (nI (drs r X).length)), some (.int (nI ((drs r X).length + (drs r N).length))), none, none]) 2 (by decide) rfl (Nat.le_of_ble_eq_true rfl) rfl ?_
    have loop : ∀ (l : Nat) (N2 : List XE), N2.length ≤ l → ∀ (N1 : List XE) (s : Nat), N = N1 ++ N2 → Bd r N1 → Bd r N2 → s + cnt N2 = cnt N → G w MX4_sizeOf (xZ w (xRet (some (.int (nI (cnt N)))) m) xN) d 0 0 5 [some (.ref r), some (.int (nI (drs r X).length)), some (.int (nI ((drs r X).length + (drs r N).length))), some (.int (nI s)), some (.int (nI ((drs r X).length + (drs r N1).length)))] [] m := by
      intro l
      induction l with
      | zero =>
        intro N2 hl N1 s hNe hN1 hN2 hs
        obtain rfl : N2 = [] := List.eq_nil_of_length_eq_zero (by omega)
        rw [List.append_nil] at hNe; subst hNe
        refine g_iload dX4_sizeOf_5 rfl rfl ?_
        refine g_iload_n dX4_sizeOf_7 rfl rfl rfl ?_
        refine g_icmpn_ge (tgt := 37) dX4_sizeOf_8 (by decide) rfl (by omega) (by omega) (fun c_8 => ?_) (fun c_8 => by omega)
        refine g_iload_n dX4_sizeOf_37 rfl rfl rfl ?_
        exact g_ireturn dX4_sizeOf_38 rfl ⟨by rw [← hs]; rfl, rfl⟩
      | succ l il =>
        intro N2 hl N1 s hNe hN1 hN2 hs
        rcases bd_cases hN2 with rfl | ⟨c, x, N3, rfl, hb⟩ | ⟨k, x, o, p, A, B, N3, rfl, hbA, hbB, hb⟩
        · rw [List.append_nil] at hNe; subst hNe
          refine g_iload dX4_sizeOf_5 rfl rfl ?_
          refine g_iload_n dX4_sizeOf_7 rfl rfl rfl ?_
          refine g_icmpn_ge (tgt := 37) dX4_sizeOf_8 (by decide) rfl (by omega) (by omega) (fun c_8 => ?_) (fun c_8 => by omega)
          refine g_iload_n dX4_sizeOf_37 rfl rfl rfl ?_
          exact g_ireturn dX4_sizeOf_38 rfl ⟨by rw [← hs]; rfl, rfl⟩
        · have hMe2 : M = (X ++ N1) ++ eS c x r :: (N3 ++ Y) := by rw [hMe, hNe]; simp
          have hT2 := hT; rw [hMe2] at hT2
          obtain ⟨e1, e2, e3⟩ := dt_sym hT2
          rw [← hMe2, drs_app] at e1
          have hxl : (drs r X ++ drs r N1).length = (drs r X).length + (drs r N1).length := by simp
          have hln : (drs r N).length = (drs r N1).length + ((drs r N3).length + 1) := by rw [hNe, drs_app, drs_sS]; simp
          obtain ⟨hx1, -⟩ := sm_sym h e2
          refine g_iload dX4_sizeOf_5 rfl rfl ?_
          refine g_iload_n dX4_sizeOf_7 rfl rfl rfl ?_
          refine g_icmpn_ge (tgt := 37) dX4_sizeOf_8 (by decide) rfl (by omega) (by omega) (fun c_8 => by omega) (fun c_8 => ?_)
          refine g_iload_n dX4_sizeOf_11 rfl rfl rfl ?_
          first | refine g_aload_n dX4_sizeOf_12 rfl rfl rfl ?_ | refine g_aload_nR dX4_sizeOf_12 rfl rfl rfl ?_ | refine g_aload_nN dX4_sizeOf_12 rfl rfl rfl ?_
          refine g_get fl_X4_12_X4 dX4_sizeOf_13 rfl (Or.inl (by first | assumption | exact xu_eq _ _ _ | exact (xu_ne (by first | assumption | exact Ne.symm (by assumption))).trans (by first | assumption | exact xu_eq _ _ _) | exact (xu_ne (by first | assumption | exact Ne.symm (by assumption))).trans ((xu_ne (by first | assumption | exact Ne.symm (by assumption))).trans (by first | assumption | exact xu_eq _ _ _)) | exact (xu_ne (by first | assumption | exact Ne.symm (by assumption))).trans ((xu_ne (by first | assumption | exact Ne.symm (by assumption))).trans ((xu_ne (by first | assumption | exact Ne.symm (by assumption))).trans (by first | assumption | exact xu_eq _ _ _))))) rfl ?_
          refine g_iload dX4_sizeOf_16 rfl rfl ?_
          refine g_ifaceP iI_J26_get_J26 q1552 (c_get (d := d - 1) (by omega) hA (by rw [e1, ← hxl]; exact at_mid _ _ _)) (Or.inl (by first | assumption | exact xu_eq _ _ _ | exact (xu_ne (by first | assumption | exact Ne.symm (by assumption))).trans (by first | assumption | exact xu_eq _ _ _) | exact (xu_ne (by first | assumption | exact Ne.symm (by assumption))).trans ((xu_ne (by first | assumption | exact Ne.symm (by assumption))).trans (by first | assumption | exact xu_eq _ _ _)) | exact (xu_ne (by first | assumption | exact Ne.symm (by assumption))).trans ((xu_ne (by first | assumption | exact Ne.symm (by assumption))).trans ((xu_ne (by first | assumption | exact Ne.symm (by assumption))).trans (by first | assumption | exact xu_eq _ _ _))))) rfl (by decide) dX4_sizeOf_18 rfl rfl rfl (by first | exact Nat.le_of_ble_eq_true rfl | simp [Value.category, rf_cat]) (by omega) xN_no ?_
          refine g_castI q1473 dX4_sizeOf_23 rfl (sm_castI h (by rw [e2]; exact fun h => by cases h)) ?_
          refine g_virtualAP iU_X11_size_X11 q1918 (c_Xsize (c := 0) (d := d - 1) (by omega)) (Or.inl (by first | assumption | exact xu_eq _ _ _ | exact (xu_ne (by first | assumption | exact Ne.symm (by assumption))).trans (by first | assumption | exact xu_eq _ _ _) | exact (xu_ne (by first | assumption | exact Ne.symm (by assumption))).trans ((xu_ne (by first | assumption | exact Ne.symm (by assumption))).trans (by first | assumption | exact xu_eq _ _ _)) | exact (xu_ne (by first | assumption | exact Ne.symm (by assumption))).trans ((xu_ne (by first | assumption | exact Ne.symm (by assumption))).trans ((xu_ne (by first | assumption | exact Ne.symm (by assumption))).trans (by first | assumption | exact xu_eq _ _ _))))) rfl (by decide) dX4_sizeOf_26 rfl rfl rfl (by first | exact Nat.le_of_ble_eq_true rfl | simp [Value.category, rf_cat]) (by omega) xN_no ?_
          refine g_iaddn dX4_sizeOf_29 rfl ?_
          refine g_ist3 dX4_sizeOf_30 rfl (by decide) (k := ?_)
          refine g_incn4 dX4_sizeOf_31 rfl (by decide) (k := ?_)
          refine g_goto (tgt := 5) dX4_sizeOf_34 (by decide) ?_
          have := il N3 (by simp at hl; omega) (N1 ++ [eS c x r]) (s + 1) (by rw [hNe]; simp) (bd_app hN1 (bd_sym c x (bd_nil r))) hb (by rw [← hs]; show _ = s + (cnt N3 + 1); omega)
          rw [drs_app, drs_sS] at this
          simp only [drs, List.length_append, List.length_cons, List.length_nil] at this
          exact this
        · have hMe2 : M = (X ++ N1) ++ (sI k x r o p A B ++ (N3 ++ Y)) := by rw [hMe, hNe]; simp
          have hT2 := hT; rw [hMe2] at hT2
          obtain ⟨e1, e2, eA, eB, ⟨rs, rd, e3⟩, e4, ⟨ca, e5⟩, e6⟩ := dt_str hT2 (bd_app hX hN1) hbA hbB (bd_app hb hY)
          rw [← hMe2, drs_app] at e1
          have hxl : (drs r X ++ drs r N1).length = (drs r X).length + (drs r N1).length := by simp
          have hln : (drs r N).length = (drs r N1).length + ((drs r N3).length + 1) := by rw [hNe, drs_app, drs_app, e2]; simp
          obtain ⟨sa, bx2, f, hx1, hsa, hfp, hfq, -⟩ := sm_str h e3
          have hlen2 : M.length = (X ++ N1).length + ((sI k x r o p A B).length + (N3 ++ Y).length) := by rw [hMe2]; simp; try omega
          rw [sI_len] at hlen2
          have hht : hts M = max (hts (X ++ N1)) (max (1 + max (hts A) (if k = 1 then hts B else 0)) (hts (N3 ++ Y))) := by
            rw [hMe2, hts_app (bd_app hX hN1) (bd_app (bd_sI hbA hbB) (bd_app hb hY)), hts_app (bd_sI hbA hbB) (bd_app hb hY), hts_sI hbA hbB]
          have hcA : CT w MX4_size (d - 1 - 1) 0 0 [.ref o] m (xRet (some (.int (nI (cnt A)))) m) xN :=
            c_size_of (by omega) h e5 (ih A o (by omega) eA [] A [] 0 _ _ (by simp) (bd_nil o) hbA (bd_nil o) rfl (by simp [drs]) (by omega))
          have hcB : k = 1 → CT w MX4_size (d - 1 - 1) 0 0 [.ref p] m (xRet (some (.int (nI (cnt B)))) m) xN := by
            intro hk
            rw [if_pos hk] at hlen2 hht
            obtain ⟨-, cb, e7⟩ := e6 hk
            exact c_size_of (by omega) h e7 (ih B p (by omega) (eB hk) [] B [] 0 _ _ (by simp) (bd_nil p) (hbB hk) (bd_nil p) rfl (by simp [drs]) (by omega))
          obtain ⟨lo, ao, bo, mo, ho, -⟩ := sm_row h e5
          have hpp : ∃ fp, k = 1 → m p = some (.inr (3, fp)) := by
            by_cases hk : k = 1
            · obtain ⟨-, cb, e7⟩ := e6 hk
              obtain ⟨lo, ao, bo, mo, ho, -⟩ := sm_row h e7
              exact ⟨_, fun _ => ho⟩
            · exact ⟨[], fun h => absurd h hk⟩
          obtain ⟨fp, hpp⟩ := hpp
          refine g_iload dX4_sizeOf_5 rfl rfl ?_
          refine g_iload_n dX4_sizeOf_7 rfl rfl rfl ?_
          refine g_icmpn_ge (tgt := 37) dX4_sizeOf_8 (by decide) rfl (by omega) (by omega) (fun c_8 => by omega) (fun c_8 => ?_)
          refine g_iload_n dX4_sizeOf_11 rfl rfl rfl ?_
          first | refine g_aload_n dX4_sizeOf_12 rfl rfl rfl ?_ | refine g_aload_nR dX4_sizeOf_12 rfl rfl rfl ?_ | refine g_aload_nN dX4_sizeOf_12 rfl rfl rfl ?_
          refine g_get fl_X4_12_X4 dX4_sizeOf_13 rfl (Or.inl (by first | assumption | exact xu_eq _ _ _ | exact (xu_ne (by first | assumption | exact Ne.symm (by assumption))).trans (by first | assumption | exact xu_eq _ _ _) | exact (xu_ne (by first | assumption | exact Ne.symm (by assumption))).trans ((xu_ne (by first | assumption | exact Ne.symm (by assumption))).trans (by first | assumption | exact xu_eq _ _ _)) | exact (xu_ne (by first | assumption | exact Ne.symm (by assumption))).trans ((xu_ne (by first | assumption | exact Ne.symm (by assumption))).trans ((xu_ne (by first | assumption | exact Ne.symm (by assumption))).trans (by first | assumption | exact xu_eq _ _ _))))) rfl ?_
          refine g_iload dX4_sizeOf_16 rfl rfl ?_
          refine g_ifaceP iI_J26_get_J26 q1552 (c_get (d := d - 1) (by omega) hA (by rw [e1, ← hxl]; exact at_mid _ _ _)) (Or.inl (by first | assumption | exact xu_eq _ _ _ | exact (xu_ne (by first | assumption | exact Ne.symm (by assumption))).trans (by first | assumption | exact xu_eq _ _ _) | exact (xu_ne (by first | assumption | exact Ne.symm (by assumption))).trans ((xu_ne (by first | assumption | exact Ne.symm (by assumption))).trans (by first | assumption | exact xu_eq _ _ _)) | exact (xu_ne (by first | assumption | exact Ne.symm (by assumption))).trans ((xu_ne (by first | assumption | exact Ne.symm (by assumption))).trans ((xu_ne (by first | assumption | exact Ne.symm (by assumption))).trans (by first | assumption | exact xu_eq _ _ _))))) rfl (by decide) dX4_sizeOf_18 rfl rfl rfl (by first | exact Nat.le_of_ble_eq_true rfl | simp [Value.category, rf_cat]) (by omega) xN_no ?_
          refine g_castI q1473 dX4_sizeOf_23 rfl (sm_castI h (by rw [e3]; exact fun h => by cases h)) ?_
          refine g_virtualAP iU_X9_size_X9 q1918 (l_ssize (d := d - 1) (by omega) hx1 hsa hfp hfq ho hpp hcA hcB) (Or.inl (by first | assumption | exact xu_eq _ _ _ | exact (xu_ne (by first | assumption | exact Ne.symm (by assumption))).trans (by first | assumption | exact xu_eq _ _ _) | exact (xu_ne (by first | assumption | exact Ne.symm (by assumption))).trans ((xu_ne (by first | assumption | exact Ne.symm (by assumption))).trans (by first | assumption | exact xu_eq _ _ _)) | exact (xu_ne (by first | assumption | exact Ne.symm (by assumption))).trans ((xu_ne (by first | assumption | exact Ne.symm (by assumption))).trans ((xu_ne (by first | assumption | exact Ne.symm (by assumption))).trans (by first | assumption | exact xu_eq _ _ _))))) rfl (by decide) dX4_sizeOf_26 rfl rfl rfl (by first | exact Nat.le_of_ble_eq_true rfl | simp [Value.category, rf_cat]) (by omega) xN_no ?_
          refine g_iaddn dX4_sizeOf_29 rfl ?_
          refine g_ist3 dX4_sizeOf_30 rfl (by decide) (k := ?_)
          refine g_incn4 dX4_sizeOf_31 rfl (by decide) (k := ?_)
          refine g_goto (tgt := 5) dX4_sizeOf_34 (by decide) ?_
          have hcs := cnt_sI k x r o p A B
          have := il N3 (by rw [List.length_append, sI_len] at hl; omega) (N1 ++ sI k x r o p A B) (s + (1 + (cnt A + if k = 1 then cnt B else 0))) (by rw [hNe]; simp) (bd_app hN1 (bd_sI hbA hbB)) hb (by rw [cnt_app, hcs] at hs; omega)
          rw [drs_app, e2] at this
          simp only [List.length_append, List.length_cons, List.length_nil] at this
          exact this
    refine g_iconst (v := (nI 0)) dX4_sizeOf_0 rfl rfl ?_
    refine g_ist3 dX4_sizeOf_1 rfl (by decide) (k := ?_)
    refine g_iload_n dX4_sizeOf_2 rfl rfl rfl ?_
    refine g_ist4 dX4_sizeOf_3 rfl (by decide) (k := ?_)
    exact loop N.length N (Nat.le_refl _) [] 0 rfl (bd_nil r) hN (by omega)
/-- size() of a row -/
theorem c_rsize {M : List XE} {r : Nat} (h : SM w g m id T) (hT : DT T r M) (hd : 5 + 3 * hts M ≤ d) : CT w MX4_size d 0 0 [.ref r] m (xRet (some (.int (nI (cnt M)))) m) xN := by
  obtain ⟨own, sl, cap, hR⟩ := dt_row hT
  exact c_size_of (by omega) h hR (c_sizeOf h M.length M r (Nat.le_refl _) hT [] M [] 0 _ _ (by simp) (bd_nil r) hT.1 (bd_nil r) rfl (by simp [drs]) (by omega))
end SIZE
