/-! TREES: an item and its place; depth -/
set_option maxRecDepth 100000
section DEPTH
variable {w : XW} {id d : Nat} {g : XG} {m : XM} {T : XT}
theorem dt_C (h : SM w g m id T) {r c x : Nat} {M X Y : List XE} (hT : DT T r M) (hM : M = X ++ eS c x r :: Y) : (drs r M)[(drs r X).length]? = some x ∧ (drs r M).length = (drs r X).length + ((drs r Y).length + 1) ∧ T.2.1 x = some (.inl c) ∧ T.2.2 x = some r ∧ m x = some (.inr (9, [va_rf (some r), .int (nI c)])) ∧ c < 65536 ∧ (∃ ci fs, m x = some (.inr (ci, fs)) ∧ (ci = 7 ∨ ci = 9)) := by
  subst hM
  obtain ⟨e1, e2, e3⟩ := dt_sym hT
  obtain ⟨h1, h2⟩ := sm_sym h e2
  rw [e3] at h1
  exact ⟨by rw [e1]; exact at_mid _ _ _, by rw [e1]; simp, e2, e3, h1, h2, sm_castI h (by rw [e2]; exact fun h => by cases h)⟩
theorem dt_S (h : SM w g m id T) {r k x o p : Nat} {M A B X Y : List XE} (hT : DT T r M) (hM : M = X ++ (sI k x r o p A B ++ Y)) (hX : Bd r X) (hA : Bd o A) (hB : k = 1 → Bd p B) (hY : Bd r Y) :
    (drs r M)[(drs r X).length]? = some x ∧ (drs r M).length = (drs r X).length + ((drs r Y).length + 1) ∧ drs r (sI k x r o p A B) = [x] ∧ DT T o A ∧ (k = 1 → DT T p B) ∧ (∃ ca, T.1 o = some (some x, 0, ca, drs o A)) ∧ (k = 1 → p ≠ o ∧ ∃ cb, T.1 p = some (some x, 1, cb, drs p B)) ∧
    M.length = X.length + (A.length + 2 + (if k = 1 then B.length + 1 else 0)) + Y.length ∧ hts M = max (hts X) (max (1 + max (hts A) (if k = 1 then hts B else 0)) (hts Y)) ∧
    (∃ sa bx f rs rd fo fp, m x = some (.inr (7, [va_rf (some r), .int (nI k), .ref sa, .int (nI rs), .int (nI rd), va_rf bx])) ∧ m sa = some (rA 6 (if k = 1 then 2 else 1) f) ∧ f 0 = some o ∧ (k = 1 → f 1 = some p) ∧ m o = some (.inr (3, fo)) ∧ (k = 1 → m p = some (.inr (3, fp))) ∧ T.2.1 x = some (.inr (k, o, p, rs, rd)) ∧ 1 ≤ k ∧ k < 6) ∧ T.2.2 x = some r ∧ (∃ ci fs, m x = some (.inr (ci, fs)) ∧ (ci = 7 ∨ ci = 9)) := by
  subst hM
  obtain ⟨e1, e2, eA, eB, ⟨rs, rd, e3⟩, e4, ⟨ca, e5⟩, e6⟩ := dt_str hT hX hA hB hY
  obtain ⟨sa, bx2, f, hx1, hsa, hfp, hfq, -, -, hk1, hk2, -⟩ := sm_str h e3
  rw [e4] at hx1
  obtain ⟨lo, ao, bo, mo, ho, -⟩ := sm_row h e5
  have hpp : ∃ fp, k = 1 → m p = some (.inr (3, fp)) := by
    by_cases hk : k = 1
    · obtain ⟨-, cb, e7⟩ := e6 hk
      obtain ⟨lo, ao, bo, mo, ho, -⟩ := sm_row h e7
      exact ⟨_, fun _ => ho⟩
    · exact ⟨[], fun h => absurd h hk⟩
  obtain ⟨fp, hpp⟩ := hpp
  refine ⟨by rw [e1]; exact at_mid _ _ _, by rw [e1]; simp, e2, eA, eB, ⟨ca, e5⟩, e6, ?_, ?_, ⟨sa, bx2, f, rs, rd, _, fp, hx1, hsa, hfp, hfq, ho, hpp, e3, hk1, hk2⟩, e4, sm_castI h (by rw [e3]; exact fun h => by cases h)⟩
  · rw [List.length_append, List.length_append, sI_len]; omega
  · rw [hts_app hX (bd_app (bd_sI hA hB) hY), hts_app (bd_sI hA hB) hY, hts_sI hA hB]
theorem l_sdepth {i k sa o p a b : Nat} {f : Nat → Option Nat} {ro rs rd bx : Value} {fo fp : List Value} (hd : 1 ≤ d) (ha : a < 10000) (hb : b < 10000) (hi : m i = some (.inr (7, [ro, .int (nI k), .ref sa, rs, rd, bx]))) (hsa : m sa = some (rA 6 (if k = 1 then 2 else 1) f)) (hp : f 0 = some o) (hq : k = 1 → f 1 = some p) (ho : m o = some (.inr (3, fo))) (hpp : k = 1 → m p = some (.inr (3, fp)))
    (cA : CT w MX4_depth (d - 1) 0 0 [.ref o] m (xRet (some (.int (nI a))) m) xN) (cB : k = 1 → CT w MX4_depth (d - 1) 0 0 [.ref p] m (xRet (some (.int (nI b))) m) xN) : CT w MX9_depth d 0 0 [.ref i] m (xRet (some (.int (nI (1 + max a (if k = 1 then b else 0))))) m) xN := by
  refine ct_intro (lv := [some (.ref i), none, none]) 2 (by decide) rfl (Nat.le_of_ble_eq_true rfl) rfl ?_
  by_cases hk : k = 1
  · rw [if_pos hk] at hsa ⊢
    have cB := cB hk
    have hq := hq hk
    have hpp := hpp hk
    refine g_iconst (v := (nI 0)) dX9_depth_0 rfl rfl ?_
    refine g_ist1 dX9_depth_1 rfl (by decide) (k := ?_)
    refine g_iconst (v := (nI 0)) dX9_depth_2 rfl rfl ?_
    refine g_ist2 dX9_depth_3 rfl (by decide) (k := ?_)
    refine g_iload_n dX9_depth_4 rfl rfl rfl ?_
    first | refine g_aload_n dX9_depth_5 rfl rfl rfl ?_ | refine g_aload_nR dX9_depth_5 rfl rfl rfl ?_ | refine g_aload_nN dX9_depth_5 rfl rfl rfl ?_
    refine g_get fl_X9_15_X9 dX9_depth_6 rfl (Or.inl (by first | assumption | exact xu_eq _ _ _ | exact (xu_ne (by first | assumption | exact Ne.symm (by assumption))).trans (by first | assumption | exact xu_eq _ _ _) | exact (xu_ne (by first | assumption | exact Ne.symm (by assumption))).trans ((xu_ne (by first | assumption | exact Ne.symm (by assumption))).trans (by first | assumption | exact xu_eq _ _ _)) | exact (xu_ne (by first | assumption | exact Ne.symm (by assumption))).trans ((xu_ne (by first | assumption | exact Ne.symm (by assumption))).trans ((xu_ne (by first | assumption | exact Ne.symm (by assumption))).trans (by first | assumption | exact xu_eq _ _ _))))) rfl ?_
    refine g_alenq (t := 6) rfl dX9_depth_9 rfl (by first | assumption | exact Or.inl (by first | assumption | exact xu_eq _ _ _ | exact (xu_ne (by first | assumption | exact Ne.symm (by assumption))).trans (by first | assumption | exact xu_eq _ _ _) | exact (xu_ne (by first | assumption | exact Ne.symm (by assumption))).trans ((xu_ne (by first | assumption | exact Ne.symm (by assumption))).trans (by first | assumption | exact xu_eq _ _ _)) | exact (xu_ne (by first | assumption | exact Ne.symm (by assumption))).trans ((xu_ne (by first | assumption | exact Ne.symm (by assumption))).trans ((xu_ne (by first | assumption | exact Ne.symm (by assumption))).trans (by first | assumption | exact xu_eq _ _ _))))) ?_
    refine g_icmpn_ge (tgt := 33) dX9_depth_10 (by decide) rfl (by omega) (by omega) (fun c_10 => by omega) (fun c_10 => ?_)
    refine g_iload_n dX9_depth_13 rfl rfl rfl ?_
    first | refine g_aload_n dX9_depth_14 rfl rfl rfl ?_ | refine g_aload_nR dX9_depth_14 rfl rfl rfl ?_ | refine g_aload_nN dX9_depth_14 rfl rfl rfl ?_
    refine g_get fl_X9_15_X9 dX9_depth_15 rfl (Or.inl (by first | assumption | exact xu_eq _ _ _ | exact (xu_ne (by first | assumption | exact Ne.symm (by assumption))).trans (by first | assumption | exact xu_eq _ _ _) | exact (xu_ne (by first | assumption | exact Ne.symm (by assumption))).trans ((xu_ne (by first | assumption | exact Ne.symm (by assumption))).trans (by first | assumption | exact xu_eq _ _ _)) | exact (xu_ne (by first | assumption | exact Ne.symm (by assumption))).trans ((xu_ne (by first | assumption | exact Ne.symm (by assumption))).trans ((xu_ne (by first | assumption | exact Ne.symm (by assumption))).trans (by first | assumption | exact xu_eq _ _ _))))) rfl ?_
    refine g_iload_n dX9_depth_18 rfl rfl rfl ?_
    refine g_aaldn (t := 6) rfl dX9_depth_19 rfl (by first | assumption | exact Or.inl (by first | assumption | exact xu_eq _ _ _ | exact (xu_ne (by first | assumption | exact Ne.symm (by assumption))).trans (by first | assumption | exact xu_eq _ _ _) | exact (xu_ne (by first | assumption | exact Ne.symm (by assumption))).trans ((xu_ne (by first | assumption | exact Ne.symm (by assumption))).trans (by first | assumption | exact xu_eq _ _ _)) | exact (xu_ne (by first | assumption | exact Ne.symm (by assumption))).trans ((xu_ne (by first | assumption | exact Ne.symm (by assumption))).trans ((xu_ne (by first | assumption | exact Ne.symm (by assumption))).trans (by first | assumption | exact xu_eq _ _ _))))) (by omega) (by omega) ?_
    rw [hp]
    refine g_virtualP iV_X4_depth q1950 (cA) (Or.inl (by first | assumption | exact xu_eq _ _ _ | exact (xu_ne (by first | assumption | exact Ne.symm (by assumption))).trans (by first | assumption | exact xu_eq _ _ _) | exact (xu_ne (by first | assumption | exact Ne.symm (by assumption))).trans ((xu_ne (by first | assumption | exact Ne.symm (by assumption))).trans (by first | assumption | exact xu_eq _ _ _)) | exact (xu_ne (by first | assumption | exact Ne.symm (by assumption))).trans ((xu_ne (by first | assumption | exact Ne.symm (by assumption))).trans ((xu_ne (by first | assumption | exact Ne.symm (by assumption))).trans (by first | assumption | exact xu_eq _ _ _))))) rfl (by decide) dX9_depth_20 rfl rfl rfl (by first | exact Nat.le_of_ble_eq_true rfl | simp [Value.category, rf_cat]) (by omega) xN_no ?_
    refine g_maxn q1559 dX9_depth_23 rfl (by first | exact Nat.le_of_ble_eq_true rfl | simp [Value.category, rf_cat]) (by omega) (by omega) (by omega) ?_
    refine g_ist1 dX9_depth_26 rfl (by decide) (k := ?_)
    refine g_incn2 dX9_depth_27 rfl (by decide) (k := ?_)
    refine g_goto (tgt := 4) dX9_depth_30 (by decide) ?_
    refine g_iload_n dX9_depth_4 rfl rfl rfl ?_
    first | refine g_aload_n dX9_depth_5 rfl rfl rfl ?_ | refine g_aload_nR dX9_depth_5 rfl rfl rfl ?_ | refine g_aload_nN dX9_depth_5 rfl rfl rfl ?_
    refine g_get fl_X9_15_X9 dX9_depth_6 rfl (Or.inl (by first | assumption | exact xu_eq _ _ _ | exact (xu_ne (by first | assumption | exact Ne.symm (by assumption))).trans (by first | assumption | exact xu_eq _ _ _) | exact (xu_ne (by first | assumption | exact Ne.symm (by assumption))).trans ((xu_ne (by first | assumption | exact Ne.symm (by assumption))).trans (by first | assumption | exact xu_eq _ _ _)) | exact (xu_ne (by first | assumption | exact Ne.symm (by assumption))).trans ((xu_ne (by first | assumption | exact Ne.symm (by assumption))).trans ((xu_ne (by first | assumption | exact Ne.symm (by assumption))).trans (by first | assumption | exact xu_eq _ _ _))))) rfl ?_
    refine g_alenq (t := 6) rfl dX9_depth_9 rfl (by first | assumption | exact Or.inl (by first | assumption | exact xu_eq _ _ _ | exact (xu_ne (by first | assumption | exact Ne.symm (by assumption))).trans (by first | assumption | exact xu_eq _ _ _) | exact (xu_ne (by first | assumption | exact Ne.symm (by assumption))).trans ((xu_ne (by first | assumption | exact Ne.symm (by assumption))).trans (by first | assumption | exact xu_eq _ _ _)) | exact (xu_ne (by first | assumption | exact Ne.symm (by assumption))).trans ((xu_ne (by first | assumption | exact Ne.symm (by assumption))).trans ((xu_ne (by first | assumption | exact Ne.symm (by assumption))).trans (by first | assumption | exact xu_eq _ _ _))))) ?_
    refine g_icmpn_ge (tgt := 33) dX9_depth_10 (by decide) rfl (by omega) (by omega) (fun c_10 => by omega) (fun c_10 => ?_)
    refine g_iload_n dX9_depth_13 rfl rfl rfl ?_
    first | refine g_aload_n dX9_depth_14 rfl rfl rfl ?_ | refine g_aload_nR dX9_depth_14 rfl rfl rfl ?_ | refine g_aload_nN dX9_depth_14 rfl rfl rfl ?_
    refine g_get fl_X9_15_X9 dX9_depth_15 rfl (Or.inl (by first | assumption | exact xu_eq _ _ _ | exact (xu_ne (by first | assumption | exact Ne.symm (by assumption))).trans (by first | assumption | exact xu_eq _ _ _) | exact (xu_ne (by first | assumption | exact Ne.symm (by assumption))).trans ((xu_ne (by first | assumption | exact Ne.symm (by assumption))).trans (by first | assumption | exact xu_eq _ _ _)) | exact (xu_ne (by first | assumption | exact Ne.symm (by assumption))).trans ((xu_ne (by first | assumption | exact Ne.symm (by assumption))).trans ((xu_ne (by first | assumption | exact Ne.symm (by assumption))).trans (by first | assumption | exact xu_eq _ _ _))))) rfl ?_
    refine g_iload_n dX9_depth_18 rfl rfl rfl ?_
    refine g_aaldn (t := 6) rfl dX9_depth_19 rfl (by first | assumption | exact Or.inl (by first | assumption | exact xu_eq _ _ _ | exact (xu_ne (by first | assumption | exact Ne.symm (by assumption))).trans (by first | assumption | exact xu_eq _ _ _) | exact (xu_ne (by first | assumption | exact Ne.symm (by assumption))).trans ((xu_ne (by first | assumption | exact Ne.symm (by assumption))).trans (by first | assumption | exact xu_eq _ _ _)) | exact (xu_ne (by first | assumption | exact Ne.symm (by assumption))).trans ((xu_ne (by first | assumption | exact Ne.symm (by assumption))).trans ((xu_ne (by first | assumption | exact Ne.symm (by assumption))).trans (by first | assumption | exact xu_eq _ _ _))))) (by omega) (by omega) ?_
    rw [hq]
    refine g_virtualP iV_X4_depth q1950 (cB) (Or.inl (by first | assumption | exact xu_eq _ _ _ | exact (xu_ne (by first | assumption | exact Ne.symm (by assumption))).trans (by first | assumption | exact xu_eq _ _ _) | exact (xu_ne (by first | assumption | exact Ne.symm (by assumption))).trans ((xu_ne (by first | assumption | exact Ne.symm (by assumption))).trans (by first | assumption | exact xu_eq _ _ _)) | exact (xu_ne (by first | assumption | exact Ne.symm (by assumption))).trans ((xu_ne (by first | assumption | exact Ne.symm (by assumption))).trans ((xu_ne (by first | assumption | exact Ne.symm (by assumption))).trans (by first | assumption | exact xu_eq _ _ _))))) rfl (by decide) dX9_depth_20 rfl rfl rfl (by first | exact Nat.le_of_ble_eq_true rfl | simp [Value.category, rf_cat]) (by omega) xN_no ?_
    refine g_maxn q1559 dX9_depth_23 rfl (by first | exact Nat.le_of_ble_eq_true rfl | simp [Value.category, rf_cat]) (by omega) (by omega) (by omega) ?_
    refine g_ist1 dX9_depth_26 rfl (by decide) (k := ?_)
    refine g_incn2 dX9_depth_27 rfl (by decide) (k := ?_)
    refine g_goto (tgt := 4) dX9_depth_30 (by decide) ?_
    refine g_iload_n dX9_depth_4 rfl rfl rfl ?_
    first | refine g_aload_n dX9_depth_5 rfl rfl rfl ?_ | refine g_aload_nR dX9_depth_5 rfl rfl rfl ?_ | refine g_aload_nN dX9_depth_5 rfl rfl rfl ?_
    refine g_get fl_X9_15_X9 dX9_depth_6 rfl (Or.inl (by first | assumption | exact xu_eq _ _ _ | exact (xu_ne (by first | assumption | exact Ne.symm (by assumption))).trans (by first | assumption | exact xu_eq _ _ _) | exact (xu_ne (by first | assumption | exact Ne.symm (by assumption))).trans ((xu_ne (by first | assumption | exact Ne.symm (by assumption))).trans (by first | assumption | exact xu_eq _ _ _)) | exact (xu_ne (by first | assumption | exact Ne.symm (by assumption))).trans ((xu_ne (by first | assumption | exact Ne.symm (by assumption))).trans ((xu_ne (by first | assumption | exact Ne.symm (by assumption))).trans (by first | assumption | exact xu_eq _ _ _))))) rfl ?_
    refine g_alenq (t := 6) rfl dX9_depth_9 rfl (by first | assumption | exact Or.inl (by first | assumption | exact xu_eq _ _ _ | exact (xu_ne (by first | assumption | exact Ne.symm (by assumption))).trans (by first | assumption | exact xu_eq _ _ _) | exact (xu_ne (by first | assumption | exact Ne.symm (by assumption))).trans ((xu_ne (by first | assumption | exact Ne.symm (by assumption))).trans (by first | assumption | exact xu_eq _ _ _)) | exact (xu_ne (by first | assumption | exact Ne.symm (by assumption))).trans ((xu_ne (by first | assumption | exact Ne.symm (by assumption))).trans ((xu_ne (by first | assumption | exact Ne.symm (by assumption))).trans (by first | assumption | exact xu_eq _ _ _))))) ?_
    refine g_icmpn_ge (tgt := 33) dX9_depth_10 (by decide) rfl (by omega) (by omega) (fun c_10 => ?_) (fun c_10 => by omega)
    refine g_iconst (v := (nI 1)) dX9_depth_33 rfl rfl ?_
    refine g_iload_n dX9_depth_34 rfl rfl rfl ?_
    refine g_iaddn dX9_depth_35 rfl ?_
    exact g_ireturn dX9_depth_36 rfl ⟨by congr 3 <;> omega, rfl⟩
  · rw [if_neg hk] at hsa ⊢
    refine g_iconst (v := (nI 0)) dX9_depth_0 rfl rfl ?_
    refine g_ist1 dX9_depth_1 rfl (by decide) (k := ?_)
    refine g_iconst (v := (nI 0)) dX9_depth_2 rfl rfl ?_
    refine g_ist2 dX9_depth_3 rfl (by decide) (k := ?_)
    refine g_iload_n dX9_depth_4 rfl rfl rfl ?_
    first | refine g_aload_n dX9_depth_5 rfl rfl rfl ?_ | refine g_aload_nR dX9_depth_5 rfl rfl rfl ?_ | refine g_aload_nN dX9_depth_5 rfl rfl rfl ?_
    refine g_get fl_X9_15_X9 dX9_depth_6 rfl (Or.inl (by first | assumption | exact xu_eq _ _ _ | exact (xu_ne (by first | assumption | exact Ne.symm (by assumption))).trans (by first | assumption | exact xu_eq _ _ _) | exact (xu_ne (by first | assumption | exact Ne.symm (by assumption))).trans ((xu_ne (by first | assumption | exact Ne.symm (by assumption))).trans (by first | assumption | exact xu_eq _ _ _)) | exact (xu_ne (by first | assumption | exact Ne.symm (by assumption))).trans ((xu_ne (by first | assumption | exact Ne.symm (by assumption))).trans ((xu_ne (by first | assumption | exact Ne.symm (by assumption))).trans (by first | assumption | exact xu_eq _ _ _))))) rfl ?_
    refine g_alenq (t := 6) rfl dX9_depth_9 rfl (by first | assumption | exact Or.inl (by first | assumption | exact xu_eq _ _ _ | exact (xu_ne (by first | assumption | exact Ne.symm (by assumption))).trans (by first | assumption | exact xu_eq _ _ _) | exact (xu_ne (by first | assumption | exact Ne.symm (by assumption))).trans ((xu_ne (by first | assumption | exact Ne.symm (by assumption))).trans (by first | assumption | exact xu_eq _ _ _)) | exact (xu_ne (by first | assumption | exact Ne.symm (by assumption))).trans ((xu_ne (by first | assumption | exact Ne.symm (by assumption))).trans ((xu_ne (by first | assumption | exact Ne.symm (by assumption))).trans (by first | assumption | exact xu_eq _ _ _))))) ?_
    refine g_icmpn_ge (tgt := 33) dX9_depth_10 (by decide) rfl (by omega) (by omega) (fun c_10 => by omega) (fun c_10 => ?_)
    refine g_iload_n dX9_depth_13 rfl rfl rfl ?_
    first | refine g_aload_n dX9_depth_14 rfl rfl rfl ?_ | refine g_aload_nR dX9_depth_14 rfl rfl rfl ?_ | refine g_aload_nN dX9_depth_14 rfl rfl rfl ?_
    refine g_get fl_X9_15_X9 dX9_depth_15 rfl (Or.inl (by first | assumption | exact xu_eq _ _ _ | exact (xu_ne (by first | assumption | exact Ne.symm (by assumption))).trans (by first | assumption | exact xu_eq _ _ _) | exact (xu_ne (by first | assumption | exact Ne.symm (by assumption))).trans ((xu_ne (by first | assumption | exact Ne.symm (by assumption))).trans (by first | assumption | exact xu_eq _ _ _)) | exact (xu_ne (by first | assumption | exact Ne.symm (by assumption))).trans ((xu_ne (by first | assumption | exact Ne.symm (by assumption))).trans ((xu_ne (by first | assumption | exact Ne.symm (by assumption))).trans (by first | assumption | exact xu_eq _ _ _))))) rfl ?_
    refine g_iload_n dX9_depth_18 rfl rfl rfl ?_
    refine g_aaldn (t := 6) rfl dX9_depth_19 rfl (by first | assumption | exact Or.inl (by first | assumption | exact xu_eq _ _ _ | exact (xu_ne (by first | assumption | exact Ne.symm (by assumption))).trans (by first | assumption | exact xu_eq _ _ _) | exact (xu_ne (by first | assumption | exact Ne.symm (by assumption))).trans ((xu_ne (by first | assumption | exact Ne.symm (by assumption))).trans (by first | assumption | exact xu_eq _ _ _)) | exact (xu_ne (by first | assumption | exact Ne.symm (by assumption))).trans ((xu_ne (by first | assumption | exact Ne.symm (by assumption))).trans ((xu_ne (by first | assumption | exact Ne.symm (by assumption))).trans (by first | assumption | exact xu_eq _ _ _))))) (by omega) (by omega) ?_
    rw [hp]
    refine g_virtualP iV_X4_depth q1950 (cA) (Or.inl (by first | assumption | exact xu_eq _ _ _ | exact (xu_ne (by first | assumption | exact Ne.symm (by assumption))).trans (by first | assumption | exact xu_eq _ _ _) | exact (xu_ne (by first | assumption | exact Ne.symm (by assumption))).trans ((xu_ne (by first | assumption | exact Ne.symm (by assumption))).trans (by first | assumption | exact xu_eq _ _ _)) | exact (xu_ne (by first | assumption | exact Ne.symm (by assumption))).trans ((xu_ne (by first | assumption | exact Ne.symm (by assumption))).trans ((xu_ne (by first | assumption | exact Ne.symm (by assumption))).trans (by first | assumption | exact xu_eq _ _ _))))) rfl (by decide) dX9_depth_20 rfl rfl rfl (by first | exact Nat.le_of_ble_eq_true rfl | simp [Value.category, rf_cat]) (by omega) xN_no ?_
    refine g_maxn q1559 dX9_depth_23 rfl (by first | exact Nat.le_of_ble_eq_true rfl | simp [Value.category, rf_cat]) (by omega) (by omega) (by omega) ?_
    refine g_ist1 dX9_depth_26 rfl (by decide) (k := ?_)
    refine g_incn2 dX9_depth_27 rfl (by decide) (k := ?_)
    refine g_goto (tgt := 4) dX9_depth_30 (by decide) ?_
    refine g_iload_n dX9_depth_4 rfl rfl rfl ?_
    first | refine g_aload_n dX9_depth_5 rfl rfl rfl ?_ | refine g_aload_nR dX9_depth_5 rfl rfl rfl ?_ | refine g_aload_nN dX9_depth_5 rfl rfl rfl ?_
    refine g_get fl_X9_15_X9 dX9_depth_6 rfl (Or.inl (by first | assumption | exact xu_eq _ _ _ | exact (xu_ne (by first | assumption | exact Ne.symm (by assumption))).trans (by first | assumption | exact xu_eq _ _ _) | exact (xu_ne (by first | assumption | exact Ne.symm (by assumption))).trans ((xu_ne (by first | assumption | exact Ne.symm (by assumption))).trans (by first | assumption | exact xu_eq _ _ _)) | exact (xu_ne (by first | assumption | exact Ne.symm (by assumption))).trans ((xu_ne (by first | assumption | exact Ne.symm (by assumption))).trans ((xu_ne (by first | assumption | exact Ne.symm (by assumption))).trans (by first | assumption | exact xu_eq _ _ _))))) rfl ?_
    refine g_alenq (t := 6) rfl dX9_depth_9 rfl (by first | assumption | exact Or.inl (by first | assumption | exact xu_eq _ _ _ | exact (xu_ne (by first | assumption | exact Ne.symm (by assumption))).trans (by first | assumption | exact xu_eq _ _ _) | exact (xu_ne (by first | assumption | exact Ne.symm (by assumption))).trans ((xu_ne (by first | assumption | exact Ne.symm (by assumption))).trans (by first | assumption | exact xu_eq _ _ _)) | exact (xu_ne (by first | assumption | exact Ne.symm (by assumption))).trans ((xu_ne (by first | assumption | exact Ne.symm (by assumption))).trans ((xu_ne (by first | assumption | exact Ne.symm (by assumption))).trans (by first | assumption | exact xu_eq _ _ _))))) ?_
    refine g_icmpn_ge (tgt := 33) dX9_depth_10 (by decide) rfl (by omega) (by omega) (fun c_10 => ?_) (fun c_10 => by omega)
    refine g_iconst (v := (nI 1)) dX9_depth_33 rfl rfl ?_
    refine g_iload_n dX9_depth_34 rfl rfl rfl ?_
    refine g_iaddn dX9_depth_35 rfl ?_
    exact g_ireturn dX9_depth_36 rfl ⟨by rw [Nat.max_comm a 0], rfl⟩
theorem c_depth_of {r sl cap n : Nat} {own : Option Nat} {is : List Nat} (hd : 2 ≤ d) (h : SM w g m id T) (hR : T.1 r = some (own, sl, cap, is)) (hc : CT w MX4_depthOf (d - 1) 0 0 [.ref r, .int (nI 0), .int (nI is.length)] m (xRet (some (.int (nI n))) m) xN) : CT w MX4_depth d 0 0 [.ref r] m (xRet (some (.int (nI n))) m) xN := by
  obtain ⟨la, ar, bx, mc, h1, k1, hA, h3, h4, h5, hz⟩ := sm_row h hR
  refine ct_intro (lv := [some (.ref r)]) 0 (by decide) rfl (Nat.le_of_ble_eq_true rfl) rfl ?_
  first | refine g_aload_n dX4_depth_0 rfl rfl rfl ?_ | refine g_aload_nR dX4_depth_0 rfl rfl rfl ?_ | refine g_aload_nN dX4_depth_0 rfl rfl rfl ?_
  refine g_iconst (v := (nI 0)) dX4_depth_1 rfl rfl ?_
  first | refine g_aload_n dX4_depth_2 rfl rfl rfl ?_ | refine g_aload_nR dX4_depth_2 rfl rfl rfl ?_ | refine g_aload_nN dX4_depth_2 rfl rfl rfl ?_
  refine g_get fl_X4_12_X4 dX4_depth_3 rfl (Or.inl (by first | assumption | exact xu_eq _ _ _ | exact (xu_ne (by first | assumption | exact Ne.symm (by assumption))).trans (by first | assumption | exact xu_eq _ _ _) | exact (xu_ne (by first | assumption | exact Ne.symm (by assumption))).trans ((xu_ne (by first | assumption | exact Ne.symm (by assumption))).trans (by first | assumption | exact xu_eq _ _ _)) | exact (xu_ne (by first | assumption | exact Ne.symm (by assumption))).trans ((xu_ne (by first | assumption | exact Ne.symm (by assumption))).trans ((xu_ne (by first | assumption | exact Ne.symm (by assumption))).trans (by first | assumption | exact xu_eq _ _ _))))) rfl ?_
  refine g_ifaceP iI_J26_size_J26 q1479 (c_size (d := d - 1) (by omega) hA) (Or.inl (by first | assumption | exact xu_eq _ _ _ | exact (xu_ne (by first | assumption | exact Ne.symm (by assumption))).trans (by first | assumption | exact xu_eq _ _ _) | exact (xu_ne (by first | assumption | exact Ne.symm (by assumption))).trans ((xu_ne (by first | assumption | exact Ne.symm (by assumption))).trans (by first | assumption | exact xu_eq _ _ _)) | exact (xu_ne (by first | assumption | exact Ne.symm (by assumption))).trans ((xu_ne (by first | assumption | exact Ne.symm (by assumption))).trans ((xu_ne (by first | assumption | exact Ne.symm (by assumption))).trans (by first | assumption | exact xu_eq _ _ _))))) rfl (by decide) dX4_depth_6 rfl rfl rfl (by first | exact Nat.le_of_ble_eq_true rfl | simp [Value.category, rf_cat]) (by omega) xN_no ?_
  refine g_virtualP iV_X4_depthOf q1940 (hc) (Or.inl (by first | assumption | exact xu_eq _ _ _ | exact (xu_ne (by first | assumption | exact Ne.symm (by assumption))).trans (by first | assumption | exact xu_eq _ _ _) | exact (xu_ne (by first | assumption | exact Ne.symm (by assumption))).trans ((xu_ne (by first | assumption | exact Ne.symm (by assumption))).trans (by first | assumption | exact xu_eq _ _ _)) | exact (xu_ne (by first | assumption | exact Ne.symm (by assumption))).trans ((xu_ne (by first | assumption | exact Ne.symm (by assumption))).trans ((xu_ne (by first | assumption | exact Ne.symm (by assumption))).trans (by first | assumption | exact xu_eq _ _ _))))) rfl (by decide) dX4_depth_11 rfl rfl rfl (by first | exact Nat.le_of_ble_eq_true rfl | simp [Value.category, rf_cat]) (by omega) xN_no ?_
  refine g_ireturn dX4_depth_14 rfl ?_
  exact ⟨by first | rfl | simp [*], rfl⟩
theorem c_depthOf (h : SM w g m id T) : ∀ (n : Nat) (M : List XE) (r : Nat), M.length ≤ n → hts M < 10000 → DT T r M → ∀ (X N Y : List XE) (i j d : Nat), M = X ++ (N ++ Y) → Bd r X → Bd r N → Bd r Y → i = (drs r X).length → j = (drs r X).length + (drs r N).length → 4 + 3 * hts M ≤ d → CT w MX4_depthOf d 0 0 [.ref r, .int (nI i), .int (nI j)] m (xRet (some (.int (nI (hts N)))) m) xN := by
  intro n
  induction n with
  | zero =>
    intro M r hM hH hT X N Y i j d hMe hX hN hY hi hj hd
    obtain rfl : M = [] := List.eq_nil_of_length_eq_zero (by omega)
    have hN0 : N = [] := by
      have := congrArg List.length hMe
      simp at this; exact List.eq_nil_of_length_eq_zero (by omega)
    subst hN0; subst hi
    rw [show j = (drs r X).length from by rw [hj]; rfl]
    refine ct_intro (lv := [some (.ref r), some (.int (nI (drs r X).length)), some (.int (nI (drs r X).length)), none, none]) 2 (by decide) rfl (Nat.le_of_ble_eq_true rfl) rfl ?_
    have hl : (drs r X).length ≤ 400 := by
      have hX0 : X = [] := by
        have := congrArg List.length hMe
        simp at this; exact List.eq_nil_of_length_eq_zero (by omega)
      rw [hX0]; simp [drs]
    refine g_iconst (v := (nI 0)) dX4_depthOf_0 rfl rfl ?_
    refine g_ist3 dX4_depthOf_1 rfl (by decide) (k := ?_)
    refine g_iload_n dX4_depthOf_2 rfl rfl rfl ?_
    refine g_ist4 dX4_depthOf_3 rfl (by decide) (k := ?_)
    refine g_iload dX4_depthOf_5 rfl rfl ?_
    refine g_iload_n dX4_depthOf_7 rfl rfl rfl ?_
    refine g_icmpn_ge (tgt := 39) dX4_depthOf_8 (by decide) rfl (by omega) (by omega) (fun c_8 => ?_) (fun c_8 => by omega)
    refine g_iload_n dX4_depthOf_39 rfl rfl rfl ?_
    exact g_ireturn dX4_depthOf_40 rfl ⟨rfl, rfl⟩
  | succ n ih =>
    intro M r hM hH hT X N Y i j d hMe hX hN hY hi hj hd
    subst hi; subst hj
    obtain ⟨own, sl, cap, hR⟩ := dt_row hT
    obtain ⟨la, ar, bx, mc, h1, k1, hA, h3, h4, h5, hz⟩ := sm_row h hR
    have hlen := al_len hA
    have hdl : drs r M = drs r X ++ (drs r N ++ drs r Y) := by rw [hMe, drs_app, drs_app]
    have hll : (drs r X).length + ((drs r N).length + (drs r Y).length) ≤ 400 := by
      rw [hdl] at hlen; simp at hlen; omega
    have hHN : hts N ≤ hts M := by rw [hMe, hts_app hX (bd_app hN hY), hts_app hN hY]; omega
    refine ct_intro (lv := [some (.ref r), some (.int (nI (drs r X).length)), some (.int (nI ((drs r X).length + (drs r N).length))), none, none]) 2 (by decide) rfl (Nat.le_of_ble_eq_true rfl) rfl ?_
    have loop : ∀ (l : Nat) (N2 : List XE), N2.length ≤ l → ∀ (N1 : List XE) (s : Nat), N = N1 ++ N2 → Bd r N1 → Bd r N2 → max s (hts N2) = hts N → G w MX4_depthOf (xZ w (xRet (some (.int (nI (hts N)))) m) xN) d 0 0 5 [some (.ref r), some (.int (nI (drs r X).length)), some (.int (nI ((drs r X).length + (drs r N).length))), some (.int (nI s)), some (.int (nI ((drs r X).length + (drs r N1).length)))] [] m := by
      intro l
      induction l with
      | zero =>
        intro N2 hl N1 s hNe hN1 hN2 hs
        obtain rfl : N2 = [] := List.eq_nil_of_length_eq_zero (by omega)
        rw [List.append_nil] at hNe; subst hNe
        refine g_iload dX4_depthOf_5 rfl rfl ?_
        refine g_iload_n dX4_depthOf_7 rfl rfl rfl ?_
        refine g_icmpn_ge (tgt := 39) dX4_depthOf_8 (by decide) rfl (by omega) (by omega) (fun c_8 => ?_) (fun c_8 => by omega)
        refine g_iload_n dX4_depthOf_39 rfl rfl rfl ?_
        exact g_ireturn dX4_depthOf_40 rfl ⟨by rw [← hs]; simp [hts_nil], rfl⟩
      | succ l il =>
        intro N2 hl N1 s hNe hN1 hN2 hs
        rcases bd_cases hN2 with rfl | ⟨c, x, N3, rfl, hb⟩ | ⟨k, x, o, p, A, B, N3, rfl, hbA, hbB, hb⟩
        · rw [List.append_nil] at hNe; subst hNe
          refine g_iload dX4_depthOf_5 rfl rfl ?_
          refine g_iload_n dX4_depthOf_7 rfl rfl rfl ?_
          refine g_icmpn_ge (tgt := 39) dX4_depthOf_8 (by decide) rfl (by omega) (by omega) (fun c_8 => ?_) (fun c_8 => by omega)
          refine g_iload_n dX4_depthOf_39 rfl rfl rfl ?_
          exact g_ireturn dX4_depthOf_40 rfl ⟨by rw [← hs]; simp [hts_nil], rfl⟩
        · have hMe2 : M = (X ++ N1) ++ eS c x r :: (N3 ++ Y) := by rw [hMe, hNe]; simp
          obtain ⟨e1, e2, e3, e4, hx1, hcc, hci⟩ := dt_C h hT hMe2
          rw [drs_app, List.length_append] at e1
          have hln : (drs r N).length = (drs r N1).length + ((drs r N3).length + 1) := by rw [hNe, drs_app, drs_sS]; simp
          rw [hts_S] at hs
          refine g_iload dX4_depthOf_5 rfl rfl ?_
          refine g_iload_n dX4_depthOf_7 rfl rfl rfl ?_
          refine g_icmpn_ge (tgt := 39) dX4_depthOf_8 (by decide) rfl (by omega) (by omega) (fun c_8 => by omega) (fun c_8 => ?_)
          refine g_iload_n dX4_depthOf_11 rfl rfl rfl ?_
          first | refine g_aload_n dX4_depthOf_12 rfl rfl rfl ?_ | refine g_aload_nR dX4_depthOf_12 rfl rfl rfl ?_ | refine g_aload_nN dX4_depthOf_12 rfl rfl rfl ?_
          refine g_get fl_X4_12_X4 dX4_depthOf_13 rfl (Or.inl (by first | assumption | exact xu_eq _ _ _ | exact (xu_ne (by first | assumption | exact Ne.symm (by assumption))).trans (by first | assumption | exact xu_eq _ _ _) | exact (xu_ne (by first | assumption | exact Ne.symm (by assumption))).trans ((xu_ne (by first | assumption | exact Ne.symm (by assumption))).trans (by first | assumption | exact xu_eq _ _ _)) | exact (xu_ne (by first | assumption | exact Ne.symm (by assumption))).trans ((xu_ne (by first | assumption | exact Ne.symm (by assumption))).trans ((xu_ne (by first | assumption | exact Ne.symm (by assumption))).trans (by first | assumption | exact xu_eq _ _ _))))) rfl ?_
          refine g_iload dX4_depthOf_16 rfl rfl ?_
          refine g_ifaceP iI_J26_get_J26 q1552 (c_get (d := d - 1) (by omega) hA e1) (Or.inl (by first | assumption | exact xu_eq _ _ _ | exact (xu_ne (by first | assumption | exact Ne.symm (by assumption))).trans (by first | assumption | exact xu_eq _ _ _) | exact (xu_ne (by first | assumption | exact Ne.symm (by assumption))).trans ((xu_ne (by first | assumption | exact Ne.symm (by assumption))).trans (by first | assumption | exact xu_eq _ _ _)) | exact (xu_ne (by first | assumption | exact Ne.symm (by assumption))).trans ((xu_ne (by first | assumption | exact Ne.symm (by assumption))).trans ((xu_ne (by first | assumption | exact Ne.symm (by assumption))).trans (by first | assumption | exact xu_eq _ _ _))))) rfl (by decide) dX4_depthOf_18 rfl rfl rfl (by first | exact Nat.le_of_ble_eq_true rfl | simp [Value.category, rf_cat]) (by omega) xN_no ?_
          refine g_castI q1473 dX4_depthOf_23 rfl (by assumption) ?_
          refine g_virtualAP iU_X11_depth_X11 q1944 (c_Xdepth (d := d - 1) (by omega)) (Or.inl (by first | assumption | exact xu_eq _ _ _ | exact (xu_ne (by first | assumption | exact Ne.symm (by assumption))).trans (by first | assumption | exact xu_eq _ _ _) | exact (xu_ne (by first | assumption | exact Ne.symm (by assumption))).trans ((xu_ne (by first | assumption | exact Ne.symm (by assumption))).trans (by first | assumption | exact xu_eq _ _ _)) | exact (xu_ne (by first | assumption | exact Ne.symm (by assumption))).trans ((xu_ne (by first | assumption | exact Ne.symm (by assumption))).trans ((xu_ne (by first | assumption | exact Ne.symm (by assumption))).trans (by first | assumption | exact xu_eq _ _ _))))) rfl (by decide) dX4_depthOf_26 rfl rfl rfl (by first | exact Nat.le_of_ble_eq_true rfl | simp [Value.category, rf_cat]) (by omega) xN_no ?_
          refine g_maxn q1558 dX4_depthOf_29 rfl (by first | exact Nat.le_of_ble_eq_true rfl | simp [Value.category, rf_cat]) (by omega) (by omega) (by omega) ?_
          refine g_ist3 dX4_depthOf_32 rfl (by decide) (k := ?_)
          refine g_incn4 dX4_depthOf_33 rfl (by decide) (k := ?_)
          refine g_goto (tgt := 5) dX4_depthOf_36 (by decide) ?_
          have := il N3 (by simp at hl; omega) (N1 ++ [eS c x r]) (max s 0) (by rw [hNe]; simp) (bd_app hN1 (bd_sym c x (bd_nil r))) hb (by omega)
          rw [drs_app, drs_sS] at this
          simp only [drs, List.length_append, List.length_cons, List.length_nil] at this
          exact this
        · have hMe2 : M = (X ++ N1) ++ (sI k x r o p A B ++ (N3 ++ Y)) := by rw [hMe, hNe]; simp
          obtain ⟨e1, e2, e3, eA, eB, ⟨ca, e5⟩, e6, hlen2, hht, ⟨sa, bx2, f, rs, rd, fo, fp, hx1, hsa, hfp, hfq, ho, hpp, -, -, -⟩, e7, hci⟩ := dt_S h hT hMe2 (bd_app hX hN1) hbA hbB (bd_app hb hY)
          rw [drs_app, List.length_append] at e1
          have hln : (drs r N).length = (drs r N1).length + ((drs r N3).length + 1) := by rw [hNe, drs_app, drs_app, e3]; simp
          have hcA : CT w MX4_depth (d - 1 - 1) 0 0 [.ref o] m (xRet (some (.int (nI (hts A)))) m) xN :=
            c_depth_of (by omega) h e5 (ih A o (by omega) (by omega) eA [] A [] 0 _ _ (by simp) (bd_nil o) hbA (bd_nil o) rfl (by simp [drs]) (by omega))
          have hcB : k = 1 → CT w MX4_depth (d - 1 - 1) 0 0 [.ref p] m (xRet (some (.int (nI (if k = 1 then hts B else 0)))) m) xN := by
            intro hk
            rw [if_pos hk] at hlen2 hht ⊢
            obtain ⟨-, cb, e7⟩ := e6 hk
            exact c_depth_of (by omega) h e7 (ih B p (by omega) (by omega) (eB hk) [] B [] 0 _ _ (by simp) (bd_nil p) (hbB hk) (bd_nil p) rfl (by simp [drs]) (by omega))
          have hcS := l_sdepth (d := d - 1) (a := hts A) (b := if k = 1 then hts B else 0) (by omega) (by omega) (by omega) hx1 hsa hfp hfq ho hpp hcA hcB
          rw [show (if k = 1 then (if k = 1 then hts B else 0) else 0) = if k = 1 then hts B else 0 from by split <;> rfl] at hcS
          rw [hts_app (bd_sI hbA hbB) hb, hts_sI hbA hbB] at hs
          generalize hu : 1 + max (hts A) (if k = 1 then hts B else 0) = u at *
          have hu2 : u < 10001 := by omega
          have hs2 : s < 10000 := by omega
          have hlN : N3.length ≤ l := by rw [List.length_append, sI_len] at hl; omega
          clear hht hlen2 hcA hcB hu ih hl
          refine g_iload dX4_depthOf_5 rfl rfl ?_
          refine g_iload_n dX4_depthOf_7 rfl rfl rfl ?_
          refine g_icmpn_ge (tgt := 39) dX4_depthOf_8 (by decide) rfl (by omega) (by omega) (fun c_8 => by omega) (fun c_8 => ?_)
          refine g_iload_n dX4_depthOf_11 rfl rfl rfl ?_
          first | refine g_aload_n dX4_depthOf_12 rfl rfl rfl ?_ | refine g_aload_nR dX4_depthOf_12 rfl rfl rfl ?_ | refine g_aload_nN dX4_depthOf_12 rfl rfl rfl ?_
          refine g_get fl_X4_12_X4 dX4_depthOf_13 rfl (Or.inl (by first | assumption | exact xu_eq _ _ _ | exact (xu_ne (by first | assumption | exact Ne.symm (by assumption))).trans (by first | assumption | exact xu_eq _ _ _) | exact (xu_ne (by first | assumption | exact Ne.symm (by assumption))).trans ((xu_ne (by first | assumption | exact Ne.symm (by assumption))).trans (by first | assumption | exact xu_eq _ _ _)) | exact (xu_ne (by first | assumption | exact Ne.symm (by assumption))).trans ((xu_ne (by first | assumption | exact Ne.symm (by assumption))).trans ((xu_ne (by first | assumption | exact Ne.symm (by assumption))).trans (by first | assumption | exact xu_eq _ _ _))))) rfl ?_
          refine g_iload dX4_depthOf_16 rfl rfl ?_
          refine g_ifaceP iI_J26_get_J26 q1552 (c_get (d := d - 1) (by omega) hA e1) (Or.inl (by first | assumption | exact xu_eq _ _ _ | exact (xu_ne (by first | assumption | exact Ne.symm (by assumption))).trans (by first | assumption | exact xu_eq _ _ _) | exact (xu_ne (by first | assumption | exact Ne.symm (by assumption))).trans ((xu_ne (by first | assumption | exact Ne.symm (by assumption))).trans (by first | assumption | exact xu_eq _ _ _)) | exact (xu_ne (by first | assumption | exact Ne.symm (by assumption))).trans ((xu_ne (by first | assumption | exact Ne.symm (by assumption))).trans ((xu_ne (by first | assumption | exact Ne.symm (by assumption))).trans (by first | assumption | exact xu_eq _ _ _))))) rfl (by decide) dX4_depthOf_18 rfl rfl rfl (by first | exact Nat.le_of_ble_eq_true rfl | simp [Value.category, rf_cat]) (by omega) xN_no ?_
          refine g_castI q1473 dX4_depthOf_23 rfl (by assumption) ?_
          refine g_virtualAP iU_X9_depth_X9 q1944 (hcS) (Or.inl (by first | assumption | exact xu_eq _ _ _ | exact (xu_ne (by first | assumption | exact Ne.symm (by assumption))).trans (by first | assumption | exact xu_eq _ _ _) | exact (xu_ne (by first | assumption | exact Ne.symm (by assumption))).trans ((xu_ne (by first | assumption | exact Ne.symm (by assumption))).trans (by first | assumption | exact xu_eq _ _ _)) | exact (xu_ne (by first | assumption | exact Ne.symm (by assumption))).trans ((xu_ne (by first | assumption | exact Ne.symm (by assumption))).trans ((xu_ne (by first | assumption | exact Ne.symm (by assumption))).trans (by first | assumption | exact xu_eq _ _ _))))) rfl (by decide) dX4_depthOf_26 rfl rfl rfl (by first | exact Nat.le_of_ble_eq_true rfl | simp [Value.category, rf_cat]) (by omega) xN_no ?_
          refine g_maxn q1558 dX4_depthOf_29 rfl (by first | exact Nat.le_of_ble_eq_true rfl | simp [Value.category, rf_cat]) (by omega) (by omega) (by omega) ?_
          refine g_ist3 dX4_depthOf_32 rfl (by decide) (k := ?_)
          refine g_incn4 dX4_depthOf_33 rfl (by decide) (k := ?_)
          refine g_goto (tgt := 5) dX4_depthOf_36 (by decide) ?_
          have := il N3 hlN (N1 ++ sI k x r o p A B) (max s u) (by rw [hNe]; simp) (bd_app hN1 (bd_sI hbA hbB)) hb (by omega)
          rw [drs_app, e3] at this
          simp only [List.length_append, List.length_cons, List.length_nil] at this
          exact this
    refine g_iconst (v := (nI 0)) dX4_depthOf_0 rfl rfl ?_
    refine g_ist3 dX4_depthOf_1 rfl (by decide) (k := ?_)
    refine g_iload_n dX4_depthOf_2 rfl rfl rfl ?_
    refine g_ist4 dX4_depthOf_3 rfl (by decide) (k := ?_)
    exact loop N.length N (Nat.le_refl _) [] 0 rfl (bd_nil r) hN (by omega)
/-- depth() of a row -/
theorem c_rdepth {M : List XE} {r : Nat} (h : SM w g m id T) (hT : DT T r M) (hH : hts M < 10000) (hd : 5 + 3 * hts M ≤ d) : CT w MX4_depth d 0 0 [.ref r] m (xRet (some (.int (nI (hts M)))) m) xN := by
  obtain ⟨own, sl, cap, hR⟩ := dt_row hT
  exact c_depth_of (by omega) h hR (c_depthOf h M.length M r (Nat.le_refl _) hH hT [] M [] 0 _ _ (by simp) (bd_nil r) hT.1 (bd_nil r) rfl (by simp [drs]) (by omega))
end DEPTH
