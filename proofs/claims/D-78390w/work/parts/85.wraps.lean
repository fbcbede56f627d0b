/-! A STRUCTURE FROM ITS ROWS' ITEMS; isEmpty -/
set_option maxRecDepth 100000
theorem pt_str {T : XT} {r k a o p : Nat} {A B : List XE} {rs rd ca cb : Nat} (hA : PT T o A) (hB : k = 1 → PT T p B) (hK : T.2.1 a = some (.inr (k, o, p, rs, rd))) (hW : T.2.2 a = some r) (ho : T.1 o = some (some a, 0, ca, drs o A)) (hp : k = 1 → T.1 p = some (some a, 1, cb, drs p B))
    (hr : r ∉ o :: opn A) (hr2 : k = 1 → r ∉ p :: opn B) (hpo : k = 1 → p ∉ o :: opn A) (hpo2 : k = 1 → o ∉ opn B) (hAB : k = 1 → ∀ s ∈ opn A, s ∉ opn B) (haA : a ∉ itm A) (haB : k = 1 → a ∉ itm B) (hiAB : k = 1 → ∀ s ∈ itm A, s ∉ itm B) : PT T r (sI k a r o p A B) := by
  obtain ⟨a1, a2, a3, a4, a5⟩ := hA
  simp only [List.mem_cons, not_or] at hr
  by_cases hk : k = 1
  · obtain ⟨b1, b2, b3, b4, b5⟩ := hB hk
    have hr2 := hr2 hk
    have hpo := hpo hk
    have hpo2 := hpo2 hk
    have hAB := hAB hk
    simp only [List.mem_cons, not_or] at hr2 hpo
    have hoA : o ∉ opn A := (List.nodup_cons.mp a2).1
    have hpB : p ∉ opn B := (List.nodup_cons.mp b2).1
    have eo : opn (sI k a r o p A B) = o :: p :: (opn A ++ opn B) := by rw [opn_sI, if_pos hk]
    have ei : itm (sI k a r o p A B) = a :: (itm A ++ itm B) := by rw [itm_sI, if_pos hk]
    have dA : ∀ s, s ∈ o :: opn A → drs s (sI k a r o p A B) = drs s A := by
      intro s hs
      rw [drs_sI, if_pos hk]
      have n1 : r ≠ s := by
        rcases List.mem_cons.mp hs with rfl | hs
        · exact hr.1
        · exact fun e => hr.2 (e ▸ hs)
      have n2 : drs s B = [] := by
        rcases List.mem_cons.mp hs with rfl | hs
        · exact drs_out b1 (fun e => hpo.1 e.symm) hpo2
        · exact drs_out b1 (fun e => by subst e; exact hpo.2 hs) (hAB s hs)
      rw [if_neg n1, n2]; simp
    have dB : ∀ s, s ∈ p :: opn B → drs s (sI k a r o p A B) = drs s B := by
      intro s hs
      rw [drs_sI, if_pos hk]
      have n1 : r ≠ s := by
        rcases List.mem_cons.mp hs with rfl | hs
        · exact hr2.1
        · exact fun e => hr2.2 (e ▸ hs)
      have n2 : drs s A = [] := by
        rcases List.mem_cons.mp hs with rfl | hs
        · exact drs_out a1 hpo.1 hpo.2
        · exact drs_out a1 (fun e => by subst e; exact hpo2 hs) (fun h => hAB s h hs)
      rw [if_neg n1, n2]; simp
    refine ⟨bd_sI a1 (fun _ => b1), ?_, ?_, ?_, ?_⟩
    · rw [eo]
      simp only [List.nodup_cons, List.nodup_append, List.mem_cons, List.mem_append, not_or]
      exact ⟨⟨hr.1, hr2.1, hr.2, hr2.2⟩, ⟨fun e => hpo.1 e.symm, hoA, hpo2⟩, ⟨hpo.2, hpB⟩, (List.nodup_cons.mp a2).2, (List.nodup_cons.mp b2).2, fun x hx y hy e => by subst e; exact hAB x hx hy⟩
    · rw [ei]
      simp only [List.nodup_cons, List.nodup_append, List.mem_append, not_or]
      exact ⟨⟨haA, haB hk⟩, a3, b3, fun x hx y hy e => by subst e; exact hiAB hk x hx hy⟩
    · rw [eo]; intro s hs
      simp only [List.mem_cons, List.mem_append] at hs
      rcases hs with rfl | rfl | hs | hs
      · exact ⟨_, _, _, by rw [dA s List.mem_cons_self]; exact ho⟩
      · exact ⟨_, _, _, by rw [dB s List.mem_cons_self]; exact hp hk⟩
      · obtain ⟨ow, sl, cap, e⟩ := a4 s hs
        exact ⟨ow, sl, cap, by rw [dA s (List.mem_cons_of_mem _ hs)]; exact e⟩
      · obtain ⟨ow, sl, cap, e⟩ := b4 s hs
        exact ⟨ow, sl, cap, by rw [dB s (List.mem_cons_of_mem _ hs)]; exact e⟩
    · intro x hx
      unfold sI at hx
      simp only [List.mem_cons, List.mem_append, if_pos hk, List.not_mem_nil, or_false] at hx
      rcases hx with rfl | hx | (rfl | hx) | rfl
      · exact ⟨⟨rs, rd, hK⟩, hW, ⟨_, _, ho⟩, fun _ => ⟨_, _, hp hk⟩⟩
      · exact a5 x hx
      · trivial
      · exact b5 x hx
      · trivial
  · have hoA : o ∉ opn A := (List.nodup_cons.mp a2).1
    have eo : opn (sI k a r o p A B) = o :: opn A := by rw [opn_sI, if_neg hk]
    have ei : itm (sI k a r o p A B) = a :: itm A := by rw [itm_sI, if_neg hk]; simp
    have dA : ∀ s, s ∈ o :: opn A → drs s (sI k a r o p A B) = drs s A := by
      intro s hs
      rw [drs_sI, if_neg hk]
      have n1 : r ≠ s := by
        rcases List.mem_cons.mp hs with rfl | hs
        · exact hr.1
        · exact fun e => hr.2 (e ▸ hs)
      rw [if_neg n1]; simp
    refine ⟨bd_sI a1 (fun h => absurd h hk), ?_, ?_, ?_, ?_⟩
    · rw [eo]
      simp only [List.nodup_cons, List.mem_cons, not_or]
      exact ⟨hr, hoA, (List.nodup_cons.mp a2).2⟩
    · rw [ei]; exact List.nodup_cons.mpr ⟨haA, a3⟩
    · rw [eo]; intro s hs
      rcases List.mem_cons.mp hs with rfl | hs
      · exact ⟨_, _, _, by rw [dA s List.mem_cons_self]; exact ho⟩
      · obtain ⟨ow, sl, cap, e⟩ := a4 s hs
        exact ⟨ow, sl, cap, by rw [dA s (List.mem_cons_of_mem _ hs)]; exact e⟩
    · intro x hx
      unfold sI at hx
      simp only [List.mem_cons, List.mem_append, if_neg hk, List.not_mem_nil, or_false, false_or] at hx
      rcases hx with rfl | hx | rfl
      · exact ⟨⟨rs, rd, hK⟩, hW, ⟨_, _, ho⟩, fun h => absurd h hk⟩
      · exact a5 x hx
      · trivial
section WRAPS
variable {w : XW} {id d : Nat} {g : XG} {m : XM} {T : XT}
theorem xB_and (a b : Bool) : xB a &&& xB b = xB (a && b) := by cases a <;> cases b <;> rfl
theorem c_sEmpty {i k o p rs rd sl cap sl2 cap2 : Nat} {ow ow2 : Option Nat} {is is2 : List Nat} (hd : 2 ≤ d) (h : SM w g m id T) (hK : T.2.1 i = some (.inr (k, o, p, rs, rd))) (ho : T.1 o = some (ow, sl, cap, is)) (hp : k = 1 → T.1 p = some (ow2, sl2, cap2, is2)) :
    CT w MX9_isEmpty d 0 0 [.ref i] m (xRet (some (.int (xB (decide (is = []) && (if k = 1 then decide (is2 = []) else true))))) m) xN := by
  obtain ⟨sa, bx, f, hi, hsa, hf, hfq, -⟩ := sm_str h hK
  obtain ⟨lo, ao, bo, mo, hom, klo, hAo, -⟩ := sm_row h ho
  refine ct_intro (lv := [some (.ref i), none, none]) 2 (by decide) rfl (Nat.le_of_ble_eq_true rfl) rfl ?_
  have h1 : nI 1 &&& xB (decide (is = [])) = xB (decide (is = [])) := by cases decide (is = []) <;> rfl
  by_cases hk : k = 1
  · have hfq := hfq hk
    obtain ⟨lp, ap, bp, mp, hpm, klp, hAp, -⟩ := sm_row h (hp hk)
    rw [if_pos hk] at hsa ⊢
    refine g_iconst (v := (nI 1)) dX9_isEmpty_0 rfl rfl ?_
    refine g_ist1 dX9_isEmpty_1 rfl (by decide) (k := ?_)
    refine g_iconst (v := (nI 0)) dX9_isEmpty_2 rfl rfl ?_
    refine g_ist2 dX9_isEmpty_3 rfl (by decide) (k := ?_)
    refine g_iload_n dX9_isEmpty_4 rfl rfl rfl ?_
    first | refine g_aload_n dX9_isEmpty_5 rfl rfl rfl ?_ | refine g_aload_nR dX9_isEmpty_5 rfl rfl rfl ?_ | refine g_aload_nN dX9_isEmpty_5 rfl rfl rfl ?_
    refine g_get fl_X9_15_X9 dX9_isEmpty_6 rfl (Or.inl (by first | assumption | exact xu_eq _ _ _ | exact (xu_ne (by first | assumption | exact Ne.symm (by assumption))).trans (by first | assumption | exact xu_eq _ _ _) | exact (xu_ne (by first | assumption | exact Ne.symm (by assumption))).trans ((xu_ne (by first | assumption | exact Ne.symm (by assumption))).trans (by first | assumption | exact xu_eq _ _ _)) | exact (xu_ne (by first | assumption | exact Ne.symm (by assumption))).trans ((xu_ne (by first | assumption | exact Ne.symm (by assumption))).trans ((xu_ne (by first | assumption | exact Ne.symm (by assumption))).trans (by first | assumption | exact xu_eq _ _ _))))) rfl ?_
    refine g_alenq (t := 6) rfl dX9_isEmpty_9 rfl (by first | assumption | exact Or.inl (by first | assumption | exact xu_eq _ _ _ | exact (xu_ne (by first | assumption | exact Ne.symm (by assumption))).trans (by first | assumption | exact xu_eq _ _ _) | exact (xu_ne (by first | assumption | exact Ne.symm (by assumption))).trans ((xu_ne (by first | assumption | exact Ne.symm (by assumption))).trans (by first | assumption | exact xu_eq _ _ _)) | exact (xu_ne (by first | assumption | exact Ne.symm (by assumption))).trans ((xu_ne (by first | assumption | exact Ne.symm (by assumption))).trans ((xu_ne (by first | assumption | exact Ne.symm (by assumption))).trans (by first | assumption | exact xu_eq _ _ _))))) ?_
    refine g_icmpn_ge (tgt := 36) dX9_isEmpty_10 (by decide) rfl (by omega) (by omega) (fun c_10 => by omega) (fun c_10 => ?_)
    refine g_iload_n dX9_isEmpty_13 rfl rfl rfl ?_
    first | refine g_aload_n dX9_isEmpty_14 rfl rfl rfl ?_ | refine g_aload_nR dX9_isEmpty_14 rfl rfl rfl ?_ | refine g_aload_nN dX9_isEmpty_14 rfl rfl rfl ?_
    refine g_get fl_X9_15_X9 dX9_isEmpty_15 rfl (Or.inl (by first | assumption | exact xu_eq _ _ _ | exact (xu_ne (by first | assumption | exact Ne.symm (by assumption))).trans (by first | assumption | exact xu_eq _ _ _) | exact (xu_ne (by first | assumption | exact Ne.symm (by assumption))).trans ((xu_ne (by first | assumption | exact Ne.symm (by assumption))).trans (by first | assumption | exact xu_eq _ _ _)) | exact (xu_ne (by first | assumption | exact Ne.symm (by assumption))).trans ((xu_ne (by first | assumption | exact Ne.symm (by assumption))).trans ((xu_ne (by first | assumption | exact Ne.symm (by assumption))).trans (by first | assumption | exact xu_eq _ _ _))))) rfl ?_
    refine g_iload_n dX9_isEmpty_18 rfl rfl rfl ?_
    refine g_aaldn (t := 6) rfl dX9_isEmpty_19 rfl (by first | assumption | exact Or.inl (by first | assumption | exact xu_eq _ _ _ | exact (xu_ne (by first | assumption | exact Ne.symm (by assumption))).trans (by first | assumption | exact xu_eq _ _ _) | exact (xu_ne (by first | assumption | exact Ne.symm (by assumption))).trans ((xu_ne (by first | assumption | exact Ne.symm (by assumption))).trans (by first | assumption | exact xu_eq _ _ _)) | exact (xu_ne (by first | assumption | exact Ne.symm (by assumption))).trans ((xu_ne (by first | assumption | exact Ne.symm (by assumption))).trans ((xu_ne (by first | assumption | exact Ne.symm (by assumption))).trans (by first | assumption | exact xu_eq _ _ _))))) (by omega) (by omega) ?_
    rw [hf]
    refine g_get fl_X9_49_X4 dX9_isEmpty_20 rfl (Or.inl (by first | assumption | exact xu_eq _ _ _ | exact (xu_ne (by first | assumption | exact Ne.symm (by assumption))).trans (by first | assumption | exact xu_eq _ _ _) | exact (xu_ne (by first | assumption | exact Ne.symm (by assumption))).trans ((xu_ne (by first | assumption | exact Ne.symm (by assumption))).trans (by first | assumption | exact xu_eq _ _ _)) | exact (xu_ne (by first | assumption | exact Ne.symm (by assumption))).trans ((xu_ne (by first | assumption | exact Ne.symm (by assumption))).trans ((xu_ne (by first | assumption | exact Ne.symm (by assumption))).trans (by first | assumption | exact xu_eq _ _ _))))) rfl ?_
    refine g_ifaceP iI_J26_isEmpty_J26 q2215 (c_isEmpty (d := d - 1) (by omega) hAo) (Or.inl (by first | assumption | exact xu_eq _ _ _ | exact (xu_ne (by first | assumption | exact Ne.symm (by assumption))).trans (by first | assumption | exact xu_eq _ _ _) | exact (xu_ne (by first | assumption | exact Ne.symm (by assumption))).trans ((xu_ne (by first | assumption | exact Ne.symm (by assumption))).trans (by first | assumption | exact xu_eq _ _ _)) | exact (xu_ne (by first | assumption | exact Ne.symm (by assumption))).trans ((xu_ne (by first | assumption | exact Ne.symm (by assumption))).trans ((xu_ne (by first | assumption | exact Ne.symm (by assumption))).trans (by first | assumption | exact xu_eq _ _ _))))) rfl (by decide) dX9_isEmpty_23 rfl rfl rfl (by first | exact Nat.le_of_ble_eq_true rfl | simp [Value.category, rf_cat]) (by omega) xN_no ?_
    refine g_iand dX9_isEmpty_28 rfl ?_
    rw [h1]
    refine g_ist1 dX9_isEmpty_29 rfl (by decide) (k := ?_)
    refine g_incn2 dX9_isEmpty_30 rfl (by decide) (k := ?_)
    refine g_goto (tgt := 4) dX9_isEmpty_33 (by decide) ?_
    refine g_iload_n dX9_isEmpty_4 rfl rfl rfl ?_
    first | refine g_aload_n dX9_isEmpty_5 rfl rfl rfl ?_ | refine g_aload_nR dX9_isEmpty_5 rfl rfl rfl ?_ | refine g_aload_nN dX9_isEmpty_5 rfl rfl rfl ?_
    refine g_get fl_X9_15_X9 dX9_isEmpty_6 rfl (Or.inl (by first | assumption | exact xu_eq _ _ _ | exact (xu_ne (by first | assumption | exact Ne.symm (by assumption))).trans (by first | assumption | exact xu_eq _ _ _) | exact (xu_ne (by first | assumption | exact Ne.symm (by assumption))).trans ((xu_ne (by first | assumption | exact Ne.symm (by assumption))).trans (by first | assumption | exact xu_eq _ _ _)) | exact (xu_ne (by first | assumption | exact Ne.symm (by assumption))).trans ((xu_ne (by first | assumption | exact Ne.symm (by assumption))).trans ((xu_ne (by first | assumption | exact Ne.symm (by assumption))).trans (by first | assumption | exact xu_eq _ _ _))))) rfl ?_
    refine g_alenq (t := 6) rfl dX9_isEmpty_9 rfl (by first | assumption | exact Or.inl (by first | assumption | exact xu_eq _ _ _ | exact (xu_ne (by first | assumption | exact Ne.symm (by assumption))).trans (by first | assumption | exact xu_eq _ _ _) | exact (xu_ne (by first | assumption | exact Ne.symm (by assumption))).trans ((xu_ne (by first | assumption | exact Ne.symm (by assumption))).trans (by first | assumption | exact xu_eq _ _ _)) | exact (xu_ne (by first | assumption | exact Ne.symm (by assumption))).trans ((xu_ne (by first | assumption | exact Ne.symm (by assumption))).trans ((xu_ne (by first | assumption | exact Ne.symm (by assumption))).trans (by first | assumption | exact xu_eq _ _ _))))) ?_
    refine g_icmpn_ge (tgt := 36) dX9_isEmpty_10 (by decide) rfl (by omega) (by omega) (fun c_10 => by omega) (fun c_10 => ?_)
    refine g_iload_n dX9_isEmpty_13 rfl rfl rfl ?_
    first | refine g_aload_n dX9_isEmpty_14 rfl rfl rfl ?_ | refine g_aload_nR dX9_isEmpty_14 rfl rfl rfl ?_ | refine g_aload_nN dX9_isEmpty_14 rfl rfl rfl ?_
    refine g_get fl_X9_15_X9 dX9_isEmpty_15 rfl (Or.inl (by first | assumption | exact xu_eq _ _ _ | exact (xu_ne (by first | assumption | exact Ne.symm (by assumption))).trans (by first | assumption | exact xu_eq _ _ _) | exact (xu_ne (by first | assumption | exact Ne.symm (by assumption))).trans ((xu_ne (by first | assumption | exact Ne.symm (by assumption))).trans (by first | assumption | exact xu_eq _ _ _)) | exact (xu_ne (by first | assumption | exact Ne.symm (by assumption))).trans ((xu_ne (by first | assumption | exact Ne.symm (by assumption))).trans ((xu_ne (by first | assumption | exact Ne.symm (by assumption))).trans (by first | assumption | exact xu_eq _ _ _))))) rfl ?_
    refine g_iload_n dX9_isEmpty_18 rfl rfl rfl ?_
    refine g_aaldn (t := 6) rfl dX9_isEmpty_19 rfl (by first | assumption | exact Or.inl (by first | assumption | exact xu_eq _ _ _ | exact (xu_ne (by first | assumption | exact Ne.symm (by assumption))).trans (by first | assumption | exact xu_eq _ _ _) | exact (xu_ne (by first | assumption | exact Ne.symm (by assumption))).trans ((xu_ne (by first | assumption | exact Ne.symm (by assumption))).trans (by first | assumption | exact xu_eq _ _ _)) | exact (xu_ne (by first | assumption | exact Ne.symm (by assumption))).trans ((xu_ne (by first | assumption | exact Ne.symm (by assumption))).trans ((xu_ne (by first | assumption | exact Ne.symm (by assumption))).trans (by first | assumption | exact xu_eq _ _ _))))) (by omega) (by omega) ?_
    rw [hfq]
    refine g_get fl_X9_49_X4 dX9_isEmpty_20 rfl (Or.inl (by first | assumption | exact xu_eq _ _ _ | exact (xu_ne (by first | assumption | exact Ne.symm (by assumption))).trans (by first | assumption | exact xu_eq _ _ _) | exact (xu_ne (by first | assumption | exact Ne.symm (by assumption))).trans ((xu_ne (by first | assumption | exact Ne.symm (by assumption))).trans (by first | assumption | exact xu_eq _ _ _)) | exact (xu_ne (by first | assumption | exact Ne.symm (by assumption))).trans ((xu_ne (by first | assumption | exact Ne.symm (by assumption))).trans ((xu_ne (by first | assumption | exact Ne.symm (by assumption))).trans (by first | assumption | exact xu_eq _ _ _))))) rfl ?_
    refine g_ifaceP iI_J26_isEmpty_J26 q2215 (c_isEmpty (d := d - 1) (by omega) hAp) (Or.inl (by first | assumption | exact xu_eq _ _ _ | exact (xu_ne (by first | assumption | exact Ne.symm (by assumption))).trans (by first | assumption | exact xu_eq _ _ _) | exact (xu_ne (by first | assumption | exact Ne.symm (by assumption))).trans ((xu_ne (by first | assumption | exact Ne.symm (by assumption))).trans (by first | assumption | exact xu_eq _ _ _)) | exact (xu_ne (by first | assumption | exact Ne.symm (by assumption))).trans ((xu_ne (by first | assumption | exact Ne.symm (by assumption))).trans ((xu_ne (by first | assumption | exact Ne.symm (by assumption))).trans (by first | assumption | exact xu_eq _ _ _))))) rfl (by decide) dX9_isEmpty_23 rfl rfl rfl (by first | exact Nat.le_of_ble_eq_true rfl | simp [Value.category, rf_cat]) (by omega) xN_no ?_
    refine g_iand dX9_isEmpty_28 rfl ?_
    rw [xB_and]
    refine g_ist1 dX9_isEmpty_29 rfl (by decide) (k := ?_)
    refine g_incn2 dX9_isEmpty_30 rfl (by decide) (k := ?_)
    refine g_goto (tgt := 4) dX9_isEmpty_33 (by decide) ?_
    refine g_iload_n dX9_isEmpty_4 rfl rfl rfl ?_
    first | refine g_aload_n dX9_isEmpty_5 rfl rfl rfl ?_ | refine g_aload_nR dX9_isEmpty_5 rfl rfl rfl ?_ | refine g_aload_nN dX9_isEmpty_5 rfl rfl rfl ?_
    refine g_get fl_X9_15_X9 dX9_isEmpty_6 rfl (Or.inl (by first | assumption | exact xu_eq _ _ _ | exact (xu_ne (by first | assumption | exact Ne.symm (by assumption))).trans (by first | assumption | exact xu_eq _ _ _) | exact (xu_ne (by first | assumption | exact Ne.symm (by assumption))).trans ((xu_ne (by first | assumption | exact Ne.symm (by assumption))).trans (by first | assumption | exact xu_eq _ _ _)) | exact (xu_ne (by first | assumption | exact Ne.symm (by assumption))).trans ((xu_ne (by first | assumption | exact Ne.symm (by assumption))).trans ((xu_ne (by first | assumption | exact Ne.symm (by assumption))).trans (by first | assumption | exact xu_eq _ _ _))))) rfl ?_
    refine g_alenq (t := 6) rfl dX9_isEmpty_9 rfl (by first | assumption | exact Or.inl (by first | assumption | exact xu_eq _ _ _ | exact (xu_ne (by first | assumption | exact Ne.symm (by assumption))).trans (by first | assumption | exact xu_eq _ _ _) | exact (xu_ne (by first | assumption | exact Ne.symm (by assumption))).trans ((xu_ne (by first | assumption | exact Ne.symm (by assumption))).trans (by first | assumption | exact xu_eq _ _ _)) | exact (xu_ne (by first | assumption | exact Ne.symm (by assumption))).trans ((xu_ne (by first | assumption | exact Ne.symm (by assumption))).trans ((xu_ne (by first | assumption | exact Ne.symm (by assumption))).trans (by first | assumption | exact xu_eq _ _ _))))) ?_
    refine g_icmpn_ge (tgt := 36) dX9_isEmpty_10 (by decide) rfl (by omega) (by omega) (fun c_10 => ?_) (fun c_10 => by omega)
    refine g_iload_n dX9_isEmpty_36 rfl rfl rfl ?_
    exact g_breturn dX9_isEmpty_37 rfl ⟨rfl, rfl⟩
  · rw [if_neg hk] at hsa ⊢
    refine g_iconst (v := (nI 1)) dX9_isEmpty_0 rfl rfl ?_
    refine g_ist1 dX9_isEmpty_1 rfl (by decide) (k := ?_)
    refine g_iconst (v := (nI 0)) dX9_isEmpty_2 rfl rfl ?_
    refine g_ist2 dX9_isEmpty_3 rfl (by decide) (k := ?_)
    refine g_iload_n dX9_isEmpty_4 rfl rfl rfl ?_
    first | refine g_aload_n dX9_isEmpty_5 rfl rfl rfl ?_ | refine g_aload_nR dX9_isEmpty_5 rfl rfl rfl ?_ | refine g_aload_nN dX9_isEmpty_5 rfl rfl rfl ?_
    refine g_get fl_X9_15_X9 dX9_isEmpty_6 rfl (Or.inl (by first | assumption | exact xu_eq _ _ _ | exact (xu_ne (by first | assumption | exact Ne.symm (by assumption))).trans (by first | assumption | exact xu_eq _ _ _) | exact (xu_ne (by first | assumption | exact Ne.symm (by assumption))).trans ((xu_ne (by first | assumption | exact Ne.symm (by assumption))).trans (by first | assumption | exact xu_eq _ _ _)) | exact (xu_ne (by first | assumption | exact Ne.symm (by assumption))).trans ((xu_ne (by first | assumption | exact Ne.symm (by assumption))).trans ((xu_ne (by first | assumption | exact Ne.symm (by assumption))).trans (by first | assumption | exact xu_eq _ _ _))))) rfl ?_
    refine g_alenq (t := 6) rfl dX9_isEmpty_9 rfl (by first | assumption | exact Or.inl (by first | assumption | exact xu_eq _ _ _ | exact (xu_ne (by first | assumption | exact Ne.symm (by assumption))).trans (by first | assumption | exact xu_eq _ _ _) | exact (xu_ne (by first | assumption | exact Ne.symm (by assumption))).trans ((xu_ne (by first | assumption | exact Ne.symm (by assumption))).trans (by first | assumption | exact xu_eq _ _ _)) | exact (xu_ne (by first | assumption | exact Ne.symm (by assumption))).trans ((xu_ne (by first | assumption | exact Ne.symm (by assumption))).trans ((xu_ne (by first | assumption | exact Ne.symm (by assumption))).trans (by first | assumption | exact xu_eq _ _ _))))) ?_
    refine g_icmpn_ge (tgt := 36) dX9_isEmpty_10 (by decide) rfl (by omega) (by omega) (fun c_10 => by omega) (fun c_10 => ?_)
    refine g_iload_n dX9_isEmpty_13 rfl rfl rfl ?_
    first | refine g_aload_n dX9_isEmpty_14 rfl rfl rfl ?_ | refine g_aload_nR dX9_isEmpty_14 rfl rfl rfl ?_ | refine g_aload_nN dX9_isEmpty_14 rfl rfl rfl ?_
    refine g_get fl_X9_15_X9 dX9_isEmpty_15 rfl (Or.inl (by first | assumption | exact xu_eq _ _ _ | exact (xu_ne (by first | assumption | exact Ne.symm (by assumption))).trans (by first | assumption | exact xu_eq _ _ _) | exact (xu_ne (by first | assumption | exact Ne.symm (by assumption))).trans ((xu_ne (by first | assumption | exact Ne.symm (by assumption))).trans (by first | assumption | exact xu_eq _ _ _)) | exact (xu_ne (by first | assumption | exact Ne.symm (by assumption))).trans ((xu_ne (by first | assumption | exact Ne.symm (by assumption))).trans ((xu_ne (by first | assumption | exact Ne.symm (by assumption))).trans (by first | assumption | exact xu_eq _ _ _))))) rfl ?_
    refine g_iload_n dX9_isEmpty_18 rfl rfl rfl ?_
    refine g_aaldn (t := 6) rfl dX9_isEmpty_19 rfl (by first | assumption | exact Or.inl (by first | assumption | exact xu_eq _ _ _ | exact (xu_ne (by first | assumption | exact Ne.symm (by assumption))).trans (by first | assumption | exact xu_eq _ _ _) | exact (xu_ne (by first | assumption | exact Ne.symm (by assumption))).trans ((xu_ne (by first | assumption | exact Ne.symm (by assumption))).trans (by first | assumption | exact xu_eq _ _ _)) | exact (xu_ne (by first | assumption | exact Ne.symm (by assumption))).trans ((xu_ne (by first | assumption | exact Ne.symm (by assumption))).trans ((xu_ne (by first | assumption | exact Ne.symm (by assumption))).trans (by first | assumption | exact xu_eq _ _ _))))) (by omega) (by omega) ?_
    rw [hf]
    refine g_get fl_X9_49_X4 dX9_isEmpty_20 rfl (Or.inl (by first | assumption | exact xu_eq _ _ _ | exact (xu_ne (by first | assumption | exact Ne.symm (by assumption))).trans (by first | assumption | exact xu_eq _ _ _) | exact (xu_ne (by first | assumption | exact Ne.symm (by assumption))).trans ((xu_ne (by first | assumption | exact Ne.symm (by assumption))).trans (by first | assumption | exact xu_eq _ _ _)) | exact (xu_ne (by first | assumption | exact Ne.symm (by assumption))).trans ((xu_ne (by first | assumption | exact Ne.symm (by assumption))).trans ((xu_ne (by first | assumption | exact Ne.symm (by assumption))).trans (by first | assumption | exact xu_eq _ _ _))))) rfl ?_
    refine g_ifaceP iI_J26_isEmpty_J26 q2215 (c_isEmpty (d := d - 1) (by omega) hAo) (Or.inl (by first | assumption | exact xu_eq _ _ _ | exact (xu_ne (by first | assumption | exact Ne.symm (by assumption))).trans (by first | assumption | exact xu_eq _ _ _) | exact (xu_ne (by first | assumption | exact Ne.symm (by assumption))).trans ((xu_ne (by first | assumption | exact Ne.symm (by assumption))).trans (by first | assumption | exact xu_eq _ _ _)) | exact (xu_ne (by first | assumption | exact Ne.symm (by assumption))).trans ((xu_ne (by first | assumption | exact Ne.symm (by assumption))).trans ((xu_ne (by first | assumption | exact Ne.symm (by assumption))).trans (by first | assumption | exact xu_eq _ _ _))))) rfl (by decide) dX9_isEmpty_23 rfl rfl rfl (by first | exact Nat.le_of_ble_eq_true rfl | simp [Value.category, rf_cat]) (by omega) xN_no ?_
    refine g_iand dX9_isEmpty_28 rfl ?_
    rw [h1]
    refine g_ist1 dX9_isEmpty_29 rfl (by decide) (k := ?_)
    refine g_incn2 dX9_isEmpty_30 rfl (by decide) (k := ?_)
    refine g_goto (tgt := 4) dX9_isEmpty_33 (by decide) ?_
    refine g_iload_n dX9_isEmpty_4 rfl rfl rfl ?_
    first | refine g_aload_n dX9_isEmpty_5 rfl rfl rfl ?_ | refine g_aload_nR dX9_isEmpty_5 rfl rfl rfl ?_ | refine g_aload_nN dX9_isEmpty_5 rfl rfl rfl ?_
    refine g_get fl_X9_15_X9 dX9_isEmpty_6 rfl (Or.inl (by first | assumption | exact xu_eq _ _ _ | exact (xu_ne (by first | assumption | exact Ne.symm (by assumption))).trans (by first | assumption | exact xu_eq _ _ _) | exact (xu_ne (by first | assumption | exact Ne.symm (by assumption))).trans ((xu_ne (by first | assumption | exact Ne.symm (by assumption))).trans (by first | assumption | exact xu_eq _ _ _)) | exact (xu_ne (by first | assumption | exact Ne.symm (by assumption))).trans ((xu_ne (by first | assumption | exact Ne.symm (by assumption))).trans ((xu_ne (by first | assumption | exact Ne.symm (by assumption))).trans (by first | assumption | exact xu_eq _ _ _))))) rfl ?_
    refine g_alenq (t := 6) rfl dX9_isEmpty_9 rfl (by first | assumption | exact Or.inl (by first | assumption | exact xu_eq _ _ _ | exact (xu_ne (by first | assumption | exact Ne.symm (by assumption))).trans (by first | assumption | exact xu_eq _ _ _) | exact (xu_ne (by first | assumption | exact Ne.symm (by assumption))).trans ((xu_ne (by first | assumption | exact Ne.symm (by assumption))).trans (by first | assumption | exact xu_eq _ _ _)) | exact (xu_ne (by first | assumption | exact Ne.symm (by assumption))).trans ((xu_ne (by first | assumption | exact Ne.symm (by assumption))).trans ((xu_ne (by first | assumption | exact Ne.symm (by assumption))).trans (by first | assumption | exact xu_eq _ _ _))))) ?_
    refine g_icmpn_ge (tgt := 36) dX9_isEmpty_10 (by decide) rfl (by omega) (by omega) (fun c_10 => ?_) (fun c_10 => by omega)
    refine g_iload_n dX9_isEmpty_36 rfl rfl rfl ?_
    exact g_breturn dX9_isEmpty_37 rfl ⟨by rw [Bool.and_true], rfl⟩
end WRAPS
