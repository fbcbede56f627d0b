/-! DOCUMENTS: dissolve -/
set_option maxRecDepth 100000
section DISS
variable {w : XW} {id d D : Nat} {g : XG} {m : XM} {T : XT} {top : Nat}
/-- one row's items go up -/
theorem l_dis1 {Z : XZ} {rr i k sa n j s slot fin car cap cap2 kc ks : Nat} {f : Nat → Option Nat} {ro rs rd bx : Value} {own own2 : Option Nat} {sl sl2 : Nat} {X B V : List Nat} {aa : Nat} (hd : 12 ≤ d) (h : SM w g m id T) (hi : m i = some (.inr (7, [ro, .int (nI k), .ref sa, rs, rd, bx]))) (hsa : m sa = some (rA 6 n f)) (hj : j < n) (hn : n ≤ 2) (hf : f j = some s) (hR : T.1 rr = some (own, sl, cap, X ++ V)) (hR2 : T.1 s = some (own2, sl2, cap2, B)) (hne : s ≠ rr) (hl : (X ++ (B ++ V)).length ≤ 250) (hfin : fin = X.length) (hsl : slot < 2) (hc : car < 1000) (hkc : B.length ≤ kc) (hks : 12 * B.length + Psi (X ++ V).length cap ≤ 2 * (6 * B.length + 400)) (hks2 : 6 * B.length + 400 ≤ ks)
    (kk : ∀ g' m' cap', SM w g' m' id (uF (uF T.1 rr (some (own, sl, cap', X ++ (B ++ V)))) s (some (own2, sl2, cap2, [])), T.2.1, uW T.2.2 B rr) → Fr id g m g' m' → G w MX3_dissolve Z d (kc - B.length) (ks - (6 * B.length + 400)) 35 [some (.ref D), some (.ref i), some (.int (nI slot)), some (.ref rr), some (.int (nI aa)), some (.int (nI (fin + B.length))), some (.int (nI (if j = slot then fin else car))), some (.int (nI (j + 1)))] [] m') :
    G w MX3_dissolve Z d kc ks 35 [some (.ref D), some (.ref i), some (.int (nI slot)), some (.ref rr), some (.int (nI aa)), some (.int (nI fin)), some (.int (nI car)), some (.int (nI j))] [] m := by
  subst hfin
  obtain ⟨la, ar, bx2, mc, hr1, -⟩ := sm_row h hR
  have hxl : X.length ≤ 250 := by simp only [List.length_append] at hl; omega
  have hc0 := c_take (d := d - 1) (kc := B.length) (ks := 6 * B.length + 400) (i := X.length) (by omega) h hR hR2 hne hl rfl (Nat.le_refl _) hks
  by_cases hjs : j = slot
  · rw [if_pos hjs] at kk
    refine g_iload dX3_dissolve_35 rfl rfl ?_
    first | refine g_aload_n dX3_dissolve_37 rfl rfl rfl ?_ | refine g_aload_nR dX3_dissolve_37 rfl rfl rfl ?_ | refine g_aload_nN dX3_dissolve_37 rfl rfl rfl ?_
    refine g_get fl_X3_69_X9 dX3_dissolve_38 rfl (Or.inl (by first | assumption | exact xu_eq _ _ _ | exact (xu_ne (by first | assumption | exact Ne.symm (by assumption))).trans (by first | assumption | exact xu_eq _ _ _) | exact (xu_ne (by first | assumption | exact Ne.symm (by assumption))).trans ((xu_ne (by first | assumption | exact Ne.symm (by assumption))).trans (by first | assumption | exact xu_eq _ _ _)) | exact (xu_ne (by first | assumption | exact Ne.symm (by assumption))).trans ((xu_ne (by first | assumption | exact Ne.symm (by assumption))).trans ((xu_ne (by first | assumption | exact Ne.symm (by assumption))).trans (by first | assumption | exact xu_eq _ _ _))))) rfl ?_
    refine g_alenq (t := 6) rfl dX3_dissolve_41 rfl (by first | assumption | exact Or.inl (by first | assumption | exact xu_eq _ _ _ | exact (xu_ne (by first | assumption | exact Ne.symm (by assumption))).trans (by first | assumption | exact xu_eq _ _ _) | exact (xu_ne (by first | assumption | exact Ne.symm (by assumption))).trans ((xu_ne (by first | assumption | exact Ne.symm (by assumption))).trans (by first | assumption | exact xu_eq _ _ _)) | exact (xu_ne (by first | assumption | exact Ne.symm (by assumption))).trans ((xu_ne (by first | assumption | exact Ne.symm (by assumption))).trans ((xu_ne (by first | assumption | exact Ne.symm (by assumption))).trans (by first | assumption | exact xu_eq _ _ _))))) ?_
    refine g_icmpn_ge (tgt := 84) dX3_dissolve_42 (by decide) rfl (by omega) (by omega) (fun c_42 => by omega) (fun c_42 => ?_)
    refine g_iload dX3_dissolve_45 rfl rfl ?_
    refine g_iload_n dX3_dissolve_47 rfl rfl rfl ?_
    refine g_icmpn_ne (tgt := 56) dX3_dissolve_48 (by decide) rfl (by omega) (by omega) (fun c_48 => by omega) (fun c_48 => ?_)
    refine g_iload dX3_dissolve_51 rfl rfl ?_
    refine g_goto (tgt := 58) dX3_dissolve_53 (by decide) ?_
    refine g_ist6 dX3_dissolve_58 rfl (by decide) (k := ?_)
    refine g_iload dX3_dissolve_60 rfl rfl ?_
    first | refine g_aload_n dX3_dissolve_62 rfl rfl rfl ?_ | refine g_aload_nR dX3_dissolve_62 rfl rfl rfl ?_ | refine g_aload_nN dX3_dissolve_62 rfl rfl rfl ?_
    refine g_iload dX3_dissolve_63 rfl rfl ?_
    first | refine g_aload_n dX3_dissolve_65 rfl rfl rfl ?_ | refine g_aload_nR dX3_dissolve_65 rfl rfl rfl ?_ | refine g_aload_nN dX3_dissolve_65 rfl rfl rfl ?_
    refine g_get fl_X3_69_X9 dX3_dissolve_66 rfl (Or.inl (by first | assumption | exact xu_eq _ _ _ | exact (xu_ne (by first | assumption | exact Ne.symm (by assumption))).trans (by first | assumption | exact xu_eq _ _ _) | exact (xu_ne (by first | assumption | exact Ne.symm (by assumption))).trans ((xu_ne (by first | assumption | exact Ne.symm (by assumption))).trans (by first | assumption | exact xu_eq _ _ _)) | exact (xu_ne (by first | assumption | exact Ne.symm (by assumption))).trans ((xu_ne (by first | assumption | exact Ne.symm (by assumption))).trans ((xu_ne (by first | assumption | exact Ne.symm (by assumption))).trans (by first | assumption | exact xu_eq _ _ _))))) rfl ?_
    refine g_iload dX3_dissolve_69 rfl rfl ?_
    refine g_aaldn (t := 6) rfl dX3_dissolve_71 rfl (by first | assumption | exact Or.inl (by first | assumption | exact xu_eq _ _ _ | exact (xu_ne (by first | assumption | exact Ne.symm (by assumption))).trans (by first | assumption | exact xu_eq _ _ _) | exact (xu_ne (by first | assumption | exact Ne.symm (by assumption))).trans ((xu_ne (by first | assumption | exact Ne.symm (by assumption))).trans (by first | assumption | exact xu_eq _ _ _)) | exact (xu_ne (by first | assumption | exact Ne.symm (by assumption))).trans ((xu_ne (by first | assumption | exact Ne.symm (by assumption))).trans ((xu_ne (by first | assumption | exact Ne.symm (by assumption))).trans (by first | assumption | exact xu_eq _ _ _))))) (by omega) (by omega) ?_
    rw [hf]
    refine g_virtual iV_X4_take q2197 (hc0) (Or.inl (by first | assumption | exact xu_eq _ _ _ | exact (xu_ne (by first | assumption | exact Ne.symm (by assumption))).trans (by first | assumption | exact xu_eq _ _ _) | exact (xu_ne (by first | assumption | exact Ne.symm (by assumption))).trans ((xu_ne (by first | assumption | exact Ne.symm (by assumption))).trans (by first | assumption | exact xu_eq _ _ _)) | exact (xu_ne (by first | assumption | exact Ne.symm (by assumption))).trans ((xu_ne (by first | assumption | exact Ne.symm (by assumption))).trans ((xu_ne (by first | assumption | exact Ne.symm (by assumption))).trans (by first | assumption | exact xu_eq _ _ _))))) rfl (by decide) dX3_dissolve_72 rfl rfl rfl (by first | exact Nat.le_of_ble_eq_true rfl | simp [Value.category, rf_cat]) (by omega) (by omega) (by omega) xN_no (fun v_72 m_72 h_72 => ?_)
    obtain ⟨g1, cap', rfl, hS1, hF1⟩ := h_72
    refine g_iaddn dX3_dissolve_75 rfl ?_
    refine g_ist5 dX3_dissolve_76 rfl (by decide) (k := ?_)
    refine g_incn7 dX3_dissolve_78 rfl (by decide) (k := ?_)
    refine g_goto (tgt := 35) dX3_dissolve_81 (by decide) ?_
    exact kk g1 m_72 cap' hS1 hF1
  · rw [if_neg hjs] at kk
    refine g_iload dX3_dissolve_35 rfl rfl ?_
    first | refine g_aload_n dX3_dissolve_37 rfl rfl rfl ?_ | refine g_aload_nR dX3_dissolve_37 rfl rfl rfl ?_ | refine g_aload_nN dX3_dissolve_37 rfl rfl rfl ?_
    refine g_get fl_X3_69_X9 dX3_dissolve_38 rfl (Or.inl (by first | assumption | exact xu_eq _ _ _ | exact (xu_ne (by first | assumption | exact Ne.symm (by assumption))).trans (by first | assumption | exact xu_eq _ _ _) | exact (xu_ne (by first | assumption | exact Ne.symm (by assumption))).trans ((xu_ne (by first | assumption | exact Ne.symm (by assumption))).trans (by first | assumption | exact xu_eq _ _ _)) | exact (xu_ne (by first | assumption | exact Ne.symm (by assumption))).trans ((xu_ne (by first | assumption | exact Ne.symm (by assumption))).trans ((xu_ne (by first | assumption | exact Ne.symm (by assumption))).trans (by first | assumption | exact xu_eq _ _ _))))) rfl ?_
    refine g_alenq (t := 6) rfl dX3_dissolve_41 rfl (by first | assumption | exact Or.inl (by first | assumption | exact xu_eq _ _ _ | exact (xu_ne (by first | assumption | exact Ne.symm (by assumption))).trans (by first | assumption | exact xu_eq _ _ _) | exact (xu_ne (by first | assumption | exact Ne.symm (by assumption))).trans ((xu_ne (by first | assumption | exact Ne.symm (by assumption))).trans (by first | assumption | exact xu_eq _ _ _)) | exact (xu_ne (by first | assumption | exact Ne.symm (by assumption))).trans ((xu_ne (by first | assumption | exact Ne.symm (by assumption))).trans ((xu_ne (by first | assumption | exact Ne.symm (by assumption))).trans (by first | assumption | exact xu_eq _ _ _))))) ?_
    refine g_icmpn_ge (tgt := 84) dX3_dissolve_42 (by decide) rfl (by omega) (by omega) (fun c_42 => by omega) (fun c_42 => ?_)
    refine g_iload dX3_dissolve_45 rfl rfl ?_
    refine g_iload_n dX3_dissolve_47 rfl rfl rfl ?_
    refine g_icmpn_ne (tgt := 56) dX3_dissolve_48 (by decide) rfl (by omega) (by omega) (fun c_48 => ?_) (fun c_48 => by omega)
    refine g_iload dX3_dissolve_56 rfl rfl ?_
    refine g_ist6 dX3_dissolve_58 rfl (by decide) (k := ?_)
    refine g_iload dX3_dissolve_60 rfl rfl ?_
    first | refine g_aload_n dX3_dissolve_62 rfl rfl rfl ?_ | refine g_aload_nR dX3_dissolve_62 rfl rfl rfl ?_ | refine g_aload_nN dX3_dissolve_62 rfl rfl rfl ?_
    refine g_iload dX3_dissolve_63 rfl rfl ?_
    first | refine g_aload_n dX3_dissolve_65 rfl rfl rfl ?_ | refine g_aload_nR dX3_dissolve_65 rfl rfl rfl ?_ | refine g_aload_nN dX3_dissolve_65 rfl rfl rfl ?_
    refine g_get fl_X3_69_X9 dX3_dissolve_66 rfl (Or.inl (by first | assumption | exact xu_eq _ _ _ | exact (xu_ne (by first | assumption | exact Ne.symm (by assumption))).trans (by first | assumption | exact xu_eq _ _ _) | exact (xu_ne (by first | assumption | exact Ne.symm (by assumption))).trans ((xu_ne (by first | assumption | exact Ne.symm (by assumption))).trans (by first | assumption | exact xu_eq _ _ _)) | exact (xu_ne (by first | assumption | exact Ne.symm (by assumption))).trans ((xu_ne (by first | assumption | exact Ne.symm (by assumption))).trans ((xu_ne (by first | assumption | exact Ne.symm (by assumption))).trans (by first | assumption | exact xu_eq _ _ _))))) rfl ?_
    refine g_iload dX3_dissolve_69 rfl rfl ?_
    refine g_aaldn (t := 6) rfl dX3_dissolve_71 rfl (by first | assumption | exact Or.inl (by first | assumption | exact xu_eq _ _ _ | exact (xu_ne (by first | assumption | exact Ne.symm (by assumption))).trans (by first | assumption | exact xu_eq _ _ _) | exact (xu_ne (by first | assumption | exact Ne.symm (by assumption))).trans ((xu_ne (by first | assumption | exact Ne.symm (by assumption))).trans (by first | assumption | exact xu_eq _ _ _)) | exact (xu_ne (by first | assumption | exact Ne.symm (by assumption))).trans ((xu_ne (by first | assumption | exact Ne.symm (by assumption))).trans ((xu_ne (by first | assumption | exact Ne.symm (by assumption))).trans (by first | assumption | exact xu_eq _ _ _))))) (by omega) (by omega) ?_
    rw [hf]
    refine g_virtual iV_X4_take q2197 (hc0) (Or.inl (by first | assumption | exact xu_eq _ _ _ | exact (xu_ne (by first | assumption | exact Ne.symm (by assumption))).trans (by first | assumption | exact xu_eq _ _ _) | exact (xu_ne (by first | assumption | exact Ne.symm (by assumption))).trans ((xu_ne (by first | assumption | exact Ne.symm (by assumption))).trans (by first | assumption | exact xu_eq _ _ _)) | exact (xu_ne (by first | assumption | exact Ne.symm (by assumption))).trans ((xu_ne (by first | assumption | exact Ne.symm (by assumption))).trans ((xu_ne (by first | assumption | exact Ne.symm (by assumption))).trans (by first | assumption | exact xu_eq _ _ _))))) rfl (by decide) dX3_dissolve_72 rfl rfl rfl (by first | exact Nat.le_of_ble_eq_true rfl | simp [Value.category, rf_cat]) (by omega) (by omega) (by omega) xN_no (fun v_72 m_72 h_72 => ?_)
    obtain ⟨g1, cap', rfl, hS1, hF1⟩ := h_72
    refine g_iaddn dX3_dissolve_75 rfl ?_
    refine g_ist5 dX3_dissolve_76 rfl (by decide) (k := ?_)
    refine g_incn7 dX3_dissolve_78 rfl (by decide) (k := ?_)
    refine g_goto (tgt := 35) dX3_dissolve_81 (by decide) ?_
    exact kk g1 m_72 cap' hS1 hF1
end DISS
