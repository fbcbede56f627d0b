/-! DOCUMENTS: moveBy, constructor -/
set_option maxRecDepth 100000
theorem movC_is {L : List Int32} {c : Nat} {p : Int32} (hL : L.length < 1000) : (if nI 0 < (if nI c + p < nI L.length then nI c + p else nI L.length) then (if nI c + p < nI L.length then nI c + p else nI L.length) else nI 0) = nI (movC L c p) := by
  have hl : (nI L.length).toInt = L.length := nI_toInt (by omega)
  have h0 : (nI 0).toInt = 0 := rfl
  unfold movC
  generalize nI c + p = v
  by_cases c1 : v < 0
  · rw [if_pos c1]
    have c1' : v.toInt < 0 := Int32.lt_iff_toInt_lt.mp c1
    have c2 : v < nI L.length := Int32.lt_iff_toInt_lt.mpr (by omega)
    rw [if_pos c2, if_neg (fun h => by have := Int32.lt_iff_toInt_lt.mp h; omega)]
  · rw [if_neg c1]
    have c1' : 0 ≤ v.toInt := Int32.le_iff_toInt_le.mp (Int32.not_lt.mp c1)
    by_cases c2 : nI L.length < v
    · rw [if_pos c2]
      have c2' := Int32.lt_iff_toInt_lt.mp c2
      have e2 : (if v < nI L.length then v else nI L.length) = nI L.length := if_neg (fun h => by have := Int32.lt_iff_toInt_lt.mp h; omega)
      rw [e2]
      by_cases c3 : nI 0 < nI L.length
      · rw [if_pos c3]
      · rw [if_neg c3]
        have : L.length = 0 := by
          have := Int32.le_iff_toInt_le.mp (Int32.not_lt.mp c3); omega
        rw [this]
    · rw [if_neg c2]
      have c2' := Int32.le_iff_toInt_le.mp (Int32.not_lt.mp c2)
      have hv : nI v.toNatClampNeg = v := nI_tn c1
      rw [hv]
      have e1 : (if v < nI L.length then v else nI L.length) = v := by
        by_cases c3 : v < nI L.length
        · rw [if_pos c3]
        · rw [if_neg c3]
          apply Int32.toInt_inj.mp
          have := Int32.le_iff_toInt_le.mp (Int32.not_lt.mp c3); omega
      rw [e1]
      by_cases c4 : nI 0 < v
      · rw [if_pos c4]
      · rw [if_neg c4]
        apply Int32.toInt_inj.mp
        have := Int32.le_iff_toInt_le.mp (Int32.not_lt.mp c4); omega
theorem movC_le (L : List Int32) (c : Nat) (p : Int32) (hL : L.length < 1000) : movC L c p ≤ L.length := by
  unfold movC
  split
  · omega
  · split
    · omega
    · rename_i h
      have := Int32.le_iff_toInt_le.mp (Int32.not_lt.mp h)
      rw [nI_toInt (by omega)] at this
      have e : (nI c + p).toNatClampNeg = (nI c + p).toInt.toNat := rfl
      omega
section MOVEBY
variable {w : XW} {id d D : Nat} {g : XG} {m : XM} {T : XT} {top r : Nat} {P N Q : List XE} {q : Option Nat} {S : XK}
theorem dc_mv (h : DC w g m id D T top r P N Q q S) {r' c : Nat} {P' Q' : List XE} {q' : Option Nat} {S' : XK} (e : P ++ (N ++ Q) = P' ++ Q') (hc : P'.length = c) (hP : scn [(top, none)] P' = some ((r', q') :: S')) : DC w g (xu m D (.inr (2, [.ref top, .ref r', .int (nI (drs r' P').length), .int (nI 0)]))) id D T top r' P' [] Q' q' S' := by
  obtain ⟨h1, h2, ⟨h3, h3'⟩, h4, ⟨sl0, cap0, h5⟩, h6, h7, h8, h9⟩ := h
  have hgD : (g D).1 ≠ id := by rw [h3]; exact fun e => h3' e.symm
  refine ⟨sm_D h1 hgD (by rw [h2]; exact fun h => by cases h), ?_, ⟨h3, h3'⟩, ?_, ?_, hP, bd_nil r', ?_, ?_⟩
  · rw [xu_eq, List.append_nil]; rfl
  · rw [List.nil_append, ← e]; exact h4
  · rw [List.nil_append, ← e]; exact ⟨_, _, h5⟩
  · rw [List.nil_append, ← e]; exact h8
  · rw [List.nil_append, ← e]; exact h9
theorem c_moveBy {p : Int32} (h : DC w g m id D T top r P N Q q S) (hd : 40 ≤ d) : CT w MX3_moveBy d 0 0 [.ref D, .int p] m (fun v m' => some (.int (nI (movC ((P ++ (N ++ Q)).map sg) (P ++ N).length p))) = v ∧ FrD id D g m g m' ∧ DP w g m' id D ((P ++ (N ++ Q)).map sg, movC ((P ++ (N ++ Q)).map sg) (P ++ N).length p, none)) xN := by
  have hL := dc_len h
  have hDC := h
  obtain ⟨h1, h2, ⟨h3, h3'⟩, h4, ⟨sl0, cap0, h5⟩, h6, h7, h8, h9⟩ := h
  have hgD : (g D).1 ≠ id := by rw [h3]; exact fun e => h3' e.symm
  have hmD : m D ≠ none := by rw [h2]; exact fun h => by cases h
  obtain ⟨la, ar, bx, mc, hr1, -⟩ := sm_row h1 h5
  have hml : ((P ++ (N ++ Q)).map sg).length = (P ++ (N ++ Q)).length := List.length_map _
  have hmv := movC_is (L := (P ++ (N ++ Q)).map sg) (c := (P ++ N).length) (p := p) (by rw [hml]; omega)
  have hle := movC_le ((P ++ (N ++ Q)).map sg) (P ++ N).length p (by rw [hml]; omega)
  rw [hml] at hmv hle
  generalize movC ((P ++ (N ++ Q)).map sg) (P ++ N).length p = c' at *
  refine ct_intro (lv := [some (.ref D), some (.int p)]) 0 (by decide) rfl (Nat.le_of_ble_eq_true rfl) rfl ?_
  first | refine g_aload_n dX3_moveBy_0 rfl rfl rfl ?_ | refine g_aload_nR dX3_moveBy_0 rfl rfl rfl ?_ | refine g_aload_nN dX3_moveBy_0 rfl rfl rfl ?_
  refine g_iconst (v := (nI 0)) dX3_moveBy_1 rfl rfl ?_
  first | refine g_aload_n dX3_moveBy_2 rfl rfl rfl ?_ | refine g_aload_nR dX3_moveBy_2 rfl rfl rfl ?_ | refine g_aload_nN dX3_moveBy_2 rfl rfl rfl ?_
  refine g_get fl_X3_9_X3 dX3_moveBy_3 rfl (Or.inl (by first | assumption | exact xu_eq _ _ _ | exact (xu_ne (by first | assumption | exact Ne.symm (by assumption))).trans (by first | assumption | exact xu_eq _ _ _) | exact (xu_ne (by first | assumption | exact Ne.symm (by assumption))).trans ((xu_ne (by first | assumption | exact Ne.symm (by assumption))).trans (by first | assumption | exact xu_eq _ _ _)) | exact (xu_ne (by first | assumption | exact Ne.symm (by assumption))).trans ((xu_ne (by first | assumption | exact Ne.symm (by assumption))).trans ((xu_ne (by first | assumption | exact Ne.symm (by assumption))).trans (by first | assumption | exact xu_eq _ _ _))))) rfl ?_
  refine g_virtualP iV_X4_places q2004 (c_places h1 (P ++ (N ++ Q)).length (P ++ (N ++ Q)) top (Nat.le_refl _) (by omega) h4 (d - 1) (by omega)) (Or.inl (by first | assumption | exact xu_eq _ _ _ | exact (xu_ne (by first | assumption | exact Ne.symm (by assumption))).trans (by first | assumption | exact xu_eq _ _ _) | exact (xu_ne (by first | assumption | exact Ne.symm (by assumption))).trans ((xu_ne (by first | assumption | exact Ne.symm (by assumption))).trans (by first | assumption | exact xu_eq _ _ _)) | exact (xu_ne (by first | assumption | exact Ne.symm (by assumption))).trans ((xu_ne (by first | assumption | exact Ne.symm (by assumption))).trans ((xu_ne (by first | assumption | exact Ne.symm (by assumption))).trans (by first | assumption | exact xu_eq _ _ _))))) rfl (by decide) dX3_moveBy_6 rfl rfl rfl (by first | exact Nat.le_of_ble_eq_true rfl | simp [Value.category, rf_cat]) (by omega) xN_no ?_
  refine g_iconst (v := (nI 1)) dX3_moveBy_9 rfl rfl ?_
  refine g_isubn dX3_moveBy_10 rfl (by omega) ?_
  show G w _ _ _ _ _ _ _ (.int (nI (P ++ (N ++ Q)).length) :: .int (nI 0) :: .ref D :: []) _
  first | refine g_aload_n dX3_moveBy_11 rfl rfl rfl ?_ | refine g_aload_nR dX3_moveBy_11 rfl rfl rfl ?_ | refine g_aload_nN dX3_moveBy_11 rfl rfl rfl ?_
  refine g_virtualP iV_X3_place q2062 (c_dplace (d := d - 1) hDC (by omega)) (Or.inl (by first | assumption | exact xu_eq _ _ _ | exact (xu_ne (by first | assumption | exact Ne.symm (by assumption))).trans (by first | assumption | exact xu_eq _ _ _) | exact (xu_ne (by first | assumption | exact Ne.symm (by assumption))).trans ((xu_ne (by first | assumption | exact Ne.symm (by assumption))).trans (by first | assumption | exact xu_eq _ _ _)) | exact (xu_ne (by first | assumption | exact Ne.symm (by assumption))).trans ((xu_ne (by first | assumption | exact Ne.symm (by assumption))).trans ((xu_ne (by first | assumption | exact Ne.symm (by assumption))).trans (by first | assumption | exact xu_eq _ _ _))))) rfl (by decide) dX3_moveBy_12 rfl rfl rfl (by first | exact Nat.le_of_ble_eq_true rfl | simp [Value.category, rf_cat]) (by omega) xN_no ?_
  refine g_iload_n dX3_moveBy_15 rfl rfl rfl ?_
  refine g_iadd dX3_moveBy_16 rfl ?_
  refine g_min q1827 dX3_moveBy_17 rfl (by first | exact Nat.le_of_ble_eq_true rfl | simp [Value.category, rf_cat]) (by omega) ?_
  refine g_max q2063 dX3_moveBy_20 rfl (by first | exact Nat.le_of_ble_eq_true rfl | simp [Value.category, rf_cat]) (by omega) ?_
  rw [hmv]
  refine g_virtual iV_X3_moveTo q2064 (c_moveTo (d := d - 1) (by omega) h1 h4 h2 hgD hL.1 h9 hle) (Or.inl (by first | assumption | exact xu_eq _ _ _ | exact (xu_ne (by first | assumption | exact Ne.symm (by assumption))).trans (by first | assumption | exact xu_eq _ _ _) | exact (xu_ne (by first | assumption | exact Ne.symm (by assumption))).trans ((xu_ne (by first | assumption | exact Ne.symm (by assumption))).trans (by first | assumption | exact xu_eq _ _ _)) | exact (xu_ne (by first | assumption | exact Ne.symm (by assumption))).trans ((xu_ne (by first | assumption | exact Ne.symm (by assumption))).trans ((xu_ne (by first | assumption | exact Ne.symm (by assumption))).trans (by first | assumption | exact xu_eq _ _ _))))) rfl (by decide) dX3_moveBy_23 rfl rfl rfl (by first | exact Nat.le_of_ble_eq_true rfl | simp [Value.category, rf_cat]) (by omega) (by omega) (by omega) xN_no (fun v_23 m_23 h_23 => ?_)
  obtain ⟨rfl, r', P', Q', q', S', e1, e2, e3, e4⟩ := h_23
  have hDC2 := dc_mv hDC e1 e2 e3
  rw [← e4] at hDC2
  have hp2 := c_dplace (d := d - 1) hDC2 (by omega)
  rw [List.append_nil, e2] at hp2
  have h22 := hDC2.2.1
  first | refine g_aload_n dX3_moveBy_26 rfl rfl rfl ?_ | refine g_aload_nR dX3_moveBy_26 rfl rfl rfl ?_ | refine g_aload_nN dX3_moveBy_26 rfl rfl rfl ?_
  refine g_virtualP iV_X3_place q2062 (hp2) (Or.inl (by first | assumption | exact xu_eq _ _ _ | exact (xu_ne (by first | assumption | exact Ne.symm (by assumption))).trans (by first | assumption | exact xu_eq _ _ _) | exact (xu_ne (by first | assumption | exact Ne.symm (by assumption))).trans ((xu_ne (by first | assumption | exact Ne.symm (by assumption))).trans (by first | assumption | exact xu_eq _ _ _)) | exact (xu_ne (by first | assumption | exact Ne.symm (by assumption))).trans ((xu_ne (by first | assumption | exact Ne.symm (by assumption))).trans ((xu_ne (by first | assumption | exact Ne.symm (by assumption))).trans (by first | assumption | exact xu_eq _ _ _))))) rfl (by decide) dX3_moveBy_27 rfl rfl rfl (by first | exact Nat.le_of_ble_eq_true rfl | simp [Value.category, rf_cat]) (by omega) xN_no ?_
  refine g_ireturn dX3_moveBy_30 rfl ⟨rfl, ?_, T, top, r', P', [], Q', q', S', hDC2, ?_⟩
  · rw [e4]; exact FrD_u hmD
  · rw [List.nil_append, ← e1, List.append_nil, e2, if_pos rfl]
end MOVEBY
