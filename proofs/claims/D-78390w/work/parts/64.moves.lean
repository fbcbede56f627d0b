/-! ROWS: items that go to another row -/
set_option maxRecDepth 100000
section MOVES
variable {w : XW} {id d : Nat}
/-- split(from, to) -/
theorem c_split {g : XG} {m : XM} {T : XT} {r sl cap i j : Nat} {own : Option Nat} {A B C : List Nat} (hd : 10 ≤ d) (h : SM w g m id T) (hR : T.1 r = some (own, sl, cap, A ++ (B ++ C))) (hl : (A ++ (B ++ C)).length ≤ 250) (hi : i = A.length) (hj : j = A.length + B.length) :
    CT w MX4_split d (2 + B.length) (6 * B.length + 40) [.ref r, .int (nI i), .int (nI j)] m (fun v m' => ∃ t g' cap', some (.ref t) = v ∧ m t = none ∧ SM w g' m' id (uF (uF T.1 r (some (own, sl, cap, A ++ C))) t (some (none, 0, cap', B)), T.2.1, uW T.2.2 B t) ∧ Fr id g m g' m') xN := by
  subst hi; subst hj
  have hlen : A.length + (B.length + C.length) ≤ 250 := by simpa using hl
  refine ct_intro (lv := [some (.ref r), some (.int (nI A.length)), some (.int (nI (A.length + B.length))), none, none]) 2 (by decide) rfl (Nat.le_of_ble_eq_true rfl) rfl ?_
  have loop : ∀ (B2 B1 : List Nat) (g1 : XG) (m1 : XM) (t cap1 kc ks : Nat), B = B1 ++ B2 → t ≠ r → m t = none → Fr id g m g1 m1 → SM w g1 m1 id (uF (uF T.1 r (some (own, sl, cap, A ++ (B2 ++ C)))) t (some (none, 0, cap1, B1)), T.2.1, uW T.2.2 B1 t) → B2.length ≤ kc → 12 * B2.length + Psi B1.length cap1 ≤ 2 * ks →
      G w MX4_split (xZ w (fun v m' => ∃ t g' cap', some (.ref t) = v ∧ m t = none ∧ SM w g' m' id (uF (uF T.1 r (some (own, sl, cap, A ++ C))) t (some (none, 0, cap', B)), T.2.1, uW T.2.2 B t) ∧ Fr id g m g' m') xN) d kc ks 11 [some (.ref r), some (.int (nI A.length)), some (.int (nI (A.length + B.length))), some (.ref t), some (.int (nI (A.length + B1.length)))] [] m1 := by
    intro B2
    induction B2 with
    | nil =>
      intro B1 g1 m1 t cap1 kc ks hB htr hmt hF hS hkc hks
      have hBB : B1.length = B.length := by rw [hB]; simp
      refine g_iload dX4_split_11 rfl rfl ?_
      refine g_iload_n dX4_split_13 rfl rfl rfl ?_
      refine g_icmpn_ge (tgt := 40) dX4_split_14 (by decide) rfl (by omega) (by omega) (fun c_14 => ?_) (fun c_14 => by omega)
      first | refine g_aload_n dX4_split_40 rfl rfl rfl ?_ | refine g_aload_nR dX4_split_40 rfl rfl rfl ?_ | refine g_aload_nN dX4_split_40 rfl rfl rfl ?_
      rw [List.append_nil] at hB; subst hB
      exact g_areturn dX4_split_41 rfl (Or.inl ⟨_, rfl⟩) (Or.inr ⟨_, rfl⟩) ⟨t, g1, cap1, rfl, hmt, hS, hF⟩
    | cons x B2 ih =>
      intro B1 g1 m1 t cap1 kc ks hB htr hmt hF hS hkc hks
      have hBB : B1.length + (B2.length + 1) = B.length := by rw [hB]; simp
      simp only [List.length_cons] at hkc hks
      obtain ⟨la, ar, bx, mc, h1, k1, hA, h3, h4, h5, hz⟩ := sm_row hS ((uF_ne htr.symm).trans (uF_eq _ _ _))
      obtain ⟨la2, ar2, bx2, mc2, h21, k21, hA2, -⟩ := sm_row hS (uF_eq _ _ _)
      have hle2 := (al_len hA2).1
      have hp := al_pot hle2
      have hci := sm_castI hS (hz x (by simp))
      refine g_iload dX4_split_11 rfl rfl ?_
      refine g_iload_n dX4_split_13 rfl rfl rfl ?_
      refine g_icmpn_ge (tgt := 40) dX4_split_14 (by decide) rfl (by omega) (by omega) (fun c_14 => by omega) (fun c_14 => ?_)
      first | refine g_aload_n dX4_split_17 rfl rfl rfl ?_ | refine g_aload_nR dX4_split_17 rfl rfl rfl ?_ | refine g_aload_nN dX4_split_17 rfl rfl rfl ?_
      first | refine g_aload_n dX4_split_18 rfl rfl rfl ?_ | refine g_aload_nR dX4_split_18 rfl rfl rfl ?_ | refine g_aload_nN dX4_split_18 rfl rfl rfl ?_
      refine g_get fl_X4_12_X4 dX4_split_19 rfl (Or.inl (by first | assumption | exact xu_eq _ _ _ | exact (xu_ne (by first | assumption | exact Ne.symm (by assumption))).trans (by first | assumption | exact xu_eq _ _ _) | exact (xu_ne (by first | assumption | exact Ne.symm (by assumption))).trans ((xu_ne (by first | assumption | exact Ne.symm (by assumption))).trans (by first | assumption | exact xu_eq _ _ _)) | exact (xu_ne (by first | assumption | exact Ne.symm (by assumption))).trans ((xu_ne (by first | assumption | exact Ne.symm (by assumption))).trans ((xu_ne (by first | assumption | exact Ne.symm (by assumption))).trans (by first | assumption | exact xu_eq _ _ _))))) rfl ?_
      refine g_iload_n dX4_split_22 rfl rfl rfl ?_
      refine g_iface iI_J26_remove_J26 q1460 (c_remv (d := d - 1) (by omega) hA (at_mid A (B2 ++ C) x) (fun z hq => sm_xob hS (hz z hq))) (Or.inl (by first | assumption | exact xu_eq _ _ _ | exact (xu_ne (by first | assumption | exact Ne.symm (by assumption))).trans (by first | assumption | exact xu_eq _ _ _) | exact (xu_ne (by first | assumption | exact Ne.symm (by assumption))).trans ((xu_ne (by first | assumption | exact Ne.symm (by assumption))).trans (by first | assumption | exact xu_eq _ _ _)) | exact (xu_ne (by first | assumption | exact Ne.symm (by assumption))).trans ((xu_ne (by first | assumption | exact Ne.symm (by assumption))).trans ((xu_ne (by first | assumption | exact Ne.symm (by assumption))).trans (by first | assumption | exact xu_eq _ _ _))))) rfl (by decide) dX4_split_23 rfl rfl rfl (by first | exact Nat.le_of_ble_eq_true rfl | simp [Value.category, rf_cat]) (by omega) (by omega) (by omega) xN_no (fun v_23 m_23 h_23 => ?_)
      obtain ⟨rfl, hA', hK, hcap, hob⟩ := h_23
      rw [show A ++ (x :: B2 ++ C) = A ++ x :: (B2 ++ C) from rfl, rmvN_mid] at hA'
      obtain ⟨g2, hS2, hF2⟩ := sm_lst (is' := A ++ (B2 ++ C)) hS ((uF_ne htr.symm).trans (uF_eq _ _ _)) h1 hA h4 h5 hA' (by rw [if_neg (by omega)]; exact hK) (fun z hq => hz z (by
        rcases List.mem_append.mp hq with hq | hq
        · exact List.mem_append_left _ hq
        · exact List.mem_append_right _ (List.mem_cons_of_mem _ hq)))
      simp only [uF_sw _ htr, uF_uF] at hS2
      obtain ⟨la2, ar2, bx2, mc2, h21, k21, hA2, -⟩ := sm_row hS2 (uF_eq _ _ _)
      show G w _ _ _ _ _ _ _ (.ref x :: .ref t :: []) _
      refine g_castI q1473 dX4_split_28 rfl (sm_castI hS2 (hz x (by simp))) ?_
      refine g_virtual iV_X4_add q1474 (c_radd (d := d - 1) (by omega) hS2 (uF_eq _ _ _) (by omega) (hz x (by simp))) (Or.inl (by first | assumption | exact xu_eq _ _ _ | exact (xu_ne (by first | assumption | exact Ne.symm (by assumption))).trans (by first | assumption | exact xu_eq _ _ _) | exact (xu_ne (by first | assumption | exact Ne.symm (by assumption))).trans ((xu_ne (by first | assumption | exact Ne.symm (by assumption))).trans (by first | assumption | exact xu_eq _ _ _)) | exact (xu_ne (by first | assumption | exact Ne.symm (by assumption))).trans ((xu_ne (by first | assumption | exact Ne.symm (by assumption))).trans ((xu_ne (by first | assumption | exact Ne.symm (by assumption))).trans (by first | assumption | exact xu_eq _ _ _))))) rfl (by decide) dX4_split_31 rfl rfl rfl (by first | exact Nat.le_of_ble_eq_true rfl | simp [Value.category, rf_cat]) (by omega) (by omega) (by omega) xN_no (fun v_31 m_31 h_31 => ?_)
      obtain ⟨rfl, g3, hS3, hF3⟩ := h_31
      simp only [uF_uF, uW_snoc] at hS3
      refine g_incn4 dX4_split_34 rfl (by decide) (k := ?_)
      refine g_goto (tgt := 11) dX4_split_37 (by decide) ?_
      rw [show A.length + B1.length + 1 = A.length + (B1 ++ [x]).length from by simp; omega]
      refine ih (B1 ++ [x]) g3 _ t _ _ _ (by rw [hB]; simp) htr hmt (Fr_tr hF (Fr_tr hF2 hF3)) hS3 (by omega) ?_
      rw [show (B1 ++ [x]).length = B1.length + 1 from by simp]
      omega
  refine g_new nw_X4_13 dX4_split_0 rfl (by omega) (by omega) (fun a_0 hno_0 hb_0 => ?_)
  refine g_dup dX4_split_3 rfl (by first | rfl | exact rf_cat _) ?_
  refine g_ctor iC_X4_init q1458 (c_rinit (d := d - 1) (by omega) h hno_0) dX4_split_4 rfl rfl rfl (by first | exact Nat.le_of_ble_eq_true rfl | simp [Value.category, rf_cat]) (by omega) (by omega) (by omega) xN_no (fun v_4 m_4 h_4 => ?_)
  obtain ⟨rfl, g1, hS1, hF1, hne1, -⟩ := h_4
  have htr : a_0 ≠ r := fun e => by subst e; rw [sm_Rnone h hno_0] at hR; cases hR
  have hS1' : SM w g1 m_4 id (uF (uF T.1 r (some (own, sl, cap, A ++ (B ++ C)))) a_0 (some (none, 0, 0, [])), T.2.1, uW T.2.2 [] a_0) := by
    rw [uW_nil, show uF T.1 r (some (own, sl, cap, A ++ (B ++ C))) = T.1 from by
      funext q
      by_cases e : q = r
      · subst e; rw [uF_eq, hR]
      · rw [uF_ne e]]
    exact hS1
  first | refine g_ast3 dX4_split_7 rfl (by decide) (k := ?_) | refine g_astR3 dX4_split_7 rfl (by decide) (k := ?_) | refine g_astN3 dX4_split_7 rfl (by decide) (k := ?_)
  refine g_iload_n dX4_split_8 rfl rfl rfl ?_
  refine g_ist4 dX4_split_9 rfl (by decide) (k := ?_)
  exact loop B [] g1 _ a_0 0 _ _ rfl htr hno_0 hF1 hS1' (by omega) (by simp [Psi]; omega)
/-- take(at, other) -/
theorem c_take {g : XG} {m : XM} {T : XT} {r r2 sl cap sl2 cap2 i kc ks : Nat} {own own2 : Option Nat} {A B C : List Nat} (hd : 9 ≤ d) (h : SM w g m id T) (hR : T.1 r = some (own, sl, cap, A ++ C)) (hR2 : T.1 r2 = some (own2, sl2, cap2, B)) (hne : r2 ≠ r) (hl : (A ++ (B ++ C)).length ≤ 250) (hi : i = A.length) (hkc : B.length ≤ kc) (hks : 12 * B.length + Psi (A ++ C).length cap ≤ 2 * ks) :
    CT w MX4_take d kc ks [.ref r, .int (nI i), .ref r2] m (fun v m' => ∃ g' cap', some (.int (nI B.length)) = v ∧ SM w g' m' id (uF (uF T.1 r (some (own, sl, cap', A ++ (B ++ C)))) r2 (some (own2, sl2, cap2, [])), T.2.1, uW T.2.2 B r) ∧ Fr id g m g' m') xN := by
  subst hi
  have hlen : A.length + (B.length + C.length) ≤ 250 := by simpa using hl
  obtain ⟨la, ar, bx, mc, h1, k1, hA, h3, h4, h5, hz⟩ := sm_row h hR2
  refine ct_intro (lv := [some (.ref r), some (.int (nI A.length)), some (.ref r2), none, none]) 2 (by decide) rfl (Nat.le_of_ble_eq_true rfl) rfl ?_
  have loop : ∀ (B2 B1 : List Nat) (g1 : XG) (m1 : XM) (cap1 kc ks : Nat), B = B1 ++ B2 → Fr id g m g1 m1 → SM w g1 m1 id (uF (uF T.1 r (some (own, sl, cap1, A ++ (B1 ++ C)))) r2 (some (own2, sl2, cap2, B)), T.2.1, uW T.2.2 B1 r) → B2.length ≤ kc → 12 * B2.length + Psi (A ++ (B1 ++ C)).length cap1 ≤ 2 * ks →
      G w MX4_take (xZ w (fun v m' => ∃ g' cap', some (.int (nI B.length)) = v ∧ SM w g' m' id (uF (uF T.1 r (some (own, sl, cap', A ++ (B ++ C)))) r2 (some (own2, sl2, cap2, [])), T.2.1, uW T.2.2 B r) ∧ Fr id g m g' m') xN) d kc ks 13 [some (.ref r), some (.int (nI A.length)), some (.ref r2), some (.int (nI B.length)), some (.int (nI B1.length))] [] m1 := by
    intro B2
    induction B2 with
    | nil =>
      intro B1 g1 m1 cap1 kc ks hB hF hS hkc hks
      rw [List.append_nil] at hB; subst hB
      obtain ⟨la, ar, bx, mc, h1, k1, hA, h3, h4, h5, hz⟩ := sm_row hS (uF_eq _ _ _)
      refine g_iload dX4_take_13 rfl rfl ?_
      refine g_iload_n dX4_take_15 rfl rfl rfl ?_
      refine g_icmpn_ge (tgt := 47) dX4_take_16 (by decide) rfl (by omega) (by omega) (fun c_16 => ?_) (fun c_16 => by omega)
      first | refine g_aload_n dX4_take_47 rfl rfl rfl ?_ | refine g_aload_nR dX4_take_47 rfl rfl rfl ?_ | refine g_aload_nN dX4_take_47 rfl rfl rfl ?_
      refine g_get fl_X4_12_X4 dX4_take_48 rfl (Or.inl (by first | assumption | exact xu_eq _ _ _ | exact (xu_ne (by first | assumption | exact Ne.symm (by assumption))).trans (by first | assumption | exact xu_eq _ _ _) | exact (xu_ne (by first | assumption | exact Ne.symm (by assumption))).trans ((xu_ne (by first | assumption | exact Ne.symm (by assumption))).trans (by first | assumption | exact xu_eq _ _ _)) | exact (xu_ne (by first | assumption | exact Ne.symm (by assumption))).trans ((xu_ne (by first | assumption | exact Ne.symm (by assumption))).trans ((xu_ne (by first | assumption | exact Ne.symm (by assumption))).trans (by first | assumption | exact xu_eq _ _ _))))) rfl ?_
      refine g_iface iI_J26_clear_J26 q2202 (c_clr (d := d - 1) (by omega) hA) (Or.inl (by first | assumption | exact xu_eq _ _ _ | exact (xu_ne (by first | assumption | exact Ne.symm (by assumption))).trans (by first | assumption | exact xu_eq _ _ _) | exact (xu_ne (by first | assumption | exact Ne.symm (by assumption))).trans ((xu_ne (by first | assumption | exact Ne.symm (by assumption))).trans (by first | assumption | exact xu_eq _ _ _)) | exact (xu_ne (by first | assumption | exact Ne.symm (by assumption))).trans ((xu_ne (by first | assumption | exact Ne.symm (by assumption))).trans ((xu_ne (by first | assumption | exact Ne.symm (by assumption))).trans (by first | assumption | exact xu_eq _ _ _))))) rfl (by decide) dX4_take_51 rfl rfl rfl (by first | exact Nat.le_of_ble_eq_true rfl | simp [Value.category, rf_cat]) (by omega) (by omega) (by omega) xN_no (fun v_51 m_51 h_51 => ?_)
      obtain ⟨rfl, hA', hK, hob⟩ := h_51
      obtain ⟨g2, hS2, hF2⟩ := sm_lst (is' := []) hS (uF_eq _ _ _) h1 hA h4 h5 hA' hK (by simp)
      simp only [uF_uF] at hS2
      refine g_iload_n dX4_take_56 rfl rfl rfl ?_
      exact g_ireturn dX4_take_57 rfl ⟨g2, cap1, rfl, hS2, Fr_tr hF hF2⟩
    | cons x B2 ih =>
      intro B1 g1 m1 cap1 kc ks hB hF hS hkc hks
      have hBB : B1.length + (B2.length + 1) = B.length := by rw [hB]; simp
      simp only [List.length_cons] at hkc hks
      obtain ⟨la, ar, bx, mc, h1, k1, hA, h3, h4, h5, hz⟩ := sm_row hS (uF_eq _ _ _)
      have hR1 := (uF_ne (f := uF T.1 r (some (own, sl, cap1, A ++ (B1 ++ C)))) (v := some (own2, sl2, cap2, B)) hne.symm).trans (uF_eq _ _ _)
      obtain ⟨laq, arq, bxq, mcq, q1, -⟩ := sm_row hS hR1
      have hle2 := (sm_len hS hR1).1
      simp only at hle2
      have hp := al_pot hle2
      have hL : (A ++ (B1 ++ C)).length = A.length + (B1.length + C.length) := by simp
      have hx : T.2.1 x ≠ none := hz x (by rw [hB]; simp)
      have hci := sm_castI hS hx
      have hins : insN (A ++ (B1 ++ C)) (A.length + B1.length) x = A ++ ((B1 ++ [x]) ++ C) := by
        rw [← List.append_assoc, show A.length + B1.length = (A ++ B1).length from by simp, insN_mid]; simp
      refine g_iload dX4_take_13 rfl rfl ?_
      refine g_iload_n dX4_take_15 rfl rfl rfl ?_
      refine g_icmpn_ge (tgt := 47) dX4_take_16 (by decide) rfl (by omega) (by omega) (fun c_16 => by omega) (fun c_16 => ?_)
      first | refine g_aload_n dX4_take_19 rfl rfl rfl ?_ | refine g_aload_nR dX4_take_19 rfl rfl rfl ?_ | refine g_aload_nN dX4_take_19 rfl rfl rfl ?_
      refine g_iload_n dX4_take_20 rfl rfl rfl ?_
      refine g_iload dX4_take_21 rfl rfl ?_
      refine g_iaddn dX4_take_23 rfl ?_
      first | refine g_aload_n dX4_take_24 rfl rfl rfl ?_ | refine g_aload_nR dX4_take_24 rfl rfl rfl ?_ | refine g_aload_nN dX4_take_24 rfl rfl rfl ?_
      refine g_get fl_X4_12_X4 dX4_take_25 rfl (Or.inl (by first | assumption | exact xu_eq _ _ _ | exact (xu_ne (by first | assumption | exact Ne.symm (by assumption))).trans (by first | assumption | exact xu_eq _ _ _) | exact (xu_ne (by first | assumption | exact Ne.symm (by assumption))).trans ((xu_ne (by first | assumption | exact Ne.symm (by assumption))).trans (by first | assumption | exact xu_eq _ _ _)) | exact (xu_ne (by first | assumption | exact Ne.symm (by assumption))).trans ((xu_ne (by first | assumption | exact Ne.symm (by assumption))).trans ((xu_ne (by first | assumption | exact Ne.symm (by assumption))).trans (by first | assumption | exact xu_eq _ _ _))))) rfl ?_
      refine g_iload dX4_take_28 rfl rfl ?_
      refine g_ifaceP iI_J26_get_J26 q1552 (c_get (d := d - 1) (by omega) hA (by rw [hB]; exact at_mid B1 B2 x)) (Or.inl (by first | assumption | exact xu_eq _ _ _ | exact (xu_ne (by first | assumption | exact Ne.symm (by assumption))).trans (by first | assumption | exact xu_eq _ _ _) | exact (xu_ne (by first | assumption | exact Ne.symm (by assumption))).trans ((xu_ne (by first | assumption | exact Ne.symm (by assumption))).trans (by first | assumption | exact xu_eq _ _ _)) | exact (xu_ne (by first | assumption | exact Ne.symm (by assumption))).trans ((xu_ne (by first | assumption | exact Ne.symm (by assumption))).trans ((xu_ne (by first | assumption | exact Ne.symm (by assumption))).trans (by first | assumption | exact xu_eq _ _ _))))) rfl (by decide) dX4_take_30 rfl rfl rfl (by first | exact Nat.le_of_ble_eq_true rfl | simp [Value.category, rf_cat]) (by omega) xN_no ?_
      refine g_castI q1473 dX4_take_35 rfl (by assumption) ?_
      refine g_virtual iV_X4_insert q1480 (c_insert (d := d - 1) (by omega) hS hR1 (by omega) (by omega) hx) (Or.inl (by first | assumption | exact xu_eq _ _ _ | exact (xu_ne (by first | assumption | exact Ne.symm (by assumption))).trans (by first | assumption | exact xu_eq _ _ _) | exact (xu_ne (by first | assumption | exact Ne.symm (by assumption))).trans ((xu_ne (by first | assumption | exact Ne.symm (by assumption))).trans (by first | assumption | exact xu_eq _ _ _)) | exact (xu_ne (by first | assumption | exact Ne.symm (by assumption))).trans ((xu_ne (by first | assumption | exact Ne.symm (by assumption))).trans ((xu_ne (by first | assumption | exact Ne.symm (by assumption))).trans (by first | assumption | exact xu_eq _ _ _))))) rfl (by decide) dX4_take_38 rfl rfl rfl (by first | exact Nat.le_of_ble_eq_true rfl | simp [Value.category, rf_cat]) (by omega) (by omega) (by omega) xN_no (fun v_38 m_38 h_38 => ?_)
      obtain ⟨rfl, g3, hS3, hF3⟩ := h_38
      rw [hins] at hS3
      simp only [uF_sw _ hne, uF_uF, uW_snoc] at hS3
      refine g_incn4 dX4_take_41 rfl (by decide) (k := ?_)
      refine g_goto (tgt := 13) dX4_take_44 (by decide) ?_
      rw [show B1.length + 1 = (B1 ++ [x]).length from by simp]
      refine ih (B1 ++ [x]) g3 _ _ _ _ (by rw [hB]; simp) (Fr_tr hF hF3) hS3 (by omega) ?_
      rw [show (A ++ ((B1 ++ [x]) ++ C)).length = (A ++ (B1 ++ C)).length + 1 from by simp; omega]
      omega
  first | refine g_aload_n dX4_take_0 rfl rfl rfl ?_ | refine g_aload_nR dX4_take_0 rfl rfl rfl ?_ | refine g_aload_nN dX4_take_0 rfl rfl rfl ?_
  refine g_get fl_X4_12_X4 dX4_take_1 rfl (Or.inl (by first | assumption | exact xu_eq _ _ _ | exact (xu_ne (by first | assumption | exact Ne.symm (by assumption))).trans (by first | assumption | exact xu_eq _ _ _) | exact (xu_ne (by first | assumption | exact Ne.symm (by assumption))).trans ((xu_ne (by first | assumption | exact Ne.symm (by assumption))).trans (by first | assumption | exact xu_eq _ _ _)) | exact (xu_ne (by first | assumption | exact Ne.symm (by assumption))).trans ((xu_ne (by first | assumption | exact Ne.symm (by assumption))).trans ((xu_ne (by first | assumption | exact Ne.symm (by assumption))).trans (by first | assumption | exact xu_eq _ _ _))))) rfl ?_
  refine g_ifaceP iI_J26_size_J26 q1479 (c_size (d := d - 1) (by omega) hA) (Or.inl (by first | assumption | exact xu_eq _ _ _ | exact (xu_ne (by first | assumption | exact Ne.symm (by assumption))).trans (by first | assumption | exact xu_eq _ _ _) | exact (xu_ne (by first | assumption | exact Ne.symm (by assumption))).trans ((xu_ne (by first | assumption | exact Ne.symm (by assumption))).trans (by first | assumption | exact xu_eq _ _ _)) | exact (xu_ne (by first | assumption | exact Ne.symm (by assumption))).trans ((xu_ne (by first | assumption | exact Ne.symm (by assumption))).trans ((xu_ne (by first | assumption | exact Ne.symm (by assumption))).trans (by first | assumption | exact xu_eq _ _ _))))) rfl (by decide) dX4_take_4 rfl rfl rfl (by first | exact Nat.le_of_ble_eq_true rfl | simp [Value.category, rf_cat]) (by omega) xN_no ?_
  refine g_ist3 dX4_take_9 rfl (by decide) (k := ?_)
  refine g_iconst (v := (nI 0)) dX4_take_10 rfl rfl ?_
  refine g_ist4 dX4_take_11 rfl (by decide) (k := ?_)
  refine loop B [] g _ cap _ _ rfl (Fr_rf _ _ _) ?_ hkc hks
  rw [uW_nil, show uF (uF T.1 r (some (own, sl, cap, A ++ ([] ++ C)))) r2 (some (own2, sl2, cap2, B)) = T.1 from by
    funext q
    by_cases e : q = r2
    · subst e; rw [uF_eq, hR2]
    · rw [uF_ne e]
      by_cases e : q = r
      · subst e; rw [uF_eq, hR]; rfl
      · rw [uF_ne e]]
  exact h
end MOVES
