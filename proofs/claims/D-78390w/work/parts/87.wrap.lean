/-! DOCUMENTS: wrap -/
set_option maxRecDepth 100000
section WRAP
variable {w : XW} {id d D : Nat}
def wpP (w : XW) (g : XG) (m : XM) (id D k : Nat) (P N Q : List XE) : Option Value → XM → Prop := fun v m' => some (.int (nI 1)) = v ∧ ∃ g', FrD id D g m g' m' ∧ DP w g' m' id D ((P ++ (sI k 0 0 0 0 N [] ++ Q)).map sg, if N = [] then P.length + 1 else (P ++ N).length + 2, none)
theorem l_wrap93 {g g4 : XG} {m m4 : XM} {T4 : XT} {top r t a o p k sl0 cap0 cap4 cap5 kc ks : Nat} {P N Q A : List XE} {q : Option Nat} {S : XK} (hd : 40 ≤ d)
    (hF : FrD id D g m g4 m4) (hS : SM w g4 m4 id T4) (hD : m4 D = some (.inr (2, [.ref top, .ref r, .int (nI (drs r P).length), .int (nI 0)]))) (hgD : (g4 D).1 = 0) (hid : id ≠ 0) (hDT : DT T4 top (P ++ (sI k a r o p A [] ++ Q))) (h0 : T4.1 top = some (none, sl0, cap0, drs top (P ++ (sI k a r o p A [] ++ Q)))) (hr : r ∉ opn (sI k a r o p A []))
    (hP : scn [(top, none)] P = some ((r, q) :: S)) (hbA : Bd o A) (hK : T4.2.1 a = some (.inr (k, o, p, 1, 1))) (ho : T4.1 o = some (some a, 0, cap4, drs o A)) (hp : k = 1 → T4.1 p = some (some a, 1, cap5, []))
    (hoP : drs o P = []) (hpP : k = 1 → drs p P = []) (hsh : A.map shE = N.map shE) (hcnt : cnt (P ++ (sI k a r o p A [] ++ Q)) ≤ 60) (hht : hts (P ++ (sI k a r o p A [] ++ Q)) ≤ 5) (hkl : (drs r P).length ≤ 200) :
    G w MX3_wrap (xZ w (wpP w g m id D k P N Q) xN) d kc ks 93 [some (.ref D), some (.int (nI k)), some (.int (nI 1)), some (.ref t), some (.ref a)] [] m4 := by
  have hgD1 : (g4 D).1 ≠ id := by rw [hgD]; exact fun e => hid e.symm
  have hmD : m4 D ≠ none := by rw [hD]; exact fun h => by cases h
  obtain ⟨sa, bx, f, hi, hsa, hf, hfq, -, -, hk1, hk2, -⟩ := sm_str hS hK
  have hAl := (sh_cnt hsh).2
  have hpage : (P ++ (sI k a r o p A [] ++ Q)).map sg = (P ++ (sI k 0 0 0 0 N [] ++ Q)).map sg := by
    refine sh_sg ?_
    rw [List.map_append, List.map_append, List.map_append, List.map_append, sh_sI, sh_sI, hsh]
  have hAnil : A = [] ↔ N = [] := by
    constructor
    · intro e; subst e; exact List.eq_nil_of_length_eq_zero (by simpa using hAl.symm)
    · intro e; subst e; exact List.eq_nil_of_length_eq_zero (by simpa using hAl)
  have hemp := c_sEmpty (d := d - 1) (by omega) hS hK ho hp
  have hsc : scn [(top, none)] (P ++ [eB k a r o p]) = some ((o, eP k p) :: (r, q) :: S) := by
    rw [scn_app' _ hP, scn_cons, stp_sB (r, q)]; rfl
  by_cases hN : N = []
  · have hA0 := hAnil.mpr hN
    subst hA0
    rw [show decide (drs o ([] : List XE) = []) = true from rfl, show (if k = 1 then decide (([] : List Nat) = []) else true) = true from by split <;> rfl] at hemp
    obtain ⟨lo, ao, bo, mo, hom, -⟩ := sm_row hS ho
    first | refine g_aload dX3_wrap_93 rfl rfl ?_ | refine g_aloadR dX3_wrap_93 rfl rfl ?_ | refine g_aloadN dX3_wrap_93 rfl rfl ?_
    refine g_virtualP iV_X9_isEmpty q2210 (hemp) (Or.inl (by first | assumption | exact xu_eq _ _ _ | exact (xu_ne (by first | assumption | exact Ne.symm (by assumption))).trans (by first | assumption | exact xu_eq _ _ _) | exact (xu_ne (by first | assumption | exact Ne.symm (by assumption))).trans ((xu_ne (by first | assumption | exact Ne.symm (by assumption))).trans (by first | assumption | exact xu_eq _ _ _)) | exact (xu_ne (by first | assumption | exact Ne.symm (by assumption))).trans ((xu_ne (by first | assumption | exact Ne.symm (by assumption))).trans ((xu_ne (by first | assumption | exact Ne.symm (by assumption))).trans (by first | assumption | exact xu_eq _ _ _))))) rfl (by decide) dX3_wrap_95 rfl rfl rfl (by first | exact Nat.le_of_ble_eq_true rfl | simp [Value.category, rf_cat]) (by omega) xN_no ?_
    refine g_ifB_eq (tgt := 116) dX3_wrap_98 (by decide) rfl (fun c_98 => Bool.noConfusion c_98) (fun c_98 => ?_)
    first | refine g_aload_n dX3_wrap_101 rfl rfl rfl ?_ | refine g_aload_nR dX3_wrap_101 rfl rfl rfl ?_ | refine g_aload_nN dX3_wrap_101 rfl rfl rfl ?_
    first | refine g_aload dX3_wrap_102 rfl rfl ?_ | refine g_aloadR dX3_wrap_102 rfl rfl ?_ | refine g_aloadN dX3_wrap_102 rfl rfl ?_
    refine g_get fl_X3_69_X9 dX3_wrap_104 rfl (Or.inl (by first | assumption | exact xu_eq _ _ _ | exact (xu_ne (by first | assumption | exact Ne.symm (by assumption))).trans (by first | assumption | exact xu_eq _ _ _) | exact (xu_ne (by first | assumption | exact Ne.symm (by assumption))).trans ((xu_ne (by first | assumption | exact Ne.symm (by assumption))).trans (by first | assumption | exact xu_eq _ _ _)) | exact (xu_ne (by first | assumption | exact Ne.symm (by assumption))).trans ((xu_ne (by first | assumption | exact Ne.symm (by assumption))).trans ((xu_ne (by first | assumption | exact Ne.symm (by assumption))).trans (by first | assumption | exact xu_eq _ _ _))))) rfl ?_
    refine g_iconst (v := (nI 0)) dX3_wrap_107 rfl rfl ?_
    refine g_aaldn (t := 6) rfl dX3_wrap_108 rfl (Or.inl hsa) (by split <;> omega) (by split <;> omega) ?_
    rw [hf]
    refine g_iconst (v := (nI 0)) dX3_wrap_109 rfl rfl ?_
    refine g_virtualR iV_X3_goTo q1828 (c_goTo (d := d - 1) (by omega) hD) (Or.inl (by first | assumption | exact xu_eq _ _ _ | exact (xu_ne (by first | assumption | exact Ne.symm (by assumption))).trans (by first | assumption | exact xu_eq _ _ _) | exact (xu_ne (by first | assumption | exact Ne.symm (by assumption))).trans ((xu_ne (by first | assumption | exact Ne.symm (by assumption))).trans (by first | assumption | exact xu_eq _ _ _)) | exact (xu_ne (by first | assumption | exact Ne.symm (by assumption))).trans ((xu_ne (by first | assumption | exact Ne.symm (by assumption))).trans ((xu_ne (by first | assumption | exact Ne.symm (by assumption))).trans (by first | assumption | exact xu_eq _ _ _))))) rfl (by decide) dX3_wrap_110 rfl rfl rfl (by first | exact Nat.le_of_ble_eq_true rfl | simp [Value.category, rf_cat]) (by omega) (by omega) (by omega) xN_no ?_
    refine g_goto (tgt := 155) dX3_wrap_113 (by decide) ?_
    refine g_iload_n dX3_wrap_155 rfl rfl rfl ?_
    refine g_zreturn dX3_wrap_156 rfl rfl ?_
    have eL : (P ++ [eB k a r o p]) ++ ([] ++ ((if k = 1 then [eD] else []) ++ eN :: Q)) = P ++ (sI k a r o p [] [] ++ Q) := by unfold sI; by_cases hk : k = 1 <;> simp [hk]
    have hoi : drs o (P ++ [eB k a r o p]) = [] := by
      rw [drs_app, hoP]
      have : r ≠ o := fun e => hr (by rw [opn_sI]; by_cases hk : k = 1 <;> simp [hk, e])
      simp [drs, this]
    refine ⟨rfl, g4, FrD_tr hF (FrD_u hmD), T4, top, o, P ++ [eB k a r o p], [], (if k = 1 then [eD] else []) ++ eN :: Q, eP k p, (r, q) :: S, ⟨sm_D hS hgD1 hmD, ?_, ⟨hgD, hid⟩, by rw [eL]; exact hDT, ⟨_, _, by rw [eL]; exact h0⟩, hsc, bd_nil o, by rw [eL]; exact hcnt, by rw [eL]; exact hht⟩, ?_⟩
    · rw [xu_eq, List.append_nil, hoi]; rfl
    · rw [eL, hpage, if_pos hN, if_pos rfl]; simp
  · have hdA : ¬ drs o A = [] := fun e => hN (hAnil.mp (drs_nil hbA e))
    rw [decide_eq_false hdA, Bool.false_and] at hemp
    have hlast := c_last (w := w) (d := d - 1) (by omega) hi hsa hf hfq
    by_cases hk : k = 1
    · have hp := hp hk
      have hpP1 := hpP hk
      rw [if_pos hk] at hlast
      obtain ⟨lo, ao, bo, mo, hom, klo, hAo, -⟩ := sm_row hS hp
      subst hk
      first | refine g_aload dX3_wrap_93 rfl rfl ?_ | refine g_aloadR dX3_wrap_93 rfl rfl ?_ | refine g_aloadN dX3_wrap_93 rfl rfl ?_
      refine g_virtualP iV_X9_isEmpty q2210 (hemp) (Or.inl (by first | assumption | exact xu_eq _ _ _ | exact (xu_ne (by first | assumption | exact Ne.symm (by assumption))).trans (by first | assumption | exact xu_eq _ _ _) | exact (xu_ne (by first | assumption | exact Ne.symm (by assumption))).trans ((xu_ne (by first | assumption | exact Ne.symm (by assumption))).trans (by first | assumption | exact xu_eq _ _ _)) | exact (xu_ne (by first | assumption | exact Ne.symm (by assumption))).trans ((xu_ne (by first | assumption | exact Ne.symm (by assumption))).trans ((xu_ne (by first | assumption | exact Ne.symm (by assumption))).trans (by first | assumption | exact xu_eq _ _ _))))) rfl (by decide) dX3_wrap_95 rfl rfl rfl (by first | exact Nat.le_of_ble_eq_true rfl | simp [Value.category, rf_cat]) (by omega) xN_no ?_
      refine g_ifB_eq (tgt := 116) dX3_wrap_98 (by decide) rfl (fun c_98 => ?_) (fun c_98 => Bool.noConfusion c_98)
      first | refine g_aload dX3_wrap_116 rfl rfl ?_ | refine g_aloadR dX3_wrap_116 rfl rfl ?_ | refine g_aloadN dX3_wrap_116 rfl rfl ?_
      refine g_virtualP iV_X9_last q2216 (hlast) (Or.inl (by first | assumption | exact xu_eq _ _ _ | exact (xu_ne (by first | assumption | exact Ne.symm (by assumption))).trans (by first | assumption | exact xu_eq _ _ _) | exact (xu_ne (by first | assumption | exact Ne.symm (by assumption))).trans ((xu_ne (by first | assumption | exact Ne.symm (by assumption))).trans (by first | assumption | exact xu_eq _ _ _)) | exact (xu_ne (by first | assumption | exact Ne.symm (by assumption))).trans ((xu_ne (by first | assumption | exact Ne.symm (by assumption))).trans ((xu_ne (by first | assumption | exact Ne.symm (by assumption))).trans (by first | assumption | exact xu_eq _ _ _))))) rfl (by decide) dX3_wrap_118 rfl rfl rfl (by first | exact Nat.le_of_ble_eq_true rfl | simp [Value.category, rf_cat]) (by omega) xN_no ?_
      refine g_get fl_X3_21_X4 dX3_wrap_121 rfl (Or.inl (by first | assumption | exact xu_eq _ _ _ | exact (xu_ne (by first | assumption | exact Ne.symm (by assumption))).trans (by first | assumption | exact xu_eq _ _ _) | exact (xu_ne (by first | assumption | exact Ne.symm (by assumption))).trans ((xu_ne (by first | assumption | exact Ne.symm (by assumption))).trans (by first | assumption | exact xu_eq _ _ _)) | exact (xu_ne (by first | assumption | exact Ne.symm (by assumption))).trans ((xu_ne (by first | assumption | exact Ne.symm (by assumption))).trans ((xu_ne (by first | assumption | exact Ne.symm (by assumption))).trans (by first | assumption | exact xu_eq _ _ _))))) rfl ?_
      refine g_ifaceP iI_J26_isEmpty_J26 q2218 (c_isEmpty (d := d - 1) (by omega) hAo) (Or.inl (by first | assumption | exact xu_eq _ _ _ | exact (xu_ne (by first | assumption | exact Ne.symm (by assumption))).trans (by first | assumption | exact xu_eq _ _ _) | exact (xu_ne (by first | assumption | exact Ne.symm (by assumption))).trans ((xu_ne (by first | assumption | exact Ne.symm (by assumption))).trans (by first | assumption | exact xu_eq _ _ _)) | exact (xu_ne (by first | assumption | exact Ne.symm (by assumption))).trans ((xu_ne (by first | assumption | exact Ne.symm (by assumption))).trans ((xu_ne (by first | assumption | exact Ne.symm (by assumption))).trans (by first | assumption | exact xu_eq _ _ _))))) rfl (by decide) dX3_wrap_124 rfl rfl rfl (by first | exact Nat.le_of_ble_eq_true rfl | simp [Value.category, rf_cat]) (by omega) xN_no ?_
      refine g_ifB_eq (tgt := 145) dX3_wrap_129 (by decide) rfl (fun c_129 => absurd c_129 (by simp)) (fun c_129 => ?_)
      first | refine g_aload_n dX3_wrap_132 rfl rfl rfl ?_ | refine g_aload_nR dX3_wrap_132 rfl rfl rfl ?_ | refine g_aload_nN dX3_wrap_132 rfl rfl rfl ?_
      first | refine g_aload dX3_wrap_133 rfl rfl ?_ | refine g_aloadR dX3_wrap_133 rfl rfl ?_ | refine g_aloadN dX3_wrap_133 rfl rfl ?_
      refine g_virtualP iV_X9_last q2216 (hlast) (Or.inl (by first | assumption | exact xu_eq _ _ _ | exact (xu_ne (by first | assumption | exact Ne.symm (by assumption))).trans (by first | assumption | exact xu_eq _ _ _) | exact (xu_ne (by first | assumption | exact Ne.symm (by assumption))).trans ((xu_ne (by first | assumption | exact Ne.symm (by assumption))).trans (by first | assumption | exact xu_eq _ _ _)) | exact (xu_ne (by first | assumption | exact Ne.symm (by assumption))).trans ((xu_ne (by first | assumption | exact Ne.symm (by assumption))).trans ((xu_ne (by first | assumption | exact Ne.symm (by assumption))).trans (by first | assumption | exact xu_eq _ _ _))))) rfl (by decide) dX3_wrap_135 rfl rfl rfl (by first | exact Nat.le_of_ble_eq_true rfl | simp [Value.category, rf_cat]) (by omega) xN_no ?_
      refine g_iconst (v := (nI 0)) dX3_wrap_138 rfl rfl ?_
      refine g_virtualR iV_X3_goTo q1828 (c_goTo (d := d - 1) (by omega) hD) (Or.inl (by first | assumption | exact xu_eq _ _ _ | exact (xu_ne (by first | assumption | exact Ne.symm (by assumption))).trans (by first | assumption | exact xu_eq _ _ _) | exact (xu_ne (by first | assumption | exact Ne.symm (by assumption))).trans ((xu_ne (by first | assumption | exact Ne.symm (by assumption))).trans (by first | assumption | exact xu_eq _ _ _)) | exact (xu_ne (by first | assumption | exact Ne.symm (by assumption))).trans ((xu_ne (by first | assumption | exact Ne.symm (by assumption))).trans ((xu_ne (by first | assumption | exact Ne.symm (by assumption))).trans (by first | assumption | exact xu_eq _ _ _))))) rfl (by decide) dX3_wrap_139 rfl rfl rfl (by first | exact Nat.le_of_ble_eq_true rfl | simp [Value.category, rf_cat]) (by omega) (by omega) (by omega) xN_no ?_
      refine g_goto (tgt := 155) dX3_wrap_142 (by decide) ?_
      refine g_iload_n dX3_wrap_155 rfl rfl rfl ?_
      refine g_zreturn dX3_wrap_156 rfl rfl ?_
      have eL : (P ++ eB 1 a r o p :: (A ++ [eD])) ++ ([] ++ (eN :: Q)) = P ++ (sI 1 a r o p A [] ++ Q) := by rw [sI_1]; simp
      have hsc2 : scn [(top, none)] (P ++ eB 1 a r o p :: (A ++ [eD])) = some ((p, none) :: (r, q) :: S) := by
        rw [scn_app' _ hP, scn_cons, stp_sB (r, q)]
        show scn ((o, some p) :: (r, q) :: S) (A ++ [eD]) = _
        rw [scn_app' _ (bd_any hbA _ _)]; rfl
      have hop := hDT.2.1
      rw [opn_app, opn_app, opn_sI, if_pos rfl] at hop
      have hpA : p ≠ r ∧ p ≠ o ∧ p ∉ opn A := by
        rw [opn_sI, if_pos rfl] at hr
        simp only [List.mem_cons, List.mem_append, not_or] at hr
        rw [List.nodup_cons, List.nodup_append, List.nodup_append] at hop
        have h1 := hop.2.2.1.1
        simp only [List.nodup_cons, List.mem_cons, List.mem_append, not_or] at h1
        exact ⟨fun e => hr.2.1 e.symm, fun e => h1.1.1 e.symm, h1.2.1.1⟩
      have hoi : drs p (P ++ eB 1 a r o p :: (A ++ [eD])) = [] := by
        rw [drs_app, hpP1, show (eB 1 a r o p :: (A ++ [eD])) = [eB 1 a r o p] ++ (A ++ [eD]) from rfl, drs_app, drs_app, drs_out hbA hpA.2.1 hpA.2.2]
        simp [drs, hpA.1.symm]
      refine ⟨rfl, g4, FrD_tr hF (FrD_u hmD), T4, top, p, P ++ eB 1 a r o p :: (A ++ [eD]), [], eN :: Q, none, (r, q) :: S, ⟨sm_D hS hgD1 hmD, ?_, ⟨hgD, hid⟩, by rw [eL]; exact hDT, ⟨_, _, by rw [eL]; exact h0⟩, hsc2, bd_nil p, by rw [eL]; exact hcnt, by rw [eL]; exact hht⟩, ?_⟩
      · rw [xu_eq, List.append_nil, hoi]; rfl
      · rw [eL, hpage, if_neg hN, if_pos rfl]; simp [hAl]; omega
    · rw [if_neg hk] at hlast
      obtain ⟨lo, ao, bo, mo, hom, klo, hAo, -⟩ := sm_row hS ho
      first | refine g_aload dX3_wrap_93 rfl rfl ?_ | refine g_aloadR dX3_wrap_93 rfl rfl ?_ | refine g_aloadN dX3_wrap_93 rfl rfl ?_
      refine g_virtualP iV_X9_isEmpty q2210 (hemp) (Or.inl (by first | assumption | exact xu_eq _ _ _ | exact (xu_ne (by first | assumption | exact Ne.symm (by assumption))).trans (by first | assumption | exact xu_eq _ _ _) | exact (xu_ne (by first | assumption | exact Ne.symm (by assumption))).trans ((xu_ne (by first | assumption | exact Ne.symm (by assumption))).trans (by first | assumption | exact xu_eq _ _ _)) | exact (xu_ne (by first | assumption | exact Ne.symm (by assumption))).trans ((xu_ne (by first | assumption | exact Ne.symm (by assumption))).trans ((xu_ne (by first | assumption | exact Ne.symm (by assumption))).trans (by first | assumption | exact xu_eq _ _ _))))) rfl (by decide) dX3_wrap_95 rfl rfl rfl (by first | exact Nat.le_of_ble_eq_true rfl | simp [Value.category, rf_cat]) (by omega) xN_no ?_
      refine g_ifB_eq (tgt := 116) dX3_wrap_98 (by decide) rfl (fun c_98 => ?_) (fun c_98 => Bool.noConfusion c_98)
      first | refine g_aload dX3_wrap_116 rfl rfl ?_ | refine g_aloadR dX3_wrap_116 rfl rfl ?_ | refine g_aloadN dX3_wrap_116 rfl rfl ?_
      refine g_virtualP iV_X9_last q2216 (hlast) (Or.inl (by first | assumption | exact xu_eq _ _ _ | exact (xu_ne (by first | assumption | exact Ne.symm (by assumption))).trans (by first | assumption | exact xu_eq _ _ _) | exact (xu_ne (by first | assumption | exact Ne.symm (by assumption))).trans ((xu_ne (by first | assumption | exact Ne.symm (by assumption))).trans (by first | assumption | exact xu_eq _ _ _)) | exact (xu_ne (by first | assumption | exact Ne.symm (by assumption))).trans ((xu_ne (by first | assumption | exact Ne.symm (by assumption))).trans ((xu_ne (by first | assumption | exact Ne.symm (by assumption))).trans (by first | assumption | exact xu_eq _ _ _))))) rfl (by decide) dX3_wrap_118 rfl rfl rfl (by first | exact Nat.le_of_ble_eq_true rfl | simp [Value.category, rf_cat]) (by omega) xN_no ?_
      refine g_get fl_X3_21_X4 dX3_wrap_121 rfl (Or.inl (by first | assumption | exact xu_eq _ _ _ | exact (xu_ne (by first | assumption | exact Ne.symm (by assumption))).trans (by first | assumption | exact xu_eq _ _ _) | exact (xu_ne (by first | assumption | exact Ne.symm (by assumption))).trans ((xu_ne (by first | assumption | exact Ne.symm (by assumption))).trans (by first | assumption | exact xu_eq _ _ _)) | exact (xu_ne (by first | assumption | exact Ne.symm (by assumption))).trans ((xu_ne (by first | assumption | exact Ne.symm (by assumption))).trans ((xu_ne (by first | assumption | exact Ne.symm (by assumption))).trans (by first | assumption | exact xu_eq _ _ _))))) rfl ?_
      refine g_ifaceP iI_J26_isEmpty_J26 q2218 (c_isEmpty (d := d - 1) (by omega) hAo) (Or.inl (by first | assumption | exact xu_eq _ _ _ | exact (xu_ne (by first | assumption | exact Ne.symm (by assumption))).trans (by first | assumption | exact xu_eq _ _ _) | exact (xu_ne (by first | assumption | exact Ne.symm (by assumption))).trans ((xu_ne (by first | assumption | exact Ne.symm (by assumption))).trans (by first | assumption | exact xu_eq _ _ _)) | exact (xu_ne (by first | assumption | exact Ne.symm (by assumption))).trans ((xu_ne (by first | assumption | exact Ne.symm (by assumption))).trans ((xu_ne (by first | assumption | exact Ne.symm (by assumption))).trans (by first | assumption | exact xu_eq _ _ _))))) rfl (by decide) dX3_wrap_124 rfl rfl rfl (by first | exact Nat.le_of_ble_eq_true rfl | simp [Value.category, rf_cat]) (by omega) xN_no ?_
      refine g_ifB_eq (tgt := 145) dX3_wrap_129 (by decide) rfl (fun c_129 => ?_) (fun c_129 => absurd (of_decide_eq_true c_129) hdA)
      first | refine g_aload_n dX3_wrap_145 rfl rfl rfl ?_ | refine g_aload_nR dX3_wrap_145 rfl rfl rfl ?_ | refine g_aload_nN dX3_wrap_145 rfl rfl rfl ?_
      refine g_dup dX3_wrap_146 rfl (by first | rfl | exact rf_cat _) ?_
      refine g_get fl_X3_38_X3 dX3_wrap_147 rfl (Or.inl (by first | assumption | exact xu_eq _ _ _ | exact (xu_ne (by first | assumption | exact Ne.symm (by assumption))).trans (by first | assumption | exact xu_eq _ _ _) | exact (xu_ne (by first | assumption | exact Ne.symm (by assumption))).trans ((xu_ne (by first | assumption | exact Ne.symm (by assumption))).trans (by first | assumption | exact xu_eq _ _ _)) | exact (xu_ne (by first | assumption | exact Ne.symm (by assumption))).trans ((xu_ne (by first | assumption | exact Ne.symm (by assumption))).trans ((xu_ne (by first | assumption | exact Ne.symm (by assumption))).trans (by first | assumption | exact xu_eq _ _ _))))) rfl ?_
      refine g_iconst (v := (nI 1)) dX3_wrap_150 rfl rfl ?_
      refine g_iaddn dX3_wrap_151 rfl ?_
      refine g_put2 fl_X3_38_X3 dX3_wrap_152 rfl (by first | assumption | exact xu_eq _ _ _ | exact (xu_ne (by first | assumption | exact Ne.symm (by assumption))).trans (by first | assumption | exact xu_eq _ _ _) | exact (xu_ne (by first | assumption | exact Ne.symm (by assumption))).trans ((xu_ne (by first | assumption | exact Ne.symm (by assumption))).trans (by first | assumption | exact xu_eq _ _ _)) | exact (xu_ne (by first | assumption | exact Ne.symm (by assumption))).trans ((xu_ne (by first | assumption | exact Ne.symm (by assumption))).trans ((xu_ne (by first | assumption | exact Ne.symm (by assumption))).trans (by first | assumption | exact xu_eq _ _ _)))) rfl rfl ?_
      refine g_iload_n dX3_wrap_155 rfl rfl rfl ?_
      refine g_zreturn dX3_wrap_156 rfl rfl ?_
      have eL : (P ++ sI k a r o p A []) ++ ([] ++ Q) = P ++ (sI k a r o p A [] ++ Q) := by simp
      have hbS : Bd r (sI k a r o p A []) := bd_sI hbA (fun h => absurd h hk)
      have hdr : drs r (P ++ sI k a r o p A []) = drs r P ++ [a] := by rw [drs_app, drs_own hbA (fun h => absurd h hk) hr]
      refine ⟨rfl, g4, FrD_tr hF (FrD_u hmD), T4, top, r, P ++ sI k a r o p A [], [], Q, q, S, ⟨sm_D hS hgD1 hmD, ?_, ⟨hgD, hid⟩, by rw [eL]; exact hDT, ⟨_, _, by rw [eL]; exact h0⟩, by rw [scn_app' _ hP]; exact bd_any hbS _ _, bd_nil r, by rw [eL]; exact hcnt, by rw [eL]; exact hht⟩, ?_⟩
      · rw [xu_eq, List.append_nil, hdr, List.length_append]; rfl
      · have hlen : (P ++ sI k a r o p A []).length = P.length + (A.length + 2) := by rw [List.length_append, sI_len, if_neg hk]
        rw [eL, hpage, if_neg hN, if_pos rfl, List.append_nil, hlen, List.length_append, hAl, Nat.add_assoc]
end WRAP
