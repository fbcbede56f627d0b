/-! DOCUMENTS: moveTo -/
set_option maxRecDepth 100000
section MOVE
variable {w : XW} {id d D : Nat} {g : XG} {m : XM} {T : XT} {top : Nat}
theorem c_enter1 {x k sa o l : Nat} {f : Nat → Option Nat} {ro rs rd bx a0 a1 a2 a3 : Value} {fo : List Value} {A : Nat} (hd : 1 ≤ d) (hD : m D = some (.inr (2, [a0, a1, a2, a3]))) (hx : m x = some (.inr (7, [ro, .int (nI k), .ref sa, rs, rd, bx]))) (hsa : m sa = some (rA 6 (if k = 1 then 2 else 1) f)) (hf : f 0 = some o) (ho : m o = some (.inr (3, fo))) (hc : CT w MX4_places (d - 1) 0 0 [.ref o] m (xRet (some (.int (nI (A + 1)))) m) xN) (hl : l ≤ A) (hA : A < 1000) :
    CT w MX3_enter d 0 0 [.ref D, .ref x, .int (nI l)] m (xRet (some (.int (nI l))) (xu m D (.inr (2, [a0, .ref o, .int (nI 0), a3])))) xN := by
  refine ct_intro (lv := [some (.ref D), some (.ref x), some (.int (nI l)), none, none]) 2 (by decide) rfl (Nat.le_of_ble_eq_true rfl) rfl ?_
  have n1 : D ≠ x := fun e => by subst e; rw [hD] at hx; cases hx
  have n2 : D ≠ sa := fun e => by subst e; rw [hD] at hsa; cases hsa
  refine g_iload_n dX3_enter_0 rfl rfl rfl ?_
  refine g_ist3 dX3_enter_1 rfl (by decide) (k := ?_)
  refine g_iconst (v := (nI 0)) dX3_enter_2 rfl rfl ?_
  refine g_ist4 dX3_enter_3 rfl (by decide) (k := ?_)
  refine g_iload_n dX3_enter_5 rfl rfl rfl ?_
  first | refine g_aload_n dX3_enter_6 rfl rfl rfl ?_ | refine g_aload_nR dX3_enter_6 rfl rfl rfl ?_ | refine g_aload_nN dX3_enter_6 rfl rfl rfl ?_
  refine g_get fl_X3_69_X9 dX3_enter_7 rfl (Or.inl (by first | assumption | exact xu_eq _ _ _ | exact (xu_ne (by first | assumption | exact Ne.symm (by assumption))).trans (by first | assumption | exact xu_eq _ _ _) | exact (xu_ne (by first | assumption | exact Ne.symm (by assumption))).trans ((xu_ne (by first | assumption | exact Ne.symm (by assumption))).trans (by first | assumption | exact xu_eq _ _ _)) | exact (xu_ne (by first | assumption | exact Ne.symm (by assumption))).trans ((xu_ne (by first | assumption | exact Ne.symm (by assumption))).trans ((xu_ne (by first | assumption | exact Ne.symm (by assumption))).trans (by first | assumption | exact xu_eq _ _ _))))) rfl ?_
  refine g_iload dX3_enter_10 rfl rfl ?_
  refine g_aaldn (t := 6) rfl dX3_enter_12 rfl (Or.inl hsa) (by split <;> omega) (by split <;> omega) ?_
  rw [hf]
  refine g_virtualP iV_X4_places q2004 (hc) (Or.inl (by first | assumption | exact xu_eq _ _ _ | exact (xu_ne (by first | assumption | exact Ne.symm (by assumption))).trans (by first | assumption | exact xu_eq _ _ _) | exact (xu_ne (by first | assumption | exact Ne.symm (by assumption))).trans ((xu_ne (by first | assumption | exact Ne.symm (by assumption))).trans (by first | assumption | exact xu_eq _ _ _)) | exact (xu_ne (by first | assumption | exact Ne.symm (by assumption))).trans ((xu_ne (by first | assumption | exact Ne.symm (by assumption))).trans ((xu_ne (by first | assumption | exact Ne.symm (by assumption))).trans (by first | assumption | exact xu_eq _ _ _))))) rfl (by decide) dX3_enter_13 rfl rfl rfl (by first | exact Nat.le_of_ble_eq_true rfl | simp [Value.category, rf_cat]) (by omega) xN_no ?_
  refine g_icmpn_lt (tgt := 38) dX3_enter_16 (by decide) rfl (by omega) (by omega) (fun c_16 => ?_) (fun c_16 => by omega)
  first | refine g_aload_n dX3_enter_38 rfl rfl rfl ?_ | refine g_aload_nR dX3_enter_38 rfl rfl rfl ?_ | refine g_aload_nN dX3_enter_38 rfl rfl rfl ?_
  first | refine g_aload_n dX3_enter_39 rfl rfl rfl ?_ | refine g_aload_nR dX3_enter_39 rfl rfl rfl ?_ | refine g_aload_nN dX3_enter_39 rfl rfl rfl ?_
  refine g_get fl_X3_69_X9 dX3_enter_40 rfl (Or.inl (by first | assumption | exact xu_eq _ _ _ | exact (xu_ne (by first | assumption | exact Ne.symm (by assumption))).trans (by first | assumption | exact xu_eq _ _ _) | exact (xu_ne (by first | assumption | exact Ne.symm (by assumption))).trans ((xu_ne (by first | assumption | exact Ne.symm (by assumption))).trans (by first | assumption | exact xu_eq _ _ _)) | exact (xu_ne (by first | assumption | exact Ne.symm (by assumption))).trans ((xu_ne (by first | assumption | exact Ne.symm (by assumption))).trans ((xu_ne (by first | assumption | exact Ne.symm (by assumption))).trans (by first | assumption | exact xu_eq _ _ _))))) rfl ?_
  refine g_iload dX3_enter_43 rfl rfl ?_
  refine g_aaldn (t := 6) rfl dX3_enter_45 rfl (Or.inl hsa) (by split <;> omega) (by split <;> omega) ?_
  rw [hf]
  refine g_put1 fl_X3_15_X3 dX3_enter_46 rfl (by first | assumption | exact xu_eq _ _ _ | exact (xu_ne (by first | assumption | exact Ne.symm (by assumption))).trans (by first | assumption | exact xu_eq _ _ _) | exact (xu_ne (by first | assumption | exact Ne.symm (by assumption))).trans ((xu_ne (by first | assumption | exact Ne.symm (by assumption))).trans (by first | assumption | exact xu_eq _ _ _)) | exact (xu_ne (by first | assumption | exact Ne.symm (by assumption))).trans ((xu_ne (by first | assumption | exact Ne.symm (by assumption))).trans ((xu_ne (by first | assumption | exact Ne.symm (by assumption))).trans (by first | assumption | exact xu_eq _ _ _)))) rfl rfl ?_
  first | refine g_aload_n dX3_enter_49 rfl rfl rfl ?_ | refine g_aload_nR dX3_enter_49 rfl rfl rfl ?_ | refine g_aload_nN dX3_enter_49 rfl rfl rfl ?_
  refine g_iconst (v := (nI 0)) dX3_enter_50 rfl rfl ?_
  refine g_put2 fl_X3_38_X3 dX3_enter_51 rfl (by first | assumption | exact xu_eq _ _ _ | exact (xu_ne (by first | assumption | exact Ne.symm (by assumption))).trans (by first | assumption | exact xu_eq _ _ _) | exact (xu_ne (by first | assumption | exact Ne.symm (by assumption))).trans ((xu_ne (by first | assumption | exact Ne.symm (by assumption))).trans (by first | assumption | exact xu_eq _ _ _)) | exact (xu_ne (by first | assumption | exact Ne.symm (by assumption))).trans ((xu_ne (by first | assumption | exact Ne.symm (by assumption))).trans ((xu_ne (by first | assumption | exact Ne.symm (by assumption))).trans (by first | assumption | exact xu_eq _ _ _)))) rfl rfl ?_
  refine g_iload_n dX3_enter_54 rfl rfl rfl ?_
  refine g_ireturn dX3_enter_55 rfl ⟨rfl, ?_⟩
  rw [xu_xu]; rfl
theorem c_enter2 {x sa o p l : Nat} {f : Nat → Option Nat} {ro rs rd bx a0 a1 a2 a3 : Value} {fo fp : List Value} {A B : Nat} (hd : 1 ≤ d) (hD : m D = some (.inr (2, [a0, a1, a2, a3]))) (hx : m x = some (.inr (7, [ro, .int (nI 1), .ref sa, rs, rd, bx]))) (hsa : m sa = some (rA 6 2 f)) (hf : f 0 = some o) (hfq : f 1 = some p) (ho : m o = some (.inr (3, fo))) (hp : m p = some (.inr (3, fp))) (hc : CT w MX4_places (d - 1) 0 0 [.ref o] m (xRet (some (.int (nI (A + 1)))) m) xN) (hcB : CT w MX4_places (d - 1) 0 0 [.ref p] m (xRet (some (.int (nI (B + 1)))) m) xN) (hl : A + 1 ≤ l) (hl2 : l ≤ A + 1 + B) (hA : A < 1000) (hB : B < 1000) :
    CT w MX3_enter d 0 0 [.ref D, .ref x, .int (nI l)] m (xRet (some (.int (nI (l - (A + 1))))) (xu m D (.inr (2, [a0, .ref p, .int (nI 0), a3])))) xN := by
  refine ct_intro (lv := [some (.ref D), some (.ref x), some (.int (nI l)), none, none]) 2 (by decide) rfl (Nat.le_of_ble_eq_true rfl) rfl ?_
  refine g_iload_n dX3_enter_0 rfl rfl rfl ?_
  refine g_ist3 dX3_enter_1 rfl (by decide) (k := ?_)
  refine g_iconst (v := (nI 0)) dX3_enter_2 rfl rfl ?_
  refine g_ist4 dX3_enter_3 rfl (by decide) (k := ?_)
  refine g_iload_n dX3_enter_5 rfl rfl rfl ?_
  first | refine g_aload_n dX3_enter_6 rfl rfl rfl ?_ | refine g_aload_nR dX3_enter_6 rfl rfl rfl ?_ | refine g_aload_nN dX3_enter_6 rfl rfl rfl ?_
  refine g_get fl_X3_69_X9 dX3_enter_7 rfl (Or.inl (by first | assumption | exact xu_eq _ _ _ | exact (xu_ne (by first | assumption | exact Ne.symm (by assumption))).trans (by first | assumption | exact xu_eq _ _ _) | exact (xu_ne (by first | assumption | exact Ne.symm (by assumption))).trans ((xu_ne (by first | assumption | exact Ne.symm (by assumption))).trans (by first | assumption | exact xu_eq _ _ _)) | exact (xu_ne (by first | assumption | exact Ne.symm (by assumption))).trans ((xu_ne (by first | assumption | exact Ne.symm (by assumption))).trans ((xu_ne (by first | assumption | exact Ne.symm (by assumption))).trans (by first | assumption | exact xu_eq _ _ _))))) rfl ?_
  refine g_iload dX3_enter_10 rfl rfl ?_
  refine g_aaldn (t := 6) rfl dX3_enter_12 rfl (by first | assumption | exact Or.inl (by first | assumption | exact xu_eq _ _ _ | exact (xu_ne (by first | assumption | exact Ne.symm (by assumption))).trans (by first | assumption | exact xu_eq _ _ _) | exact (xu_ne (by first | assumption | exact Ne.symm (by assumption))).trans ((xu_ne (by first | assumption | exact Ne.symm (by assumption))).trans (by first | assumption | exact xu_eq _ _ _)) | exact (xu_ne (by first | assumption | exact Ne.symm (by assumption))).trans ((xu_ne (by first | assumption | exact Ne.symm (by assumption))).trans ((xu_ne (by first | assumption | exact Ne.symm (by assumption))).trans (by first | assumption | exact xu_eq _ _ _))))) (by omega) (by omega) ?_
  rw [hf]
  refine g_virtualP iV_X4_places q2004 (hc) (Or.inl (by first | assumption | exact xu_eq _ _ _ | exact (xu_ne (by first | assumption | exact Ne.symm (by assumption))).trans (by first | assumption | exact xu_eq _ _ _) | exact (xu_ne (by first | assumption | exact Ne.symm (by assumption))).trans ((xu_ne (by first | assumption | exact Ne.symm (by assumption))).trans (by first | assumption | exact xu_eq _ _ _)) | exact (xu_ne (by first | assumption | exact Ne.symm (by assumption))).trans ((xu_ne (by first | assumption | exact Ne.symm (by assumption))).trans ((xu_ne (by first | assumption | exact Ne.symm (by assumption))).trans (by first | assumption | exact xu_eq _ _ _))))) rfl (by decide) dX3_enter_13 rfl rfl rfl (by first | exact Nat.le_of_ble_eq_true rfl | simp [Value.category, rf_cat]) (by omega) xN_no ?_
  refine g_icmpn_lt (tgt := 38) dX3_enter_16 (by decide) rfl (by omega) (by omega) (fun c_16 => by omega) (fun c_16 => ?_)
  refine g_iload_n dX3_enter_19 rfl rfl rfl ?_
  first | refine g_aload_n dX3_enter_20 rfl rfl rfl ?_ | refine g_aload_nR dX3_enter_20 rfl rfl rfl ?_ | refine g_aload_nN dX3_enter_20 rfl rfl rfl ?_
  refine g_get fl_X3_69_X9 dX3_enter_21 rfl (Or.inl (by first | assumption | exact xu_eq _ _ _ | exact (xu_ne (by first | assumption | exact Ne.symm (by assumption))).trans (by first | assumption | exact xu_eq _ _ _) | exact (xu_ne (by first | assumption | exact Ne.symm (by assumption))).trans ((xu_ne (by first | assumption | exact Ne.symm (by assumption))).trans (by first | assumption | exact xu_eq _ _ _)) | exact (xu_ne (by first | assumption | exact Ne.symm (by assumption))).trans ((xu_ne (by first | assumption | exact Ne.symm (by assumption))).trans ((xu_ne (by first | assumption | exact Ne.symm (by assumption))).trans (by first | assumption | exact xu_eq _ _ _))))) rfl ?_
  refine g_iload dX3_enter_24 rfl rfl ?_
  refine g_aaldn (t := 6) rfl dX3_enter_26 rfl (by first | assumption | exact Or.inl (by first | assumption | exact xu_eq _ _ _ | exact (xu_ne (by first | assumption | exact Ne.symm (by assumption))).trans (by first | assumption | exact xu_eq _ _ _) | exact (xu_ne (by first | assumption | exact Ne.symm (by assumption))).trans ((xu_ne (by first | assumption | exact Ne.symm (by assumption))).trans (by first | assumption | exact xu_eq _ _ _)) | exact (xu_ne (by first | assumption | exact Ne.symm (by assumption))).trans ((xu_ne (by first | assumption | exact Ne.symm (by assumption))).trans ((xu_ne (by first | assumption | exact Ne.symm (by assumption))).trans (by first | assumption | exact xu_eq _ _ _))))) (by omega) (by omega) ?_
  rw [hf]
  refine g_virtualP iV_X4_places q2004 (hc) (Or.inl (by first | assumption | exact xu_eq _ _ _ | exact (xu_ne (by first | assumption | exact Ne.symm (by assumption))).trans (by first | assumption | exact xu_eq _ _ _) | exact (xu_ne (by first | assumption | exact Ne.symm (by assumption))).trans ((xu_ne (by first | assumption | exact Ne.symm (by assumption))).trans (by first | assumption | exact xu_eq _ _ _)) | exact (xu_ne (by first | assumption | exact Ne.symm (by assumption))).trans ((xu_ne (by first | assumption | exact Ne.symm (by assumption))).trans ((xu_ne (by first | assumption | exact Ne.symm (by assumption))).trans (by first | assumption | exact xu_eq _ _ _))))) rfl (by decide) dX3_enter_27 rfl rfl rfl (by first | exact Nat.le_of_ble_eq_true rfl | simp [Value.category, rf_cat]) (by omega) xN_no ?_
  refine g_isubn dX3_enter_30 rfl (by omega) ?_
  refine g_ist3 dX3_enter_31 rfl (by decide) (k := ?_)
  refine g_incn4 dX3_enter_32 rfl (by decide) (k := ?_)
  refine g_goto (tgt := 5) dX3_enter_35 (by decide) ?_
  refine g_iload_n dX3_enter_5 rfl rfl rfl ?_
  first | refine g_aload_n dX3_enter_6 rfl rfl rfl ?_ | refine g_aload_nR dX3_enter_6 rfl rfl rfl ?_ | refine g_aload_nN dX3_enter_6 rfl rfl rfl ?_
  refine g_get fl_X3_69_X9 dX3_enter_7 rfl (Or.inl (by first | assumption | exact xu_eq _ _ _ | exact (xu_ne (by first | assumption | exact Ne.symm (by assumption))).trans (by first | assumption | exact xu_eq _ _ _) | exact (xu_ne (by first | assumption | exact Ne.symm (by assumption))).trans ((xu_ne (by first | assumption | exact Ne.symm (by assumption))).trans (by first | assumption | exact xu_eq _ _ _)) | exact (xu_ne (by first | assumption | exact Ne.symm (by assumption))).trans ((xu_ne (by first | assumption | exact Ne.symm (by assumption))).trans ((xu_ne (by first | assumption | exact Ne.symm (by assumption))).trans (by first | assumption | exact xu_eq _ _ _))))) rfl ?_
  refine g_iload dX3_enter_10 rfl rfl ?_
  refine g_aaldn (t := 6) rfl dX3_enter_12 rfl (by first | assumption | exact Or.inl (by first | assumption | exact xu_eq _ _ _ | exact (xu_ne (by first | assumption | exact Ne.symm (by assumption))).trans (by first | assumption | exact xu_eq _ _ _) | exact (xu_ne (by first | assumption | exact Ne.symm (by assumption))).trans ((xu_ne (by first | assumption | exact Ne.symm (by assumption))).trans (by first | assumption | exact xu_eq _ _ _)) | exact (xu_ne (by first | assumption | exact Ne.symm (by assumption))).trans ((xu_ne (by first | assumption | exact Ne.symm (by assumption))).trans ((xu_ne (by first | assumption | exact Ne.symm (by assumption))).trans (by first | assumption | exact xu_eq _ _ _))))) (by omega) (by omega) ?_
  rw [hfq]
  refine g_virtualP iV_X4_places q2004 (hcB) (Or.inl (by first | assumption | exact xu_eq _ _ _ | exact (xu_ne (by first | assumption | exact Ne.symm (by assumption))).trans (by first | assumption | exact xu_eq _ _ _) | exact (xu_ne (by first | assumption | exact Ne.symm (by assumption))).trans ((xu_ne (by first | assumption | exact Ne.symm (by assumption))).trans (by first | assumption | exact xu_eq _ _ _)) | exact (xu_ne (by first | assumption | exact Ne.symm (by assumption))).trans ((xu_ne (by first | assumption | exact Ne.symm (by assumption))).trans ((xu_ne (by first | assumption | exact Ne.symm (by assumption))).trans (by first | assumption | exact xu_eq _ _ _))))) rfl (by decide) dX3_enter_13 rfl rfl rfl (by first | exact Nat.le_of_ble_eq_true rfl | simp [Value.category, rf_cat]) (by omega) xN_no ?_
  refine g_icmpn_lt (tgt := 38) dX3_enter_16 (by decide) rfl (by omega) (by omega) (fun c_16 => ?_) (fun c_16 => by omega)
  first | refine g_aload_n dX3_enter_38 rfl rfl rfl ?_ | refine g_aload_nR dX3_enter_38 rfl rfl rfl ?_ | refine g_aload_nN dX3_enter_38 rfl rfl rfl ?_
  first | refine g_aload_n dX3_enter_39 rfl rfl rfl ?_ | refine g_aload_nR dX3_enter_39 rfl rfl rfl ?_ | refine g_aload_nN dX3_enter_39 rfl rfl rfl ?_
  refine g_get fl_X3_69_X9 dX3_enter_40 rfl (Or.inl (by first | assumption | exact xu_eq _ _ _ | exact (xu_ne (by first | assumption | exact Ne.symm (by assumption))).trans (by first | assumption | exact xu_eq _ _ _) | exact (xu_ne (by first | assumption | exact Ne.symm (by assumption))).trans ((xu_ne (by first | assumption | exact Ne.symm (by assumption))).trans (by first | assumption | exact xu_eq _ _ _)) | exact (xu_ne (by first | assumption | exact Ne.symm (by assumption))).trans ((xu_ne (by first | assumption | exact Ne.symm (by assumption))).trans ((xu_ne (by first | assumption | exact Ne.symm (by assumption))).trans (by first | assumption | exact xu_eq _ _ _))))) rfl ?_
  refine g_iload dX3_enter_43 rfl rfl ?_
  refine g_aaldn (t := 6) rfl dX3_enter_45 rfl (by first | assumption | exact Or.inl (by first | assumption | exact xu_eq _ _ _ | exact (xu_ne (by first | assumption | exact Ne.symm (by assumption))).trans (by first | assumption | exact xu_eq _ _ _) | exact (xu_ne (by first | assumption | exact Ne.symm (by assumption))).trans ((xu_ne (by first | assumption | exact Ne.symm (by assumption))).trans (by first | assumption | exact xu_eq _ _ _)) | exact (xu_ne (by first | assumption | exact Ne.symm (by assumption))).trans ((xu_ne (by first | assumption | exact Ne.symm (by assumption))).trans ((xu_ne (by first | assumption | exact Ne.symm (by assumption))).trans (by first | assumption | exact xu_eq _ _ _))))) (by omega) (by omega) ?_
  rw [hfq]
  refine g_put1 fl_X3_15_X3 dX3_enter_46 rfl (by first | assumption | exact xu_eq _ _ _ | exact (xu_ne (by first | assumption | exact Ne.symm (by assumption))).trans (by first | assumption | exact xu_eq _ _ _) | exact (xu_ne (by first | assumption | exact Ne.symm (by assumption))).trans ((xu_ne (by first | assumption | exact Ne.symm (by assumption))).trans (by first | assumption | exact xu_eq _ _ _)) | exact (xu_ne (by first | assumption | exact Ne.symm (by assumption))).trans ((xu_ne (by first | assumption | exact Ne.symm (by assumption))).trans ((xu_ne (by first | assumption | exact Ne.symm (by assumption))).trans (by first | assumption | exact xu_eq _ _ _)))) rfl rfl ?_
  first | refine g_aload_n dX3_enter_49 rfl rfl rfl ?_ | refine g_aload_nR dX3_enter_49 rfl rfl rfl ?_ | refine g_aload_nN dX3_enter_49 rfl rfl rfl ?_
  refine g_iconst (v := (nI 0)) dX3_enter_50 rfl rfl ?_
  refine g_put2 fl_X3_38_X3 dX3_enter_51 rfl (by first | assumption | exact xu_eq _ _ _ | exact (xu_ne (by first | assumption | exact Ne.symm (by assumption))).trans (by first | assumption | exact xu_eq _ _ _) | exact (xu_ne (by first | assumption | exact Ne.symm (by assumption))).trans ((xu_ne (by first | assumption | exact Ne.symm (by assumption))).trans (by first | assumption | exact xu_eq _ _ _)) | exact (xu_ne (by first | assumption | exact Ne.symm (by assumption))).trans ((xu_ne (by first | assumption | exact Ne.symm (by assumption))).trans ((xu_ne (by first | assumption | exact Ne.symm (by assumption))).trans (by first | assumption | exact xu_eq _ _ _)))) rfl rfl ?_
  refine g_iload_n dX3_enter_54 rfl rfl rfl ?_
  refine g_ireturn dX3_enter_55 rfl ⟨rfl, ?_⟩
  rw [xu_xu]; rfl
def mvQ (w : XW) (m : XM) (D top : Nat) (L : List XE) (c : Nat) : Option Value → XM → Prop := fun v m' => none = v ∧ ∃ r P Q q S, L = P ++ Q ∧ P.length = c ∧ scn [(top, none)] P = some ((r, q) :: S) ∧ m' = xu m D (.inr (2, [.ref top, .ref r, .int (nI (drs r P).length), .int (nI 0)]))
theorem c_moveTo {L : List XE} {c : Nat} {a1 a2 a3 : Value} (hd : 30 ≤ d) (h : SM w g m id T) (hT : DT T top L) (hD : m D = some (.inr (2, [.ref top, a1, a2, a3]))) (hgD : (g D).1 ≠ id) (hL : L.length ≤ 180) (hH : hts L ≤ 5) (hc : c ≤ L.length) : CT w MX3_moveTo d 0 0 [.ref D, .int (nI c)] m (mvQ w m D top L c) xN := by
  have hmD : m D ≠ none := by rw [hD]; exact fun h => by cases h
  refine ct_intro (lv := [some (.ref D), some (.int (nI c)), none, none, none]) 3 (by decide) rfl (Nat.le_of_ble_eq_true rfl) rfl ?_
  have loop : ∀ (n : Nat) (P M2 V : List XE) (r : Nat) (q : Option Nat) (S : XK) (left : Nat), left ≤ n → L = P ++ (M2 ++ V) → scn [(top, none)] P = some ((r, q) :: S) → Bd r M2 → left ≤ M2.length → P.length + left = c →
      G w MX3_moveTo (xZ w (mvQ w m D top L c) xN) d 0 0 20 [some (.ref D), some (.int (nI c)), some (.int (nI left)), none, none] [] (xu m D (.inr (2, [.ref top, .ref r, .int (nI (drs r P).length), .int (nI 0)]))) := by
    intro n
    induction n with
    | zero =>
      intro P M2 V r q S left hn hLe hP hM hl hpc
      obtain rfl : left = 0 := by omega
      refine g_iload_n dX3_moveTo_20 rfl rfl rfl ?_
      refine g_ifn_le (tgt := 91) dX3_moveTo_21 (by decide) rfl (by omega) (fun c_21 => ?_) (fun c_21 => by omega)
      exact g_return dX3_moveTo_91 rfl ⟨rfl, r, P, M2 ++ V, q, S, hLe, by omega, hP, rfl⟩
    | succ n ih =>
      intro P M2 V r q S left hn hLe hP hM hl hpc
      by_cases h0 : left = 0
      · subst h0
        refine g_iload_n dX3_moveTo_20 rfl rfl rfl ?_
        refine g_ifn_le (tgt := 91) dX3_moveTo_21 (by decide) rfl (by omega) (fun c_21 => ?_) (fun c_21 => by omega)
        exact g_return dX3_moveTo_91 rfl ⟨rfl, r, P, M2 ++ V, q, S, hLe, by omega, hP, rfl⟩
      · have hHO : HO top P (M2 ++ V) r q S := ⟨hP, by
          have := hT.1; unfold Bd at this; rw [hLe, scn_app' _ hP] at this; exact this⟩
        have hTL : DT T top (P ++ ([] ++ (M2 ++ V))) := by rw [List.nil_append, ← hLe]; exact hT
        obtain ⟨own, sl, cap, hR⟩ := dt_at hTL hHO (bd_nil r)
        rw [List.nil_append, ← hLe] at hR
        have hdl : drs r L = drs r P ++ drs r (M2 ++ V) := by rw [hLe, drs_app]
        have hb := drs_len r L
        rw [hdl, List.length_append] at hb
        have hS1 : SM w g (xu m D (.inr (2, [.ref top, .ref r, .int (nI (drs r P).length), .int (nI 0)]))) id T := sm_D h hgD hmD
        have hD1 := xu_eq m D (.inr (2, [.ref top, .ref r, .int (nI (drs r P).length), .int (nI 0)]))
        generalize hm1 : xu m D (.inr (2, [.ref top, .ref r, .int (nI (drs r P).length), .int (nI 0)])) = m1 at hS1 hD1 ⊢
        obtain ⟨la, ar, bx, mc, hr1, k1, hA, -⟩ := sm_row hS1 hR
        rcases bd_cases hM with rfl | ⟨c0, x, M3, rfl, hb3⟩ | ⟨k, x, o, p, A, B, M3, rfl, hbA, hbB, hb3⟩
        · simp at hl; omega
        · have hek : EK T (eS c0 x r) := hT.2.2.2.2 _ (by rw [hLe]; simp)
          obtain ⟨hx1, -⟩ := sm_sym hS1 hek.1
          have hci := sm_castI hS1 (i := x) (by rw [hek.1]; exact fun h => by cases h)
          have hgt : (drs r L)[(drs r P).length]? = some x := by rw [hdl, List.cons_append, drs_sS]; exact at_mid _ _ _
          rw [List.length_cons] at hl
          refine g_iload_n dX3_moveTo_20 rfl rfl rfl ?_
          refine g_ifn_le (tgt := 91) dX3_moveTo_21 (by decide) rfl (by omega) (fun c_21 => by omega) (fun c_21 => ?_)
          first | refine g_aload_n dX3_moveTo_24 rfl rfl rfl ?_ | refine g_aload_nR dX3_moveTo_24 rfl rfl rfl ?_ | refine g_aload_nN dX3_moveTo_24 rfl rfl rfl ?_
          refine g_get fl_X3_15_X3 dX3_moveTo_25 rfl (Or.inl (by first | assumption | exact xu_eq _ _ _ | exact (xu_ne (by first | assumption | exact Ne.symm (by assumption))).trans (by first | assumption | exact xu_eq _ _ _) | exact (xu_ne (by first | assumption | exact Ne.symm (by assumption))).trans ((xu_ne (by first | assumption | exact Ne.symm (by assumption))).trans (by first | assumption | exact xu_eq _ _ _)) | exact (xu_ne (by first | assumption | exact Ne.symm (by assumption))).trans ((xu_ne (by first | assumption | exact Ne.symm (by assumption))).trans ((xu_ne (by first | assumption | exact Ne.symm (by assumption))).trans (by first | assumption | exact xu_eq _ _ _))))) rfl ?_
          refine g_get fl_X3_21_X4 dX3_moveTo_28 rfl (Or.inl (by first | assumption | exact xu_eq _ _ _ | exact (xu_ne (by first | assumption | exact Ne.symm (by assumption))).trans (by first | assumption | exact xu_eq _ _ _) | exact (xu_ne (by first | assumption | exact Ne.symm (by assumption))).trans ((xu_ne (by first | assumption | exact Ne.symm (by assumption))).trans (by first | assumption | exact xu_eq _ _ _)) | exact (xu_ne (by first | assumption | exact Ne.symm (by assumption))).trans ((xu_ne (by first | assumption | exact Ne.symm (by assumption))).trans ((xu_ne (by first | assumption | exact Ne.symm (by assumption))).trans (by first | assumption | exact xu_eq _ _ _))))) rfl ?_
          first | refine g_aload_n dX3_moveTo_31 rfl rfl rfl ?_ | refine g_aload_nR dX3_moveTo_31 rfl rfl rfl ?_ | refine g_aload_nN dX3_moveTo_31 rfl rfl rfl ?_
          refine g_get fl_X3_38_X3 dX3_moveTo_32 rfl (Or.inl (by first | assumption | exact xu_eq _ _ _ | exact (xu_ne (by first | assumption | exact Ne.symm (by assumption))).trans (by first | assumption | exact xu_eq _ _ _) | exact (xu_ne (by first | assumption | exact Ne.symm (by assumption))).trans ((xu_ne (by first | assumption | exact Ne.symm (by assumption))).trans (by first | assumption | exact xu_eq _ _ _)) | exact (xu_ne (by first | assumption | exact Ne.symm (by assumption))).trans ((xu_ne (by first | assumption | exact Ne.symm (by assumption))).trans ((xu_ne (by first | assumption | exact Ne.symm (by assumption))).trans (by first | assumption | exact xu_eq _ _ _))))) rfl ?_
          refine g_ifaceP iI_J26_get_J26 q1837 (c_get (d := d - 1) (by omega) hA hgt) (Or.inl (by first | assumption | exact xu_eq _ _ _ | exact (xu_ne (by first | assumption | exact Ne.symm (by assumption))).trans (by first | assumption | exact xu_eq _ _ _) | exact (xu_ne (by first | assumption | exact Ne.symm (by assumption))).trans ((xu_ne (by first | assumption | exact Ne.symm (by assumption))).trans (by first | assumption | exact xu_eq _ _ _)) | exact (xu_ne (by first | assumption | exact Ne.symm (by assumption))).trans ((xu_ne (by first | assumption | exact Ne.symm (by assumption))).trans ((xu_ne (by first | assumption | exact Ne.symm (by assumption))).trans (by first | assumption | exact xu_eq _ _ _))))) rfl (by decide) dX3_moveTo_35 rfl rfl rfl (by first | exact Nat.le_of_ble_eq_true rfl | simp [Value.category, rf_cat]) (by omega) xN_no ?_
          refine g_castI q1838 dX3_moveTo_40 rfl (by assumption) ?_
          first | refine g_ast3 dX3_moveTo_43 rfl (by decide) (k := ?_) | refine g_astR3 dX3_moveTo_43 rfl (by decide) (k := ?_) | refine g_astN3 dX3_moveTo_43 rfl (by decide) (k := ?_)
          first | refine g_aload_n dX3_moveTo_44 rfl rfl rfl ?_ | refine g_aload_nR dX3_moveTo_44 rfl rfl rfl ?_ | refine g_aload_nN dX3_moveTo_44 rfl rfl rfl ?_
          refine g_staticNP iS_X4_placesIn q1999 (c_pinC (d := d - 1) (by omega) hx1) dX3_moveTo_45 rfl rfl rfl (by first | exact Nat.le_of_ble_eq_true rfl | simp [Value.category, rf_cat]) (by omega) xN_no ?_
          refine g_ist4 dX3_moveTo_48 rfl (by decide) (k := ?_)
          refine g_iload_n dX3_moveTo_50 rfl rfl rfl ?_
          refine g_iload dX3_moveTo_51 rfl rfl ?_
          refine g_icmpn_le (tgt := 76) dX3_moveTo_53 (by decide) rfl (by omega) (by omega) (fun c_53 => by omega) (fun c_53 => ?_)
          refine g_iload_n dX3_moveTo_56 rfl rfl rfl ?_
          refine g_iload dX3_moveTo_57 rfl rfl ?_
          refine g_iconst (v := (nI 1)) dX3_moveTo_59 rfl rfl ?_
          refine g_iaddn dX3_moveTo_60 rfl ?_
          refine g_isubn dX3_moveTo_61 rfl (by omega) ?_
          refine g_ist2 dX3_moveTo_62 rfl (by decide) (k := ?_)
          first | refine g_aload_n dX3_moveTo_63 rfl rfl rfl ?_ | refine g_aload_nR dX3_moveTo_63 rfl rfl rfl ?_ | refine g_aload_nN dX3_moveTo_63 rfl rfl rfl ?_
          refine g_dup dX3_moveTo_64 rfl (by first | rfl | exact rf_cat _) ?_
          refine g_get fl_X3_38_X3 dX3_moveTo_65 rfl (Or.inl (by first | assumption | exact xu_eq _ _ _ | exact (xu_ne (by first | assumption | exact Ne.symm (by assumption))).trans (by first | assumption | exact xu_eq _ _ _) | exact (xu_ne (by first | assumption | exact Ne.symm (by assumption))).trans ((xu_ne (by first | assumption | exact Ne.symm (by assumption))).trans (by first | assumption | exact xu_eq _ _ _)) | exact (xu_ne (by first | assumption | exact Ne.symm (by assumption))).trans ((xu_ne (by first | assumption | exact Ne.symm (by assumption))).trans ((xu_ne (by first | assumption | exact Ne.symm (by assumption))).trans (by first | assumption | exact xu_eq _ _ _))))) rfl ?_
          refine g_iconst (v := (nI 1)) dX3_moveTo_68 rfl rfl ?_
          refine g_iaddn dX3_moveTo_69 rfl ?_
          refine g_put2 fl_X3_38_X3 dX3_moveTo_70 rfl (by first | assumption | exact xu_eq _ _ _ | exact (xu_ne (by first | assumption | exact Ne.symm (by assumption))).trans (by first | assumption | exact xu_eq _ _ _) | exact (xu_ne (by first | assumption | exact Ne.symm (by assumption))).trans ((xu_ne (by first | assumption | exact Ne.symm (by assumption))).trans (by first | assumption | exact xu_eq _ _ _)) | exact (xu_ne (by first | assumption | exact Ne.symm (by assumption))).trans ((xu_ne (by first | assumption | exact Ne.symm (by assumption))).trans ((xu_ne (by first | assumption | exact Ne.symm (by assumption))).trans (by first | assumption | exact xu_eq _ _ _)))) rfl rfl ?_
          refine g_goto (tgt := 88) dX3_moveTo_73 (by decide) ?_
          refine g_goto (tgt := 20) dX3_moveTo_88 (by decide) ?_
          refine g_fg [some (.ref D), some (.int (nI c)), some (.int (nI (left - (0 + 1)))), none, none] ⟨rfl, rfl, rfl, trivial⟩ ?_
          have := ih (P ++ [eS c0 x r]) M3 V r q S (left - (0 + 1)) (by omega) (by rw [hLe]; simp) (by rw [scn_app' _ hP, scn_cons, stp_sS (r, q)]; rfl) hb3 (by omega) (by rw [List.length_append]; simp only [List.length_cons, List.length_nil]; omega)
          rw [drs_app, drs_sS, List.length_append] at this
          rw [← hm1, xu_xu]
          exact this
        · have hLs : L = P ++ (sI k x r o p A B ++ (M3 ++ V)) := by rw [hLe]; simp
          have hbS : Bd r (sI k x r o p A B) := bd_sI hbA hbB
          have hH2 : HO top P (M3 ++ V) r q S := ⟨hP, by
            have := hHO.2; rw [List.append_assoc, scn_app' _ (bd_any hbS _ _)] at this; exact this⟩
          have hT2 := hT; rw [hLs] at hT2
          obtain ⟨e1, e2, eA, eBB, ⟨rs, rd, e3⟩, e4, ⟨ca, e5⟩, e6⟩ := dt_strH hT2 hH2 hbA hbB
          have hgt : (drs r L)[(drs r P).length]? = some x := by rw [hLs, e1]; exact at_mid _ _ _
          obtain ⟨sa, bx2, f, hx1, hsa, hfp, hfq, -, -, hk1, hk2, -⟩ := sm_str hS1 e3
          have hci := sm_castI hS1 (i := x) (by rw [e3]; exact fun h => by cases h)
          obtain ⟨lo, ao, bo, mo, hom, -⟩ := sm_row hS1 e5
          have hLl := congrArg List.length hLs
          rw [List.length_append, List.length_append, sI_len] at hLl
          have hht : 1 + max (hts A) (if k = 1 then hts B else 0) ≤ hts L := by
            rw [← hts_sI hbA hbB, hLs]; exact hts_in _ _ hbS
          have hcA := c_places hS1 A.length A o (Nat.le_refl _) (by omega) eA (d - 1 - 1) (by omega)
          have hpp : ∃ fp, k = 1 → m1 p = some (.inr (3, fp)) := by
            by_cases hk : k = 1
            · obtain ⟨-, cb, e7⟩ := e6 hk
              obtain ⟨lo, ao, bo, mo, ho, -⟩ := sm_row hS1 e7
              exact ⟨_, fun _ => ho⟩
            · exact ⟨[], fun h => absurd h hk⟩
          obtain ⟨fp, hpp⟩ := hpp
          have hcB : k = 1 → CT w MX4_places (d - 1 - 1) 0 0 [.ref p] m1 (xRet (some (.int (nI (B.length + 1)))) m1) xN := by
            intro hk
            rw [if_pos hk] at hLl hht
            exact c_places hS1 B.length B p (Nat.le_refl _) (by omega) (eBB hk) (d - 1 - 1) (by omega)
          have hpin := l_pinS (d := d - 1) (a := A.length + 1) (b := B.length + 1) (by omega) hx1 hsa hfp hfq hom hpp hcA hcB
          have hnd := hT2.2.1
          rw [opn_app, opn_app, opn_sI, List.nodup_cons, List.nodup_append, List.nodup_append] at hnd
          have hout : ∀ s, s ∈ opn (sI k x r o p A B) → drs s P = [] ∧ s ≠ r := by
            intro s hs
            have hs' := hs
            rw [opn_sI] at hs
            have hq4 : s ∉ top :: (opn P ++ opn (M3 ++ V)) := by
              simp only [List.mem_cons, List.mem_append, not_or]
              rw [opn_app] at hnd ⊢
              refine ⟨?_, fun hx => hnd.2.2.2 s hx s (List.mem_append_left _ hs) rfl, ?_⟩
              · rintro rfl
                exact hnd.1 (List.mem_append_right _ (List.mem_append_left _ hs))
              · exact fun hy => hnd.2.2.1.2.2 s hs s hy rfl
            refine ⟨(ho_out (M := []) hH2 hq4).1, fun e => ?_⟩
            subst e
            rcases ho_r hH2 with e | e
            · exact hq4 (by rw [e]; exact List.mem_cons_self)
            · exact hq4 (List.mem_cons_of_mem _ (List.mem_append_left _ e))
          have hoo := hout o (by rw [opn_sI]; split <;> simp)
          rw [List.length_append, sI_len] at hl
          by_cases hbig : A.length + 1 + (if k = 1 then B.length + 1 else 0) < left
          · generalize hu : A.length + 1 + (if k = 1 then B.length + 1 else 0) = u at *
            have hsl : (sI k x r o p A B).length = 1 + u := by rw [sI_len]; omega
            refine g_iload_n dX3_moveTo_20 rfl rfl rfl ?_
            refine g_ifn_le (tgt := 91) dX3_moveTo_21 (by decide) rfl (by omega) (fun c_21 => by omega) (fun c_21 => ?_)
            first | refine g_aload_n dX3_moveTo_24 rfl rfl rfl ?_ | refine g_aload_nR dX3_moveTo_24 rfl rfl rfl ?_ | refine g_aload_nN dX3_moveTo_24 rfl rfl rfl ?_
            refine g_get fl_X3_15_X3 dX3_moveTo_25 rfl (Or.inl (by first | assumption | exact xu_eq _ _ _ | exact (xu_ne (by first | assumption | exact Ne.symm (by assumption))).trans (by first | assumption | exact xu_eq _ _ _) | exact (xu_ne (by first | assumption | exact Ne.symm (by assumption))).trans ((xu_ne (by first | assumption | exact Ne.symm (by assumption))).trans (by first | assumption | exact xu_eq _ _ _)) | exact (xu_ne (by first | assumption | exact Ne.symm (by assumption))).trans ((xu_ne (by first | assumption | exact Ne.symm (by assumption))).trans ((xu_ne (by first | assumption | exact Ne.symm (by assumption))).trans (by first | assumption | exact xu_eq _ _ _))))) rfl ?_
            refine g_get fl_X3_21_X4 dX3_moveTo_28 rfl (Or.inl (by first | assumption | exact xu_eq _ _ _ | exact (xu_ne (by first | assumption | exact Ne.symm (by assumption))).trans (by first | assumption | exact xu_eq _ _ _) | exact (xu_ne (by first | assumption | exact Ne.symm (by assumption))).trans ((xu_ne (by first | assumption | exact Ne.symm (by assumption))).trans (by first | assumption | exact xu_eq _ _ _)) | exact (xu_ne (by first | assumption | exact Ne.symm (by assumption))).trans ((xu_ne (by first | assumption | exact Ne.symm (by assumption))).trans ((xu_ne (by first | assumption | exact Ne.symm (by assumption))).trans (by first | assumption | exact xu_eq _ _ _))))) rfl ?_
            first | refine g_aload_n dX3_moveTo_31 rfl rfl rfl ?_ | refine g_aload_nR dX3_moveTo_31 rfl rfl rfl ?_ | refine g_aload_nN dX3_moveTo_31 rfl rfl rfl ?_
            refine g_get fl_X3_38_X3 dX3_moveTo_32 rfl (Or.inl (by first | assumption | exact xu_eq _ _ _ | exact (xu_ne (by first | assumption | exact Ne.symm (by assumption))).trans (by first | assumption | exact xu_eq _ _ _) | exact (xu_ne (by first | assumption | exact Ne.symm (by assumption))).trans ((xu_ne (by first | assumption | exact Ne.symm (by assumption))).trans (by first | assumption | exact xu_eq _ _ _)) | exact (xu_ne (by first | assumption | exact Ne.symm (by assumption))).trans ((xu_ne (by first | assumption | exact Ne.symm (by assumption))).trans ((xu_ne (by first | assumption | exact Ne.symm (by assumption))).trans (by first | assumption | exact xu_eq _ _ _))))) rfl ?_
            refine g_ifaceP iI_J26_get_J26 q1837 (c_get (d := d - 1) (by omega) hA hgt) (Or.inl (by first | assumption | exact xu_eq _ _ _ | exact (xu_ne (by first | assumption | exact Ne.symm (by assumption))).trans (by first | assumption | exact xu_eq _ _ _) | exact (xu_ne (by first | assumption | exact Ne.symm (by assumption))).trans ((xu_ne (by first | assumption | exact Ne.symm (by assumption))).trans (by first | assumption | exact xu_eq _ _ _)) | exact (xu_ne (by first | assumption | exact Ne.symm (by assumption))).trans ((xu_ne (by first | assumption | exact Ne.symm (by assumption))).trans ((xu_ne (by first | assumption | exact Ne.symm (by assumption))).trans (by first | assumption | exact xu_eq _ _ _))))) rfl (by decide) dX3_moveTo_35 rfl rfl rfl (by first | exact Nat.le_of_ble_eq_true rfl | simp [Value.category, rf_cat]) (by omega) xN_no ?_
            refine g_castI q1838 dX3_moveTo_40 rfl (by assumption) ?_
            first | refine g_ast3 dX3_moveTo_43 rfl (by decide) (k := ?_) | refine g_astR3 dX3_moveTo_43 rfl (by decide) (k := ?_) | refine g_astN3 dX3_moveTo_43 rfl (by decide) (k := ?_)
            first | refine g_aload_n dX3_moveTo_44 rfl rfl rfl ?_ | refine g_aload_nR dX3_moveTo_44 rfl rfl rfl ?_ | refine g_aload_nN dX3_moveTo_44 rfl rfl rfl ?_
            refine g_staticNP iS_X4_placesIn q1999 (hpin) dX3_moveTo_45 rfl rfl rfl (by first | exact Nat.le_of_ble_eq_true rfl | simp [Value.category, rf_cat]) (by omega) xN_no ?_
            refine g_ist4 dX3_moveTo_48 rfl (by decide) (k := ?_)
            refine g_iload_n dX3_moveTo_50 rfl rfl rfl ?_
            refine g_iload dX3_moveTo_51 rfl rfl ?_
            refine g_icmpn_le (tgt := 76) dX3_moveTo_53 (by decide) rfl (by omega) (by omega) (fun c_53 => by omega) (fun c_53 => ?_)
            refine g_iload_n dX3_moveTo_56 rfl rfl rfl ?_
            refine g_iload dX3_moveTo_57 rfl rfl ?_
            refine g_iconst (v := (nI 1)) dX3_moveTo_59 rfl rfl ?_
            refine g_iaddn dX3_moveTo_60 rfl ?_
            refine g_isubn dX3_moveTo_61 rfl (by omega) ?_
            refine g_ist2 dX3_moveTo_62 rfl (by decide) (k := ?_)
            first | refine g_aload_n dX3_moveTo_63 rfl rfl rfl ?_ | refine g_aload_nR dX3_moveTo_63 rfl rfl rfl ?_ | refine g_aload_nN dX3_moveTo_63 rfl rfl rfl ?_
            refine g_dup dX3_moveTo_64 rfl (by first | rfl | exact rf_cat _) ?_
            refine g_get fl_X3_38_X3 dX3_moveTo_65 rfl (Or.inl (by first | assumption | exact xu_eq _ _ _ | exact (xu_ne (by first | assumption | exact Ne.symm (by assumption))).trans (by first | assumption | exact xu_eq _ _ _) | exact (xu_ne (by first | assumption | exact Ne.symm (by assumption))).trans ((xu_ne (by first | assumption | exact Ne.symm (by assumption))).trans (by first | assumption | exact xu_eq _ _ _)) | exact (xu_ne (by first | assumption | exact Ne.symm (by assumption))).trans ((xu_ne (by first | assumption | exact Ne.symm (by assumption))).trans ((xu_ne (by first | assumption | exact Ne.symm (by assumption))).trans (by first | assumption | exact xu_eq _ _ _))))) rfl ?_
            refine g_iconst (v := (nI 1)) dX3_moveTo_68 rfl rfl ?_
            refine g_iaddn dX3_moveTo_69 rfl ?_
            refine g_put2 fl_X3_38_X3 dX3_moveTo_70 rfl (by first | assumption | exact xu_eq _ _ _ | exact (xu_ne (by first | assumption | exact Ne.symm (by assumption))).trans (by first | assumption | exact xu_eq _ _ _) | exact (xu_ne (by first | assumption | exact Ne.symm (by assumption))).trans ((xu_ne (by first | assumption | exact Ne.symm (by assumption))).trans (by first | assumption | exact xu_eq _ _ _)) | exact (xu_ne (by first | assumption | exact Ne.symm (by assumption))).trans ((xu_ne (by first | assumption | exact Ne.symm (by assumption))).trans ((xu_ne (by first | assumption | exact Ne.symm (by assumption))).trans (by first | assumption | exact xu_eq _ _ _)))) rfl rfl ?_
            refine g_goto (tgt := 88) dX3_moveTo_73 (by decide) ?_
            refine g_goto (tgt := 20) dX3_moveTo_88 (by decide) ?_
            refine g_fg [some (.ref D), some (.int (nI c)), some (.int (nI (left - (u + 1)))), none, none] ⟨rfl, rfl, rfl, trivial⟩ ?_
            have := ih (P ++ sI k x r o p A B) M3 V r q S (left - (u + 1)) (by omega) (by rw [hLs]; simp) (by rw [scn_app' _ hP]; exact bd_any hbS _ _) hb3 (by omega) (by rw [List.length_append, hsl]; omega)
            rw [drs_app, e2, List.length_append] at this
            rw [← hm1, xu_xu]
            exact this
          · by_cases hsm : left - 1 ≤ A.length
            · have hen := c_enter1 (d := d - 1) (l := left - 1) (k := k) (by omega) hD1 hx1 hsa hfp hom hcA hsm (by omega)
              generalize hu : A.length + 1 + (if k = 1 then B.length + 1 else 0) = u at *
              clear hcB hht
              refine g_iload_n dX3_moveTo_20 rfl rfl rfl ?_
              refine g_ifn_le (tgt := 91) dX3_moveTo_21 (by decide) rfl (by omega) (fun c_21 => by omega) (fun c_21 => ?_)
              first | refine g_aload_n dX3_moveTo_24 rfl rfl rfl ?_ | refine g_aload_nR dX3_moveTo_24 rfl rfl rfl ?_ | refine g_aload_nN dX3_moveTo_24 rfl rfl rfl ?_
              refine g_get fl_X3_15_X3 dX3_moveTo_25 rfl (Or.inl (by first | assumption | exact xu_eq _ _ _ | exact (xu_ne (by first | assumption | exact Ne.symm (by assumption))).trans (by first | assumption | exact xu_eq _ _ _) | exact (xu_ne (by first | assumption | exact Ne.symm (by assumption))).trans ((xu_ne (by first | assumption | exact Ne.symm (by assumption))).trans (by first | assumption | exact xu_eq _ _ _)) | exact (xu_ne (by first | assumption | exact Ne.symm (by assumption))).trans ((xu_ne (by first | assumption | exact Ne.symm (by assumption))).trans ((xu_ne (by first | assumption | exact Ne.symm (by assumption))).trans (by first | assumption | exact xu_eq _ _ _))))) rfl ?_
              refine g_get fl_X3_21_X4 dX3_moveTo_28 rfl (Or.inl (by first | assumption | exact xu_eq _ _ _ | exact (xu_ne (by first | assumption | exact Ne.symm (by assumption))).trans (by first | assumption | exact xu_eq _ _ _) | exact (xu_ne (by first | assumption | exact Ne.symm (by assumption))).trans ((xu_ne (by first | assumption | exact Ne.symm (by assumption))).trans (by first | assumption | exact xu_eq _ _ _)) | exact (xu_ne (by first | assumption | exact Ne.symm (by assumption))).trans ((xu_ne (by first | assumption | exact Ne.symm (by assumption))).trans ((xu_ne (by first | assumption | exact Ne.symm (by assumption))).trans (by first | assumption | exact xu_eq _ _ _))))) rfl ?_
              first | refine g_aload_n dX3_moveTo_31 rfl rfl rfl ?_ | refine g_aload_nR dX3_moveTo_31 rfl rfl rfl ?_ | refine g_aload_nN dX3_moveTo_31 rfl rfl rfl ?_
              refine g_get fl_X3_38_X3 dX3_moveTo_32 rfl (Or.inl (by first | assumption | exact xu_eq _ _ _ | exact (xu_ne (by first | assumption | exact Ne.symm (by assumption))).trans (by first | assumption | exact xu_eq _ _ _) | exact (xu_ne (by first | assumption | exact Ne.symm (by assumption))).trans ((xu_ne (by first | assumption | exact Ne.symm (by assumption))).trans (by first | assumption | exact xu_eq _ _ _)) | exact (xu_ne (by first | assumption | exact Ne.symm (by assumption))).trans ((xu_ne (by first | assumption | exact Ne.symm (by assumption))).trans ((xu_ne (by first | assumption | exact Ne.symm (by assumption))).trans (by first | assumption | exact xu_eq _ _ _))))) rfl ?_
              refine g_ifaceP iI_J26_get_J26 q1837 (c_get (d := d - 1) (by omega) hA hgt) (Or.inl (by first | assumption | exact xu_eq _ _ _ | exact (xu_ne (by first | assumption | exact Ne.symm (by assumption))).trans (by first | assumption | exact xu_eq _ _ _) | exact (xu_ne (by first | assumption | exact Ne.symm (by assumption))).trans ((xu_ne (by first | assumption | exact Ne.symm (by assumption))).trans (by first | assumption | exact xu_eq _ _ _)) | exact (xu_ne (by first | assumption | exact Ne.symm (by assumption))).trans ((xu_ne (by first | assumption | exact Ne.symm (by assumption))).trans ((xu_ne (by first | assumption | exact Ne.symm (by assumption))).trans (by first | assumption | exact xu_eq _ _ _))))) rfl (by decide) dX3_moveTo_35 rfl rfl rfl (by first | exact Nat.le_of_ble_eq_true rfl | simp [Value.category, rf_cat]) (by omega) xN_no ?_
              refine g_castI q1838 dX3_moveTo_40 rfl (by assumption) ?_
              first | refine g_ast3 dX3_moveTo_43 rfl (by decide) (k := ?_) | refine g_astR3 dX3_moveTo_43 rfl (by decide) (k := ?_) | refine g_astN3 dX3_moveTo_43 rfl (by decide) (k := ?_)
              first | refine g_aload_n dX3_moveTo_44 rfl rfl rfl ?_ | refine g_aload_nR dX3_moveTo_44 rfl rfl rfl ?_ | refine g_aload_nN dX3_moveTo_44 rfl rfl rfl ?_
              refine g_staticNP iS_X4_placesIn q1999 (hpin) dX3_moveTo_45 rfl rfl rfl (by first | exact Nat.le_of_ble_eq_true rfl | simp [Value.category, rf_cat]) (by omega) xN_no ?_
              refine g_ist4 dX3_moveTo_48 rfl (by decide) (k := ?_)
              refine g_iload_n dX3_moveTo_50 rfl rfl rfl ?_
              refine g_iload dX3_moveTo_51 rfl rfl ?_
              refine g_icmpn_le (tgt := 76) dX3_moveTo_53 (by decide) rfl (by omega) (by omega) (fun c_53 => ?_) (fun c_53 => by omega)
              first | refine g_aload_n dX3_moveTo_76 rfl rfl rfl ?_ | refine g_aload_nR dX3_moveTo_76 rfl rfl rfl ?_ | refine g_aload_nN dX3_moveTo_76 rfl rfl rfl ?_
              first | refine g_aload_n dX3_moveTo_77 rfl rfl rfl ?_ | refine g_aload_nR dX3_moveTo_77 rfl rfl rfl ?_ | refine g_aload_nN dX3_moveTo_77 rfl rfl rfl ?_
              refine g_castO q1840 xc_X9.1 (by decide) (Or.inl rfl) dX3_moveTo_78 rfl (by first | assumption | exact Or.inl (by first | assumption | exact xu_eq _ _ _ | exact (xu_ne (by first | assumption | exact Ne.symm (by assumption))).trans (by first | assumption | exact xu_eq _ _ _) | exact (xu_ne (by first | assumption | exact Ne.symm (by assumption))).trans ((xu_ne (by first | assumption | exact Ne.symm (by assumption))).trans (by first | assumption | exact xu_eq _ _ _)) | exact (xu_ne (by first | assumption | exact Ne.symm (by assumption))).trans ((xu_ne (by first | assumption | exact Ne.symm (by assumption))).trans ((xu_ne (by first | assumption | exact Ne.symm (by assumption))).trans (by first | assumption | exact xu_eq _ _ _))))) ?_
              refine g_iload_n dX3_moveTo_81 rfl rfl rfl ?_
              refine g_iconst (v := (nI 1)) dX3_moveTo_82 rfl rfl ?_
              refine g_isubn dX3_moveTo_83 rfl (by omega) ?_
              refine g_virtualR iV_X3_enter q2000 (hen) (Or.inl (by first | assumption | exact xu_eq _ _ _ | exact (xu_ne (by first | assumption | exact Ne.symm (by assumption))).trans (by first | assumption | exact xu_eq _ _ _) | exact (xu_ne (by first | assumption | exact Ne.symm (by assumption))).trans ((xu_ne (by first | assumption | exact Ne.symm (by assumption))).trans (by first | assumption | exact xu_eq _ _ _)) | exact (xu_ne (by first | assumption | exact Ne.symm (by assumption))).trans ((xu_ne (by first | assumption | exact Ne.symm (by assumption))).trans ((xu_ne (by first | assumption | exact Ne.symm (by assumption))).trans (by first | assumption | exact xu_eq _ _ _))))) rfl (by decide) dX3_moveTo_84 rfl rfl rfl (by first | exact Nat.le_of_ble_eq_true rfl | simp [Value.category, rf_cat]) (by omega) (by omega) (by omega) xN_no ?_
              refine g_ist2 dX3_moveTo_87 rfl (by decide) (k := ?_)
              refine g_goto (tgt := 20) dX3_moveTo_88 (by decide) ?_
              refine g_fg [some (.ref D), some (.int (nI c)), some (.int (nI (left - 1))), none, none] ⟨rfl, rfl, rfl, trivial⟩ ?_
              have := ih (P ++ [eB k x r o p]) A ((if k = 1 then eD :: B else []) ++ eN :: (M3 ++ V)) o (eP k p) ((r, q) :: S) (left - 1) (by omega) (by rw [hLs]; unfold sI; simp) (by rw [scn_app' _ hP, scn_cons, stp_sB (r, q)]; rfl) hbA hsm (by rw [List.length_append]; simp only [List.length_cons, List.length_nil]; omega)
              rw [drs_app, hoo.1, show drs o [eB k x r o p] = [] from by simp [drs, hoo.2.symm]] at this
              rw [← hm1, xu_xu]
              exact this
            · have hk : k = 1 := by
                by_cases hk : k = 1
                · exact hk
                · rw [if_neg hk] at hbig; omega
              subst hk
              simp only [if_true] at hsa hbig hl hLl hpin
              obtain ⟨hpo, cb, e7⟩ := e6 rfl
              have hpoo := hout p (by rw [opn_sI]; simp)
              have hpA : p ∉ opn A := by
                simp only [if_true, List.nodup_cons, List.mem_append, not_or] at hnd
                exact hnd.2.2.1.1.2.1.1
              have hen := c_enter2 (d := d - 1) (l := left - 1) (by omega) hD1 hx1 hsa hfp (hfq rfl) hom (hpp rfl) hcA (hcB rfl) (by omega) (by omega) (by omega) (by omega)
              clear hht hnd
              refine g_iload_n dX3_moveTo_20 rfl rfl rfl ?_
              refine g_ifn_le (tgt := 91) dX3_moveTo_21 (by decide) rfl (by omega) (fun c_21 => by omega) (fun c_21 => ?_)
              first | refine g_aload_n dX3_moveTo_24 rfl rfl rfl ?_ | refine g_aload_nR dX3_moveTo_24 rfl rfl rfl ?_ | refine g_aload_nN dX3_moveTo_24 rfl rfl rfl ?_
              refine g_get fl_X3_15_X3 dX3_moveTo_25 rfl (Or.inl (by first | assumption | exact xu_eq _ _ _ | exact (xu_ne (by first | assumption | exact Ne.symm (by assumption))).trans (by first | assumption | exact xu_eq _ _ _) | exact (xu_ne (by first | assumption | exact Ne.symm (by assumption))).trans ((xu_ne (by first | assumption | exact Ne.symm (by assumption))).trans (by first | assumption | exact xu_eq _ _ _)) | exact (xu_ne (by first | assumption | exact Ne.symm (by assumption))).trans ((xu_ne (by first | assumption | exact Ne.symm (by assumption))).trans ((xu_ne (by first | assumption | exact Ne.symm (by assumption))).trans (by first | assumption | exact xu_eq _ _ _))))) rfl ?_
              refine g_get fl_X3_21_X4 dX3_moveTo_28 rfl (Or.inl (by first | assumption | exact xu_eq _ _ _ | exact (xu_ne (by first | assumption | exact Ne.symm (by assumption))).trans (by first | assumption | exact xu_eq _ _ _) | exact (xu_ne (by first | assumption | exact Ne.symm (by assumption))).trans ((xu_ne (by first | assumption | exact Ne.symm (by assumption))).trans (by first | assumption | exact xu_eq _ _ _)) | exact (xu_ne (by first | assumption | exact Ne.symm (by assumption))).trans ((xu_ne (by first | assumption | exact Ne.symm (by assumption))).trans ((xu_ne (by first | assumption | exact Ne.symm (by assumption))).trans (by first | assumption | exact xu_eq _ _ _))))) rfl ?_
              first | refine g_aload_n dX3_moveTo_31 rfl rfl rfl ?_ | refine g_aload_nR dX3_moveTo_31 rfl rfl rfl ?_ | refine g_aload_nN dX3_moveTo_31 rfl rfl rfl ?_
              refine g_get fl_X3_38_X3 dX3_moveTo_32 rfl (Or.inl (by first | assumption | exact xu_eq _ _ _ | exact (xu_ne (by first | assumption | exact Ne.symm (by assumption))).trans (by first | assumption | exact xu_eq _ _ _) | exact (xu_ne (by first | assumption | exact Ne.symm (by assumption))).trans ((xu_ne (by first | assumption | exact Ne.symm (by assumption))).trans (by first | assumption | exact xu_eq _ _ _)) | exact (xu_ne (by first | assumption | exact Ne.symm (by assumption))).trans ((xu_ne (by first | assumption | exact Ne.symm (by assumption))).trans ((xu_ne (by first | assumption | exact Ne.symm (by assumption))).trans (by first | assumption | exact xu_eq _ _ _))))) rfl ?_
              refine g_ifaceP iI_J26_get_J26 q1837 (c_get (d := d - 1) (by omega) hA hgt) (Or.inl (by first | assumption | exact xu_eq _ _ _ | exact (xu_ne (by first | assumption | exact Ne.symm (by assumption))).trans (by first | assumption | exact xu_eq _ _ _) | exact (xu_ne (by first | assumption | exact Ne.symm (by assumption))).trans ((xu_ne (by first | assumption | exact Ne.symm (by assumption))).trans (by first | assumption | exact xu_eq _ _ _)) | exact (xu_ne (by first | assumption | exact Ne.symm (by assumption))).trans ((xu_ne (by first | assumption | exact Ne.symm (by assumption))).trans ((xu_ne (by first | assumption | exact Ne.symm (by assumption))).trans (by first | assumption | exact xu_eq _ _ _))))) rfl (by decide) dX3_moveTo_35 rfl rfl rfl (by first | exact Nat.le_of_ble_eq_true rfl | simp [Value.category, rf_cat]) (by omega) xN_no ?_
              refine g_castI q1838 dX3_moveTo_40 rfl (by assumption) ?_
              first | refine g_ast3 dX3_moveTo_43 rfl (by decide) (k := ?_) | refine g_astR3 dX3_moveTo_43 rfl (by decide) (k := ?_) | refine g_astN3 dX3_moveTo_43 rfl (by decide) (k := ?_)
              first | refine g_aload_n dX3_moveTo_44 rfl rfl rfl ?_ | refine g_aload_nR dX3_moveTo_44 rfl rfl rfl ?_ | refine g_aload_nN dX3_moveTo_44 rfl rfl rfl ?_
              refine g_staticNP iS_X4_placesIn q1999 (hpin) dX3_moveTo_45 rfl rfl rfl (by first | exact Nat.le_of_ble_eq_true rfl | simp [Value.category, rf_cat]) (by omega) xN_no ?_
              refine g_ist4 dX3_moveTo_48 rfl (by decide) (k := ?_)
              refine g_iload_n dX3_moveTo_50 rfl rfl rfl ?_
              refine g_iload dX3_moveTo_51 rfl rfl ?_
              refine g_icmpn_le (tgt := 76) dX3_moveTo_53 (by decide) rfl (by omega) (by omega) (fun c_53 => ?_) (fun c_53 => by omega)
              first | refine g_aload_n dX3_moveTo_76 rfl rfl rfl ?_ | refine g_aload_nR dX3_moveTo_76 rfl rfl rfl ?_ | refine g_aload_nN dX3_moveTo_76 rfl rfl rfl ?_
              first | refine g_aload_n dX3_moveTo_77 rfl rfl rfl ?_ | refine g_aload_nR dX3_moveTo_77 rfl rfl rfl ?_ | refine g_aload_nN dX3_moveTo_77 rfl rfl rfl ?_
              refine g_castO q1840 xc_X9.1 (by decide) (Or.inl rfl) dX3_moveTo_78 rfl (by first | assumption | exact Or.inl (by first | assumption | exact xu_eq _ _ _ | exact (xu_ne (by first | assumption | exact Ne.symm (by assumption))).trans (by first | assumption | exact xu_eq _ _ _) | exact (xu_ne (by first | assumption | exact Ne.symm (by assumption))).trans ((xu_ne (by first | assumption | exact Ne.symm (by assumption))).trans (by first | assumption | exact xu_eq _ _ _)) | exact (xu_ne (by first | assumption | exact Ne.symm (by assumption))).trans ((xu_ne (by first | assumption | exact Ne.symm (by assumption))).trans ((xu_ne (by first | assumption | exact Ne.symm (by assumption))).trans (by first | assumption | exact xu_eq _ _ _))))) ?_
              refine g_iload_n dX3_moveTo_81 rfl rfl rfl ?_
              refine g_iconst (v := (nI 1)) dX3_moveTo_82 rfl rfl ?_
              refine g_isubn dX3_moveTo_83 rfl (by omega) ?_
              refine g_virtualR iV_X3_enter q2000 (hen) (Or.inl (by first | assumption | exact xu_eq _ _ _ | exact (xu_ne (by first | assumption | exact Ne.symm (by assumption))).trans (by first | assumption | exact xu_eq _ _ _) | exact (xu_ne (by first | assumption | exact Ne.symm (by assumption))).trans ((xu_ne (by first | assumption | exact Ne.symm (by assumption))).trans (by first | assumption | exact xu_eq _ _ _)) | exact (xu_ne (by first | assumption | exact Ne.symm (by assumption))).trans ((xu_ne (by first | assumption | exact Ne.symm (by assumption))).trans ((xu_ne (by first | assumption | exact Ne.symm (by assumption))).trans (by first | assumption | exact xu_eq _ _ _))))) rfl (by decide) dX3_moveTo_84 rfl rfl rfl (by first | exact Nat.le_of_ble_eq_true rfl | simp [Value.category, rf_cat]) (by omega) (by omega) (by omega) xN_no ?_
              refine g_ist2 dX3_moveTo_87 rfl (by decide) (k := ?_)
              refine g_goto (tgt := 20) dX3_moveTo_88 (by decide) ?_
              refine g_fg [some (.ref D), some (.int (nI c)), some (.int (nI (left - 1 - (A.length + 1)))), none, none] ⟨rfl, rfl, rfl, trivial⟩ ?_
              have := ih (P ++ eB 1 x r o p :: (A ++ [eD])) B (eN :: (M3 ++ V)) p none ((r, q) :: S) (left - 1 - (A.length + 1)) (by omega) (by rw [hLs, sI_1]; simp) (by
                rw [scn_app' _ hP, scn_cons, stp_sB (r, q)]
                show scn ((o, some p) :: (r, q) :: S) (A ++ [eD]) = _
                rw [scn_app' _ (bd_any hbA _ _)]; rfl) (hbB rfl) (by omega) (by rw [List.length_append]; simp only [List.length_cons, List.length_append, List.length_nil]; omega)
              rw [drs_app, hpoo.1, show (eB 1 x r o p :: (A ++ [eD])) = [eB 1 x r o p] ++ (A ++ [eD]) from rfl, drs_app, drs_app, drs_out hbA hpo hpA, show drs p [eB 1 x r o p] = [] from by simp [drs, hpoo.2.symm]] at this
              rw [← hm1, xu_xu]
              exact this
  first | refine g_aload_n dX3_moveTo_0 rfl rfl rfl ?_ | refine g_aload_nR dX3_moveTo_0 rfl rfl rfl ?_ | refine g_aload_nN dX3_moveTo_0 rfl rfl rfl ?_
  refine g_iconst (v := (nI 0)) dX3_moveTo_1 rfl rfl ?_
  refine g_put3 fl_X3_50_X3 dX3_moveTo_2 rfl (by first | assumption | exact xu_eq _ _ _ | exact (xu_ne (by first | assumption | exact Ne.symm (by assumption))).trans (by first | assumption | exact xu_eq _ _ _) | exact (xu_ne (by first | assumption | exact Ne.symm (by assumption))).trans ((xu_ne (by first | assumption | exact Ne.symm (by assumption))).trans (by first | assumption | exact xu_eq _ _ _)) | exact (xu_ne (by first | assumption | exact Ne.symm (by assumption))).trans ((xu_ne (by first | assumption | exact Ne.symm (by assumption))).trans ((xu_ne (by first | assumption | exact Ne.symm (by assumption))).trans (by first | assumption | exact xu_eq _ _ _)))) rfl rfl ?_
  first | refine g_aload_n dX3_moveTo_5 rfl rfl rfl ?_ | refine g_aload_nR dX3_moveTo_5 rfl rfl rfl ?_ | refine g_aload_nN dX3_moveTo_5 rfl rfl rfl ?_
  first | refine g_aload_n dX3_moveTo_6 rfl rfl rfl ?_ | refine g_aload_nR dX3_moveTo_6 rfl rfl rfl ?_ | refine g_aload_nN dX3_moveTo_6 rfl rfl rfl ?_
  refine g_get fl_X3_9_X3 dX3_moveTo_7 rfl (Or.inl (by first | assumption | exact xu_eq _ _ _ | exact (xu_ne (by first | assumption | exact Ne.symm (by assumption))).trans (by first | assumption | exact xu_eq _ _ _) | exact (xu_ne (by first | assumption | exact Ne.symm (by assumption))).trans ((xu_ne (by first | assumption | exact Ne.symm (by assumption))).trans (by first | assumption | exact xu_eq _ _ _)) | exact (xu_ne (by first | assumption | exact Ne.symm (by assumption))).trans ((xu_ne (by first | assumption | exact Ne.symm (by assumption))).trans ((xu_ne (by first | assumption | exact Ne.symm (by assumption))).trans (by first | assumption | exact xu_eq _ _ _))))) rfl ?_
  refine g_put1 fl_X3_15_X3 dX3_moveTo_10 rfl (by first | assumption | exact xu_eq _ _ _ | exact (xu_ne (by first | assumption | exact Ne.symm (by assumption))).trans (by first | assumption | exact xu_eq _ _ _) | exact (xu_ne (by first | assumption | exact Ne.symm (by assumption))).trans ((xu_ne (by first | assumption | exact Ne.symm (by assumption))).trans (by first | assumption | exact xu_eq _ _ _)) | exact (xu_ne (by first | assumption | exact Ne.symm (by assumption))).trans ((xu_ne (by first | assumption | exact Ne.symm (by assumption))).trans ((xu_ne (by first | assumption | exact Ne.symm (by assumption))).trans (by first | assumption | exact xu_eq _ _ _)))) rfl rfl ?_
  first | refine g_aload_n dX3_moveTo_13 rfl rfl rfl ?_ | refine g_aload_nR dX3_moveTo_13 rfl rfl rfl ?_ | refine g_aload_nN dX3_moveTo_13 rfl rfl rfl ?_
  refine g_iconst (v := (nI 0)) dX3_moveTo_14 rfl rfl ?_
  refine g_put2 fl_X3_38_X3 dX3_moveTo_15 rfl (by first | assumption | exact xu_eq _ _ _ | exact (xu_ne (by first | assumption | exact Ne.symm (by assumption))).trans (by first | assumption | exact xu_eq _ _ _) | exact (xu_ne (by first | assumption | exact Ne.symm (by assumption))).trans ((xu_ne (by first | assumption | exact Ne.symm (by assumption))).trans (by first | assumption | exact xu_eq _ _ _)) | exact (xu_ne (by first | assumption | exact Ne.symm (by assumption))).trans ((xu_ne (by first | assumption | exact Ne.symm (by assumption))).trans ((xu_ne (by first | assumption | exact Ne.symm (by assumption))).trans (by first | assumption | exact xu_eq _ _ _)))) rfl rfl ?_
  refine g_iload_n dX3_moveTo_18 rfl rfl rfl ?_
  refine g_ist2 dX3_moveTo_19 rfl (by decide) (k := ?_)
  refine g_fg [some (.ref D), some (.int (nI c)), some (.int (nI c)), none, none] ⟨rfl, rfl, rfl, trivial⟩ ?_
  have := loop c [] L [] top none [] c (Nat.le_refl _) (by simp) rfl hT.1 hc (by simp)
  rw [xu_xu, xu_xu]
  exact this
end MOVE
