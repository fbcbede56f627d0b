/-! TREES: slots without items -/
set_option maxRecDepth 100000
def opE : XE → Bool
  | .inl _ => false
  | .inr (.inl _) => true
  | .inr (.inr b) => !b
def clE : XE → Bool
  | .inr (.inr _) => true
  | _ => false
def hdE : List XE → Bool
  | [] => false
  | x :: _ => clE x
def esF : List XE → Nat
  | [] => 0
  | x :: L => (if opE x && hdE L then 1 else 0) + esF L
def esR (A : List XE) : Nat := if A = [] then 1 else esF A
theorem hdE_bd {r : Nat} {A : List XE} (h : Bd r A) (h0 : A ≠ []) (Z : List XE) : hdE (A ++ Z) = false := by
  rcases bd_cases h with rfl | ⟨c, i, M, rfl, -⟩ | ⟨k, i, o, p, A', B', M, rfl, -⟩
  · exact absurd rfl h0
  · rfl
  · unfold sI; rfl
theorem es_open {x y : XE} {r : Nat} {A : List XE} (hx : opE x = true) (hy : clE y = true) (hA : Bd r A) (ih : ∀ B, esF (A ++ B) = esF A + esF B) (Z : List XE) : esF (x :: (A ++ y :: Z)) = esR A + esF (y :: Z) := by
  unfold esR
  by_cases h0 : A = []
  · subst h0
    rw [if_pos rfl]
    show (if opE x && hdE (y :: Z) then 1 else 0) + esF (y :: Z) = _
    rw [hx, show hdE (y :: Z) = clE y from rfl, hy]; rfl
  · rw [if_neg h0]
    show (if opE x && hdE (A ++ y :: Z) then 1 else 0) + esF (A ++ y :: Z) = _
    rw [hdE_bd hA h0, ih]; simp
theorem es_sI' {k i r o p : Nat} {A B : List XE} (hA : Bd o A) (hB : k = 1 → Bd p B) (iA : ∀ Z, esF (A ++ Z) = esF A + esF Z) (iB : k = 1 → ∀ Z, esF (B ++ Z) = esF B + esF Z) (Z : List XE) : esF (sI k i r o p A B ++ Z) = esR A + (if k = 1 then esR B else 0) + esF Z := by
  have hN : esF (eN :: Z) = esF Z := by show (if opE eN && hdE Z then 1 else 0) + esF Z = _; simp [opE]
  by_cases hk : k = 1
  · subst hk
    rw [sI_1, if_pos rfl]
    have e : (eB 1 i r o p :: (A ++ (eD :: B ++ [eN]))) ++ Z = eB 1 i r o p :: (A ++ eD :: (B ++ eN :: Z)) := by simp
    rw [e, es_open (x := eB 1 i r o p) (y := eD) rfl rfl hA iA, es_open (x := eD) (y := eN) rfl rfl (hB rfl) (iB rfl), hN]; omega
  · rw [sI_n hk, if_neg hk]
    have e : (eB k i r o p :: (A ++ [eN])) ++ Z = eB k i r o p :: (A ++ eN :: Z) := by simp
    rw [e, es_open (x := eB k i r o p) (y := eN) rfl rfl hA iA, hN]; omega
theorem es_app : ∀ (r : Nat) (A : List XE), Bd r A → ∀ B, esF (A ++ B) = esF A + esF B := by
  refine bd_ind (fun r B => by simp [esF]) (fun r c i M hb ih B => ?_) (fun r k i o p A B M hA hB hM iA iB iM Z => ?_)
  · show (if opE (eS c i r) && hdE (M ++ B) then 1 else 0) + esF (M ++ B) = (if opE (eS c i r) && hdE M then 1 else 0) + esF M + esF B
    rw [ih]; simp [opE]
  · rw [List.append_assoc, es_sI' hA hB iA iB, es_sI' hA hB iA iB, iM]; omega
theorem es_sI {k i r o p : Nat} {A B : List XE} (hA : Bd o A) (hB : k = 1 → Bd p B) (Z : List XE) : esF (sI k i r o p A B ++ Z) = esR A + (if k = 1 then esR B else 0) + esF Z :=
  es_sI' hA hB (es_app o A hA) (fun hk => es_app p B (hB hk)) Z
theorem drs_nil {r : Nat} {M : List XE} (h : Bd r M) (h0 : drs r M = []) : M = [] := by
  rcases bd_cases h with rfl | ⟨c, i, M, rfl, -⟩ | ⟨k, i, o, p, A', B', M, rfl, -⟩
  · rfl
  · rw [drs_sS] at h0; cases h0
  · rw [drs_app, drs_sI, if_pos rfl] at h0; simp at h0
section EMPTY
variable {w : XW} {id d : Nat} {g : XG} {m : XM} {T : XT}
theorem l_esl {Z : XZ} (h : SM w g m id T) {r x k sa s j n c i cap : Nat} {f : Nat → Option Nat} {ro rs rd bx : Value} {ow : Option Nat} {sl : Nat} {A : List XE} (hd : 2 ≤ d) (hx : m x = some (.inr (7, [ro, .int (nI k), .ref sa, rs, rd, bx]))) (hsa : m sa = some (rA 6 n f)) (hj : j < n) (hn : n ≤ 2) (hf : f j = some s) (hA : Bd s A) (hR : T.1 s = some (ow, sl, cap, drs s A)) (hc : CT w MX4_emptySlots (d - 1) 0 0 [.ref s] m (xRet (some (.int (nI (esF A)))) m) xN)
    (kk : G w MX4_emptySlots Z d 0 0 46 [some (.ref r), some (.int (nI (c + esR A))), some (.int (nI i)), some (.ref x), some (.int (nI (j + 1)))] [] m) : G w MX4_emptySlots Z d 0 0 46 [some (.ref r), some (.int (nI c)), some (.int (nI i)), some (.ref x), some (.int (nI j))] [] m := by
  obtain ⟨la, ar, bx2, mc, h1, k1, hAL, -⟩ := sm_row h hR
  by_cases h0 : A = []
  · subst h0
    rw [show esR [] = 1 from rfl] at kk
    refine g_iload dX4_emptySlots_46 rfl rfl ?_
    first | refine g_aload_n dX4_emptySlots_48 rfl rfl rfl ?_ | refine g_aload_nR dX4_emptySlots_48 rfl rfl rfl ?_ | refine g_aload_nN dX4_emptySlots_48 rfl rfl rfl ?_
    refine g_get fl_X4_89_X9 dX4_emptySlots_49 rfl (Or.inl (by first | assumption | exact xu_eq _ _ _ | exact (xu_ne (by first | assumption | exact Ne.symm (by assumption))).trans (by first | assumption | exact xu_eq _ _ _) | exact (xu_ne (by first | assumption | exact Ne.symm (by assumption))).trans ((xu_ne (by first | assumption | exact Ne.symm (by assumption))).trans (by first | assumption | exact xu_eq _ _ _)) | exact (xu_ne (by first | assumption | exact Ne.symm (by assumption))).trans ((xu_ne (by first | assumption | exact Ne.symm (by assumption))).trans ((xu_ne (by first | assumption | exact Ne.symm (by assumption))).trans (by first | assumption | exact xu_eq _ _ _))))) rfl ?_
    refine g_alenq (t := 6) rfl dX4_emptySlots_52 rfl (by first | assumption | exact Or.inl (by first | assumption | exact xu_eq _ _ _ | exact (xu_ne (by first | assumption | exact Ne.symm (by assumption))).trans (by first | assumption | exact xu_eq _ _ _) | exact (xu_ne (by first | assumption | exact Ne.symm (by assumption))).trans ((xu_ne (by first | assumption | exact Ne.symm (by assumption))).trans (by first | assumption | exact xu_eq _ _ _)) | exact (xu_ne (by first | assumption | exact Ne.symm (by assumption))).trans ((xu_ne (by first | assumption | exact Ne.symm (by assumption))).trans ((xu_ne (by first | assumption | exact Ne.symm (by assumption))).trans (by first | assumption | exact xu_eq _ _ _))))) ?_
    refine g_icmpn_ge (tgt := 97) dX4_emptySlots_53 (by decide) rfl (by omega) (by omega) (fun c_53 => by omega) (fun c_53 => ?_)
    refine g_iload_n dX4_emptySlots_56 rfl rfl rfl ?_
    first | refine g_aload_n dX4_emptySlots_57 rfl rfl rfl ?_ | refine g_aload_nR dX4_emptySlots_57 rfl rfl rfl ?_ | refine g_aload_nN dX4_emptySlots_57 rfl rfl rfl ?_
    refine g_get fl_X4_89_X9 dX4_emptySlots_58 rfl (Or.inl (by first | assumption | exact xu_eq _ _ _ | exact (xu_ne (by first | assumption | exact Ne.symm (by assumption))).trans (by first | assumption | exact xu_eq _ _ _) | exact (xu_ne (by first | assumption | exact Ne.symm (by assumption))).trans ((xu_ne (by first | assumption | exact Ne.symm (by assumption))).trans (by first | assumption | exact xu_eq _ _ _)) | exact (xu_ne (by first | assumption | exact Ne.symm (by assumption))).trans ((xu_ne (by first | assumption | exact Ne.symm (by assumption))).trans ((xu_ne (by first | assumption | exact Ne.symm (by assumption))).trans (by first | assumption | exact xu_eq _ _ _))))) rfl ?_
    refine g_iload dX4_emptySlots_61 rfl rfl ?_
    refine g_aaldn (t := 6) rfl dX4_emptySlots_63 rfl (by first | assumption | exact Or.inl (by first | assumption | exact xu_eq _ _ _ | exact (xu_ne (by first | assumption | exact Ne.symm (by assumption))).trans (by first | assumption | exact xu_eq _ _ _) | exact (xu_ne (by first | assumption | exact Ne.symm (by assumption))).trans ((xu_ne (by first | assumption | exact Ne.symm (by assumption))).trans (by first | assumption | exact xu_eq _ _ _)) | exact (xu_ne (by first | assumption | exact Ne.symm (by assumption))).trans ((xu_ne (by first | assumption | exact Ne.symm (by assumption))).trans ((xu_ne (by first | assumption | exact Ne.symm (by assumption))).trans (by first | assumption | exact xu_eq _ _ _))))) (by omega) (by omega) ?_
    rw [hf]
    refine g_get fl_X4_12_X4 dX4_emptySlots_64 rfl (Or.inl (by first | assumption | exact xu_eq _ _ _ | exact (xu_ne (by first | assumption | exact Ne.symm (by assumption))).trans (by first | assumption | exact xu_eq _ _ _) | exact (xu_ne (by first | assumption | exact Ne.symm (by assumption))).trans ((xu_ne (by first | assumption | exact Ne.symm (by assumption))).trans (by first | assumption | exact xu_eq _ _ _)) | exact (xu_ne (by first | assumption | exact Ne.symm (by assumption))).trans ((xu_ne (by first | assumption | exact Ne.symm (by assumption))).trans ((xu_ne (by first | assumption | exact Ne.symm (by assumption))).trans (by first | assumption | exact xu_eq _ _ _))))) rfl ?_
    refine g_ifaceP iI_J26_isEmpty_J26 q1762 (c_isEmpty (d := d - 1) (by omega) hAL) (Or.inl (by first | assumption | exact xu_eq _ _ _ | exact (xu_ne (by first | assumption | exact Ne.symm (by assumption))).trans (by first | assumption | exact xu_eq _ _ _) | exact (xu_ne (by first | assumption | exact Ne.symm (by assumption))).trans ((xu_ne (by first | assumption | exact Ne.symm (by assumption))).trans (by first | assumption | exact xu_eq _ _ _)) | exact (xu_ne (by first | assumption | exact Ne.symm (by assumption))).trans ((xu_ne (by first | assumption | exact Ne.symm (by assumption))).trans ((xu_ne (by first | assumption | exact Ne.symm (by assumption))).trans (by first | assumption | exact xu_eq _ _ _))))) rfl (by decide) dX4_emptySlots_67 rfl rfl rfl (by first | exact Nat.le_of_ble_eq_true rfl | simp [Value.category, rf_cat]) (by omega) xN_no ?_
    refine g_ifB_eq (tgt := 79) dX4_emptySlots_72 (by decide) rfl (fun c_72 => Bool.noConfusion c_72) (fun c_72 => ?_)
    refine g_iconst (v := (nI 1)) dX4_emptySlots_75 rfl rfl ?_
    refine g_goto (tgt := 89) dX4_emptySlots_76 (by decide) ?_
    refine g_iaddn dX4_emptySlots_89 rfl ?_
    refine g_ist1 dX4_emptySlots_90 rfl (by decide) (k := ?_)
    refine g_incn4 dX4_emptySlots_91 rfl (by decide) (k := ?_)
    refine g_goto (tgt := 46) dX4_emptySlots_94 (by decide) ?_
    exact kk
  · have h1' : ¬ drs s A = [] := fun e => h0 (drs_nil hA e)
    rw [show esR A = esF A from if_neg h0] at kk
    refine g_iload dX4_emptySlots_46 rfl rfl ?_
    first | refine g_aload_n dX4_emptySlots_48 rfl rfl rfl ?_ | refine g_aload_nR dX4_emptySlots_48 rfl rfl rfl ?_ | refine g_aload_nN dX4_emptySlots_48 rfl rfl rfl ?_
    refine g_get fl_X4_89_X9 dX4_emptySlots_49 rfl (Or.inl (by first | assumption | exact xu_eq _ _ _ | exact (xu_ne (by first | assumption | exact Ne.symm (by assumption))).trans (by first | assumption | exact xu_eq _ _ _) | exact (xu_ne (by first | assumption | exact Ne.symm (by assumption))).trans ((xu_ne (by first | assumption | exact Ne.symm (by assumption))).trans (by first | assumption | exact xu_eq _ _ _)) | exact (xu_ne (by first | assumption | exact Ne.symm (by assumption))).trans ((xu_ne (by first | assumption | exact Ne.symm (by assumption))).trans ((xu_ne (by first | assumption | exact Ne.symm (by assumption))).trans (by first | assumption | exact xu_eq _ _ _))))) rfl ?_
    refine g_alenq (t := 6) rfl dX4_emptySlots_52 rfl (by first | assumption | exact Or.inl (by first | assumption | exact xu_eq _ _ _ | exact (xu_ne (by first | assumption | exact Ne.symm (by assumption))).trans (by first | assumption | exact xu_eq _ _ _) | exact (xu_ne (by first | assumption | exact Ne.symm (by assumption))).trans ((xu_ne (by first | assumption | exact Ne.symm (by assumption))).trans (by first | assumption | exact xu_eq _ _ _)) | exact (xu_ne (by first | assumption | exact Ne.symm (by assumption))).trans ((xu_ne (by first | assumption | exact Ne.symm (by assumption))).trans ((xu_ne (by first | assumption | exact Ne.symm (by assumption))).trans (by first | assumption | exact xu_eq _ _ _))))) ?_
    refine g_icmpn_ge (tgt := 97) dX4_emptySlots_53 (by decide) rfl (by omega) (by omega) (fun c_53 => by omega) (fun c_53 => ?_)
    refine g_iload_n dX4_emptySlots_56 rfl rfl rfl ?_
    first | refine g_aload_n dX4_emptySlots_57 rfl rfl rfl ?_ | refine g_aload_nR dX4_emptySlots_57 rfl rfl rfl ?_ | refine g_aload_nN dX4_emptySlots_57 rfl rfl rfl ?_
    refine g_get fl_X4_89_X9 dX4_emptySlots_58 rfl (Or.inl (by first | assumption | exact xu_eq _ _ _ | exact (xu_ne (by first | assumption | exact Ne.symm (by assumption))).trans (by first | assumption | exact xu_eq _ _ _) | exact (xu_ne (by first | assumption | exact Ne.symm (by assumption))).trans ((xu_ne (by first | assumption | exact Ne.symm (by assumption))).trans (by first | assumption | exact xu_eq _ _ _)) | exact (xu_ne (by first | assumption | exact Ne.symm (by assumption))).trans ((xu_ne (by first | assumption | exact Ne.symm (by assumption))).trans ((xu_ne (by first | assumption | exact Ne.symm (by assumption))).trans (by first | assumption | exact xu_eq _ _ _))))) rfl ?_
    refine g_iload dX4_emptySlots_61 rfl rfl ?_
    refine g_aaldn (t := 6) rfl dX4_emptySlots_63 rfl (by first | assumption | exact Or.inl (by first | assumption | exact xu_eq _ _ _ | exact (xu_ne (by first | assumption | exact Ne.symm (by assumption))).trans (by first | assumption | exact xu_eq _ _ _) | exact (xu_ne (by first | assumption | exact Ne.symm (by assumption))).trans ((xu_ne (by first | assumption | exact Ne.symm (by assumption))).trans (by first | assumption | exact xu_eq _ _ _)) | exact (xu_ne (by first | assumption | exact Ne.symm (by assumption))).trans ((xu_ne (by first | assumption | exact Ne.symm (by assumption))).trans ((xu_ne (by first | assumption | exact Ne.symm (by assumption))).trans (by first | assumption | exact xu_eq _ _ _))))) (by omega) (by omega) ?_
    rw [hf]
    refine g_get fl_X4_12_X4 dX4_emptySlots_64 rfl (Or.inl (by first | assumption | exact xu_eq _ _ _ | exact (xu_ne (by first | assumption | exact Ne.symm (by assumption))).trans (by first | assumption | exact xu_eq _ _ _) | exact (xu_ne (by first | assumption | exact Ne.symm (by assumption))).trans ((xu_ne (by first | assumption | exact Ne.symm (by assumption))).trans (by first | assumption | exact xu_eq _ _ _)) | exact (xu_ne (by first | assumption | exact Ne.symm (by assumption))).trans ((xu_ne (by first | assumption | exact Ne.symm (by assumption))).trans ((xu_ne (by first | assumption | exact Ne.symm (by assumption))).trans (by first | assumption | exact xu_eq _ _ _))))) rfl ?_
    refine g_ifaceP iI_J26_isEmpty_J26 q1762 (c_isEmpty (d := d - 1) (by omega) hAL) (Or.inl (by first | assumption | exact xu_eq _ _ _ | exact (xu_ne (by first | assumption | exact Ne.symm (by assumption))).trans (by first | assumption | exact xu_eq _ _ _) | exact (xu_ne (by first | assumption | exact Ne.symm (by assumption))).trans ((xu_ne (by first | assumption | exact Ne.symm (by assumption))).trans (by first | assumption | exact xu_eq _ _ _)) | exact (xu_ne (by first | assumption | exact Ne.symm (by assumption))).trans ((xu_ne (by first | assumption | exact Ne.symm (by assumption))).trans ((xu_ne (by first | assumption | exact Ne.symm (by assumption))).trans (by first | assumption | exact xu_eq _ _ _))))) rfl (by decide) dX4_emptySlots_67 rfl rfl rfl (by first | exact Nat.le_of_ble_eq_true rfl | simp [Value.category, rf_cat]) (by omega) xN_no ?_
    refine g_ifB_eq (tgt := 79) dX4_emptySlots_72 (by decide) rfl (fun c_72 => ?_) (fun c_72 => absurd (of_decide_eq_true c_72) h1')
    first | refine g_aload_n dX4_emptySlots_79 rfl rfl rfl ?_ | refine g_aload_nR dX4_emptySlots_79 rfl rfl rfl ?_ | refine g_aload_nN dX4_emptySlots_79 rfl rfl rfl ?_
    refine g_get fl_X4_89_X9 dX4_emptySlots_80 rfl (Or.inl (by first | assumption | exact xu_eq _ _ _ | exact (xu_ne (by first | assumption | exact Ne.symm (by assumption))).trans (by first | assumption | exact xu_eq _ _ _) | exact (xu_ne (by first | assumption | exact Ne.symm (by assumption))).trans ((xu_ne (by first | assumption | exact Ne.symm (by assumption))).trans (by first | assumption | exact xu_eq _ _ _)) | exact (xu_ne (by first | assumption | exact Ne.symm (by assumption))).trans ((xu_ne (by first | assumption | exact Ne.symm (by assumption))).trans ((xu_ne (by first | assumption | exact Ne.symm (by assumption))).trans (by first | assumption | exact xu_eq _ _ _))))) rfl ?_
    refine g_iload dX4_emptySlots_83 rfl rfl ?_
    refine g_aaldn (t := 6) rfl dX4_emptySlots_85 rfl (by first | assumption | exact Or.inl (by first | assumption | exact xu_eq _ _ _ | exact (xu_ne (by first | assumption | exact Ne.symm (by assumption))).trans (by first | assumption | exact xu_eq _ _ _) | exact (xu_ne (by first | assumption | exact Ne.symm (by assumption))).trans ((xu_ne (by first | assumption | exact Ne.symm (by assumption))).trans (by first | assumption | exact xu_eq _ _ _)) | exact (xu_ne (by first | assumption | exact Ne.symm (by assumption))).trans ((xu_ne (by first | assumption | exact Ne.symm (by assumption))).trans ((xu_ne (by first | assumption | exact Ne.symm (by assumption))).trans (by first | assumption | exact xu_eq _ _ _))))) (by omega) (by omega) ?_
    rw [hf]
    refine g_virtualP iV_X4_emptySlots q1958 (hc) (Or.inl (by first | assumption | exact xu_eq _ _ _ | exact (xu_ne (by first | assumption | exact Ne.symm (by assumption))).trans (by first | assumption | exact xu_eq _ _ _) | exact (xu_ne (by first | assumption | exact Ne.symm (by assumption))).trans ((xu_ne (by first | assumption | exact Ne.symm (by assumption))).trans (by first | assumption | exact xu_eq _ _ _)) | exact (xu_ne (by first | assumption | exact Ne.symm (by assumption))).trans ((xu_ne (by first | assumption | exact Ne.symm (by assumption))).trans ((xu_ne (by first | assumption | exact Ne.symm (by assumption))).trans (by first | assumption | exact xu_eq _ _ _))))) rfl (by decide) dX4_emptySlots_86 rfl rfl rfl (by first | exact Nat.le_of_ble_eq_true rfl | simp [Value.category, rf_cat]) (by omega) xN_no ?_
    refine g_iaddn dX4_emptySlots_89 rfl ?_
    refine g_ist1 dX4_emptySlots_90 rfl (by decide) (k := ?_)
    refine g_incn4 dX4_emptySlots_91 rfl (by decide) (k := ?_)
    refine g_goto (tgt := 46) dX4_emptySlots_94 (by decide) ?_
    exact kk
theorem l_esx {Z : XZ} {r x k sa n c i : Nat} {f : Nat → Option Nat} {ro rs rd bx : Value} (hx : m x = some (.inr (7, [ro, .int (nI k), .ref sa, rs, rd, bx]))) (hsa : m sa = some (rA 6 n f)) (hn : n ≤ 2) (kk : G w MX4_emptySlots Z d 0 0 97 [some (.ref r), some (.int (nI c)), some (.int (nI i)), some (.ref x), some (.int (nI n))] [] m) : G w MX4_emptySlots Z d 0 0 46 [some (.ref r), some (.int (nI c)), some (.int (nI i)), some (.ref x), some (.int (nI n))] [] m := by
  refine g_iload dX4_emptySlots_46 rfl rfl ?_
  first | refine g_aload_n dX4_emptySlots_48 rfl rfl rfl ?_ | refine g_aload_nR dX4_emptySlots_48 rfl rfl rfl ?_ | refine g_aload_nN dX4_emptySlots_48 rfl rfl rfl ?_
  refine g_get fl_X4_89_X9 dX4_emptySlots_49 rfl (Or.inl (by first | assumption | exact xu_eq _ _ _ | exact (xu_ne (by first | assumption | exact Ne.symm (by assumption))).trans (by first | assumption | exact xu_eq _ _ _) | exact (xu_ne (by first | assumption | exact Ne.symm (by assumption))).trans ((xu_ne (by first | assumption | exact Ne.symm (by assumption))).trans (by first | assumption | exact xu_eq _ _ _)) | exact (xu_ne (by first | assumption | exact Ne.symm (by assumption))).trans ((xu_ne (by first | assumption | exact Ne.symm (by assumption))).trans ((xu_ne (by first | assumption | exact Ne.symm (by assumption))).trans (by first | assumption | exact xu_eq _ _ _))))) rfl ?_
  refine g_alenq (t := 6) rfl dX4_emptySlots_52 rfl (by first | assumption | exact Or.inl (by first | assumption | exact xu_eq _ _ _ | exact (xu_ne (by first | assumption | exact Ne.symm (by assumption))).trans (by first | assumption | exact xu_eq _ _ _) | exact (xu_ne (by first | assumption | exact Ne.symm (by assumption))).trans ((xu_ne (by first | assumption | exact Ne.symm (by assumption))).trans (by first | assumption | exact xu_eq _ _ _)) | exact (xu_ne (by first | assumption | exact Ne.symm (by assumption))).trans ((xu_ne (by first | assumption | exact Ne.symm (by assumption))).trans ((xu_ne (by first | assumption | exact Ne.symm (by assumption))).trans (by first | assumption | exact xu_eq _ _ _))))) ?_
  refine g_icmpn_ge (tgt := 97) dX4_emptySlots_53 (by decide) rfl (by omega) (by omega) (fun c_53 => ?_) (fun c_53 => by omega)
  exact kk
theorem c_emptySlots (h : SM w g m id T) : ∀ (n : Nat) (M : List XE) (r : Nat), M.length ≤ n → DT T r M → ∀ d, 4 + hts M ≤ d → CT w MX4_emptySlots d 0 0 [.ref r] m (xRet (some (.int (nI (esF M)))) m) xN := by
  intro n
  induction n with
  | zero =>
    intro M r hM hT d hd
    obtain rfl : M = [] := List.eq_nil_of_length_eq_zero (by omega)
    obtain ⟨own, sl, cap, hR⟩ := dt_row hT
    obtain ⟨la, ar, bx, mc, h1, k1, hA, h3, h4, h5, hz⟩ := sm_row h hR
    refine ct_intro (lv := [some (.ref r), none, none, none, none]) 4 (by decide) rfl (Nat.le_of_ble_eq_true rfl) rfl ?_
    have hl : (drs r ([] : List XE)).length = 0 := rfl
    refine g_iconst (v := (nI 0)) dX4_emptySlots_0 rfl rfl ?_
    refine g_ist1 dX4_emptySlots_1 rfl (by decide) (k := ?_)
    refine g_iconst (v := (nI 0)) dX4_emptySlots_2 rfl rfl ?_
    refine g_ist2 dX4_emptySlots_3 rfl (by decide) (k := ?_)
    refine g_iload_n dX4_emptySlots_4 rfl rfl rfl ?_
    first | refine g_aload_n dX4_emptySlots_5 rfl rfl rfl ?_ | refine g_aload_nR dX4_emptySlots_5 rfl rfl rfl ?_ | refine g_aload_nN dX4_emptySlots_5 rfl rfl rfl ?_
    refine g_get fl_X4_12_X4 dX4_emptySlots_6 rfl (Or.inl (by first | assumption | exact xu_eq _ _ _ | exact (xu_ne (by first | assumption | exact Ne.symm (by assumption))).trans (by first | assumption | exact xu_eq _ _ _) | exact (xu_ne (by first | assumption | exact Ne.symm (by assumption))).trans ((xu_ne (by first | assumption | exact Ne.symm (by assumption))).trans (by first | assumption | exact xu_eq _ _ _)) | exact (xu_ne (by first | assumption | exact Ne.symm (by assumption))).trans ((xu_ne (by first | assumption | exact Ne.symm (by assumption))).trans ((xu_ne (by first | assumption | exact Ne.symm (by assumption))).trans (by first | assumption | exact xu_eq _ _ _))))) rfl ?_
    refine g_ifaceP iI_J26_size_J26 q1479 (c_size (d := d - 1) (by omega) hA) (Or.inl (by first | assumption | exact xu_eq _ _ _ | exact (xu_ne (by first | assumption | exact Ne.symm (by assumption))).trans (by first | assumption | exact xu_eq _ _ _) | exact (xu_ne (by first | assumption | exact Ne.symm (by assumption))).trans ((xu_ne (by first | assumption | exact Ne.symm (by assumption))).trans (by first | assumption | exact xu_eq _ _ _)) | exact (xu_ne (by first | assumption | exact Ne.symm (by assumption))).trans ((xu_ne (by first | assumption | exact Ne.symm (by assumption))).trans ((xu_ne (by first | assumption | exact Ne.symm (by assumption))).trans (by first | assumption | exact xu_eq _ _ _))))) rfl (by decide) dX4_emptySlots_9 rfl rfl rfl (by first | exact Nat.le_of_ble_eq_true rfl | simp [Value.category, rf_cat]) (by omega) xN_no ?_
    refine g_icmpn_ge (tgt := 103) dX4_emptySlots_14 (by decide) rfl (by omega) (by omega) (fun c_14 => ?_) (fun c_14 => by omega)
    refine g_iload_n dX4_emptySlots_103 rfl rfl rfl ?_
    exact g_ireturn dX4_emptySlots_104 rfl ⟨rfl, rfl⟩
  | succ n ih =>
    intro M r hM hT d hd
    obtain ⟨own, sl, cap, hR⟩ := dt_row hT
    obtain ⟨la, ar, bx, mc, h1, k1, hA, h3, h4, h5, hz⟩ := sm_row h hR
    have hlen := al_len hA
    refine ct_intro (lv := [some (.ref r), none, none, none, none]) 4 (by decide) rfl (Nat.le_of_ble_eq_true rfl) rfl ?_
    have loop : ∀ (l : Nat) (N2 : List XE), N2.length ≤ l → ∀ (N1 : List XE) (s : Nat), M = N1 ++ N2 → Bd r N1 → Bd r N2 → s + esF N2 = esF M → G w MX4_emptySlots (xZ w (xRet (some (.int (nI (esF M)))) m) xN) d 0 0 4 [some (.ref r), some (.int (nI s)), some (.int (nI (drs r N1).length)), none, none] [] m := by
      intro l
      induction l with
      | zero =>
        intro N2 hl N1 s hNe hN1 hN2 hs
        obtain rfl : N2 = [] := List.eq_nil_of_length_eq_zero (by omega)
        rw [List.append_nil] at hNe; subst hNe
        refine g_iload_n dX4_emptySlots_4 rfl rfl rfl ?_
        first | refine g_aload_n dX4_emptySlots_5 rfl rfl rfl ?_ | refine g_aload_nR dX4_emptySlots_5 rfl rfl rfl ?_ | refine g_aload_nN dX4_emptySlots_5 rfl rfl rfl ?_
        refine g_get fl_X4_12_X4 dX4_emptySlots_6 rfl (Or.inl (by first | assumption | exact xu_eq _ _ _ | exact (xu_ne (by first | assumption | exact Ne.symm (by assumption))).trans (by first | assumption | exact xu_eq _ _ _) | exact (xu_ne (by first | assumption | exact Ne.symm (by assumption))).trans ((xu_ne (by first | assumption | exact Ne.symm (by assumption))).trans (by first | assumption | exact xu_eq _ _ _)) | exact (xu_ne (by first | assumption | exact Ne.symm (by assumption))).trans ((xu_ne (by first | assumption | exact Ne.symm (by assumption))).trans ((xu_ne (by first | assumption | exact Ne.symm (by assumption))).trans (by first | assumption | exact xu_eq _ _ _))))) rfl ?_
        refine g_ifaceP iI_J26_size_J26 q1479 (c_size (d := d - 1) (by omega) hA) (Or.inl (by first | assumption | exact xu_eq _ _ _ | exact (xu_ne (by first | assumption | exact Ne.symm (by assumption))).trans (by first | assumption | exact xu_eq _ _ _) | exact (xu_ne (by first | assumption | exact Ne.symm (by assumption))).trans ((xu_ne (by first | assumption | exact Ne.symm (by assumption))).trans (by first | assumption | exact xu_eq _ _ _)) | exact (xu_ne (by first | assumption | exact Ne.symm (by assumption))).trans ((xu_ne (by first | assumption | exact Ne.symm (by assumption))).trans ((xu_ne (by first | assumption | exact Ne.symm (by assumption))).trans (by first | assumption | exact xu_eq _ _ _))))) rfl (by decide) dX4_emptySlots_9 rfl rfl rfl (by first | exact Nat.le_of_ble_eq_true rfl | simp [Value.category, rf_cat]) (by omega) xN_no ?_
        refine g_icmpn_ge (tgt := 103) dX4_emptySlots_14 (by decide) rfl (by omega) (by omega) (fun c_14 => ?_) (fun c_14 => by omega)
        refine g_iload_n dX4_emptySlots_103 rfl rfl rfl ?_
        exact g_ireturn dX4_emptySlots_104 rfl ⟨by rw [← hs]; rfl, rfl⟩
      | succ l il =>
        intro N2 hl N1 s hNe hN1 hN2 hs
        rcases bd_cases hN2 with rfl | ⟨c, x, N3, rfl, hb⟩ | ⟨k, x, o, p, A, B, N3, rfl, hbA, hbB, hb⟩
        · rw [List.append_nil] at hNe; subst hNe
          refine g_iload_n dX4_emptySlots_4 rfl rfl rfl ?_
          first | refine g_aload_n dX4_emptySlots_5 rfl rfl rfl ?_ | refine g_aload_nR dX4_emptySlots_5 rfl rfl rfl ?_ | refine g_aload_nN dX4_emptySlots_5 rfl rfl rfl ?_
          refine g_get fl_X4_12_X4 dX4_emptySlots_6 rfl (Or.inl (by first | assumption | exact xu_eq _ _ _ | exact (xu_ne (by first | assumption | exact Ne.symm (by assumption))).trans (by first | assumption | exact xu_eq _ _ _) | exact (xu_ne (by first | assumption | exact Ne.symm (by assumption))).trans ((xu_ne (by first | assumption | exact Ne.symm (by assumption))).trans (by first | assumption | exact xu_eq _ _ _)) | exact (xu_ne (by first | assumption | exact Ne.symm (by assumption))).trans ((xu_ne (by first | assumption | exact Ne.symm (by assumption))).trans ((xu_ne (by first | assumption | exact Ne.symm (by assumption))).trans (by first | assumption | exact xu_eq _ _ _))))) rfl ?_
          refine g_ifaceP iI_J26_size_J26 q1479 (c_size (d := d - 1) (by omega) hA) (Or.inl (by first | assumption | exact xu_eq _ _ _ | exact (xu_ne (by first | assumption | exact Ne.symm (by assumption))).trans (by first | assumption | exact xu_eq _ _ _) | exact (xu_ne (by first | assumption | exact Ne.symm (by assumption))).trans ((xu_ne (by first | assumption | exact Ne.symm (by assumption))).trans (by first | assumption | exact xu_eq _ _ _)) | exact (xu_ne (by first | assumption | exact Ne.symm (by assumption))).trans ((xu_ne (by first | assumption | exact Ne.symm (by assumption))).trans ((xu_ne (by first | assumption | exact Ne.symm (by assumption))).trans (by first | assumption | exact xu_eq _ _ _))))) rfl (by decide) dX4_emptySlots_9 rfl rfl rfl (by first | exact Nat.le_of_ble_eq_true rfl | simp [Value.category, rf_cat]) (by omega) xN_no ?_
          refine g_icmpn_ge (tgt := 103) dX4_emptySlots_14 (by decide) rfl (by omega) (by omega) (fun c_14 => ?_) (fun c_14 => by omega)
          refine g_iload_n dX4_emptySlots_103 rfl rfl rfl ?_
          exact g_ireturn dX4_emptySlots_104 rfl ⟨by rw [← hs]; rfl, rfl⟩
        · obtain ⟨e1, e2, e3, e4, hx1, hcc, hci⟩ := dt_C h hT hNe
          rw [List.length_cons] at hl
          have hs' : s + esF N3 = esF M := by
            rw [← hs]; show _ = s + ((if opE (eS c x r) && hdE N3 then 1 else 0) + esF N3); simp [opE]
          refine g_iload_n dX4_emptySlots_4 rfl rfl rfl ?_
          first | refine g_aload_n dX4_emptySlots_5 rfl rfl rfl ?_ | refine g_aload_nR dX4_emptySlots_5 rfl rfl rfl ?_ | refine g_aload_nN dX4_emptySlots_5 rfl rfl rfl ?_
          refine g_get fl_X4_12_X4 dX4_emptySlots_6 rfl (Or.inl (by first | assumption | exact xu_eq _ _ _ | exact (xu_ne (by first | assumption | exact Ne.symm (by assumption))).trans (by first | assumption | exact xu_eq _ _ _) | exact (xu_ne (by first | assumption | exact Ne.symm (by assumption))).trans ((xu_ne (by first | assumption | exact Ne.symm (by assumption))).trans (by first | assumption | exact xu_eq _ _ _)) | exact (xu_ne (by first | assumption | exact Ne.symm (by assumption))).trans ((xu_ne (by first | assumption | exact Ne.symm (by assumption))).trans ((xu_ne (by first | assumption | exact Ne.symm (by assumption))).trans (by first | assumption | exact xu_eq _ _ _))))) rfl ?_
          refine g_ifaceP iI_J26_size_J26 q1479 (c_size (d := d - 1) (by omega) hA) (Or.inl (by first | assumption | exact xu_eq _ _ _ | exact (xu_ne (by first | assumption | exact Ne.symm (by assumption))).trans (by first | assumption | exact xu_eq _ _ _) | exact (xu_ne (by first | assumption | exact Ne.symm (by assumption))).trans ((xu_ne (by first | assumption | exact Ne.symm (by assumption))).trans (by first | assumption | exact xu_eq _ _ _)) | exact (xu_ne (by first | assumption | exact Ne.symm (by assumption))).trans ((xu_ne (by first | assumption | exact Ne.symm (by assumption))).trans ((xu_ne (by first | assumption | exact Ne.symm (by assumption))).trans (by first | assumption | exact xu_eq _ _ _))))) rfl (by decide) dX4_emptySlots_9 rfl rfl rfl (by first | exact Nat.le_of_ble_eq_true rfl | simp [Value.category, rf_cat]) (by omega) xN_no ?_
          refine g_icmpn_ge (tgt := 103) dX4_emptySlots_14 (by decide) rfl (by omega) (by omega) (fun c_14 => by omega) (fun c_14 => ?_)
          first | refine g_aload_n dX4_emptySlots_17 rfl rfl rfl ?_ | refine g_aload_nR dX4_emptySlots_17 rfl rfl rfl ?_ | refine g_aload_nN dX4_emptySlots_17 rfl rfl rfl ?_
          refine g_get fl_X4_12_X4 dX4_emptySlots_18 rfl (Or.inl (by first | assumption | exact xu_eq _ _ _ | exact (xu_ne (by first | assumption | exact Ne.symm (by assumption))).trans (by first | assumption | exact xu_eq _ _ _) | exact (xu_ne (by first | assumption | exact Ne.symm (by assumption))).trans ((xu_ne (by first | assumption | exact Ne.symm (by assumption))).trans (by first | assumption | exact xu_eq _ _ _)) | exact (xu_ne (by first | assumption | exact Ne.symm (by assumption))).trans ((xu_ne (by first | assumption | exact Ne.symm (by assumption))).trans ((xu_ne (by first | assumption | exact Ne.symm (by assumption))).trans (by first | assumption | exact xu_eq _ _ _))))) rfl ?_
          refine g_iload_n dX4_emptySlots_21 rfl rfl rfl ?_
          refine g_ifaceP iI_J26_get_J26 q1552 (c_get (d := d - 1) (by omega) hA e1) (Or.inl (by first | assumption | exact xu_eq _ _ _ | exact (xu_ne (by first | assumption | exact Ne.symm (by assumption))).trans (by first | assumption | exact xu_eq _ _ _) | exact (xu_ne (by first | assumption | exact Ne.symm (by assumption))).trans ((xu_ne (by first | assumption | exact Ne.symm (by assumption))).trans (by first | assumption | exact xu_eq _ _ _)) | exact (xu_ne (by first | assumption | exact Ne.symm (by assumption))).trans ((xu_ne (by first | assumption | exact Ne.symm (by assumption))).trans ((xu_ne (by first | assumption | exact Ne.symm (by assumption))).trans (by first | assumption | exact xu_eq _ _ _))))) rfl (by decide) dX4_emptySlots_22 rfl rfl rfl (by first | exact Nat.le_of_ble_eq_true rfl | simp [Value.category, rf_cat]) (by omega) xN_no ?_
          first | refine g_ast4 dX4_emptySlots_27 rfl (by decide) (k := ?_) | refine g_astR4 dX4_emptySlots_27 rfl (by decide) (k := ?_) | refine g_astN4 dX4_emptySlots_27 rfl (by decide) (k := ?_)
          first | refine g_aload dX4_emptySlots_29 rfl rfl ?_ | refine g_aloadR dX4_emptySlots_29 rfl rfl ?_ | refine g_aloadN dX4_emptySlots_29 rfl rfl ?_
          refine g_instN q1553 xc_X11.1 (by decide) (xnc (by decide)) dX4_emptySlots_31 rfl (by first | assumption | exact Or.inl (by first | assumption | exact xu_eq _ _ _ | exact (xu_ne (by first | assumption | exact Ne.symm (by assumption))).trans (by first | assumption | exact xu_eq _ _ _) | exact (xu_ne (by first | assumption | exact Ne.symm (by assumption))).trans ((xu_ne (by first | assumption | exact Ne.symm (by assumption))).trans (by first | assumption | exact xu_eq _ _ _)) | exact (xu_ne (by first | assumption | exact Ne.symm (by assumption))).trans ((xu_ne (by first | assumption | exact Ne.symm (by assumption))).trans ((xu_ne (by first | assumption | exact Ne.symm (by assumption))).trans (by first | assumption | exact xu_eq _ _ _))))) ?_
          refine g_ifn_eq (tgt := 97) dX4_emptySlots_34 (by decide) rfl (by omega) (fun _ => ?_) (fun c_34 => by omega)
          refine g_incn2 dX4_emptySlots_97 rfl (by decide) (k := ?_)
          refine g_goto (tgt := 4) dX4_emptySlots_100 (by decide) ?_
          refine g_fg [some (.ref r), some (.int (nI s)), some (.int (nI ((drs r N1).length + 1))), none, none] ⟨rfl, rfl, rfl, trivial⟩ ?_
          have := il N3 (by omega) (N1 ++ [eS c x r]) s (by rw [hNe]; simp) (bd_app hN1 (bd_sym c x (bd_nil r))) hb hs'
          rw [drs_app, drs_sS] at this
          simp only [drs, List.length_append, List.length_cons, List.length_nil] at this
          exact this
        · obtain ⟨e1, e2, e3, eA, eB, ⟨ca, e5⟩, e6, hlen2, hht, ⟨sa, bx2, f, rs, rd, fo, fp, hx1, hsa, hfp, hfq, ho, hpp, -, -, -⟩, e7, hci⟩ := dt_S h hT hNe hN1 hbA hbB hb
          have hcA := ih A o (by omega) eA (d - 1) (by omega)
          have hcB : k = 1 → CT w MX4_emptySlots (d - 1) 0 0 [.ref p] m (xRet (some (.int (nI (esF B)))) m) xN := by
            intro hk
            rw [if_pos hk] at hlen2 hht
            exact ih B p (by omega) (eB hk) (d - 1) (by omega)
          rw [es_sI hbA hbB] at hs
          have hlN : N3.length ≤ l := by rw [List.length_append, sI_len] at hl; omega
          have fin : ∀ j, G w MX4_emptySlots (xZ w (xRet (some (.int (nI (esF M)))) m) xN) d 0 0 97 [some (.ref r), some (.int (nI (s + (esR A + if k = 1 then esR B else 0)))), some (.int (nI (drs r N1).length)), some (.ref x), some (.int (nI j))] [] m := by
            intro j
            generalize hu : (esR A + if k = 1 then esR B else 0) = u at *
            clear hht hlen2 hcA hcB ih hl
            refine g_incn2 dX4_emptySlots_97 rfl (by decide) (k := ?_)
            refine g_goto (tgt := 4) dX4_emptySlots_100 (by decide) ?_
            refine g_fg [some (.ref r), some (.int (nI (s + u))), some (.int (nI ((drs r N1).length + 1))), none, none] ⟨rfl, rfl, rfl, trivial⟩ ?_
            have := il N3 hlN (N1 ++ sI k x r o p A B) (s + u) (by rw [hNe]; simp) (bd_app hN1 (bd_sI hbA hbB)) hb (by omega)
            rw [drs_app, e3] at this
            simp only [List.length_append, List.length_cons, List.length_nil] at this
            exact this
          clear hht hlen2 ih hl
          refine g_iload_n dX4_emptySlots_4 rfl rfl rfl ?_
          first | refine g_aload_n dX4_emptySlots_5 rfl rfl rfl ?_ | refine g_aload_nR dX4_emptySlots_5 rfl rfl rfl ?_ | refine g_aload_nN dX4_emptySlots_5 rfl rfl rfl ?_
          refine g_get fl_X4_12_X4 dX4_emptySlots_6 rfl (Or.inl (by first | assumption | exact xu_eq _ _ _ | exact (xu_ne (by first | assumption | exact Ne.symm (by assumption))).trans (by first | assumption | exact xu_eq _ _ _) | exact (xu_ne (by first | assumption | exact Ne.symm (by assumption))).trans ((xu_ne (by first | assumption | exact Ne.symm (by assumption))).trans (by first | assumption | exact xu_eq _ _ _)) | exact (xu_ne (by first | assumption | exact Ne.symm (by assumption))).trans ((xu_ne (by first | assumption | exact Ne.symm (by assumption))).trans ((xu_ne (by first | assumption | exact Ne.symm (by assumption))).trans (by first | assumption | exact xu_eq _ _ _))))) rfl ?_
          refine g_ifaceP iI_J26_size_J26 q1479 (c_size (d := d - 1) (by omega) hA) (Or.inl (by first | assumption | exact xu_eq _ _ _ | exact (xu_ne (by first | assumption | exact Ne.symm (by assumption))).trans (by first | assumption | exact xu_eq _ _ _) | exact (xu_ne (by first | assumption | exact Ne.symm (by assumption))).trans ((xu_ne (by first | assumption | exact Ne.symm (by assumption))).trans (by first | assumption | exact xu_eq _ _ _)) | exact (xu_ne (by first | assumption | exact Ne.symm (by assumption))).trans ((xu_ne (by first | assumption | exact Ne.symm (by assumption))).trans ((xu_ne (by first | assumption | exact Ne.symm (by assumption))).trans (by first | assumption | exact xu_eq _ _ _))))) rfl (by decide) dX4_emptySlots_9 rfl rfl rfl (by first | exact Nat.le_of_ble_eq_true rfl | simp [Value.category, rf_cat]) (by omega) xN_no ?_
          refine g_icmpn_ge (tgt := 103) dX4_emptySlots_14 (by decide) rfl (by omega) (by omega) (fun c_14 => by omega) (fun c_14 => ?_)
          first | refine g_aload_n dX4_emptySlots_17 rfl rfl rfl ?_ | refine g_aload_nR dX4_emptySlots_17 rfl rfl rfl ?_ | refine g_aload_nN dX4_emptySlots_17 rfl rfl rfl ?_
          refine g_get fl_X4_12_X4 dX4_emptySlots_18 rfl (Or.inl (by first | assumption | exact xu_eq _ _ _ | exact (xu_ne (by first | assumption | exact Ne.symm (by assumption))).trans (by first | assumption | exact xu_eq _ _ _) | exact (xu_ne (by first | assumption | exact Ne.symm (by assumption))).trans ((xu_ne (by first | assumption | exact Ne.symm (by assumption))).trans (by first | assumption | exact xu_eq _ _ _)) | exact (xu_ne (by first | assumption | exact Ne.symm (by assumption))).trans ((xu_ne (by first | assumption | exact Ne.symm (by assumption))).trans ((xu_ne (by first | assumption | exact Ne.symm (by assumption))).trans (by first | assumption | exact xu_eq _ _ _))))) rfl ?_
          refine g_iload_n dX4_emptySlots_21 rfl rfl rfl ?_
          refine g_ifaceP iI_J26_get_J26 q1552 (c_get (d := d - 1) (by omega) hA e1) (Or.inl (by first | assumption | exact xu_eq _ _ _ | exact (xu_ne (by first | assumption | exact Ne.symm (by assumption))).trans (by first | assumption | exact xu_eq _ _ _) | exact (xu_ne (by first | assumption | exact Ne.symm (by assumption))).trans ((xu_ne (by first | assumption | exact Ne.symm (by assumption))).trans (by first | assumption | exact xu_eq _ _ _)) | exact (xu_ne (by first | assumption | exact Ne.symm (by assumption))).trans ((xu_ne (by first | assumption | exact Ne.symm (by assumption))).trans ((xu_ne (by first | assumption | exact Ne.symm (by assumption))).trans (by first | assumption | exact xu_eq _ _ _))))) rfl (by decide) dX4_emptySlots_22 rfl rfl rfl (by first | exact Nat.le_of_ble_eq_true rfl | simp [Value.category, rf_cat]) (by omega) xN_no ?_
          first | refine g_ast4 dX4_emptySlots_27 rfl (by decide) (k := ?_) | refine g_astR4 dX4_emptySlots_27 rfl (by decide) (k := ?_) | refine g_astN4 dX4_emptySlots_27 rfl (by decide) (k := ?_)
          first | refine g_aload dX4_emptySlots_29 rfl rfl ?_ | refine g_aloadR dX4_emptySlots_29 rfl rfl ?_ | refine g_aloadN dX4_emptySlots_29 rfl rfl ?_
          refine g_instY q1553 xc_X9.1 (by decide) rfl dX4_emptySlots_31 rfl (by first | assumption | exact Or.inl (by first | assumption | exact xu_eq _ _ _ | exact (xu_ne (by first | assumption | exact Ne.symm (by assumption))).trans (by first | assumption | exact xu_eq _ _ _) | exact (xu_ne (by first | assumption | exact Ne.symm (by assumption))).trans ((xu_ne (by first | assumption | exact Ne.symm (by assumption))).trans (by first | assumption | exact xu_eq _ _ _)) | exact (xu_ne (by first | assumption | exact Ne.symm (by assumption))).trans ((xu_ne (by first | assumption | exact Ne.symm (by assumption))).trans ((xu_ne (by first | assumption | exact Ne.symm (by assumption))).trans (by first | assumption | exact xu_eq _ _ _))))) ?_
          refine g_ifn_eq (tgt := 97) dX4_emptySlots_34 (by decide) rfl (by omega) (fun c_34 => by omega) (fun _ => ?_)
          first | refine g_aload dX4_emptySlots_37 rfl rfl ?_ | refine g_aloadR dX4_emptySlots_37 rfl rfl ?_ | refine g_aloadN dX4_emptySlots_37 rfl rfl ?_
          refine g_castO q1553 xc_X9.1 (by decide) (Or.inl rfl) dX4_emptySlots_39 rfl (by first | assumption | exact Or.inl (by first | assumption | exact xu_eq _ _ _ | exact (xu_ne (by first | assumption | exact Ne.symm (by assumption))).trans (by first | assumption | exact xu_eq _ _ _) | exact (xu_ne (by first | assumption | exact Ne.symm (by assumption))).trans ((xu_ne (by first | assumption | exact Ne.symm (by assumption))).trans (by first | assumption | exact xu_eq _ _ _)) | exact (xu_ne (by first | assumption | exact Ne.symm (by assumption))).trans ((xu_ne (by first | assumption | exact Ne.symm (by assumption))).trans ((xu_ne (by first | assumption | exact Ne.symm (by assumption))).trans (by first | assumption | exact xu_eq _ _ _))))) ?_
          first | refine g_ast3 dX4_emptySlots_42 rfl (by decide) (k := ?_) | refine g_astR3 dX4_emptySlots_42 rfl (by decide) (k := ?_) | refine g_astN3 dX4_emptySlots_42 rfl (by decide) (k := ?_)
          refine g_iconst (v := (nI 0)) dX4_emptySlots_43 rfl rfl ?_
          refine g_ist4 dX4_emptySlots_44 rfl (by decide) (k := ?_)
          by_cases hk : k = 1
          · rw [if_pos hk] at hsa
            obtain ⟨-, cb, e8⟩ := e6 hk
            rw [if_pos hk] at fin
            have fin2 := fin (0 + 1 + 1)
            refine l_esl (A := A) h (by omega) hx1 hsa (by omega) (by omega) hfp hbA e5 hcA ?_
            refine l_esl (A := B) h (by omega) hx1 hsa (by omega) (by omega) (hfq hk) (hbB hk) e8 (hcB hk) ?_
            rw [Nat.add_assoc s]
            exact l_esx (n := 0 + 1 + 1) hx1 hsa (by omega) fin2
          · rw [if_neg hk] at hsa
            rw [if_neg hk] at fin
            have fin2 := fin (0 + 1)
            refine l_esl (A := A) h (by omega) hx1 hsa (by omega) (by omega) hfp hbA e5 hcA ?_
            exact l_esx (n := 0 + 1) hx1 hsa (by omega) fin2
    refine g_iconst (v := (nI 0)) dX4_emptySlots_0 rfl rfl ?_
    refine g_ist1 dX4_emptySlots_1 rfl (by decide) (k := ?_)
    refine g_iconst (v := (nI 0)) dX4_emptySlots_2 rfl rfl ?_
    refine g_ist2 dX4_emptySlots_3 rfl (by decide) (k := ?_)
    exact loop M.length M (Nat.le_refl _) [] 0 rfl (bd_nil r) hT.1 (by omega)
end EMPTY
