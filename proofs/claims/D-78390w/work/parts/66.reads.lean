/-! ROWS as read; structures: constructor, empty -/
set_option maxRecDepth 100000
def lvle : List (Option Value) → List (Option Value) → Prop
  | [], _ => True
  | none :: a, [] => lvle a []
  | none :: a, _ :: b => lvle a b
  | some v :: a, some u :: b => v = u ∧ lvle a b
  | some _ :: _, _ => False
theorem lvle_at : ∀ {a b : List (Option Value)}, lvle a b → ∀ (i : Nat) (v : Value), xnth a i = some v → xnth b i = some v
  | [], _, _, i, v, h => by cases i <;> cases h
  | none :: a, [], hl, 0, v, h => by cases h
  | none :: a, [], hl, i + 1, v, h => by
    have := lvle_at (a := a) (b := []) hl i v h
    cases i <;> exact this
  | none :: a, _ :: b, hl, 0, v, h => by cases h
  | none :: a, _ :: b, hl, i + 1, v, h => lvle_at (a := a) (b := b) hl i v h
  | some v :: a, some u :: b, hl, 0, v', h => by
    obtain ⟨rfl, -⟩ := hl
    exact h
  | some v :: a, some u :: b, hl, i + 1, v', h => lvle_at (a := a) (b := b) hl.2 i v' h
/-- locals forgotten -/
theorem g_fg {w : XW} {y : XY} {Z : XZ} {d kc ks pc : Nat} {lv : List (Option Value)} {st : List Value} {m : XM} (lv' : List (Option Value)) (hl : lvle lv' lv) (k : G w y Z d kc ks pc lv' st m) : G w y Z d kc ks pc lv st m := by
  intro ok p e R s mi args below meth c H locs cells slots Q ls cx hx
  exact k ok cx (xlv_mono hx (lvle_at hl))
theorem rS_app (K : Nat → Option XI) (a b : List Nat) : rS K (a ++ b) = rS K a + rS K b := by
  induction a with
  | nil => simp [rS]
  | cons x a ih => simp only [List.cons_append, rS, ih]; omega
theorem rD_app (K : Nat → Option XI) (a b : List Nat) : rD K (a ++ b) = max (rD K a) (rD K b) := by
  induction a with
  | nil => simp [rD]
  | cons x a ih => simp only [List.cons_append, rD, ih]; omega
section READS
variable {w : XW} {id d : Nat} {g : XG} {m : XM} {T : XT}
theorem rD1_lt (h : SM w g m id T) (i : Nat) : rD1 T.2.1 i < 10000 := by
  unfold rD1
  cases e : T.2.1 i with
  | none => simp
  | some v =>
    cases v with
    | inl c => simp
    | inr v => obtain ⟨k, p, q, rs, rd⟩ := v; obtain ⟨sa, bx, f, -, -, -, -, -, -, -, -, h⟩ := sm_str h e; exact h
theorem rD_lt (h : SM w g m id T) (l : List Nat) : rD T.2.1 l < 10000 := by
  induction l with
  | nil => simp [rD]
  | cons x l ih => have := rD1_lt h x; simp only [rD]; omega
theorem c_readSize {r sl cap : Nat} {own : Option Nat} {is : List Nat} (hd : 4 ≤ d) (h : SM w g m id T) (hR : T.1 r = some (own, sl, cap, is)) : CT w MX4_readSize d 0 0 [.ref r] m (xRet (some (.int (nI (rS T.2.1 is)))) m) xN := by
  obtain ⟨la, ar, bx, mc, h1, k1, hA, h3, h4, h5, hz⟩ := sm_row h hR
  have hlen := al_len hA
  refine ct_intro (lv := [some (.ref r), none, none, none, none]) 4 (by decide) rfl (Nat.le_of_ble_eq_true rfl) rfl ?_
  have loop : ∀ (l2 l1 : List Nat) (s : Nat), is = l1 ++ l2 → s + rS T.2.1 l2 = rS T.2.1 is → G w MX4_readSize (xZ w (xRet (some (.int (nI (rS T.2.1 is)))) m) xN) d 0 0 4 [some (.ref r), some (.int (nI s)), some (.int (nI l1.length)), none, none] [] m := by
    intro l2
    induction l2 with
    | nil =>
      intro l1 s hl hs
      have hll : l1.length = is.length := by rw [hl]; simp
      refine g_iload_n dX4_readSize_4 rfl rfl rfl ?_
      first | refine g_aload_n dX4_readSize_5 rfl rfl rfl ?_ | refine g_aload_nR dX4_readSize_5 rfl rfl rfl ?_ | refine g_aload_nN dX4_readSize_5 rfl rfl rfl ?_
      refine g_get fl_X4_12_X4 dX4_readSize_6 rfl (Or.inl (by first | assumption | exact xu_eq _ _ _ | exact (xu_ne (by first | assumption | exact Ne.symm (by assumption))).trans (by first | assumption | exact xu_eq _ _ _) | exact (xu_ne (by first | assumption | exact Ne.symm (by assumption))).trans ((xu_ne (by first | assumption | exact Ne.symm (by assumption))).trans (by first | assumption | exact xu_eq _ _ _)) | exact (xu_ne (by first | assumption | exact Ne.symm (by assumption))).trans ((xu_ne (by first | assumption | exact Ne.symm (by assumption))).trans ((xu_ne (by first | assumption | exact Ne.symm (by assumption))).trans (by first | assumption | exact xu_eq _ _ _))))) rfl ?_
      refine g_ifaceP iI_J26_size_J26 q1479 (c_size (d := d - 1) (by omega) hA) (Or.inl (by first | assumption | exact xu_eq _ _ _ | exact (xu_ne (by first | assumption | exact Ne.symm (by assumption))).trans (by first | assumption | exact xu_eq _ _ _) | exact (xu_ne (by first | assumption | exact Ne.symm (by assumption))).trans ((xu_ne (by first | assumption | exact Ne.symm (by assumption))).trans (by first | assumption | exact xu_eq _ _ _)) | exact (xu_ne (by first | assumption | exact Ne.symm (by assumption))).trans ((xu_ne (by first | assumption | exact Ne.symm (by assumption))).trans ((xu_ne (by first | assumption | exact Ne.symm (by assumption))).trans (by first | assumption | exact xu_eq _ _ _))))) rfl (by decide) dX4_readSize_9 rfl rfl rfl (by first | exact Nat.le_of_ble_eq_true rfl | simp [Value.category, rf_cat]) (by omega) xN_no ?_
      refine g_icmpn_ge (tgt := 60) dX4_readSize_14 (by decide) rfl (by omega) (by omega) (fun c_14 => ?_) (fun c_14 => by omega)
      refine g_iload_n dX4_readSize_60 rfl rfl rfl ?_
      exact g_ireturn dX4_readSize_61 rfl ⟨by rw [← hs]; simp [rS], rfl⟩
    | cons x l2 ih =>
      intro l1 s hl hs
      have hll : l1.length + (l2.length + 1) = is.length := by rw [hl]; simp
      have hx := hz x (by rw [hl]; simp)
      cases e : T.2.1 x with
      | none => exact absurd e hx
      | some v =>
        cases v with
        | inl c =>
          obtain ⟨hx1, -⟩ := sm_sym h e
          have hs1 : rS1 T.2.1 x = 1 := by unfold rS1; rw [e]
          refine g_iload_n dX4_readSize_4 rfl rfl rfl ?_
          first | refine g_aload_n dX4_readSize_5 rfl rfl rfl ?_ | refine g_aload_nR dX4_readSize_5 rfl rfl rfl ?_ | refine g_aload_nN dX4_readSize_5 rfl rfl rfl ?_
          refine g_get fl_X4_12_X4 dX4_readSize_6 rfl (Or.inl (by first | assumption | exact xu_eq _ _ _ | exact (xu_ne (by first | assumption | exact Ne.symm (by assumption))).trans (by first | assumption | exact xu_eq _ _ _) | exact (xu_ne (by first | assumption | exact Ne.symm (by assumption))).trans ((xu_ne (by first | assumption | exact Ne.symm (by assumption))).trans (by first | assumption | exact xu_eq _ _ _)) | exact (xu_ne (by first | assumption | exact Ne.symm (by assumption))).trans ((xu_ne (by first | assumption | exact Ne.symm (by assumption))).trans ((xu_ne (by first | assumption | exact Ne.symm (by assumption))).trans (by first | assumption | exact xu_eq _ _ _))))) rfl ?_
          refine g_ifaceP iI_J26_size_J26 q1479 (c_size (d := d - 1) (by omega) hA) (Or.inl (by first | assumption | exact xu_eq _ _ _ | exact (xu_ne (by first | assumption | exact Ne.symm (by assumption))).trans (by first | assumption | exact xu_eq _ _ _) | exact (xu_ne (by first | assumption | exact Ne.symm (by assumption))).trans ((xu_ne (by first | assumption | exact Ne.symm (by assumption))).trans (by first | assumption | exact xu_eq _ _ _)) | exact (xu_ne (by first | assumption | exact Ne.symm (by assumption))).trans ((xu_ne (by first | assumption | exact Ne.symm (by assumption))).trans ((xu_ne (by first | assumption | exact Ne.symm (by assumption))).trans (by first | assumption | exact xu_eq _ _ _))))) rfl (by decide) dX4_readSize_9 rfl rfl rfl (by first | exact Nat.le_of_ble_eq_true rfl | simp [Value.category, rf_cat]) (by omega) xN_no ?_
          refine g_icmpn_ge (tgt := 60) dX4_readSize_14 (by decide) rfl (by omega) (by omega) (fun c_14 => by omega) (fun c_14 => ?_)
          refine g_iload_n dX4_readSize_17 rfl rfl rfl ?_
          first | refine g_aload_n dX4_readSize_18 rfl rfl rfl ?_ | refine g_aload_nR dX4_readSize_18 rfl rfl rfl ?_ | refine g_aload_nN dX4_readSize_18 rfl rfl rfl ?_
          refine g_get fl_X4_12_X4 dX4_readSize_19 rfl (Or.inl (by first | assumption | exact xu_eq _ _ _ | exact (xu_ne (by first | assumption | exact Ne.symm (by assumption))).trans (by first | assumption | exact xu_eq _ _ _) | exact (xu_ne (by first | assumption | exact Ne.symm (by assumption))).trans ((xu_ne (by first | assumption | exact Ne.symm (by assumption))).trans (by first | assumption | exact xu_eq _ _ _)) | exact (xu_ne (by first | assumption | exact Ne.symm (by assumption))).trans ((xu_ne (by first | assumption | exact Ne.symm (by assumption))).trans ((xu_ne (by first | assumption | exact Ne.symm (by assumption))).trans (by first | assumption | exact xu_eq _ _ _))))) rfl ?_
          refine g_iload_n dX4_readSize_22 rfl rfl rfl ?_
          refine g_ifaceP iI_J26_get_J26 q1552 (c_get (d := d - 1) (by omega) hA (by rw [hl]; exact at_mid l1 l2 x)) (Or.inl (by first | assumption | exact xu_eq _ _ _ | exact (xu_ne (by first | assumption | exact Ne.symm (by assumption))).trans (by first | assumption | exact xu_eq _ _ _) | exact (xu_ne (by first | assumption | exact Ne.symm (by assumption))).trans ((xu_ne (by first | assumption | exact Ne.symm (by assumption))).trans (by first | assumption | exact xu_eq _ _ _)) | exact (xu_ne (by first | assumption | exact Ne.symm (by assumption))).trans ((xu_ne (by first | assumption | exact Ne.symm (by assumption))).trans ((xu_ne (by first | assumption | exact Ne.symm (by assumption))).trans (by first | assumption | exact xu_eq _ _ _))))) rfl (by decide) dX4_readSize_23 rfl rfl rfl (by first | exact Nat.le_of_ble_eq_true rfl | simp [Value.category, rf_cat]) (by omega) xN_no ?_
          first | refine g_ast4 dX4_readSize_28 rfl (by decide) (k := ?_) | refine g_astR4 dX4_readSize_28 rfl (by decide) (k := ?_) | refine g_astN4 dX4_readSize_28 rfl (by decide) (k := ?_)
          first | refine g_aload dX4_readSize_30 rfl rfl ?_ | refine g_aloadR dX4_readSize_30 rfl rfl ?_ | refine g_aloadN dX4_readSize_30 rfl rfl ?_
          refine g_instN q1553 xc_X11.1 (by decide) (xnc (by decide)) dX4_readSize_32 rfl (by first | assumption | exact Or.inl (by first | assumption | exact xu_eq _ _ _ | exact (xu_ne (by first | assumption | exact Ne.symm (by assumption))).trans (by first | assumption | exact xu_eq _ _ _) | exact (xu_ne (by first | assumption | exact Ne.symm (by assumption))).trans ((xu_ne (by first | assumption | exact Ne.symm (by assumption))).trans (by first | assumption | exact xu_eq _ _ _)) | exact (xu_ne (by first | assumption | exact Ne.symm (by assumption))).trans ((xu_ne (by first | assumption | exact Ne.symm (by assumption))).trans ((xu_ne (by first | assumption | exact Ne.symm (by assumption))).trans (by first | assumption | exact xu_eq _ _ _))))) ?_
          refine g_ifn_eq (tgt := 51) dX4_readSize_35 (by decide) rfl (by omega) (fun _ => ?_) (fun c_35 => by omega)
          refine g_iconst (v := (nI 1)) dX4_readSize_51 rfl rfl ?_
          refine g_iaddn dX4_readSize_52 rfl ?_
          refine g_ist1 dX4_readSize_53 rfl (by decide) (k := ?_)
          refine g_incn2 dX4_readSize_54 rfl (by decide) (k := ?_)
          refine g_goto (tgt := 4) dX4_readSize_57 (by decide) ?_
          rw [show l1.length + 1 = (l1 ++ [x]).length from by simp]
          refine g_fg _ ?_ (ih (l1 ++ [x]) (s + 1) (by rw [hl]; simp) ?_)
          · exact ⟨rfl, rfl, rfl, trivial⟩
          · rw [← hs, rS, hs1]; omega
        | inr v =>
          obtain ⟨k, p, q, rs, rd⟩ := v
          obtain ⟨sa, bx2, f, hx1, hsa, hp, hq, -⟩ := sm_str h e
          have hs1 : rS1 T.2.1 x = rs := by unfold rS1; rw [e]
          refine g_iload_n dX4_readSize_4 rfl rfl rfl ?_
          first | refine g_aload_n dX4_readSize_5 rfl rfl rfl ?_ | refine g_aload_nR dX4_readSize_5 rfl rfl rfl ?_ | refine g_aload_nN dX4_readSize_5 rfl rfl rfl ?_
          refine g_get fl_X4_12_X4 dX4_readSize_6 rfl (Or.inl (by first | assumption | exact xu_eq _ _ _ | exact (xu_ne (by first | assumption | exact Ne.symm (by assumption))).trans (by first | assumption | exact xu_eq _ _ _) | exact (xu_ne (by first | assumption | exact Ne.symm (by assumption))).trans ((xu_ne (by first | assumption | exact Ne.symm (by assumption))).trans (by first | assumption | exact xu_eq _ _ _)) | exact (xu_ne (by first | assumption | exact Ne.symm (by assumption))).trans ((xu_ne (by first | assumption | exact Ne.symm (by assumption))).trans ((xu_ne (by first | assumption | exact Ne.symm (by assumption))).trans (by first | assumption | exact xu_eq _ _ _))))) rfl ?_
          refine g_ifaceP iI_J26_size_J26 q1479 (c_size (d := d - 1) (by omega) hA) (Or.inl (by first | assumption | exact xu_eq _ _ _ | exact (xu_ne (by first | assumption | exact Ne.symm (by assumption))).trans (by first | assumption | exact xu_eq _ _ _) | exact (xu_ne (by first | assumption | exact Ne.symm (by assumption))).trans ((xu_ne (by first | assumption | exact Ne.symm (by assumption))).trans (by first | assumption | exact xu_eq _ _ _)) | exact (xu_ne (by first | assumption | exact Ne.symm (by assumption))).trans ((xu_ne (by first | assumption | exact Ne.symm (by assumption))).trans ((xu_ne (by first | assumption | exact Ne.symm (by assumption))).trans (by first | assumption | exact xu_eq _ _ _))))) rfl (by decide) dX4_readSize_9 rfl rfl rfl (by first | exact Nat.le_of_ble_eq_true rfl | simp [Value.category, rf_cat]) (by omega) xN_no ?_
          refine g_icmpn_ge (tgt := 60) dX4_readSize_14 (by decide) rfl (by omega) (by omega) (fun c_14 => by omega) (fun c_14 => ?_)
          refine g_iload_n dX4_readSize_17 rfl rfl rfl ?_
          first | refine g_aload_n dX4_readSize_18 rfl rfl rfl ?_ | refine g_aload_nR dX4_readSize_18 rfl rfl rfl ?_ | refine g_aload_nN dX4_readSize_18 rfl rfl rfl ?_
          refine g_get fl_X4_12_X4 dX4_readSize_19 rfl (Or.inl (by first | assumption | exact xu_eq _ _ _ | exact (xu_ne (by first | assumption | exact Ne.symm (by assumption))).trans (by first | assumption | exact xu_eq _ _ _) | exact (xu_ne (by first | assumption | exact Ne.symm (by assumption))).trans ((xu_ne (by first | assumption | exact Ne.symm (by assumption))).trans (by first | assumption | exact xu_eq _ _ _)) | exact (xu_ne (by first | assumption | exact Ne.symm (by assumption))).trans ((xu_ne (by first | assumption | exact Ne.symm (by assumption))).trans ((xu_ne (by first | assumption | exact Ne.symm (by assumption))).trans (by first | assumption | exact xu_eq _ _ _))))) rfl ?_
          refine g_iload_n dX4_readSize_22 rfl rfl rfl ?_
          refine g_ifaceP iI_J26_get_J26 q1552 (c_get (d := d - 1) (by omega) hA (by rw [hl]; exact at_mid l1 l2 x)) (Or.inl (by first | assumption | exact xu_eq _ _ _ | exact (xu_ne (by first | assumption | exact Ne.symm (by assumption))).trans (by first | assumption | exact xu_eq _ _ _) | exact (xu_ne (by first | assumption | exact Ne.symm (by assumption))).trans ((xu_ne (by first | assumption | exact Ne.symm (by assumption))).trans (by first | assumption | exact xu_eq _ _ _)) | exact (xu_ne (by first | assumption | exact Ne.symm (by assumption))).trans ((xu_ne (by first | assumption | exact Ne.symm (by assumption))).trans ((xu_ne (by first | assumption | exact Ne.symm (by assumption))).trans (by first | assumption | exact xu_eq _ _ _))))) rfl (by decide) dX4_readSize_23 rfl rfl rfl (by first | exact Nat.le_of_ble_eq_true rfl | simp [Value.category, rf_cat]) (by omega) xN_no ?_
          first | refine g_ast4 dX4_readSize_28 rfl (by decide) (k := ?_) | refine g_astR4 dX4_readSize_28 rfl (by decide) (k := ?_) | refine g_astN4 dX4_readSize_28 rfl (by decide) (k := ?_)
          first | refine g_aload dX4_readSize_30 rfl rfl ?_ | refine g_aloadR dX4_readSize_30 rfl rfl ?_ | refine g_aloadN dX4_readSize_30 rfl rfl ?_
          refine g_instY q1553 xc_X9.1 (by decide) rfl dX4_readSize_32 rfl (by first | assumption | exact Or.inl (by first | assumption | exact xu_eq _ _ _ | exact (xu_ne (by first | assumption | exact Ne.symm (by assumption))).trans (by first | assumption | exact xu_eq _ _ _) | exact (xu_ne (by first | assumption | exact Ne.symm (by assumption))).trans ((xu_ne (by first | assumption | exact Ne.symm (by assumption))).trans (by first | assumption | exact xu_eq _ _ _)) | exact (xu_ne (by first | assumption | exact Ne.symm (by assumption))).trans ((xu_ne (by first | assumption | exact Ne.symm (by assumption))).trans ((xu_ne (by first | assumption | exact Ne.symm (by assumption))).trans (by first | assumption | exact xu_eq _ _ _))))) ?_
          refine g_ifn_eq (tgt := 51) dX4_readSize_35 (by decide) rfl (by omega) (fun c_35 => by omega) (fun _ => ?_)
          first | refine g_aload dX4_readSize_38 rfl rfl ?_ | refine g_aloadR dX4_readSize_38 rfl rfl ?_ | refine g_aloadN dX4_readSize_38 rfl rfl ?_
          refine g_castO q1553 xc_X9.1 (by decide) (Or.inl rfl) dX4_readSize_40 rfl (by first | assumption | exact Or.inl (by first | assumption | exact xu_eq _ _ _ | exact (xu_ne (by first | assumption | exact Ne.symm (by assumption))).trans (by first | assumption | exact xu_eq _ _ _) | exact (xu_ne (by first | assumption | exact Ne.symm (by assumption))).trans ((xu_ne (by first | assumption | exact Ne.symm (by assumption))).trans (by first | assumption | exact xu_eq _ _ _)) | exact (xu_ne (by first | assumption | exact Ne.symm (by assumption))).trans ((xu_ne (by first | assumption | exact Ne.symm (by assumption))).trans ((xu_ne (by first | assumption | exact Ne.symm (by assumption))).trans (by first | assumption | exact xu_eq _ _ _))))) ?_
          first | refine g_ast3 dX4_readSize_43 rfl (by decide) (k := ?_) | refine g_astR3 dX4_readSize_43 rfl (by decide) (k := ?_) | refine g_astN3 dX4_readSize_43 rfl (by decide) (k := ?_)
          first | refine g_aload_n dX4_readSize_44 rfl rfl rfl ?_ | refine g_aload_nR dX4_readSize_44 rfl rfl rfl ?_ | refine g_aload_nN dX4_readSize_44 rfl rfl rfl ?_
          refine g_get fl_X4_82_X9 dX4_readSize_45 rfl (Or.inl (by first | assumption | exact xu_eq _ _ _ | exact (xu_ne (by first | assumption | exact Ne.symm (by assumption))).trans (by first | assumption | exact xu_eq _ _ _) | exact (xu_ne (by first | assumption | exact Ne.symm (by assumption))).trans ((xu_ne (by first | assumption | exact Ne.symm (by assumption))).trans (by first | assumption | exact xu_eq _ _ _)) | exact (xu_ne (by first | assumption | exact Ne.symm (by assumption))).trans ((xu_ne (by first | assumption | exact Ne.symm (by assumption))).trans ((xu_ne (by first | assumption | exact Ne.symm (by assumption))).trans (by first | assumption | exact xu_eq _ _ _))))) rfl ?_
          refine g_goto (tgt := 52) dX4_readSize_48 (by decide) ?_
          refine g_iaddn dX4_readSize_52 rfl ?_
          refine g_ist1 dX4_readSize_53 rfl (by decide) (k := ?_)
          refine g_incn2 dX4_readSize_54 rfl (by decide) (k := ?_)
          refine g_goto (tgt := 4) dX4_readSize_57 (by decide) ?_
          rw [show l1.length + 1 = (l1 ++ [x]).length from by simp]
          refine g_fg _ ?_ (ih (l1 ++ [x]) (s + rs) (by rw [hl]; simp) ?_)
          · exact ⟨rfl, rfl, rfl, trivial⟩
          · rw [← hs, rS, hs1]; omega
  refine g_iconst (v := (nI 0)) dX4_readSize_0 rfl rfl ?_
  refine g_ist1 dX4_readSize_1 rfl (by decide) (k := ?_)
  refine g_iconst (v := (nI 0)) dX4_readSize_2 rfl rfl ?_
  refine g_ist2 dX4_readSize_3 rfl (by decide) (k := ?_)
  exact loop is [] 0 rfl (by omega)
theorem c_readDepth {r sl cap : Nat} {own : Option Nat} {is : List Nat} (hd : 4 ≤ d) (h : SM w g m id T) (hR : T.1 r = some (own, sl, cap, is)) : CT w MX4_readDepth d 0 0 [.ref r] m (xRet (some (.int (nI (rD T.2.1 is)))) m) xN := by
  obtain ⟨la, ar, bx, mc, h1, k1, hA, h3, h4, h5, hz⟩ := sm_row h hR
  have hlen := al_len hA
  refine ct_intro (lv := [some (.ref r), none, none, none, none]) 4 (by decide) rfl (Nat.le_of_ble_eq_true rfl) rfl ?_
  have loop : ∀ (l2 l1 : List Nat) (s : Nat), is = l1 ++ l2 → s < 10000 → max s (rD T.2.1 l2) = rD T.2.1 is → G w MX4_readDepth (xZ w (xRet (some (.int (nI (rD T.2.1 is)))) m) xN) d 0 0 4 [some (.ref r), some (.int (nI s)), some (.int (nI l1.length)), none, none] [] m := by
    intro l2
    induction l2 with
    | nil =>
      intro l1 s hl hsl hs
      have hll : l1.length = is.length := by rw [hl]; simp
      refine g_iload_n dX4_readDepth_4 rfl rfl rfl ?_
      first | refine g_aload_n dX4_readDepth_5 rfl rfl rfl ?_ | refine g_aload_nR dX4_readDepth_5 rfl rfl rfl ?_ | refine g_aload_nN dX4_readDepth_5 rfl rfl rfl ?_
      refine g_get fl_X4_12_X4 dX4_readDepth_6 rfl (Or.inl (by first | assumption | exact xu_eq _ _ _ | exact (xu_ne (by first | assumption | exact Ne.symm (by assumption))).trans (by first | assumption | exact xu_eq _ _ _) | exact (xu_ne (by first | assumption | exact Ne.symm (by assumption))).trans ((xu_ne (by first | assumption | exact Ne.symm (by assumption))).trans (by first | assumption | exact xu_eq _ _ _)) | exact (xu_ne (by first | assumption | exact Ne.symm (by assumption))).trans ((xu_ne (by first | assumption | exact Ne.symm (by assumption))).trans ((xu_ne (by first | assumption | exact Ne.symm (by assumption))).trans (by first | assumption | exact xu_eq _ _ _))))) rfl ?_
      refine g_ifaceP iI_J26_size_J26 q1479 (c_size (d := d - 1) (by omega) hA) (Or.inl (by first | assumption | exact xu_eq _ _ _ | exact (xu_ne (by first | assumption | exact Ne.symm (by assumption))).trans (by first | assumption | exact xu_eq _ _ _) | exact (xu_ne (by first | assumption | exact Ne.symm (by assumption))).trans ((xu_ne (by first | assumption | exact Ne.symm (by assumption))).trans (by first | assumption | exact xu_eq _ _ _)) | exact (xu_ne (by first | assumption | exact Ne.symm (by assumption))).trans ((xu_ne (by first | assumption | exact Ne.symm (by assumption))).trans ((xu_ne (by first | assumption | exact Ne.symm (by assumption))).trans (by first | assumption | exact xu_eq _ _ _))))) rfl (by decide) dX4_readDepth_9 rfl rfl rfl (by first | exact Nat.le_of_ble_eq_true rfl | simp [Value.category, rf_cat]) (by omega) xN_no ?_
      refine g_icmpn_ge (tgt := 62) dX4_readDepth_14 (by decide) rfl (by omega) (by omega) (fun c_14 => ?_) (fun c_14 => by omega)
      refine g_iload_n dX4_readDepth_62 rfl rfl rfl ?_
      exact g_ireturn dX4_readDepth_63 rfl ⟨by rw [← hs]; simp [rD], rfl⟩
    | cons x l2 ih =>
      intro l1 s hl hsl hs
      have hll : l1.length + (l2.length + 1) = is.length := by rw [hl]; simp
      have hx := hz x (by rw [hl]; simp)
      cases e : T.2.1 x with
      | none => exact absurd e hx
      | some v =>
        cases v with
        | inl c =>
          obtain ⟨hx1, -⟩ := sm_sym h e
          have hs1 : rD1 T.2.1 x = 0 := by unfold rD1; rw [e]
          refine g_iload_n dX4_readDepth_4 rfl rfl rfl ?_
          first | refine g_aload_n dX4_readDepth_5 rfl rfl rfl ?_ | refine g_aload_nR dX4_readDepth_5 rfl rfl rfl ?_ | refine g_aload_nN dX4_readDepth_5 rfl rfl rfl ?_
          refine g_get fl_X4_12_X4 dX4_readDepth_6 rfl (Or.inl (by first | assumption | exact xu_eq _ _ _ | exact (xu_ne (by first | assumption | exact Ne.symm (by assumption))).trans (by first | assumption | exact xu_eq _ _ _) | exact (xu_ne (by first | assumption | exact Ne.symm (by assumption))).trans ((xu_ne (by first | assumption | exact Ne.symm (by assumption))).trans (by first | assumption | exact xu_eq _ _ _)) | exact (xu_ne (by first | assumption | exact Ne.symm (by assumption))).trans ((xu_ne (by first | assumption | exact Ne.symm (by assumption))).trans ((xu_ne (by first | assumption | exact Ne.symm (by assumption))).trans (by first | assumption | exact xu_eq _ _ _))))) rfl ?_
          refine g_ifaceP iI_J26_size_J26 q1479 (c_size (d := d - 1) (by omega) hA) (Or.inl (by first | assumption | exact xu_eq _ _ _ | exact (xu_ne (by first | assumption | exact Ne.symm (by assumption))).trans (by first | assumption | exact xu_eq _ _ _) | exact (xu_ne (by first | assumption | exact Ne.symm (by assumption))).trans ((xu_ne (by first | assumption | exact Ne.symm (by assumption))).trans (by first | assumption | exact xu_eq _ _ _)) | exact (xu_ne (by first | assumption | exact Ne.symm (by assumption))).trans ((xu_ne (by first | assumption | exact Ne.symm (by assumption))).trans ((xu_ne (by first | assumption | exact Ne.symm (by assumption))).trans (by first | assumption | exact xu_eq _ _ _))))) rfl (by decide) dX4_readDepth_9 rfl rfl rfl (by first | exact Nat.le_of_ble_eq_true rfl | simp [Value.category, rf_cat]) (by omega) xN_no ?_
          refine g_icmpn_ge (tgt := 62) dX4_readDepth_14 (by decide) rfl (by omega) (by omega) (fun c_14 => by omega) (fun c_14 => ?_)
          refine g_iload_n dX4_readDepth_17 rfl rfl rfl ?_
          first | refine g_aload_n dX4_readDepth_18 rfl rfl rfl ?_ | refine g_aload_nR dX4_readDepth_18 rfl rfl rfl ?_ | refine g_aload_nN dX4_readDepth_18 rfl rfl rfl ?_
          refine g_get fl_X4_12_X4 dX4_readDepth_19 rfl (Or.inl (by first | assumption | exact xu_eq _ _ _ | exact (xu_ne (by first | assumption | exact Ne.symm (by assumption))).trans (by first | assumption | exact xu_eq _ _ _) | exact (xu_ne (by first | assumption | exact Ne.symm (by assumption))).trans ((xu_ne (by first | assumption | exact Ne.symm (by assumption))).trans (by first | assumption | exact xu_eq _ _ _)) | exact (xu_ne (by first | assumption | exact Ne.symm (by assumption))).trans ((xu_ne (by first | assumption | exact Ne.symm (by assumption))).trans ((xu_ne (by first | assumption | exact Ne.symm (by assumption))).trans (by first | assumption | exact xu_eq _ _ _))))) rfl ?_
          refine g_iload_n dX4_readDepth_22 rfl rfl rfl ?_
          refine g_ifaceP iI_J26_get_J26 q1552 (c_get (d := d - 1) (by omega) hA (by rw [hl]; exact at_mid l1 l2 x)) (Or.inl (by first | assumption | exact xu_eq _ _ _ | exact (xu_ne (by first | assumption | exact Ne.symm (by assumption))).trans (by first | assumption | exact xu_eq _ _ _) | exact (xu_ne (by first | assumption | exact Ne.symm (by assumption))).trans ((xu_ne (by first | assumption | exact Ne.symm (by assumption))).trans (by first | assumption | exact xu_eq _ _ _)) | exact (xu_ne (by first | assumption | exact Ne.symm (by assumption))).trans ((xu_ne (by first | assumption | exact Ne.symm (by assumption))).trans ((xu_ne (by first | assumption | exact Ne.symm (by assumption))).trans (by first | assumption | exact xu_eq _ _ _))))) rfl (by decide) dX4_readDepth_23 rfl rfl rfl (by first | exact Nat.le_of_ble_eq_true rfl | simp [Value.category, rf_cat]) (by omega) xN_no ?_
          first | refine g_ast4 dX4_readDepth_28 rfl (by decide) (k := ?_) | refine g_astR4 dX4_readDepth_28 rfl (by decide) (k := ?_) | refine g_astN4 dX4_readDepth_28 rfl (by decide) (k := ?_)
          first | refine g_aload dX4_readDepth_30 rfl rfl ?_ | refine g_aloadR dX4_readDepth_30 rfl rfl ?_ | refine g_aloadN dX4_readDepth_30 rfl rfl ?_
          refine g_instN q1553 xc_X11.1 (by decide) (xnc (by decide)) dX4_readDepth_32 rfl (by first | assumption | exact Or.inl (by first | assumption | exact xu_eq _ _ _ | exact (xu_ne (by first | assumption | exact Ne.symm (by assumption))).trans (by first | assumption | exact xu_eq _ _ _) | exact (xu_ne (by first | assumption | exact Ne.symm (by assumption))).trans ((xu_ne (by first | assumption | exact Ne.symm (by assumption))).trans (by first | assumption | exact xu_eq _ _ _)) | exact (xu_ne (by first | assumption | exact Ne.symm (by assumption))).trans ((xu_ne (by first | assumption | exact Ne.symm (by assumption))).trans ((xu_ne (by first | assumption | exact Ne.symm (by assumption))).trans (by first | assumption | exact xu_eq _ _ _))))) ?_
          refine g_ifn_eq (tgt := 51) dX4_readDepth_35 (by decide) rfl (by omega) (fun _ => ?_) (fun c_35 => by omega)
          refine g_iconst (v := (nI 0)) dX4_readDepth_51 rfl rfl ?_
          refine g_maxn q1558 dX4_readDepth_52 rfl (by first | exact Nat.le_of_ble_eq_true rfl | simp [Value.category, rf_cat]) (by omega) (by omega) (by omega) ?_
          refine g_ist1 dX4_readDepth_55 rfl (by decide) (k := ?_)
          refine g_incn2 dX4_readDepth_56 rfl (by decide) (k := ?_)
          refine g_goto (tgt := 4) dX4_readDepth_59 (by decide) ?_
          rw [show l1.length + 1 = (l1 ++ [x]).length from by simp]
          refine g_fg _ ?_ (ih (l1 ++ [x]) (max s 0) (by rw [hl]; simp) ?_ ?_)
          · exact ⟨rfl, rfl, rfl, trivial⟩
          · omega
          · rw [← hs, rD, hs1]; omega
        | inr v =>
          obtain ⟨k, p, q, rs, rd⟩ := v
          obtain ⟨sa, bx2, f, hx1, hsa, hp, hq, -, -, -, -, hrd⟩ := sm_str h e
          have hs1 : rD1 T.2.1 x = rd := by unfold rD1; rw [e]
          refine g_iload_n dX4_readDepth_4 rfl rfl rfl ?_
          first | refine g_aload_n dX4_readDepth_5 rfl rfl rfl ?_ | refine g_aload_nR dX4_readDepth_5 rfl rfl rfl ?_ | refine g_aload_nN dX4_readDepth_5 rfl rfl rfl ?_
          refine g_get fl_X4_12_X4 dX4_readDepth_6 rfl (Or.inl (by first | assumption | exact xu_eq _ _ _ | exact (xu_ne (by first | assumption | exact Ne.symm (by assumption))).trans (by first | assumption | exact xu_eq _ _ _) | exact (xu_ne (by first | assumption | exact Ne.symm (by assumption))).trans ((xu_ne (by first | assumption | exact Ne.symm (by assumption))).trans (by first | assumption | exact xu_eq _ _ _)) | exact (xu_ne (by first | assumption | exact Ne.symm (by assumption))).trans ((xu_ne (by first | assumption | exact Ne.symm (by assumption))).trans ((xu_ne (by first | assumption | exact Ne.symm (by assumption))).trans (by first | assumption | exact xu_eq _ _ _))))) rfl ?_
          refine g_ifaceP iI_J26_size_J26 q1479 (c_size (d := d - 1) (by omega) hA) (Or.inl (by first | assumption | exact xu_eq _ _ _ | exact (xu_ne (by first | assumption | exact Ne.symm (by assumption))).trans (by first | assumption | exact xu_eq _ _ _) | exact (xu_ne (by first | assumption | exact Ne.symm (by assumption))).trans ((xu_ne (by first | assumption | exact Ne.symm (by assumption))).trans (by first | assumption | exact xu_eq _ _ _)) | exact (xu_ne (by first | assumption | exact Ne.symm (by assumption))).trans ((xu_ne (by first | assumption | exact Ne.symm (by assumption))).trans ((xu_ne (by first | assumption | exact Ne.symm (by assumption))).trans (by first | assumption | exact xu_eq _ _ _))))) rfl (by decide) dX4_readDepth_9 rfl rfl rfl (by first | exact Nat.le_of_ble_eq_true rfl | simp [Value.category, rf_cat]) (by omega) xN_no ?_
          refine g_icmpn_ge (tgt := 62) dX4_readDepth_14 (by decide) rfl (by omega) (by omega) (fun c_14 => by omega) (fun c_14 => ?_)
          refine g_iload_n dX4_readDepth_17 rfl rfl rfl ?_
          first | refine g_aload_n dX4_readDepth_18 rfl rfl rfl ?_ | refine g_aload_nR dX4_readDepth_18 rfl rfl rfl ?_ | refine g_aload_nN dX4_readDepth_18 rfl rfl rfl ?_
          refine g_get fl_X4_12_X4 dX4_readDepth_19 rfl (Or.inl (by first | assumption | exact xu_eq _ _ _ | exact (xu_ne (by first | assumption | exact Ne.symm (by assumption))).trans (by first | assumption | exact xu_eq _ _ _) | exact (xu_ne (by first | assumption | exact Ne.symm (by assumption))).trans ((xu_ne (by first | assumption | exact Ne.symm (by assumption))).trans (by first | assumption | exact xu_eq _ _ _)) | exact (xu_ne (by first | assumption | exact Ne.symm (by assumption))).trans ((xu_ne (by first | assumption | exact Ne.symm (by assumption))).trans ((xu_ne (by first | assumption | exact Ne.symm (by assumption))).trans (by first | assumption | exact xu_eq _ _ _))))) rfl ?_
          refine g_iload_n dX4_readDepth_22 rfl rfl rfl ?_
          refine g_ifaceP iI_J26_get_J26 q1552 (c_get (d := d - 1) (by omega) hA (by rw [hl]; exact at_mid l1 l2 x)) (Or.inl (by first | assumption | exact xu_eq _ _ _ | exact (xu_ne (by first | assumption | exact Ne.symm (by assumption))).trans (by first | assumption | exact xu_eq _ _ _) | exact (xu_ne (by first | assumption | exact Ne.symm (by assumption))).trans ((xu_ne (by first | assumption | exact Ne.symm (by assumption))).trans (by first | assumption | exact xu_eq _ _ _)) | exact (xu_ne (by first | assumption | exact Ne.symm (by assumption))).trans ((xu_ne (by first | assumption | exact Ne.symm (by assumption))).trans ((xu_ne (by first | assumption | exact Ne.symm (by assumption))).trans (by first | assumption | exact xu_eq _ _ _))))) rfl (by decide) dX4_readDepth_23 rfl rfl rfl (by first | exact Nat.le_of_ble_eq_true rfl | simp [Value.category, rf_cat]) (by omega) xN_no ?_
          first | refine g_ast4 dX4_readDepth_28 rfl (by decide) (k := ?_) | refine g_astR4 dX4_readDepth_28 rfl (by decide) (k := ?_) | refine g_astN4 dX4_readDepth_28 rfl (by decide) (k := ?_)
          first | refine g_aload dX4_readDepth_30 rfl rfl ?_ | refine g_aloadR dX4_readDepth_30 rfl rfl ?_ | refine g_aloadN dX4_readDepth_30 rfl rfl ?_
          refine g_instY q1553 xc_X9.1 (by decide) rfl dX4_readDepth_32 rfl (by first | assumption | exact Or.inl (by first | assumption | exact xu_eq _ _ _ | exact (xu_ne (by first | assumption | exact Ne.symm (by assumption))).trans (by first | assumption | exact xu_eq _ _ _) | exact (xu_ne (by first | assumption | exact Ne.symm (by assumption))).trans ((xu_ne (by first | assumption | exact Ne.symm (by assumption))).trans (by first | assumption | exact xu_eq _ _ _)) | exact (xu_ne (by first | assumption | exact Ne.symm (by assumption))).trans ((xu_ne (by first | assumption | exact Ne.symm (by assumption))).trans ((xu_ne (by first | assumption | exact Ne.symm (by assumption))).trans (by first | assumption | exact xu_eq _ _ _))))) ?_
          refine g_ifn_eq (tgt := 51) dX4_readDepth_35 (by decide) rfl (by omega) (fun c_35 => by omega) (fun _ => ?_)
          first | refine g_aload dX4_readDepth_38 rfl rfl ?_ | refine g_aloadR dX4_readDepth_38 rfl rfl ?_ | refine g_aloadN dX4_readDepth_38 rfl rfl ?_
          refine g_castO q1553 xc_X9.1 (by decide) (Or.inl rfl) dX4_readDepth_40 rfl (by first | assumption | exact Or.inl (by first | assumption | exact xu_eq _ _ _ | exact (xu_ne (by first | assumption | exact Ne.symm (by assumption))).trans (by first | assumption | exact xu_eq _ _ _) | exact (xu_ne (by first | assumption | exact Ne.symm (by assumption))).trans ((xu_ne (by first | assumption | exact Ne.symm (by assumption))).trans (by first | assumption | exact xu_eq _ _ _)) | exact (xu_ne (by first | assumption | exact Ne.symm (by assumption))).trans ((xu_ne (by first | assumption | exact Ne.symm (by assumption))).trans ((xu_ne (by first | assumption | exact Ne.symm (by assumption))).trans (by first | assumption | exact xu_eq _ _ _))))) ?_
          first | refine g_ast3 dX4_readDepth_43 rfl (by decide) (k := ?_) | refine g_astR3 dX4_readDepth_43 rfl (by decide) (k := ?_) | refine g_astN3 dX4_readDepth_43 rfl (by decide) (k := ?_)
          first | refine g_aload_n dX4_readDepth_44 rfl rfl rfl ?_ | refine g_aload_nR dX4_readDepth_44 rfl rfl rfl ?_ | refine g_aload_nN dX4_readDepth_44 rfl rfl rfl ?_
          refine g_get fl_X4_86_X9 dX4_readDepth_45 rfl (Or.inl (by first | assumption | exact xu_eq _ _ _ | exact (xu_ne (by first | assumption | exact Ne.symm (by assumption))).trans (by first | assumption | exact xu_eq _ _ _) | exact (xu_ne (by first | assumption | exact Ne.symm (by assumption))).trans ((xu_ne (by first | assumption | exact Ne.symm (by assumption))).trans (by first | assumption | exact xu_eq _ _ _)) | exact (xu_ne (by first | assumption | exact Ne.symm (by assumption))).trans ((xu_ne (by first | assumption | exact Ne.symm (by assumption))).trans ((xu_ne (by first | assumption | exact Ne.symm (by assumption))).trans (by first | assumption | exact xu_eq _ _ _))))) rfl ?_
          refine g_goto (tgt := 52) dX4_readDepth_48 (by decide) ?_
          refine g_maxn q1558 dX4_readDepth_52 rfl (by first | exact Nat.le_of_ble_eq_true rfl | simp [Value.category, rf_cat]) (by omega) (by omega) (by omega) ?_
          refine g_ist1 dX4_readDepth_55 rfl (by decide) (k := ?_)
          refine g_incn2 dX4_readDepth_56 rfl (by decide) (k := ?_)
          refine g_goto (tgt := 4) dX4_readDepth_59 (by decide) ?_
          rw [show l1.length + 1 = (l1 ++ [x]).length from by simp]
          refine g_fg _ ?_ (ih (l1 ++ [x]) (max s rd) (by rw [hl]; simp) ?_ ?_)
          · exact ⟨rfl, rfl, rfl, trivial⟩
          · omega
          · rw [← hs, rD, hs1]; omega
  refine g_iconst (v := (nI 0)) dX4_readDepth_0 rfl rfl ?_
  refine g_ist1 dX4_readDepth_1 rfl (by decide) (k := ?_)
  refine g_iconst (v := (nI 0)) dX4_readDepth_2 rfl rfl ?_
  refine g_ist2 dX4_readDepth_3 rfl (by decide) (k := ?_)
  exact loop is [] 0 rfl (by omega) (by omega)
end READS
