/-! ITEMS: symbols, structures; what was read -/
set_option maxRecDepth 100000
def rS1 (K : Nat → Option XI) (i : Nat) : Nat := match K i with
  | some (.inr (_, _, _, rs, _)) => rs
  | _ => 1
def rD1 (K : Nat → Option XI) (i : Nat) : Nat := match K i with
  | some (.inr (_, _, _, _, rd)) => rd
  | _ => 0
def rS (K : Nat → Option XI) : List Nat → Nat
  | [] => 0
  | i :: l => rS1 K i + rS K l
def rD (K : Nat → Option XI) : List Nat → Nat
  | [] => 0
  | i :: l => max (rD1 K i) (rD K l)
section ITEMS
variable {w : XW} {id d : Nat}
theorem sm_str {g : XG} {m : XM} {T : XT} (h : SM w g m id T) {i k p q rs rd : Nat} (hi : T.2.1 i = some (.inr (k, p, q, rs, rd))) : ∃ sa bx f, m i = some (.inr (7, [va_rf (T.2.2 i), .int (nI k), .ref sa, .int (nI rs), .int (nI rd), va_rf bx])) ∧ m sa = some (rA 6 (if k = 1 then 2 else 1) f) ∧ f 0 = some p ∧ (k = 1 → f 1 = some q) ∧ g sa = (id, 4, i) ∧ g i = (id, 3, i) ∧ 1 ≤ k ∧ k < 6 ∧ rd < 10000 := by
  obtain ⟨h1, sa, bx, f, h2, h3, h4, h5, h6, h7⟩ := h.2 i _ hi
  exact ⟨sa, bx, f, h2, h3, h4, h5, h6, h1, h7⟩
theorem sm_sym {g : XG} {m : XM} {T : XT} (h : SM w g m id T) {i c : Nat} (hi : T.2.1 i = some (.inl c)) : m i = some (.inr (9, [va_rf (T.2.2 i), .int (nI c)])) ∧ c < 65536 := (h.2 i _ hi).2
theorem c_X8i {m : XM} {a : Nat} (hd : 2 ≤ d) : CT w MX8_init d 0 0 [.ref a] m (xRet none m) xN := by
  refine ct_intro (lv := [some (.ref a)]) 0 (by decide) rfl (Nat.le_of_ble_eq_true rfl) rfl ?_
  first | refine g_aload_n dX8_init_0 rfl rfl rfl ?_ | refine g_aload_nR dX8_init_0 rfl rfl rfl ?_ | refine g_aload_nN dX8_init_0 rfl rfl rfl ?_
  refine g_objInit q1546 q110 q111 dX8_init_1 rfl (by omega) (by first | exact Nat.le_of_ble_eq_true rfl | simp [Value.category, rf_cat]) ?_
  exact g_return dX8_init_4 rfl ⟨rfl, rfl⟩
theorem nI_u {c : Nat} (h : c < 65536) : (nI c).toUInt32.toNat = c := by
  show (BitVec.ofInt 32 c).toNat = c
  simp [BitVec.toNat_ofInt]; omega
theorem nI_i2c {c : Nat} (h : c < 65536) : ((nI c).toUInt32 % 65536).toInt32 = nI c := by
  have : (nI c).toUInt32 % 65536 = (nI c).toUInt32 := by
    apply UInt32.toNat_inj.mp
    rw [UInt32.toNat_mod, nI_u h]
    exact Nat.mod_eq_of_lt h
  rw [this]; rfl
theorem nI_nch {c : Nat} (h : c < 65536) : narrow .char (.int (nI c)) = .int (nI c) := by
  show Value.int (nI c).toUInt32.toUInt16.toUInt32.toInt32 = _
  have : (nI c).toUInt32.toUInt16.toUInt32 = (nI c).toUInt32 := by
    apply UInt32.toNat_inj.mp
    rw [UInt16.toNat_toUInt32, UInt32.toNat_toUInt16, nI_u h]
    exact Nat.mod_eq_of_lt h
  rw [this]; rfl
theorem nI_fch {c : Nat} (h : c < 65536) : fits .char (.int (nI c)) = true := by
  show (decide (0 ≤ nI c) && decide (nI c ≤ 65535)) = true
  have e : (nI c).toInt = c := nI_toInt (by omega)
  rw [Bool.and_eq_true, decide_eq_true_eq, decide_eq_true_eq, Int32.le_iff_toInt_le, Int32.le_iff_toInt_le, e]
  exact ⟨Int.natCast_nonneg c, by show (c : Int) ≤ 65535; omega⟩
theorem c_syminit {g : XG} {m : XM} {T : XT} {a c : Nat} (hd : 3 ≤ d) (h : SM w g m id T) (hn : m a = none) (hc : c < 65536) : CT w MX11_init d 0 0 [.ref a, .int (nI c)] (xu m a (.inr (9, [.null, .int 0]))) (fun v m' => none = v ∧ ∃ g', SM w g' m' id (T.1, uF T.2.1 a (some (.inl c)), uF T.2.2 a none) ∧ Fr id g m g' m') xN := by
  refine ct_intro (lv := [some (.ref a), some (.int (nI c))]) 0 (by decide) rfl (Nat.le_of_ble_eq_true rfl) rfl ?_
  first | refine g_aload_n dX11_init_0 rfl rfl rfl ?_ | refine g_aload_nR dX11_init_0 rfl rfl rfl ?_ | refine g_aload_nN dX11_init_0 rfl rfl rfl ?_
  refine g_ctorNP iC_X8_init q1612 (c_X8i (d := d - 1) (by omega)) dX11_init_1 rfl rfl rfl (by first | exact Nat.le_of_ble_eq_true rfl | simp [Value.category, rf_cat]) (by omega) xN_no ?_
  first | refine g_aload_n dX11_init_4 rfl rfl rfl ?_ | refine g_aload_nR dX11_init_4 rfl rfl rfl ?_ | refine g_aload_nN dX11_init_4 rfl rfl rfl ?_
  refine g_iload_n dX11_init_5 rfl rfl rfl ?_
  refine g_i2c dX11_init_6 rfl (nI_i2c hc) ?_
  refine g_put1 fl_X11_7_X11 dX11_init_7 rfl (xu_eq _ _ _) (nI_nch hc) (nI_fch hc) ?_
  rw [xu_xu]
  refine g_return dX11_init_10 rfl ⟨rfl, uF g a (id, 3, a), sm_addK (sm_n h hn) ⟨uF_eq _ _ _, xu_eq _ _ _, hc⟩, fr_n hn⟩
theorem c_symcopy {g : XG} {m : XM} {T : XT} {i c : Nat} {ro : Value} (hd : 4 ≤ d) (h : SM w g m id T) (hi : m i = some (.inr (9, [ro, .int (nI c)]))) (hc : c < 65536) : CT w MX11_copy d 1 2 [.ref i] m (fun v m' => ∃ a g', some (.ref a) = v ∧ m a = none ∧ SM w g' m' id (T.1, uF T.2.1 a (some (.inl c)), uF T.2.2 a none) ∧ Fr id g m g' m') xN := by
  refine ct_intro (lv := [some (.ref i)]) 0 (by decide) rfl (Nat.le_of_ble_eq_true rfl) rfl ?_
  refine g_new nw_X11_8 dX11_copy_0 rfl (by omega) (by omega) (fun a_0 hno_0 hb_0 => ?_)
  refine g_dup dX11_copy_3 rfl (by first | rfl | exact rf_cat _) ?_
  first | refine g_aload_n dX11_copy_4 rfl rfl rfl ?_ | refine g_aload_nR dX11_copy_4 rfl rfl rfl ?_ | refine g_aload_nN dX11_copy_4 rfl rfl rfl ?_
  have hia : i ≠ a_0 := fun e => by subst e; rw [hno_0] at hi; cases hi
  refine g_get fl_X11_7_X11 dX11_copy_5 rfl (Or.inl (by first | assumption | exact xu_eq _ _ _ | exact (xu_ne (by first | assumption | exact Ne.symm (by assumption))).trans (by first | assumption | exact xu_eq _ _ _) | exact (xu_ne (by first | assumption | exact Ne.symm (by assumption))).trans ((xu_ne (by first | assumption | exact Ne.symm (by assumption))).trans (by first | assumption | exact xu_eq _ _ _)) | exact (xu_ne (by first | assumption | exact Ne.symm (by assumption))).trans ((xu_ne (by first | assumption | exact Ne.symm (by assumption))).trans ((xu_ne (by first | assumption | exact Ne.symm (by assumption))).trans (by first | assumption | exact xu_eq _ _ _))))) rfl ?_
  refine g_ctor iC_X11_init q2118 (c_syminit (d := d - 1) (by omega) h hno_0 hc) dX11_copy_8 rfl rfl rfl (by first | exact Nat.le_of_ble_eq_true rfl | simp [Value.category, rf_cat]) (by omega) (by omega) (by omega) xN_no (fun v_8 m_8 h_8 => ?_)
  obtain ⟨rfl, g1, hS1, hF1⟩ := h_8
  exact g_areturn dX11_copy_11 rfl (Or.inl ⟨_, rfl⟩) (Or.inr ⟨_, rfl⟩) ⟨a_0, g1, rfl, hno_0, hS1, hF1⟩
section ACC
variable {g : XG} {m : XM} {T : XT}
theorem c_Xsize {i c : Nat} (hd : 1 ≤ d) : CT w MX11_size d 0 0 [.ref i] m (xRet (some (.int (nI 1))) m) xN := by
  refine ct_intro (lv := [some (.ref i)]) 0 (by decide) rfl (Nat.le_of_ble_eq_true rfl) rfl ?_
  refine g_iconst (v := (nI 1)) dX11_size_0 rfl rfl ?_
  refine g_ireturn dX11_size_1 rfl ?_
  exact ⟨by first | rfl | simp [*], rfl⟩
theorem c_Xdepth {i : Nat} (hd : 1 ≤ d) : CT w MX11_depth d 0 0 [.ref i] m (xRet (some (.int (nI 0))) m) xN := by
  refine ct_intro (lv := [some (.ref i)]) 0 (by decide) rfl (Nat.le_of_ble_eq_true rfl) rfl ?_
  refine g_iconst (v := (nI 0)) dX11_depth_0 rfl rfl ?_
  refine g_ireturn dX11_depth_1 rfl ?_
  exact ⟨by first | rfl | simp [*], rfl⟩
theorem c_Xcode {i c : Nat} {ro : Value} (hd : 1 ≤ d) (hi : m i = some (.inr (9, [ro, .int (nI c)]))) : CT w MX11_code d 0 0 [.ref i] m (xRet (some (.int (nI c))) m) xN := by
  refine ct_intro (lv := [some (.ref i)]) 0 (by decide) rfl (Nat.le_of_ble_eq_true rfl) rfl ?_
  first | refine g_aload_n dX11_code_0 rfl rfl rfl ?_ | refine g_aload_nR dX11_code_0 rfl rfl rfl ?_ | refine g_aload_nN dX11_code_0 rfl rfl rfl ?_
  refine g_get fl_X11_7_X11 dX11_code_1 rfl (Or.inl (by first | assumption | exact xu_eq _ _ _ | exact (xu_ne (by first | assumption | exact Ne.symm (by assumption))).trans (by first | assumption | exact xu_eq _ _ _) | exact (xu_ne (by first | assumption | exact Ne.symm (by assumption))).trans ((xu_ne (by first | assumption | exact Ne.symm (by assumption))).trans (by first | assumption | exact xu_eq _ _ _)) | exact (xu_ne (by first | assumption | exact Ne.symm (by assumption))).trans ((xu_ne (by first | assumption | exact Ne.symm (by assumption))).trans ((xu_ne (by first | assumption | exact Ne.symm (by assumption))).trans (by first | assumption | exact xu_eq _ _ _))))) rfl ?_
  refine g_ireturn dX11_code_4 rfl ?_
  exact ⟨by first | rfl | simp [*], rfl⟩
theorem c_Scode {i k : Nat} {ro sa rs rd bx : Value} (hd : 1 ≤ d) (hi : m i = some (.inr (7, [ro, .int (nI k), sa, rs, rd, bx]))) : CT w MX9_code d 0 0 [.ref i] m (xRet (some (.int (nI k))) m) xN := by
  refine ct_intro (lv := [some (.ref i)]) 0 (by decide) rfl (Nat.le_of_ble_eq_true rfl) rfl ?_
  first | refine g_aload_n dX9_code_0 rfl rfl rfl ?_ | refine g_aload_nR dX9_code_0 rfl rfl rfl ?_ | refine g_aload_nN dX9_code_0 rfl rfl rfl ?_
  refine g_get fl_X9_9_X9 dX9_code_1 rfl (Or.inl (by first | assumption | exact xu_eq _ _ _ | exact (xu_ne (by first | assumption | exact Ne.symm (by assumption))).trans (by first | assumption | exact xu_eq _ _ _) | exact (xu_ne (by first | assumption | exact Ne.symm (by assumption))).trans ((xu_ne (by first | assumption | exact Ne.symm (by assumption))).trans (by first | assumption | exact xu_eq _ _ _)) | exact (xu_ne (by first | assumption | exact Ne.symm (by assumption))).trans ((xu_ne (by first | assumption | exact Ne.symm (by assumption))).trans ((xu_ne (by first | assumption | exact Ne.symm (by assumption))).trans (by first | assumption | exact xu_eq _ _ _))))) rfl ?_
  refine g_ireturn dX9_code_4 rfl ?_
  exact ⟨by first | rfl | simp [*], rfl⟩
theorem c_SisBase {i k : Nat} {ro sa rs rd bx : Value} (hd : 1 ≤ d) (hk : k < 6) (hi : m i = some (.inr (7, [ro, .int (nI k), sa, rs, rd, bx]))) : CT w MX9_isBase d 0 0 [.ref i] m (xRet (some (.int (xB (decide (k = 4 ∨ k = 5))))) m) xN := by
  refine ct_intro (lv := [some (.ref i)]) 0 (by decide) rfl (Nat.le_of_ble_eq_true rfl) rfl ?_
  first | refine g_aload_n dX9_isBase_0 rfl rfl rfl ?_ | refine g_aload_nR dX9_isBase_0 rfl rfl rfl ?_ | refine g_aload_nN dX9_isBase_0 rfl rfl rfl ?_
  refine g_get fl_X9_9_X9 dX9_isBase_1 rfl (Or.inl (by first | assumption | exact xu_eq _ _ _ | exact (xu_ne (by first | assumption | exact Ne.symm (by assumption))).trans (by first | assumption | exact xu_eq _ _ _) | exact (xu_ne (by first | assumption | exact Ne.symm (by assumption))).trans ((xu_ne (by first | assumption | exact Ne.symm (by assumption))).trans (by first | assumption | exact xu_eq _ _ _)) | exact (xu_ne (by first | assumption | exact Ne.symm (by assumption))).trans ((xu_ne (by first | assumption | exact Ne.symm (by assumption))).trans ((xu_ne (by first | assumption | exact Ne.symm (by assumption))).trans (by first | assumption | exact xu_eq _ _ _))))) rfl ?_
  refine g_iconst (v := (nI 4)) dX9_isBase_4 rfl rfl ?_
  refine g_icmpn_eq (tgt := 16) dX9_isBase_5 (by decide) rfl (by omega) (by omega) (fun c_5 => ?_) (fun c_5 => ?_)
  · refine g_iconst (v := (nI 1)) dX9_isBase_16 rfl rfl ?_
    refine g_goto (tgt := 21) dX9_isBase_17 (by decide) ?_
    refine g_zreturn dX9_isBase_21 rfl rfl ?_
    exact ⟨by simp [*]; rfl, rfl⟩
  · first | refine g_aload_n dX9_isBase_8 rfl rfl rfl ?_ | refine g_aload_nR dX9_isBase_8 rfl rfl rfl ?_ | refine g_aload_nN dX9_isBase_8 rfl rfl rfl ?_
    refine g_get fl_X9_9_X9 dX9_isBase_9 rfl (Or.inl (by first | assumption | exact xu_eq _ _ _ | exact (xu_ne (by first | assumption | exact Ne.symm (by assumption))).trans (by first | assumption | exact xu_eq _ _ _) | exact (xu_ne (by first | assumption | exact Ne.symm (by assumption))).trans ((xu_ne (by first | assumption | exact Ne.symm (by assumption))).trans (by first | assumption | exact xu_eq _ _ _)) | exact (xu_ne (by first | assumption | exact Ne.symm (by assumption))).trans ((xu_ne (by first | assumption | exact Ne.symm (by assumption))).trans ((xu_ne (by first | assumption | exact Ne.symm (by assumption))).trans (by first | assumption | exact xu_eq _ _ _))))) rfl ?_
    refine g_iconst (v := (nI 5)) dX9_isBase_12 rfl rfl ?_
    refine g_icmpn_ne (tgt := 20) dX9_isBase_13 (by decide) rfl (by omega) (by omega) (fun c_13 => ?_) (fun c_13 => ?_)
    · refine g_iconst (v := (nI 0)) dX9_isBase_20 rfl rfl ?_
      refine g_zreturn dX9_isBase_21 rfl rfl ?_
      exact ⟨by simp [*]; rfl, rfl⟩
    · refine g_iconst (v := (nI 1)) dX9_isBase_16 rfl rfl ?_
      refine g_goto (tgt := 21) dX9_isBase_17 (by decide) ?_
      refine g_zreturn dX9_isBase_21 rfl rfl ?_
      exact ⟨by simp [*]; rfl, rfl⟩
theorem c_SisScript {i k : Nat} {ro sa rs rd bx : Value} (hd : 1 ≤ d) (hk : k < 6) (hi : m i = some (.inr (7, [ro, .int (nI k), sa, rs, rd, bx]))) : CT w MX9_isScript d 0 0 [.ref i] m (xRet (some (.int (xB (decide (k = 2 ∨ k = 3))))) m) xN := by
  refine ct_intro (lv := [some (.ref i)]) 0 (by decide) rfl (Nat.le_of_ble_eq_true rfl) rfl ?_
  first | refine g_aload_n dX9_isScript_0 rfl rfl rfl ?_ | refine g_aload_nR dX9_isScript_0 rfl rfl rfl ?_ | refine g_aload_nN dX9_isScript_0 rfl rfl rfl ?_
  refine g_get fl_X9_9_X9 dX9_isScript_1 rfl (Or.inl (by first | assumption | exact xu_eq _ _ _ | exact (xu_ne (by first | assumption | exact Ne.symm (by assumption))).trans (by first | assumption | exact xu_eq _ _ _) | exact (xu_ne (by first | assumption | exact Ne.symm (by assumption))).trans ((xu_ne (by first | assumption | exact Ne.symm (by assumption))).trans (by first | assumption | exact xu_eq _ _ _)) | exact (xu_ne (by first | assumption | exact Ne.symm (by assumption))).trans ((xu_ne (by first | assumption | exact Ne.symm (by assumption))).trans ((xu_ne (by first | assumption | exact Ne.symm (by assumption))).trans (by first | assumption | exact xu_eq _ _ _))))) rfl ?_
  refine g_iconst (v := (nI 2)) dX9_isScript_4 rfl rfl ?_
  refine g_icmpn_eq (tgt := 16) dX9_isScript_5 (by decide) rfl (by omega) (by omega) (fun c_5 => ?_) (fun c_5 => ?_)
  · refine g_iconst (v := (nI 1)) dX9_isScript_16 rfl rfl ?_
    refine g_goto (tgt := 21) dX9_isScript_17 (by decide) ?_
    refine g_zreturn dX9_isScript_21 rfl rfl ?_
    exact ⟨by simp [*]; rfl, rfl⟩
  · first | refine g_aload_n dX9_isScript_8 rfl rfl rfl ?_ | refine g_aload_nR dX9_isScript_8 rfl rfl rfl ?_ | refine g_aload_nN dX9_isScript_8 rfl rfl rfl ?_
    refine g_get fl_X9_9_X9 dX9_isScript_9 rfl (Or.inl (by first | assumption | exact xu_eq _ _ _ | exact (xu_ne (by first | assumption | exact Ne.symm (by assumption))).trans (by first | assumption | exact xu_eq _ _ _) | exact (xu_ne (by first | assumption | exact Ne.symm (by assumption))).trans ((xu_ne (by first | assumption | exact Ne.symm (by assumption))).trans (by first | assumption | exact xu_eq _ _ _)) | exact (xu_ne (by first | assumption | exact Ne.symm (by assumption))).trans ((xu_ne (by first | assumption | exact Ne.symm (by assumption))).trans ((xu_ne (by first | assumption | exact Ne.symm (by assumption))).trans (by first | assumption | exact xu_eq _ _ _))))) rfl ?_
    refine g_iconst (v := (nI 3)) dX9_isScript_12 rfl rfl ?_
    refine g_icmpn_ne (tgt := 20) dX9_isScript_13 (by decide) rfl (by omega) (by omega) (fun c_13 => ?_) (fun c_13 => ?_)
    · refine g_iconst (v := (nI 0)) dX9_isScript_20 rfl rfl ?_
      refine g_zreturn dX9_isScript_21 rfl rfl ?_
      exact ⟨by simp [*]; rfl, rfl⟩
    · refine g_iconst (v := (nI 1)) dX9_isScript_16 rfl rfl ?_
      refine g_goto (tgt := 21) dX9_isScript_17 (by decide) ?_
      refine g_zreturn dX9_isScript_21 rfl rfl ?_
      exact ⟨by simp [*]; rfl, rfl⟩
theorem c_last {i k sa p q : Nat} {f : Nat → Option Nat} {ro rs rd bx : Value} (hd : 1 ≤ d) (hi : m i = some (.inr (7, [ro, .int (nI k), .ref sa, rs, rd, bx]))) (hsa : m sa = some (rA 6 (if k = 1 then 2 else 1) f)) (hp : f 0 = some p) (hq : k = 1 → f 1 = some q) : CT w MX9_last d 0 0 [.ref i] m (xRet (some (.ref (if k = 1 then q else p))) m) xN := by
  refine ct_intro (lv := [some (.ref i)]) 0 (by decide) rfl (Nat.le_of_ble_eq_true rfl) rfl ?_
  by_cases hk : k = 1
  · rw [if_pos hk] at hsa ⊢
    first | refine g_aload_n dX9_last_0 rfl rfl rfl ?_ | refine g_aload_nR dX9_last_0 rfl rfl rfl ?_ | refine g_aload_nN dX9_last_0 rfl rfl rfl ?_
    refine g_get fl_X9_15_X9 dX9_last_1 rfl (Or.inl (by first | assumption | exact xu_eq _ _ _ | exact (xu_ne (by first | assumption | exact Ne.symm (by assumption))).trans (by first | assumption | exact xu_eq _ _ _) | exact (xu_ne (by first | assumption | exact Ne.symm (by assumption))).trans ((xu_ne (by first | assumption | exact Ne.symm (by assumption))).trans (by first | assumption | exact xu_eq _ _ _)) | exact (xu_ne (by first | assumption | exact Ne.symm (by assumption))).trans ((xu_ne (by first | assumption | exact Ne.symm (by assumption))).trans ((xu_ne (by first | assumption | exact Ne.symm (by assumption))).trans (by first | assumption | exact xu_eq _ _ _))))) rfl ?_
    first | refine g_aload_n dX9_last_4 rfl rfl rfl ?_ | refine g_aload_nR dX9_last_4 rfl rfl rfl ?_ | refine g_aload_nN dX9_last_4 rfl rfl rfl ?_
    refine g_get fl_X9_15_X9 dX9_last_5 rfl (Or.inl (by first | assumption | exact xu_eq _ _ _ | exact (xu_ne (by first | assumption | exact Ne.symm (by assumption))).trans (by first | assumption | exact xu_eq _ _ _) | exact (xu_ne (by first | assumption | exact Ne.symm (by assumption))).trans ((xu_ne (by first | assumption | exact Ne.symm (by assumption))).trans (by first | assumption | exact xu_eq _ _ _)) | exact (xu_ne (by first | assumption | exact Ne.symm (by assumption))).trans ((xu_ne (by first | assumption | exact Ne.symm (by assumption))).trans ((xu_ne (by first | assumption | exact Ne.symm (by assumption))).trans (by first | assumption | exact xu_eq _ _ _))))) rfl ?_
    refine g_alenq (t := 6) rfl dX9_last_8 rfl (by first | assumption | exact Or.inl (by first | assumption | exact xu_eq _ _ _ | exact (xu_ne (by first | assumption | exact Ne.symm (by assumption))).trans (by first | assumption | exact xu_eq _ _ _) | exact (xu_ne (by first | assumption | exact Ne.symm (by assumption))).trans ((xu_ne (by first | assumption | exact Ne.symm (by assumption))).trans (by first | assumption | exact xu_eq _ _ _)) | exact (xu_ne (by first | assumption | exact Ne.symm (by assumption))).trans ((xu_ne (by first | assumption | exact Ne.symm (by assumption))).trans ((xu_ne (by first | assumption | exact Ne.symm (by assumption))).trans (by first | assumption | exact xu_eq _ _ _))))) ?_
    refine g_iconst (v := (nI 1)) dX9_last_9 rfl rfl ?_
    refine g_isubn dX9_last_10 rfl (by omega) ?_
    refine g_aaldn (t := 6) rfl dX9_last_11 rfl (by first | assumption | exact Or.inl (by first | assumption | exact xu_eq _ _ _ | exact (xu_ne (by first | assumption | exact Ne.symm (by assumption))).trans (by first | assumption | exact xu_eq _ _ _) | exact (xu_ne (by first | assumption | exact Ne.symm (by assumption))).trans ((xu_ne (by first | assumption | exact Ne.symm (by assumption))).trans (by first | assumption | exact xu_eq _ _ _)) | exact (xu_ne (by first | assumption | exact Ne.symm (by assumption))).trans ((xu_ne (by first | assumption | exact Ne.symm (by assumption))).trans ((xu_ne (by first | assumption | exact Ne.symm (by assumption))).trans (by first | assumption | exact xu_eq _ _ _))))) (by omega) (by omega) ?_
    rw [show f (2 - 1) = some q from hq hk]
    refine g_areturn dX9_last_12 rfl (Or.inl ⟨_, rfl⟩) (by first | exact Or.inr ⟨_, rfl⟩ | exact Or.inl rfl | exact rf_is _) ?_
    exact ⟨by first | rfl | simp [*], rfl⟩
  · rw [if_neg hk] at hsa ⊢
    first | refine g_aload_n dX9_last_0 rfl rfl rfl ?_ | refine g_aload_nR dX9_last_0 rfl rfl rfl ?_ | refine g_aload_nN dX9_last_0 rfl rfl rfl ?_
    refine g_get fl_X9_15_X9 dX9_last_1 rfl (Or.inl (by first | assumption | exact xu_eq _ _ _ | exact (xu_ne (by first | assumption | exact Ne.symm (by assumption))).trans (by first | assumption | exact xu_eq _ _ _) | exact (xu_ne (by first | assumption | exact Ne.symm (by assumption))).trans ((xu_ne (by first | assumption | exact Ne.symm (by assumption))).trans (by first | assumption | exact xu_eq _ _ _)) | exact (xu_ne (by first | assumption | exact Ne.symm (by assumption))).trans ((xu_ne (by first | assumption | exact Ne.symm (by assumption))).trans ((xu_ne (by first | assumption | exact Ne.symm (by assumption))).trans (by first | assumption | exact xu_eq _ _ _))))) rfl ?_
    first | refine g_aload_n dX9_last_4 rfl rfl rfl ?_ | refine g_aload_nR dX9_last_4 rfl rfl rfl ?_ | refine g_aload_nN dX9_last_4 rfl rfl rfl ?_
    refine g_get fl_X9_15_X9 dX9_last_5 rfl (Or.inl (by first | assumption | exact xu_eq _ _ _ | exact (xu_ne (by first | assumption | exact Ne.symm (by assumption))).trans (by first | assumption | exact xu_eq _ _ _) | exact (xu_ne (by first | assumption | exact Ne.symm (by assumption))).trans ((xu_ne (by first | assumption | exact Ne.symm (by assumption))).trans (by first | assumption | exact xu_eq _ _ _)) | exact (xu_ne (by first | assumption | exact Ne.symm (by assumption))).trans ((xu_ne (by first | assumption | exact Ne.symm (by assumption))).trans ((xu_ne (by first | assumption | exact Ne.symm (by assumption))).trans (by first | assumption | exact xu_eq _ _ _))))) rfl ?_
    refine g_alenq (t := 6) rfl dX9_last_8 rfl (by first | assumption | exact Or.inl (by first | assumption | exact xu_eq _ _ _ | exact (xu_ne (by first | assumption | exact Ne.symm (by assumption))).trans (by first | assumption | exact xu_eq _ _ _) | exact (xu_ne (by first | assumption | exact Ne.symm (by assumption))).trans ((xu_ne (by first | assumption | exact Ne.symm (by assumption))).trans (by first | assumption | exact xu_eq _ _ _)) | exact (xu_ne (by first | assumption | exact Ne.symm (by assumption))).trans ((xu_ne (by first | assumption | exact Ne.symm (by assumption))).trans ((xu_ne (by first | assumption | exact Ne.symm (by assumption))).trans (by first | assumption | exact xu_eq _ _ _))))) ?_
    refine g_iconst (v := (nI 1)) dX9_last_9 rfl rfl ?_
    refine g_isubn dX9_last_10 rfl (by omega) ?_
    refine g_aaldn (t := 6) rfl dX9_last_11 rfl (by first | assumption | exact Or.inl (by first | assumption | exact xu_eq _ _ _ | exact (xu_ne (by first | assumption | exact Ne.symm (by assumption))).trans (by first | assumption | exact xu_eq _ _ _) | exact (xu_ne (by first | assumption | exact Ne.symm (by assumption))).trans ((xu_ne (by first | assumption | exact Ne.symm (by assumption))).trans (by first | assumption | exact xu_eq _ _ _)) | exact (xu_ne (by first | assumption | exact Ne.symm (by assumption))).trans ((xu_ne (by first | assumption | exact Ne.symm (by assumption))).trans ((xu_ne (by first | assumption | exact Ne.symm (by assumption))).trans (by first | assumption | exact xu_eq _ _ _))))) (by omega) (by omega) ?_
    rw [show f (1 - 1) = some p from hp]
    refine g_areturn dX9_last_12 rfl (Or.inl ⟨_, rfl⟩) (by first | exact Or.inr ⟨_, rfl⟩ | exact Or.inl rfl | exact rf_is _) ?_
    exact ⟨by first | rfl | simp [*], rfl⟩
end ACC
end ITEMS
