/-! TWIN: the reader's factors and chains -/
set_option maxRecDepth 100000
section TW26
variable {w : XW} {d : Nat} {m : XM} {A : Nat → Nat} {rf ts ac ls rs : Int32} {F : Nat → Nat → Int32}
def tenL : Nat → Int64
  | 0 => 1
  | n + 1 => tenL n * 10
theorem t_tenTo {n : Nat} (hd : 1 ≤ d) (hn : n ≤ 1000) : CT w MX5_tenTo d 0 0 [.int (nI n)] m (xRet (some (.long (tenL n))) m) xN := by
  have loop : ∀ t k, n - k < t → k ≤ n → G w MX5_tenTo (xZ w (xRet (some (.long (tenL n))) m) xN) d 0 0 4 [some (.int (nI n)), some (.long (tenL k)), none, some (.int (nI k))] [] m := by
    intro t
    induction t with
    | zero => intro k h; omega
    | succ t ih =>
      intro k h hk
      refine g_iload_n dX5_tenTo_4 rfl rfl rfl ?_
      refine g_iload_n dX5_tenTo_5 rfl rfl rfl ?_
      refine g_icmpn_ge (tgt := 21) dX5_tenTo_6 (by decide) rfl (by omega) (by omega) (fun c_6 => ?_) (fun c_6 => ?_)
      · refine g_lload_n dX5_tenTo_21 rfl rfl rfl ?_
        refine g_lreturn dX5_tenTo_22 rfl ?_
        obtain rfl : k = n := by omega
        exact ⟨rfl, rfl⟩
      · refine g_lload_n dX5_tenTo_9 rfl rfl rfl ?_
        refine g_ldc2 dX5_tenTo_10 rfl q2702 ?_
        refine g_lmul dX5_tenTo_13 rfl ?_
        refine g_lst1 dX5_tenTo_14 rfl (by decide) (k := ?_)
        refine g_incn3 dX5_tenTo_15 rfl (by decide) (k := ?_)
        refine g_goto (tgt := 4) dX5_tenTo_18 (by decide) ?_
        exact ih (k + 1) (by omega) (by omega)
  refine ct_intro (lv := [some (.int (nI n)), none, none, none]) 3 (by decide) rfl (Nat.le_of_ble_eq_true rfl) rfl ?_
  refine g_lconst (v := 1) dX5_tenTo_0 rfl rfl ?_
  refine g_lst1 dX5_tenTo_1 rfl (by decide) (k := ?_)
  refine g_iconst (v := (nI 0)) dX5_tenTo_2 rfl rfl ?_
  refine g_ist3 dX5_tenTo_3 rfl (by decide) (k := ?_)
  exact loop (n + 1) 0 (by omega) (by omega)
/-- what is read, without the first and the last sign of a factor -/
def unwK (g : Nat → Int32) (fa k : Nat) : Nat → Int32 := fun j => if fa ≤ j ∧ j < k then g (j + 1) else g j
theorem unwK_0 (g : Nat → Int32) (fa : Nat) : unwK g fa fa = g := by
  funext j; unfold unwK; rw [if_neg (by omega)]
theorem unwK_s (g : Nat → Int32) {fa k : Nat} (h : fa ≤ k) : upd (unwK g fa k) k (g (k + 1)) = unwK g fa (k + 1) := by
  funext j
  by_cases hj : j = k
  · subst hj; rw [upd_eq]; unfold unwK; rw [if_pos (by omega)]
  · rw [upd_ne hj]; unfold unwK
    by_cases h1 : fa ≤ j ∧ j < k
    · rw [if_pos h1, if_pos (by omega)]
    · rw [if_neg h1, if_neg (by omega)]
def unwF (F : Nat → Nat → Int32) (b : Bool) (n fa dp : Nat) : Nat → Nat → Int32 := fset (if b = true then fset F 12 (unwK (F 12) fa (n - 2)) else F) 17 (upd (F 17) dp 0)
def unwN (b : Bool) (n : Nat) : Nat := if b = true then n - 2 else n
theorem t_unwrap {n fa dp : Nat} {b : Bool} (hd : 1 ≤ d) (hn : n ≤ 512) (hdp : dp < 128) (hb : F 17 dp = xB b) (hfa : b = true → F 16 dp = nI fa ∧ fa + 2 ≤ n) (hT : TM A rf ts ac ls (nI n) (nI dp) F m) : CT w MX5_unwrap d 0 0 [.ref (A 0)] m (tP A m none rf ts ac ls (nI (unwN b n)) (nI dp) (unwF F b n fa dp)) xN := by
  have hO := xo_rf A m
  cases b with
  | false =>
    refine ct_intro (lv := [some (.ref (A 0)), none]) 1 (by decide) rfl (Nat.le_of_ble_eq_true rfl) rfl ?_
    refine g_aload_n dX5_unwrap_0 rfl rfl rfl ?_
    refine g_get fl_X5_47_X5 dX5_unwrap_1 rfl (Or.inl (tm_o hT)) rfl ?_
    refine g_aload_n dX5_unwrap_4 rfl rfl rfl ?_
    refine g_get fl_X5_156_X5 dX5_unwrap_5 rfl (Or.inl (tm_o hT)) rfl ?_
    refine t_zaldn (k := 17) (N := 128) (f := F 17) hT rfl rfl rfl (by first | rfl | assumption) dX5_unwrap_8 rfl (by omega) ?_
    rw [hb]
    refine g_ifB_eq (tgt := 72) dX5_unwrap_9 (by decide) rfl (fun c_9 => ?_) (fun c_9 => ?_)
    · refine g_aload_n dX5_unwrap_72 rfl rfl rfl ?_
      refine g_get fl_X5_47_X5 dX5_unwrap_73 rfl (Or.inl (tm_o hT)) rfl ?_
      refine g_aload_n dX5_unwrap_76 rfl rfl rfl ?_
      refine g_get fl_X5_156_X5 dX5_unwrap_77 rfl (Or.inl (tm_o hT)) rfl ?_
      refine g_iconst (v := 0) dX5_unwrap_80 rfl rfl ?_
      refine t_zastn (k := 17) (N := 128) (f := F 17) hT hO rfl rfl rfl (by first | rfl | assumption) dX5_unwrap_81 rfl (by omega) (by first | rfl | exact xB_nar _) (fun m_81 f_81 e_81 hT hO => ?_)
      refine g_return dX5_unwrap_82 rfl ?_
      refine ⟨rfl, ?_, hO⟩
      rw [e_81] at hT
      exact hT
    · cases c_9
  | true =>
    obtain ⟨hfa1, hfa2⟩ := hfa rfl
    have fin : ∀ m' o1, TM A rf ts ac ls (nI (n - 1)) (nI dp) (fset F 12 (unwK (F 12) fa (n - 2))) m' → XOf A m m' → G w MX5_unwrap (xZ w (tP A m none rf ts ac ls (nI (unwN true n)) (nI dp) (unwF F true n fa dp)) xN) d 0 0 62 [some (.ref (A 0)), o1] [] m' := by
      intro m' o1 hT hO
      refine g_aload_n dX5_unwrap_62 rfl rfl rfl ?_
      refine g_dup dX5_unwrap_63 rfl (by first | rfl | exact rf_cat _) ?_
      refine g_get fl_X5_153_X5 dX5_unwrap_64 rfl (Or.inl (tm_o hT)) rfl ?_
      refine g_iconst (v := (nI 1)) dX5_unwrap_67 rfl rfl ?_
      refine g_isubn dX5_unwrap_68 rfl (by omega) ?_
      refine t_put13 hT hO fl_X5_153_X5 dX5_unwrap_69 rfl (fun m_69 hT hO => ?_)
      refine g_aload_n dX5_unwrap_72 rfl rfl rfl ?_
      refine g_get fl_X5_47_X5 dX5_unwrap_73 rfl (Or.inl (tm_o hT)) rfl ?_
      refine g_aload_n dX5_unwrap_76 rfl rfl rfl ?_
      refine g_get fl_X5_156_X5 dX5_unwrap_77 rfl (Or.inl (tm_o hT)) rfl ?_
      refine g_iconst (v := 0) dX5_unwrap_80 rfl rfl ?_
      refine t_zastn (k := 17) (N := 128) (f := F 17) hT hO rfl rfl rfl (by first | rfl | assumption) dX5_unwrap_81 rfl (by omega) (by first | rfl | exact xB_nar _) (fun m_81 f_81 e_81 hT hO => ?_)
      refine g_return dX5_unwrap_82 rfl ?_
      refine ⟨rfl, ?_, hO⟩
      rw [e_81] at hT
      exact hT
    have loop : ∀ t k m', n - k < t → fa ≤ k → k + 2 ≤ n → TM A rf ts ac ls (nI (n - 1)) (nI dp) (fset F 12 (unwK (F 12) fa k)) m' → XOf A m m' → G w MX5_unwrap (xZ w (tP A m none rf ts ac ls (nI (unwN true n)) (nI dp) (unwF F true n fa dp)) xN) d 0 0 32 [some (.ref (A 0)), some (.int (nI k))] [] m' := by
      intro t
      induction t with
      | zero => intro k m' h; omega
      | succ t ih =>
        intro k m' h h1 h2 hT hO
        have hkk : unwK (F 12) fa k (k + 1) = F 12 (k + 1) := by unfold unwK; rw [if_neg (by omega)]
        refine g_iload_n dX5_unwrap_32 rfl rfl rfl ?_
        refine g_iconst (v := (nI 1)) dX5_unwrap_33 rfl rfl ?_
        refine g_iaddn dX5_unwrap_34 rfl ?_
        refine g_aload_n dX5_unwrap_35 rfl rfl rfl ?_
        refine g_get fl_X5_153_X5 dX5_unwrap_36 rfl (Or.inl (tm_o hT)) rfl ?_
        refine g_icmpn_ge (tgt := 62) dX5_unwrap_39 (by decide) rfl (by omega) (by omega) (fun c_39 => ?_) (fun c_39 => ?_)
        · obtain rfl : k = n - 2 := by omega
          exact fin _ _ hT hO
        · refine g_aload_n dX5_unwrap_42 rfl rfl rfl ?_
          refine g_get fl_X5_35_X5 dX5_unwrap_43 rfl (Or.inl (tm_o hT)) rfl ?_
          refine g_iload_n dX5_unwrap_46 rfl rfl rfl ?_
          refine g_aload_n dX5_unwrap_47 rfl rfl rfl ?_
          refine g_get fl_X5_35_X5 dX5_unwrap_48 rfl (Or.inl (tm_o hT)) rfl ?_
          refine g_iload_n dX5_unwrap_51 rfl rfl rfl ?_
          refine g_iconst (v := (nI 1)) dX5_unwrap_52 rfl rfl ?_
          refine g_iaddn dX5_unwrap_53 rfl ?_
          refine t_ialdn (k := 12) (N := 512) (f := unwK (F 12) fa k) hT rfl rfl rfl rfl dX5_unwrap_54 rfl (by omega) ?_
          rw [hkk]
          refine t_iastn (k := 12) (N := 512) (f := unwK (F 12) fa k) hT hO rfl rfl rfl rfl dX5_unwrap_55 rfl (by omega) (fun m_55 f_55 e_55 hT hO => ?_)
          rw [fset_fset, e_55, unwK_s (F 12) h1] at hT
          refine g_incn1 dX5_unwrap_56 rfl (by decide) (k := ?_)
          refine g_goto (tgt := 32) dX5_unwrap_59 (by decide) ?_
          exact ih (k + 1) _ (by omega) (by omega) (by omega) hT hO
    refine ct_intro (lv := [some (.ref (A 0)), none]) 1 (by decide) rfl (Nat.le_of_ble_eq_true rfl) rfl ?_
    refine g_aload_n dX5_unwrap_0 rfl rfl rfl ?_
    refine g_get fl_X5_47_X5 dX5_unwrap_1 rfl (Or.inl (tm_o hT)) rfl ?_
    refine g_aload_n dX5_unwrap_4 rfl rfl rfl ?_
    refine g_get fl_X5_156_X5 dX5_unwrap_5 rfl (Or.inl (tm_o hT)) rfl ?_
    refine t_zaldn (k := 17) (N := 128) (f := F 17) hT rfl rfl rfl (by first | rfl | assumption) dX5_unwrap_8 rfl (by omega) ?_
    rw [hb]
    refine g_ifB_eq (tgt := 72) dX5_unwrap_9 (by decide) rfl (fun c_9 => ?_) (fun c_9 => ?_)
    · cases c_9
    · refine g_aload_n dX5_unwrap_12 rfl rfl rfl ?_
      refine g_dup dX5_unwrap_13 rfl (by first | rfl | exact rf_cat _) ?_
      refine g_get fl_X5_153_X5 dX5_unwrap_14 rfl (Or.inl (tm_o hT)) rfl ?_
      refine g_iconst (v := (nI 1)) dX5_unwrap_17 rfl rfl ?_
      refine g_isubn dX5_unwrap_18 rfl (by omega) ?_
      refine t_put13 hT hO fl_X5_153_X5 dX5_unwrap_19 rfl (fun m_19 hT hO => ?_)
      refine g_aload_n dX5_unwrap_22 rfl rfl rfl ?_
      refine g_get fl_X5_44_X5 dX5_unwrap_23 rfl (Or.inl (tm_o hT)) rfl ?_
      refine g_aload_n dX5_unwrap_26 rfl rfl rfl ?_
      refine g_get fl_X5_156_X5 dX5_unwrap_27 rfl (Or.inl (tm_o hT)) rfl ?_
      refine t_ialdn (k := 16) (N := 128) (f := F 16) hT rfl rfl rfl (by first | rfl | assumption) dX5_unwrap_30 rfl (by omega) ?_
      rw [hfa1]
      refine g_ist1 dX5_unwrap_31 rfl (by decide) (k := ?_)
      exact loop (n - fa + 1) fa _ (by omega) (Nat.le_refl _) hfa2 (by rw [unwK_0, fset_self]; exact hT) hO
end TW26
