/-! TWIN: the reader's chains end, lines begin -/
set_option maxRecDepth 100000
section TW27
variable {w : XW} {d : Nat} {m : XM} {A : Nat → Nat} {rf ts ac ls rs : Int32} {F : Nat → Nat → Int32}
/-- what is read after a part below a line has ended -/
def endF (F : Nat → Nat → Int32) (b : Bool) (n fa dp : Nat) : Nat → Nat → Int32 := fset (unwF F b n fa dp) 12 (upd (unwF F b n fa dp 12) (unwN b n) (-11))
def clsB (F : Nat → Nat → Int32) (dp : Nat) : Nat → Nat → Int32 := fset (fset (fset F 18 (upd (F 18) dp 0)) 17 (upd (F 17) dp 0)) 15 (upd (F 15) dp (-9))
def clsF (F : Nat → Nat → Int32) (bl b : Bool) (n fa dp : Nat) : Nat → Nat → Int32 := clsB (if bl = true then endF F b n fa dp else F) dp
def clsN (bl b : Bool) (n : Nat) : Nat := if bl = true then unwN b n + 1 else n
theorem unwN_le (b : Bool) (n : Nat) : unwN b n ≤ n := by unfold unwN; split <;> omega
theorem t_closeChain {n fa dp : Nat} {bl b : Bool} (hd : 2 ≤ d) (hn : n < 512) (hdp : dp < 128) (hbl : F 18 dp = xB bl) (hb : bl = true → F 17 dp = xB b ∧ (b = true → F 16 dp = nI fa ∧ fa + 2 ≤ n)) (hT : TM A rf ts ac ls (nI n) (nI dp) F m) : CT w MX5_closeChain d 0 0 [.ref (A 0)] m (tP A m none rf ts ac ls (nI (clsN bl b n)) (nI dp) (clsF F bl b n fa dp)) xN := by
  have hO := xo_rf A m
  have fin : ∀ F n m', TM A rf ts ac ls (nI n) (nI dp) F m' → XOf A m m' → G w MX5_closeChain (xZ w (tP A m none rf ts ac ls (nI n) (nI dp) (clsB F dp)) xN) d 0 0 22 [some (.ref (A 0))] [] m' := by
    intro F n m' hT hO
    refine g_aload_n dX5_closeChain_22 rfl rfl rfl ?_
    refine g_get fl_X5_50_X5 dX5_closeChain_23 rfl (Or.inl (tm_o hT)) rfl ?_
    refine g_aload_n dX5_closeChain_26 rfl rfl rfl ?_
    refine g_get fl_X5_156_X5 dX5_closeChain_27 rfl (Or.inl (tm_o hT)) rfl ?_
    refine g_iconst (v := 0) dX5_closeChain_30 rfl rfl ?_
    refine t_zastn (k := 18) (N := 128) (f := F 18) hT hO rfl rfl rfl (by first | rfl | assumption) dX5_closeChain_31 rfl (by omega) (by first | rfl | exact xB_nar _) (fun m_31 f_31 e_31 hT hO => ?_)
    refine g_aload_n dX5_closeChain_32 rfl rfl rfl ?_
    refine g_get fl_X5_47_X5 dX5_closeChain_33 rfl (Or.inl (tm_o hT)) rfl ?_
    refine g_aload_n dX5_closeChain_36 rfl rfl rfl ?_
    refine g_get fl_X5_156_X5 dX5_closeChain_37 rfl (Or.inl (tm_o hT)) rfl ?_
    refine g_iconst (v := 0) dX5_closeChain_40 rfl rfl ?_
    refine t_zastn (k := 17) (N := 128) (f := F 17) hT hO rfl rfl rfl (by first | rfl | assumption) dX5_closeChain_41 rfl (by omega) (by first | rfl | exact xB_nar _) (fun m_41 f_41 e_41 hT hO => ?_)
    refine g_aload_n dX5_closeChain_42 rfl rfl rfl ?_
    refine g_get fl_X5_41_X5 dX5_closeChain_43 rfl (Or.inl (tm_o hT)) rfl ?_
    refine g_aload_n dX5_closeChain_46 rfl rfl rfl ?_
    refine g_get fl_X5_156_X5 dX5_closeChain_47 rfl (Or.inl (tm_o hT)) rfl ?_
    refine g_bipush (v := -9) dX5_closeChain_50 rfl rfl ?_
    refine t_iastn (k := 15) (N := 128) (f := F 15) hT hO rfl rfl rfl (by first | rfl | assumption) dX5_closeChain_52 rfl (by omega) (fun m_52 f_52 e_52 hT hO => ?_)
    refine g_return dX5_closeChain_53 rfl ?_
    refine ⟨rfl, ?_, hO⟩
    rw [e_52, e_41, e_31] at hT
    exact hT
  refine ct_intro (lv := [some (.ref (A 0))]) 0 (by decide) rfl (Nat.le_of_ble_eq_true rfl) rfl ?_
  cases bl with
  | false =>
    refine g_aload_n dX5_closeChain_0 rfl rfl rfl ?_
    refine g_get fl_X5_50_X5 dX5_closeChain_1 rfl (Or.inl (tm_o hT)) rfl ?_
    refine g_aload_n dX5_closeChain_4 rfl rfl rfl ?_
    refine g_get fl_X5_156_X5 dX5_closeChain_5 rfl (Or.inl (tm_o hT)) rfl ?_
    refine t_zaldn (k := 18) (N := 128) (f := F 18) hT rfl rfl rfl (by first | rfl | assumption) dX5_closeChain_8 rfl (by omega) ?_
    rw [hbl]
    refine g_ifB_eq (tgt := 22) dX5_closeChain_9 (by decide) rfl (fun c_9 => ?_) (fun c_9 => ?_)
    · exact fin F n _ hT hO
    · cases c_9
  | true =>
    obtain ⟨hb1, hb2⟩ := hb rfl
    have hun := unwN_le b n
    refine g_aload_n dX5_closeChain_0 rfl rfl rfl ?_
    refine g_get fl_X5_50_X5 dX5_closeChain_1 rfl (Or.inl (tm_o hT)) rfl ?_
    refine g_aload_n dX5_closeChain_4 rfl rfl rfl ?_
    refine g_get fl_X5_156_X5 dX5_closeChain_5 rfl (Or.inl (tm_o hT)) rfl ?_
    refine t_zaldn (k := 18) (N := 128) (f := F 18) hT rfl rfl rfl (by first | rfl | assumption) dX5_closeChain_8 rfl (by omega) ?_
    rw [hbl]
    refine g_ifB_eq (tgt := 22) dX5_closeChain_9 (by decide) rfl (fun c_9 => ?_) (fun c_9 => ?_)
    · cases c_9
    · refine g_aload_n dX5_closeChain_12 rfl rfl rfl ?_
      refine g_virtual iV_X5_unwrap q2488 (t_unwrap (d := d - 1) (by omega) (by omega) hdp hb1 hb2 hT) (Or.inl (tm_o hT)) rfl (by decide) dX5_closeChain_13 rfl rfl rfl (by first | exact Nat.le_of_ble_eq_true rfl | simp [Value.category, rf_cat]) (by omega) (by omega) (by omega) xN_no (fun v_13 m_13 h_13 => ?_)
      obtain ⟨rfl, hT, hO2⟩ := h_13
      replace hO := xo_tr hO hO2
      refine g_aload_n dX5_closeChain_16 rfl rfl rfl ?_
      refine g_bipush (v := -11) dX5_closeChain_17 rfl rfl ?_
      refine g_virtual iV_X5_add q2492 (t_add (d := d - 1) (by omega) (by omega) rfl hT) (Or.inl (tm_o hT)) rfl (by decide) dX5_closeChain_19 rfl rfl rfl (by first | exact Nat.le_of_ble_eq_true rfl | simp [Value.category, rf_cat]) (by omega) (by omega) (by omega) xN_no (fun v_19 m_19 h_19 => ?_)
      obtain ⟨rfl, hT, hO2⟩ := h_19
      replace hO := xo_tr hO hO2
      exact fin (endF F b n fa dp) (unwN b n + 1) _ hT hO
/-- a line begins: its begin put at the chain's begin, a border behind -/
def linF (F : Nat → Nat → Int32) (n ch dp : Nat) : Nat → Nat → Int32 :=
  fset (fset (fset F 12 (upd (insR (F 12) n ch (-1)) (n + 1) (-10))) 18 (upd (F 18) dp 1)) 16 (upd (F 16) dp (nI (n + 2)))
theorem t_line {n fa dp ch : Nat} {bl b : Bool} (hd : 2 ≤ d) (hn : n < 500) (hdp : dp < 128) (hbl : F 18 dp = xB bl) (hb : F 17 dp = xB b ∧ (b = true → F 16 dp = nI fa ∧ fa + 2 ≤ n)) (hch : F 15 dp = nI ch) (hcl : ch ≤ (if bl = true then unwN b n + 1 else unwN b n)) (hT : TM A rf ts ac ls (nI n) (nI dp) F m) : CT w MX5_line d 0 0 [.ref (A 0)] m (tP A m none rf ts ac ls (nI ((if bl = true then unwN b n + 1 else unwN b n) + 2)) (nI dp) (linF (if bl = true then endF F b n fa dp else unwF F b n fa dp) (if bl = true then unwN b n + 1 else unwN b n) ch dp)) xN := by
  have hO := xo_rf A m
  have hun := unwN_le b n
  have fin : ∀ F n1 m', n1 < 502 → ch ≤ n1 → F 15 dp = nI ch → TM A rf ts ac ls (nI n1) (nI dp) F m' → XOf A m m' → G w MX5_line (xZ w (tP A m none rf ts ac ls (nI (n1 + 2)) (nI dp) (linF F n1 ch dp)) xN) d 0 0 29 [some (.ref (A 0))] [] m' := by
    intro F n1 m' hn hcl hch hT hO
    refine g_aload_n dX5_line_29 rfl rfl rfl ?_
    refine g_aload_n dX5_line_30 rfl rfl rfl ?_
    refine g_get fl_X5_41_X5 dX5_line_31 rfl (Or.inl (tm_o hT)) rfl ?_
    refine g_aload_n dX5_line_34 rfl rfl rfl ?_
    refine g_get fl_X5_156_X5 dX5_line_35 rfl (Or.inl (tm_o hT)) rfl ?_
    refine t_ialdn (k := 15) (N := 128) (f := F 15) hT rfl rfl rfl (by first | rfl | assumption) dX5_line_38 rfl (by omega) ?_
    rw [hch]
    refine g_iconst (v := (-1)) dX5_line_39 rfl rfl ?_
    refine g_virtual iV_X5_insert q2500 (t_insert (d := d - 1) (by omega) (by omega) hcl hT) (Or.inl (tm_o hT)) rfl (by decide) dX5_line_40 rfl rfl rfl (by first | exact Nat.le_of_ble_eq_true rfl | simp [Value.category, rf_cat]) (by omega) (by omega) (by omega) xN_no (fun v_40 m_40 h_40 => ?_)
    obtain ⟨rfl, hT, hO2⟩ := h_40
    replace hO := xo_tr hO hO2
    refine g_aload_n dX5_line_43 rfl rfl rfl ?_
    refine g_bipush (v := -10) dX5_line_44 rfl rfl ?_
    refine g_virtual iV_X5_add q2492 (t_add (d := d - 1) (by omega) (by omega) rfl hT) (Or.inl (tm_o hT)) rfl (by decide) dX5_line_46 rfl rfl rfl (by first | exact Nat.le_of_ble_eq_true rfl | simp [Value.category, rf_cat]) (by omega) (by omega) (by omega) xN_no (fun v_46 m_46 h_46 => ?_)
    obtain ⟨rfl, hT, hO2⟩ := h_46
    replace hO := xo_tr hO hO2
    refine g_aload_n dX5_line_49 rfl rfl rfl ?_
    refine g_get fl_X5_50_X5 dX5_line_50 rfl (Or.inl (tm_o hT)) rfl ?_
    refine g_aload_n dX5_line_53 rfl rfl rfl ?_
    refine g_get fl_X5_156_X5 dX5_line_54 rfl (Or.inl (tm_o hT)) rfl ?_
    refine g_iconst (v := 1) dX5_line_57 rfl rfl ?_
    refine t_zastn (k := 18) (N := 128) (f := F 18) hT hO rfl rfl rfl (by first | rfl | assumption) dX5_line_58 rfl (by omega) (by first | rfl | exact xB_nar _) (fun m_58 f_58 e_58 hT hO => ?_)
    refine g_aload_n dX5_line_59 rfl rfl rfl ?_
    refine g_get fl_X5_44_X5 dX5_line_60 rfl (Or.inl (tm_o hT)) rfl ?_
    refine g_aload_n dX5_line_63 rfl rfl rfl ?_
    refine g_get fl_X5_156_X5 dX5_line_64 rfl (Or.inl (tm_o hT)) rfl ?_
    refine g_aload_n dX5_line_67 rfl rfl rfl ?_
    refine g_get fl_X5_153_X5 dX5_line_68 rfl (Or.inl (tm_o hT)) rfl ?_
    refine t_iastn (k := 16) (N := 128) (f := F 16) hT hO rfl rfl rfl (by first | rfl | assumption) dX5_line_71 rfl (by omega) (fun m_71 f_71 e_71 hT hO => ?_)
    refine g_return dX5_line_72 rfl ?_
    refine ⟨rfl, ?_, hO⟩
    rw [fset_fset] at hT
    rw [e_71, e_58] at hT
    exact hT
  refine ct_intro (lv := [some (.ref (A 0))]) 0 (by decide) rfl (Nat.le_of_ble_eq_true rfl) rfl ?_
  obtain ⟨hb1, hb2⟩ := hb
  cases bl with
  | false =>
    refine g_aload_n dX5_line_0 rfl rfl rfl ?_
    refine g_get fl_X5_50_X5 dX5_line_1 rfl (Or.inl (tm_o hT)) rfl ?_
    refine g_aload_n dX5_line_4 rfl rfl rfl ?_
    refine g_get fl_X5_156_X5 dX5_line_5 rfl (Or.inl (tm_o hT)) rfl ?_
    refine t_zaldn (k := 18) (N := 128) (f := F 18) hT rfl rfl rfl (by first | rfl | assumption) dX5_line_8 rfl (by omega) ?_
    rw [hbl]
    refine g_ifB_eq (tgt := 25) dX5_line_9 (by decide) rfl (fun c_9 => ?_) (fun c_9 => ?_)
    · refine g_aload_n dX5_line_25 rfl rfl rfl ?_
      refine g_virtual iV_X5_unwrap q2488 (t_unwrap (d := d - 1) (by omega) (by omega) hdp hb1 hb2 hT) (Or.inl (tm_o hT)) rfl (by decide) dX5_line_26 rfl rfl rfl (by first | exact Nat.le_of_ble_eq_true rfl | simp [Value.category, rf_cat]) (by omega) (by omega) (by omega) xN_no (fun v_26 m_26 h_26 => ?_)
      obtain ⟨rfl, hT, hO2⟩ := h_26
      replace hO := xo_tr hO hO2
      exact fin (unwF F b n fa dp) (unwN b n) _ (by omega) hcl (by unfold unwF; split <;> exact hch) hT hO
    · cases c_9
  | true =>
    refine g_aload_n dX5_line_0 rfl rfl rfl ?_
    refine g_get fl_X5_50_X5 dX5_line_1 rfl (Or.inl (tm_o hT)) rfl ?_
    refine g_aload_n dX5_line_4 rfl rfl rfl ?_
    refine g_get fl_X5_156_X5 dX5_line_5 rfl (Or.inl (tm_o hT)) rfl ?_
    refine t_zaldn (k := 18) (N := 128) (f := F 18) hT rfl rfl rfl (by first | rfl | assumption) dX5_line_8 rfl (by omega) ?_
    rw [hbl]
    refine g_ifB_eq (tgt := 25) dX5_line_9 (by decide) rfl (fun c_9 => ?_) (fun c_9 => ?_)
    · cases c_9
    · refine g_aload_n dX5_line_12 rfl rfl rfl ?_
      refine g_virtual iV_X5_unwrap q2488 (t_unwrap (d := d - 1) (by omega) (by omega) hdp hb1 hb2 hT) (Or.inl (tm_o hT)) rfl (by decide) dX5_line_13 rfl rfl rfl (by first | exact Nat.le_of_ble_eq_true rfl | simp [Value.category, rf_cat]) (by omega) (by omega) (by omega) xN_no (fun v_13 m_13 h_13 => ?_)
      obtain ⟨rfl, hT, hO2⟩ := h_13
      replace hO := xo_tr hO hO2
      refine g_aload_n dX5_line_16 rfl rfl rfl ?_
      refine g_bipush (v := -11) dX5_line_17 rfl rfl ?_
      refine g_virtual iV_X5_add q2492 (t_add (d := d - 1) (by omega) (by omega) rfl hT) (Or.inl (tm_o hT)) rfl (by decide) dX5_line_19 rfl rfl rfl (by first | exact Nat.le_of_ble_eq_true rfl | simp [Value.category, rf_cat]) (by omega) (by omega) (by omega) xN_no (fun v_19 m_19 h_19 => ?_)
      obtain ⟨rfl, hT, hO2⟩ := h_19
      replace hO := xo_tr hO hO2
      refine g_goto (tgt := 29) dX5_line_22 (by decide) ?_
      exact fin (endF F b n fa dp) (unwN b n + 1) _ (by omega) hcl (by unfold endF unwF; split <;> exact hch) hT hO
end TW27
