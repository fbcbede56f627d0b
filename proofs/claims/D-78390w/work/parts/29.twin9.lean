/-! TWIN: its acts, one by one -/
set_option maxRecDepth 100000
theorem inL_n {c : Int32} {n : Nat} (hn : n < 2 ^ 31) (h : inL c.toInt64 0 (nI n).toInt64 = true) : ∃ k, k ≤ n ∧ c = nI k := by
  unfold inL at h
  have h := of_decide_eq_true h
  have h1 : ¬ c.toInt < 0 := fun z => h.1 (Int64.lt_iff_toInt_lt.mpr (by rw [Int32.toInt_toInt64]; exact z))
  have h2 : ¬ (nI n).toInt < c.toInt := fun z => h.2 (Int64.lt_iff_toInt_lt.mpr (by rw [Int32.toInt_toInt64, Int32.toInt_toInt64]; exact z))
  rw [nI_toInt hn] at h2
  obtain ⟨j, hj, e⟩ := nI_of (x := c) (fun z => h1 (Int32.lt_iff_toInt_lt.mp z))
  refine ⟨j, ?_, e⟩
  have := nI_toInt (n := j) (by omega)
  rw [← e] at this
  omega
theorem inL_i {k n : Nat} (hn : n < 2 ^ 31) (h : k ≤ n) : inL (nI k).toInt64 0 (nI n).toInt64 = true := by
  unfold inL
  refine decide_eq_true ⟨fun z => ?_, fun z => ?_⟩
  · have := Int64.lt_iff_toInt_lt.mp z
    rw [Int32.toInt_toInt64, nI_toInt (by omega)] at this
    have e : (0 : Int64).toInt = 0 := rfl
    omega
  · have := Int64.lt_iff_toInt_lt.mp z
    rw [Int32.toInt_toInt64, Int32.toInt_toInt64, nI_toInt (by omega), nI_toInt (by omega)] at this
    omega
section TW9
variable {w : XW} {d : Nat} {m : XM} {A : Nat → Nat} {rf : Int32} {s : XSt}
def uWrap (s : XSt) (k : Int32) : Nat × Int32 × XSt :=
  if inL k.toInt64 1 5 = true then match wrD (stP s) k with
    | some q => (0, nI q.2.1, takeS s q)
    | none => (2, 0, s)
  else (1, 0, s)
theorem u_wrap {c : Int32} (hd : 6 ≤ d) (hs : TS A rf s m) (hi : Ipx (stP s)) (hsz : allL (stP s).1 0 (stP s).1.length ≠ 60 → (stP s).1.length ≤ 177) : CT w MX5_wrap d 0 0 [.ref (A 0), .int c] m (TR A m (uWrap s c).2.1 (uWrap s c).1 (uWrap s c).2.2) xN := by
  obtain ⟨ls, rs, dp, F, hT, hs⟩ := hs
  have hO := xo_rf A m
  refine ct_intro (lv := [some (.ref (A 0)), some (.int c)]) 0 (by decide) rfl (Nat.le_of_ble_eq_true rfl) rfl ?_
  refine g_aload_n dX5_wrap_0 rfl rfl rfl ?_
  refine g_get fl_X5_13_X5 dX5_wrap_1 rfl (Or.inl (tm_o hT)) rfl ?_
  refine g_iconst (v := (nI 0)) dX5_wrap_4 rfl rfl ?_
  refine g_aload_n dX5_wrap_5 rfl rfl rfl ?_
  refine g_get fl_X5_16_X5 dX5_wrap_6 rfl (Or.inl (tm_o hT)) rfl ?_
  refine g_iconst (v := (nI 0)) dX5_wrap_9 rfl rfl ?_
  refine g_static iS_X5_copyPage q2622 (s_copy (d := d - 1) (by omega) ⟨_, _, _, _, hT, hs⟩) dX5_wrap_10 rfl rfl rfl (by first | exact Nat.le_of_ble_eq_true rfl | simp [Value.category, rf_cat]) (by omega) (by omega) (by omega) xN_no (fun v_10 m_10 h_10 => ?_)
  obtain ⟨rfl, ⟨ls, rs, dp, F, hT, hs, h4⟩, hO2⟩ := h_10
  replace hO := xo_tr hO hO2
  have h3 := hs.2.2.1
  refine g_aload_n dX5_wrap_13 rfl rfl rfl ?_
  refine g_iload_n dX5_wrap_14 rfl rfl rfl ?_
  refine g_i2l dX5_wrap_15 rfl rfl ?_
  refine g_lconst (v := 1) dX5_wrap_16 rfl rfl ?_
  refine g_ldc2 dX5_wrap_17 rfl q2521 ?_
  refine g_staticP iS_X5_in q2448 (c_in (d := d - 1) (by omega) _ _ _) dX5_wrap_20 rfl rfl rfl (by first | exact Nat.le_of_ble_eq_true rfl | simp [Value.category, rf_cat]) (by omega) xN_no ?_
  refine g_ifB_ne (tgt := 30) dX5_wrap_23 (by decide) rfl (fun c_23 => ?_) (fun c_23 => ?_)
  · refine g_aload_n dX5_wrap_30 rfl rfl rfl ?_
    refine g_get fl_X5_16_X5 dX5_wrap_31 rfl (Or.inl (tm_o hT)) rfl ?_
    refine g_iload_n dX5_wrap_34 rfl rfl rfl ?_
    refine g_static iS_X5_wraps q2652 (s_op hT hs (q_wraps (d := d - 1) (by omega) (tm_at 4 hT rfl rfl rfl rfl) h4 hi hsz)) dX5_wrap_35 rfl rfl rfl (by first | exact Nat.le_of_ble_eq_true rfl | simp [Value.category, rf_cat]) (by omega) (by omega) (by omega) xN_no (fun v_35 m_35 h_35 => ?_)
    obtain ⟨rfl, ⟨ls, rs, dp, F, hT, hs, h4⟩, hO2⟩ := h_35
    replace hO := xo_tr hO hO2
    have h3 := hs.2.2.1
    refine g_ifB_eq (tgt := 45) dX5_wrap_38 (by decide) rfl (fun c_38 => ?_) (fun c_38 => ?_)
    · refine g_iconst (v := (nI 2)) dX5_wrap_45 rfl rfl ?_
      refine g_virtual iV_X5_refused q2451 (t_refS (d := d - 1) (by omega) (x := 2) (by omega) (by omega) hT) (Or.inl (tm_o hT)) rfl (by decide) dX5_wrap_46 rfl rfl rfl (by first | exact Nat.le_of_ble_eq_true rfl | simp [Value.category, rf_cat]) (by omega) (by omega) (by omega) xN_no (fun v_46 m_46 h_46 => ?_)
      obtain ⟨rfl, hT, hO2⟩ := h_46
      replace hO := xo_tr hO hO2
      refine g_ifn_eq (tgt := 54) dX5_wrap_49 (by decide) rfl (by omega) (fun c_49 => by omega) (fun _ => ?_)
      refine g_iconst (v := (nI 0)) dX5_wrap_52 rfl rfl ?_
      refine g_ireturn dX5_wrap_53 rfl ?_
      first | (have e : uWrap s c = (1, 0, s) := by unfold uWrap; rw [if_neg (by rw [c_23]; decide)]) | (have e : uWrap s c = (2, 0, s) := by unfold uWrap; rw [if_pos c_23, Option.isSome_eq_false_iff.mp c_38 |> Option.isNone_iff_eq_none.mp])
      rw [e]
      exact ⟨rfl, ⟨_, _, _, _, hT, hs⟩, hO⟩
    · refine g_iconst (v := (nI 0)) dX5_wrap_41 rfl rfl ?_
      refine g_goto (tgt := 46) dX5_wrap_42 (by decide) ?_
      refine g_virtual iV_X5_refused q2451 (t_ref0 (d := d - 1) (by omega) hT) (Or.inl (tm_o hT)) rfl (by decide) dX5_wrap_46 rfl rfl rfl (by first | exact Nat.le_of_ble_eq_true rfl | simp [Value.category, rf_cat]) (by omega) (by omega) (by omega) xN_no (fun v_46 m_46 h_46 => ?_)
      obtain ⟨rfl, hT, hO2⟩ := h_46
      replace hO := xo_tr hO hO2
      refine g_ifn_eq (tgt := 54) dX5_wrap_49 (by decide) rfl (by omega) (fun _ => ?_) (fun c_49 => by omega)
      refine g_aload_n dX5_wrap_54 rfl rfl rfl ?_
      obtain ⟨q, hq⟩ := Option.isSome_iff_exists.mp c_38
      refine g_virtual iV_X5_take q2640 (s_take (d := d - 1) (by omega) ⟨_, _, _, _, hT, hs, h4⟩) (Or.inl (tm_o hT)) rfl (by decide) dX5_wrap_55 rfl rfl rfl (by first | exact Nat.le_of_ble_eq_true rfl | simp [Value.category, rf_cat]) (by omega) (by omega) (by omega) xN_no (fun v_55 m_55 h_55 => ?_)
      obtain ⟨rfl, ⟨ls, rs, dp, F, hT, hs, h4⟩, hO2⟩ := h_55
      replace hO := xo_tr hO hO2
      have h3 := hs.2.2.1
      rw [hq] at h3
      have h3_181 : F 3 181 = nI q.2.1 := h3.2.1
      refine g_aload_n dX5_wrap_58 rfl rfl rfl ?_
      refine g_get fl_X5_13_X5 dX5_wrap_59 rfl (Or.inl (tm_o hT)) rfl ?_
      refine g_sipush (v := (nI 181)) dX5_wrap_62 rfl rfl ?_
      refine t_ialdn (k := 3) (N := 184) (f := F 3) hT rfl rfl rfl (by first | rfl | assumption) dX5_wrap_65 rfl (by omega) ?_
      rw [h3_181]
      refine g_ireturn dX5_wrap_66 rfl ?_
      have e : uWrap s c = (0, nI q.2.1, takeS s q) := by unfold uWrap; rw [if_pos c_23, hq]
      rw [e]
      rw [hq] at hT hs
      exact ⟨rfl, ⟨_, _, _, _, hT, hs⟩, hO⟩
  · refine g_iconst (v := (nI 1)) dX5_wrap_26 rfl rfl ?_
    refine g_goto (tgt := 46) dX5_wrap_27 (by decide) ?_
    refine g_virtual iV_X5_refused q2451 (t_refS (d := d - 1) (by omega) (x := 1) (by omega) (by omega) hT) (Or.inl (tm_o hT)) rfl (by decide) dX5_wrap_46 rfl rfl rfl (by first | exact Nat.le_of_ble_eq_true rfl | simp [Value.category, rf_cat]) (by omega) (by omega) (by omega) xN_no (fun v_46 m_46 h_46 => ?_)
    obtain ⟨rfl, hT, hO2⟩ := h_46
    replace hO := xo_tr hO hO2
    refine g_ifn_eq (tgt := 54) dX5_wrap_49 (by decide) rfl (by omega) (fun c_49 => by omega) (fun _ => ?_)
    refine g_iconst (v := (nI 0)) dX5_wrap_52 rfl rfl ?_
    refine g_ireturn dX5_wrap_53 rfl ?_
    first | (have e : uWrap s c = (1, 0, s) := by unfold uWrap; rw [if_neg (by rw [c_23]; decide)]) | (have e : uWrap s c = (2, 0, s) := by unfold uWrap; rw [if_pos c_23, Option.isSome_eq_false_iff.mp c_38 |> Option.isNone_iff_eq_none.mp])
    rw [e]
    exact ⟨rfl, ⟨_, _, _, _, hT, hs⟩, hO⟩
def uBack (s : XSt) : Nat × Int32 × XSt := match bkD (stP s) with
  | some q => (0, nI (allL (stP s).1 0 (stP s).1.length) - nI (allL q.1 0 q.1.length), takeS s q)
  | none => (1, 0, s)
theorem u_back (hd : 7 ≤ d) (hs : TS A rf s m) (hi : Ipx (stP s)) (hb : Bal (stP s).1) (he : rowStartL (stP s).1 (stP s).2.1 ≠ 0 → endOfL (stP s).1 (rowStartL (stP s).1 (stP s).2.1) < (stP s).1.length) : CT w MX5_backspace d 0 0 [.ref (A 0)] m (TR A m (uBack s).2.1 (uBack s).1 (uBack s).2.2) xN := by
  obtain ⟨ls, rs, dp, F, hT, hs⟩ := hs
  have hO := xo_rf A m
  refine ct_intro (lv := [some (.ref (A 0)), none]) 1 (by decide) rfl (Nat.le_of_ble_eq_true rfl) rfl ?_
  refine g_aload_n dX5_backspace_0 rfl rfl rfl ?_
  refine g_get fl_X5_13_X5 dX5_backspace_1 rfl (Or.inl (tm_o hT)) rfl ?_
  refine g_iconst (v := (nI 0)) dX5_backspace_4 rfl rfl ?_
  refine g_aload_n dX5_backspace_5 rfl rfl rfl ?_
  refine g_get fl_X5_16_X5 dX5_backspace_6 rfl (Or.inl (tm_o hT)) rfl ?_
  refine g_iconst (v := (nI 0)) dX5_backspace_9 rfl rfl ?_
  refine g_static iS_X5_copyPage q2622 (s_copy (d := d - 1) (by omega) ⟨_, _, _, _, hT, hs⟩) dX5_backspace_10 rfl rfl rfl (by first | exact Nat.le_of_ble_eq_true rfl | simp [Value.category, rf_cat]) (by omega) (by omega) (by omega) xN_no (fun v_10 m_10 h_10 => ?_)
  obtain ⟨rfl, ⟨ls, rs, dp, F, hT, hs, h4⟩, hO2⟩ := h_10
  replace hO := xo_tr hO hO2
  have h3 := hs.2.2.1
  refine g_aload_n dX5_backspace_13 rfl rfl rfl ?_
  refine g_aload_n dX5_backspace_14 rfl rfl rfl ?_
  refine g_get fl_X5_16_X5 dX5_backspace_15 rfl (Or.inl (tm_o hT)) rfl ?_
  refine g_static iS_X5_backs q2659 (s_op hT hs (q_backs (d := d - 1) (by omega) (tm_at 4 hT rfl rfl rfl rfl) h4 hi hb he)) dX5_backspace_18 rfl rfl rfl (by first | exact Nat.le_of_ble_eq_true rfl | simp [Value.category, rf_cat]) (by omega) (by omega) (by omega) xN_no (fun v_18 m_18 h_18 => ?_)
  obtain ⟨rfl, ⟨ls, rs, dp, F, hT, hs, h4⟩, hO2⟩ := h_18
  replace hO := xo_tr hO hO2
  have h3 := hs.2.2.1
  refine g_ifB_eq (tgt := 28) dX5_backspace_21 (by decide) rfl (fun c_21 => ?_) (fun c_21 => ?_)
  · refine g_iconst (v := (nI 1)) dX5_backspace_28 rfl rfl ?_
    refine g_virtual iV_X5_refused q2451 (t_refS (d := d - 1) (by omega) (x := 1) (by omega) (by omega) hT) (Or.inl (tm_o hT)) rfl (by decide) dX5_backspace_29 rfl rfl rfl (by first | exact Nat.le_of_ble_eq_true rfl | simp [Value.category, rf_cat]) (by omega) (by omega) (by omega) xN_no (fun v_29 m_29 h_29 => ?_)
    obtain ⟨rfl, hT, hO2⟩ := h_29
    replace hO := xo_tr hO hO2
    refine g_ifn_eq (tgt := 37) dX5_backspace_32 (by decide) rfl (by omega) (fun c_32 => by omega) (fun _ => ?_)
    refine g_iconst (v := (nI 0)) dX5_backspace_35 rfl rfl ?_
    refine g_ireturn dX5_backspace_36 rfl ?_
    have e : uBack s = (1, 0, s) := by unfold uBack; rw [Option.isSome_eq_false_iff.mp c_21 |> Option.isNone_iff_eq_none.mp]
    rw [e]
    exact ⟨rfl, ⟨_, _, _, _, hT, hs⟩, hO⟩
  · refine g_iconst (v := (nI 0)) dX5_backspace_24 rfl rfl ?_
    refine g_goto (tgt := 29) dX5_backspace_25 (by decide) ?_
    refine g_virtual iV_X5_refused q2451 (t_ref0 (d := d - 1) (by omega) hT) (Or.inl (tm_o hT)) rfl (by decide) dX5_backspace_29 rfl rfl rfl (by first | exact Nat.le_of_ble_eq_true rfl | simp [Value.category, rf_cat]) (by omega) (by omega) (by omega) xN_no (fun v_29 m_29 h_29 => ?_)
    obtain ⟨rfl, hT, hO2⟩ := h_29
    replace hO := xo_tr hO hO2
    refine g_ifn_eq (tgt := 37) dX5_backspace_32 (by decide) rfl (by omega) (fun _ => ?_) (fun c_32 => by omega)
    obtain ⟨q, hq⟩ := Option.isSome_iff_exists.mp c_21
    have h3_180 : F 3 180 = nI (stP s).1.length := h3.1.2.1
    have hpl := Pgx_l h3
    refine g_aload_n dX5_backspace_37 rfl rfl rfl ?_
    refine g_get fl_X5_13_X5 dX5_backspace_38 rfl (Or.inl (tm_o hT)) rfl ?_
    refine g_iconst (v := (nI 0)) dX5_backspace_41 rfl rfl ?_
    refine g_aload_n dX5_backspace_42 rfl rfl rfl ?_
    refine g_get fl_X5_13_X5 dX5_backspace_43 rfl (Or.inl (tm_o hT)) rfl ?_
    refine g_sipush (v := (nI 180)) dX5_backspace_46 rfl rfl ?_
    refine t_ialdn (k := 3) (N := 184) (f := F 3) hT rfl rfl rfl (by first | rfl | assumption) dX5_backspace_49 rfl (by omega) ?_
    rw [h3_180]
    refine g_staticP iS_X5_allIn q2508 (p_allIn (d := d - 1) (by omega) (by first | exact tm_at 3 hT rfl rfl rfl rfl | exact tm_at 4 hT rfl rfl rfl rfl | exact tm_at 9 hT rfl rfl rfl rfl) (by assumption) (by omega) (by omega)) dX5_backspace_50 rfl rfl rfl (by first | exact Nat.le_of_ble_eq_true rfl | simp [Value.category, rf_cat]) (by omega) xN_no ?_
    refine g_ist1 dX5_backspace_53 rfl (by decide) (k := ?_)
    refine g_aload_n dX5_backspace_54 rfl rfl rfl ?_
    refine g_virtual iV_X5_take q2640 (s_take (d := d - 1) (by omega) ⟨_, _, _, _, hT, hs, h4⟩) (Or.inl (tm_o hT)) rfl (by decide) dX5_backspace_55 rfl rfl rfl (by first | exact Nat.le_of_ble_eq_true rfl | simp [Value.category, rf_cat]) (by omega) (by omega) (by omega) xN_no (fun v_55 m_55 h_55 => ?_)
    obtain ⟨rfl, ⟨ls, rs, dp, F, hT, hs, h4⟩, hO2⟩ := h_55
    replace hO := xo_tr hO hO2
    have h3 := hs.2.2.1
    rw [hq] at h3
    have h3_180 : F 3 180 = nI q.1.length := h3.1.2.1
    have hpl := Pgx_l h3
    change Pl _ q.1 at hpl
    refine g_iload_n dX5_backspace_58 rfl rfl rfl ?_
    refine g_aload_n dX5_backspace_59 rfl rfl rfl ?_
    refine g_get fl_X5_13_X5 dX5_backspace_60 rfl (Or.inl (tm_o hT)) rfl ?_
    refine g_iconst (v := (nI 0)) dX5_backspace_63 rfl rfl ?_
    refine g_aload_n dX5_backspace_64 rfl rfl rfl ?_
    refine g_get fl_X5_13_X5 dX5_backspace_65 rfl (Or.inl (tm_o hT)) rfl ?_
    refine g_sipush (v := (nI 180)) dX5_backspace_68 rfl rfl ?_
    refine t_ialdn (k := 3) (N := 184) (f := F 3) hT rfl rfl rfl (by first | rfl | assumption) dX5_backspace_71 rfl (by omega) ?_
    rw [h3_180]
    refine g_staticP iS_X5_allIn q2508 (p_allIn (d := d - 1) (by omega) (by first | exact tm_at 3 hT rfl rfl rfl rfl | exact tm_at 4 hT rfl rfl rfl rfl | exact tm_at 9 hT rfl rfl rfl rfl) (by assumption) (by omega) (by omega)) dX5_backspace_72 rfl rfl rfl (by first | exact Nat.le_of_ble_eq_true rfl | simp [Value.category, rf_cat]) (by omega) xN_no ?_
    refine g_isub dX5_backspace_75 rfl ?_
    refine g_ireturn dX5_backspace_76 rfl ?_
    have e : uBack s = (0, nI (allL (stP s).1 0 (stP s).1.length) - nI (allL q.1 0 q.1.length), takeS s q) := by unfold uBack; rw [hq]
    rw [e]
    rw [hq] at hT hs
    exact ⟨rfl, ⟨_, _, _, _, hT, hs⟩, hO⟩
def uUndo (s : XSt) : Nat × Int32 × XSt := match (stH s).getLast? with
  | some q => (0, nI (stH s).dropLast.length, (stT s, q, (stH s).dropLast, stK s, stC s))
  | none => (1, 0, s)
theorem u_undo (hd : 2 ≤ d) (hs : TS A rf s m) : CT w MX5_undo d 0 0 [.ref (A 0)] m (TR A m (uUndo s).2.1 (uUndo s).1 (uUndo s).2.2) xN := by
  obtain ⟨ls, rs, dp, F, hT, hs⟩ := hs
  have hO := xo_rf A m
  have hn := hs.2.2.2.1
  refine ct_intro (lv := [some (.ref (A 0))]) 0 (by decide) rfl (Nat.le_of_ble_eq_true rfl) rfl ?_
  refine g_aload_n dX5_undo_0 rfl rfl rfl ?_
  refine g_aload_n dX5_undo_1 rfl rfl rfl ?_
  refine g_get fl_X5_182_X5 dX5_undo_2 rfl (Or.inl (tm_o hT)) rfl ?_
  refine g_ifn_ne (tgt := 12) dX5_undo_5 (by decide) rfl (by omega) (fun c_5 => ?_) (fun c_5 => ?_)
  · refine g_iconst (v := (nI 0)) dX5_undo_12 rfl rfl ?_
    refine g_virtual iV_X5_refused q2451 (t_ref0 (d := d - 1) (by omega) hT) (Or.inl (tm_o hT)) rfl (by decide) dX5_undo_13 rfl rfl rfl (by first | exact Nat.le_of_ble_eq_true rfl | simp [Value.category, rf_cat]) (by omega) (by omega) (by omega) xN_no (fun v_13 m_13 h_13 => ?_)
    obtain ⟨rfl, hT, hO2⟩ := h_13
    replace hO := xo_tr hO hO2
    refine g_ifn_eq (tgt := 21) dX5_undo_16 (by decide) rfl (by omega) (fun _ => ?_) (fun c_16 => by omega)
    refine g_aload_n dX5_undo_21 rfl rfl rfl ?_
    refine g_dup dX5_undo_22 rfl (by first | rfl | exact rf_cat _) ?_
    refine g_get fl_X5_182_X5 dX5_undo_23 rfl (Or.inl (tm_o hT)) rfl ?_
    refine g_iconst (v := (nI 1)) dX5_undo_26 rfl rfl ?_
    refine g_isubn dX5_undo_27 rfl (by omega) ?_
    refine t_put6 hT hO fl_X5_182_X5 dX5_undo_28 rfl (fun m_28 hT hO => ?_)
    refine g_aload_n dX5_undo_31 rfl rfl rfl ?_
    refine g_get fl_X5_19_X5 dX5_undo_32 rfl (Or.inl (tm_o hT)) rfl ?_
    refine g_sipush (v := (nI 184)) dX5_undo_35 rfl rfl ?_
    refine g_aload_n dX5_undo_38 rfl rfl rfl ?_
    refine g_get fl_X5_182_X5 dX5_undo_39 rfl (Or.inl (tm_o hT)) rfl ?_
    refine g_imuln dX5_undo_42 rfl ?_
    refine g_aload_n dX5_undo_43 rfl rfl rfl ?_
    refine g_get fl_X5_13_X5 dX5_undo_44 rfl (Or.inl (tm_o hT)) rfl ?_
    refine g_iconst (v := (nI 0)) dX5_undo_47 rfl rfl ?_
    refine g_static iS_X5_copyPage q2622 (t_copy (i := 5) (k := 3) (N1 := 2576) (N2 := 184) (d := d - 1) (by omega) rfl rfl rfl rfl rfl rfl (by decide) (by omega) (by omega) rfl rfl hT) dX5_undo_48 rfl rfl rfl (by first | exact Nat.le_of_ble_eq_true rfl | simp [Value.category, rf_cat]) (by omega) (by omega) (by omega) xN_no (fun v_48 m_48 h_48 => ?_)
    obtain ⟨rfl, hT, hO2⟩ := h_48
    replace hO := xo_tr hO hO2
    refine g_aload_n dX5_undo_51 rfl rfl rfl ?_
    refine g_get fl_X5_182_X5 dX5_undo_52 rfl (Or.inl (tm_o hT)) rfl ?_
    refine g_ireturn dX5_undo_55 rfl ?_
    have hne : stH s ≠ [] := fun e => by rw [e] at c_5; exact c_5 rfl
    obtain ⟨q, hq⟩ : ∃ q, (stH s).getLast? = some q := ⟨_, List.getLast?_eq_some_getLast hne⟩
    have e : uUndo s = (0, nI (stH s).dropLast.length, (stT s, q, (stH s).dropLast, stK s, stC s)) := by unfold uUndo; rw [hq]
    rw [e]
    have hdl : (stH s).dropLast.length = (stH s).length - 1 := List.length_dropLast
    obtain ⟨a1, a2, a3, a4, a5, a6, a7, a8⟩ := hs
    have hT2 := hT
    rw [← hdl] at hT2
    refine ⟨by rw [hdl], ⟨_, _, _, _, hT2, ⟨a1, a2, ?_, by show (stH s).dropLast.length ≤ 14; omega, fun k p hk => ?_, a6, a7, a8⟩⟩, hO⟩
    · have := a5 ((stH s).length - 1) q (by rw [← hq, List.getLast?_eq_getElem?])
      exact Pgx_c (fun j hj => by show cpF _ _ _ _ j = _; unfold cpF cpK; rw [if_pos (by omega)]; congr 1; omega) this
    · refine a5 k p ?_
      have hk : (stH s).dropLast[k]? = some p := hk
      rw [List.getElem?_dropLast] at hk
      split at hk
      · exact hk
      · cases hk
  · refine g_iconst (v := (nI 1)) dX5_undo_8 rfl rfl ?_
    refine g_goto (tgt := 13) dX5_undo_9 (by decide) ?_
    refine g_virtual iV_X5_refused q2451 (t_refS (d := d - 1) (by omega) (x := 1) (by omega) (by omega) hT) (Or.inl (tm_o hT)) rfl (by decide) dX5_undo_13 rfl rfl rfl (by first | exact Nat.le_of_ble_eq_true rfl | simp [Value.category, rf_cat]) (by omega) (by omega) (by omega) xN_no (fun v_13 m_13 h_13 => ?_)
    obtain ⟨rfl, hT, hO2⟩ := h_13
    replace hO := xo_tr hO hO2
    refine g_ifn_eq (tgt := 21) dX5_undo_16 (by decide) rfl (by omega) (fun c_16 => by omega) (fun _ => ?_)
    refine g_iconst (v := (nI 0)) dX5_undo_19 rfl rfl ?_
    refine g_ireturn dX5_undo_20 rfl ?_
    have e : uUndo s = (1, 0, s) := by unfold uUndo; rw [List.eq_nil_of_length_eq_zero c_5]; rfl
    rw [e]
    exact ⟨rfl, ⟨_, _, _, _, hT, hs⟩, hO⟩
end TW9
