/-! TWIN: its acts: text, selection, growing, copying -/
set_option maxRecDepth 100000
section TW11
variable {w : XW} {d : Nat} {m : XM} {A : Nat → Nat} {rf : Int32} {s : XSt}
def uApp (s : XSt) (c : Int32) : Nat × Int32 × XSt :=
  if inL c.toInt64 0 255 = true then if (stT s).length = 120 then (2, 0, s) else (0, nI ((stT s).length + 1), (stT s ++ [c], stP s, stH s, stK s, stC s)) else (1, 0, s)
theorem u_app {c : Int32} (hd : 3 ≤ d) (hs : TS A rf s m) : CT w MX5_append d 0 0 [.ref (A 0), .int c] m (TR A m (uApp s c).2.1 (uApp s c).1 (uApp s c).2.2) xN := by
  obtain ⟨ls, rs, dp, F, hT, hs⟩ := hs
  have hO := xo_rf A m
  have hl := hs.2.1
  refine ct_intro (lv := [some (.ref (A 0)), some (.int c)]) 0 (by decide) rfl (Nat.le_of_ble_eq_true rfl) rfl ?_
  refine g_aload_n dX5_append_0 rfl rfl rfl ?_
  refine g_iload_n dX5_append_1 rfl rfl rfl ?_
  refine g_i2l dX5_append_2 rfl rfl ?_
  refine g_lconst (v := 0) dX5_append_3 rfl rfl ?_
  refine g_ldc2 dX5_append_4 rfl q2447 ?_
  refine g_staticP iS_X5_in q2448 (c_in (d := d - 1) (by omega) _ _ _) dX5_append_7 rfl rfl rfl (by first | exact Nat.le_of_ble_eq_true rfl | simp [Value.category, rf_cat]) (by omega) xN_no ?_
  refine g_ifB_ne (tgt := 17) dX5_append_10 (by decide) rfl (fun c_10 => ?_) (fun c_10 => ?_)
  · refine g_aload_n dX5_append_17 rfl rfl rfl ?_
    refine g_get fl_X5_147_X5 dX5_append_18 rfl (Or.inl (tm_o hT)) rfl ?_
    refine g_bipush (v := (nI 120)) dX5_append_21 rfl rfl ?_
    refine g_icmpn_ne (tgt := 30) dX5_append_23 (by decide) rfl (by omega) (by omega) (fun c_23 => ?_) (fun c_23 => ?_)
    · refine g_iconst (v := (nI 0)) dX5_append_30 rfl rfl ?_
      refine g_virtual iV_X5_refused q2451 (t_ref0 (d := d - 1) (by omega) hT) (Or.inl (tm_o hT)) rfl (by decide) dX5_append_31 rfl rfl rfl (by first | exact Nat.le_of_ble_eq_true rfl | simp [Value.category, rf_cat]) (by omega) (by omega) (by omega) xN_no (fun v_31 m_31 h_31 => ?_)
      obtain ⟨rfl, hT, hO2⟩ := h_31
      replace hO := xo_tr hO hO2
      refine g_ifn_eq (tgt := 39) dX5_append_34 (by decide) rfl (by omega) (fun _ => ?_) (fun c_34 => by omega)
      refine g_aload_n dX5_append_39 rfl rfl rfl ?_
      refine g_get fl_X5_7_X5 dX5_append_40 rfl (Or.inl (tm_o hT)) rfl ?_
      refine g_aload_n dX5_append_43 rfl rfl rfl ?_
      refine g_get fl_X5_147_X5 dX5_append_44 rfl (Or.inl (tm_o hT)) rfl ?_
      refine g_iload_n dX5_append_47 rfl rfl rfl ?_
      refine t_iastn (k := 1) (N := 120) (f := F 1) hT hO rfl rfl rfl (by first | rfl | assumption) dX5_append_48 rfl (by omega) (fun m_48 f_48 e_48 hT hO => ?_)
      refine g_aload_n dX5_append_49 rfl rfl rfl ?_
      refine g_dup dX5_append_50 rfl (by first | rfl | exact rf_cat _) ?_
      refine g_get fl_X5_147_X5 dX5_append_51 rfl (Or.inl (tm_o hT)) rfl ?_
      refine g_iconst (v := (nI 1)) dX5_append_54 rfl rfl ?_
      refine g_iaddn dX5_append_55 rfl ?_
      refine t_put2 hT hO fl_X5_147_X5 dX5_append_56 rfl (fun m_56 hT hO => ?_)
      refine g_aload_n dX5_append_59 rfl rfl rfl ?_
      refine g_get fl_X5_147_X5 dX5_append_60 rfl (Or.inl (tm_o hT)) rfl ?_
      refine g_ireturn dX5_append_63 rfl ?_
      have e : uApp s c = (0, nI ((stT s).length + 1), (stT s ++ [c], stP s, stH s, stK s, stC s)) := by unfold uApp; rw [if_pos c_10, if_neg (by omega)]
      rw [e]
      have hlen : (stT s ++ [c]).length = (stT s).length + 1 := by simp
      have hT2 := hT
      rw [← hlen] at hT2
      obtain ⟨a1, a2, a3, a4, a5, a6, a7, a8⟩ := hs
      refine ⟨rfl, ⟨_, _, _, _, hT2, ⟨fun j hj => ?_, ?_, a3, a4, a5, a6, a7, a8⟩⟩, hO⟩
      · have hj : j < (stT s ++ [c]).length := hj
        show f_48 j = lf (stT s ++ [c]) j
        rw [e_48]
        by_cases hjl : j = (stT s).length
        · rw [hjl, upd_eq]; simp [lf]
        · rw [upd_ne hjl, a1 j (by omega)]
          simp only [lf, List.getD_eq_getElem?_getD]
          rw [List.getElem?_append_left (by omega)]
      · show (stT s ++ [c]).length ≤ 120
        omega
    · refine g_iconst (v := (nI 2)) dX5_append_26 rfl rfl ?_
      refine g_goto (tgt := 31) dX5_append_27 (by decide) ?_
      refine g_virtual iV_X5_refused q2451 (t_refS (d := d - 1) (by omega) (x := 2) (by omega) (by omega) hT) (Or.inl (tm_o hT)) rfl (by decide) dX5_append_31 rfl rfl rfl (by first | exact Nat.le_of_ble_eq_true rfl | simp [Value.category, rf_cat]) (by omega) (by omega) (by omega) xN_no (fun v_31 m_31 h_31 => ?_)
      obtain ⟨rfl, hT, hO2⟩ := h_31
      replace hO := xo_tr hO hO2
      refine g_ifn_eq (tgt := 39) dX5_append_34 (by decide) rfl (by omega) (fun c_34 => by omega) (fun _ => ?_)
      refine g_iconst (v := (nI 0)) dX5_append_37 rfl rfl ?_
      refine g_ireturn dX5_append_38 rfl ?_
      first | (have e : uApp s c = (1, 0, s) := by unfold uApp; rw [if_neg (by rw [c_10]; decide)]) | (have e : uApp s c = (2, 0, s) := by unfold uApp; rw [if_pos c_10, if_pos (by omega)])
      rw [e]
      exact ⟨rfl, ⟨_, _, _, _, hT, hs⟩, hO⟩
  · refine g_iconst (v := (nI 1)) dX5_append_13 rfl rfl ?_
    refine g_goto (tgt := 31) dX5_append_14 (by decide) ?_
    refine g_virtual iV_X5_refused q2451 (t_refS (d := d - 1) (by omega) (x := 1) (by omega) (by omega) hT) (Or.inl (tm_o hT)) rfl (by decide) dX5_append_31 rfl rfl rfl (by first | exact Nat.le_of_ble_eq_true rfl | simp [Value.category, rf_cat]) (by omega) (by omega) (by omega) xN_no (fun v_31 m_31 h_31 => ?_)
    obtain ⟨rfl, hT, hO2⟩ := h_31
    replace hO := xo_tr hO hO2
    refine g_ifn_eq (tgt := 39) dX5_append_34 (by decide) rfl (by omega) (fun c_34 => by omega) (fun _ => ?_)
    refine g_iconst (v := (nI 0)) dX5_append_37 rfl rfl ?_
    refine g_ireturn dX5_append_38 rfl ?_
    first | (have e : uApp s c = (1, 0, s) := by unfold uApp; rw [if_neg (by rw [c_10]; decide)]) | (have e : uApp s c = (2, 0, s) := by unfold uApp; rw [if_pos c_10, if_pos (by omega)])
    rw [e]
    exact ⟨rfl, ⟨_, _, _, _, hT, hs⟩, hO⟩
def uClr (s : XSt) : Nat × Int32 × XSt := (0, nI (stT s).length, ([], stP s, stH s, stK s, stC s))
theorem u_clr (hd : 1 ≤ d) (hs : TS A rf s m) : CT w MX5_clearText d 0 0 [.ref (A 0)] m (TR A m (uClr s).2.1 (uClr s).1 (uClr s).2.2) xN := by
  obtain ⟨ls, rs, dp, F, hT, hs⟩ := hs
  refine CT_post (t_clearText hd hT) fun v m' h => ?_
  obtain ⟨h1, h2, h3⟩ := h
  obtain ⟨a1, a2, a3, a4, a5, a6, a7, a8⟩ := hs
  exact ⟨h1, ⟨_, _, _, _, h2, ⟨fun j hj => absurd hj (Nat.not_lt_zero _), Nat.zero_le _, a3, a4, a5, a6, a7, a8⟩⟩, h3⟩
def uSel (s : XSt) (k : Int32) : Nat × Int32 × XSt :=
  if inL k.toInt64 0 2 = true then (0, nI (if k = 0 then itemsL (stP s).1 (clrC (stP s).2.1 (stP s).2.2) (stP s).2.1 else if k = 1 then allL (stP s).1 (clrC (stP s).2.1 (stP s).2.2) (stP s).2.1 else clrC (stP s).2.1 (stP s).2.2), s) else (1, 0, s)
theorem fr_cases (o : Option Nat) (c : Nat) : (o = none ∧ frI o = -9 ∧ clrC c o = c) ∨ ∃ a, o = some a ∧ frI o = nI a ∧ clrC c o = a := by
  cases o with
  | none => exact Or.inl ⟨rfl, rfl, rfl⟩
  | some a => exact Or.inr ⟨a, rfl, rfl, rfl⟩
theorem nI_n9 {a : Nat} (h : a < 1000) : ¬ nI a = -9 := fun e => by
  have := (frI_n (fr := some a) (by intro b hb; cases hb; omega)).mp e
  cases this
theorem u_sel {c : Int32} (hd : 5 ≤ d) (hs : TS A rf s m) (hi : Ipx (stP s)) (hb : Bal (stP s).1) : CT w MX5_selection d 0 0 [.ref (A 0), .int c] m (TR A m (uSel s c).2.1 (uSel s c).1 (uSel s c).2.2) xN := by
  obtain ⟨ls, rs, dp, F, hT, hs⟩ := hs
  have hO := xo_rf A m
  have h3 := hs.2.2.1
  have h3_181 : F 3 181 = nI (stP s).2.1 := h3.2.1
  have hpl := Pgx_l h3
  have hlen := h3.1.2.2
  obtain ⟨hi1, hi2⟩ := id hi
  by_cases hc : inL c.toInt64 0 2 = true
  · obtain ⟨k, hk, rfl⟩ := inL_n (n := 2) (by omega) hc
    have tail : ∀ a m', a = clrC (stP s).2.1 (stP s).2.2 → TM A (nI 0) (nI (stT s).length) (nI (stH s).length) ls rs dp F m' → XOf A m m' → G w MX5_selection (xZ w (TR A m (uSel s (nI k)).2.1 (uSel s (nI k)).1 (uSel s (nI k)).2.2) xN) d 0 0 58 [some (.ref (A 0)), some (.int (nI k)), none] [.int (nI a)] m' := by
      intro a m' ha hT hO
      have ha2 : a ≤ (stP s).2.1 := by
        rw [ha]
        rcases fr_cases (stP s).2.2 (stP s).2.1 with ⟨_, _, e⟩ | ⟨b, e0, _, e⟩
        · rw [e]; exact Nat.le_refl _
        · rw [e]; exact hi2 b e0
      refine g_ist2 dX5_selection_58 rfl (by decide) (k := ?_)
      refine g_iload_n dX5_selection_59 rfl rfl rfl ?_
      refine g_ifn_ne (tgt := 82) dX5_selection_60 (by decide) rfl (by omega) (fun c_60 => ?_) (fun c_60 => ?_)
      · refine g_iload_n dX5_selection_82 rfl rfl rfl ?_
        refine g_iconst (v := (nI 1)) dX5_selection_83 rfl rfl ?_
        refine g_icmpn_ne (tgt := 106) dX5_selection_84 (by decide) rfl (by omega) (by omega) (fun c_84 => ?_) (fun c_84 => ?_)
        · refine g_iload_n dX5_selection_106 rfl rfl rfl ?_
          refine g_ireturn dX5_selection_107 rfl ?_
          have e : uSel s (nI k) = (0, nI (if nI k = 0 then itemsL (stP s).1 (clrC (stP s).2.1 (stP s).2.2) (stP s).2.1 else if nI k = 1 then allL (stP s).1 (clrC (stP s).2.1 (stP s).2.2) (stP s).2.1 else clrC (stP s).2.1 (stP s).2.2), s) := by unfold uSel; rw [if_pos hc]
          rw [e, ← ha]
          refine ⟨?_, ⟨_, _, _, _, hT, hs⟩, hO⟩
          rcases (by omega : k = 0 ∨ k = 1 ∨ k = 2) with rfl | rfl | rfl
          all_goals first | omega | rfl
        · refine g_aload_n dX5_selection_87 rfl rfl rfl ?_
          refine g_get fl_X5_13_X5 dX5_selection_88 rfl (Or.inl (tm_o hT)) rfl ?_
          refine g_iload_n dX5_selection_91 rfl rfl rfl ?_
          refine g_aload_n dX5_selection_92 rfl rfl rfl ?_
          refine g_get fl_X5_13_X5 dX5_selection_93 rfl (Or.inl (tm_o hT)) rfl ?_
          refine g_sipush (v := (nI 181)) dX5_selection_96 rfl rfl ?_
          refine t_ialdn (k := 3) (N := 184) (f := F 3) hT rfl rfl rfl (by first | rfl | assumption) dX5_selection_99 rfl (by omega) ?_
          rw [h3_181]
          refine g_staticP iS_X5_allIn q2508 (p_allIn (d := d - 1) (by omega) (by first | exact tm_at 3 hT rfl rfl rfl rfl | exact tm_at 4 hT rfl rfl rfl rfl | exact tm_at 9 hT rfl rfl rfl rfl) (by assumption) (by omega) (by omega)) dX5_selection_100 rfl rfl rfl (by first | exact Nat.le_of_ble_eq_true rfl | simp [Value.category, rf_cat]) (by omega) xN_no ?_
          refine g_goto (tgt := 107) dX5_selection_103 (by decide) ?_
          refine g_ireturn dX5_selection_107 rfl ?_
          have e : uSel s (nI k) = (0, nI (if nI k = 0 then itemsL (stP s).1 (clrC (stP s).2.1 (stP s).2.2) (stP s).2.1 else if nI k = 1 then allL (stP s).1 (clrC (stP s).2.1 (stP s).2.2) (stP s).2.1 else clrC (stP s).2.1 (stP s).2.2), s) := by unfold uSel; rw [if_pos hc]
          rw [e, ← ha]
          refine ⟨?_, ⟨_, _, _, _, hT, hs⟩, hO⟩
          rcases (by omega : k = 0 ∨ k = 1 ∨ k = 2) with rfl | rfl | rfl
          all_goals first | omega | rfl
      · refine g_aload_n dX5_selection_63 rfl rfl rfl ?_
        refine g_get fl_X5_13_X5 dX5_selection_64 rfl (Or.inl (tm_o hT)) rfl ?_
        refine g_iload_n dX5_selection_67 rfl rfl rfl ?_
        refine g_aload_n dX5_selection_68 rfl rfl rfl ?_
        refine g_get fl_X5_13_X5 dX5_selection_69 rfl (Or.inl (tm_o hT)) rfl ?_
        refine g_sipush (v := (nI 181)) dX5_selection_72 rfl rfl ?_
        refine t_ialdn (k := 3) (N := 184) (f := F 3) hT rfl rfl rfl (by first | rfl | assumption) dX5_selection_75 rfl (by omega) ?_
        rw [h3_181]
        refine g_staticP iS_X5_itemsIn q2539 (p_itemsIn (d := d - 1) (by omega) (by first | exact tm_at 3 hT rfl rfl rfl rfl | exact tm_at 4 hT rfl rfl rfl rfl | exact tm_at 9 hT rfl rfl rfl rfl) (by assumption) (by assumption) (by omega) (by omega)) dX5_selection_76 rfl rfl rfl (by first | exact Nat.le_of_ble_eq_true rfl | simp [Value.category, rf_cat]) (by omega) xN_no ?_
        refine g_goto (tgt := 107) dX5_selection_79 (by decide) ?_
        refine g_ireturn dX5_selection_107 rfl ?_
        have e : uSel s (nI k) = (0, nI (if nI k = 0 then itemsL (stP s).1 (clrC (stP s).2.1 (stP s).2.2) (stP s).2.1 else if nI k = 1 then allL (stP s).1 (clrC (stP s).2.1 (stP s).2.2) (stP s).2.1 else clrC (stP s).2.1 (stP s).2.2), s) := by unfold uSel; rw [if_pos hc]
        rw [e, ← ha]
        refine ⟨?_, ⟨_, _, _, _, hT, hs⟩, hO⟩
        rcases (by omega : k = 0 ∨ k = 1 ∨ k = 2) with rfl | rfl | rfl
        all_goals first | omega | rfl
    rcases fr_cases (stP s).2.2 (stP s).2.1 with ⟨e0, e1, e2⟩ | ⟨a, e0, e1, e2⟩
    · have h3_182 : F 3 182 = -9 := by rw [← e1]; exact h3.2.2
      refine ct_intro (lv := [some (.ref (A 0)), some (.int (nI k)), none]) 1 (by decide) rfl (Nat.le_of_ble_eq_true rfl) rfl ?_
      refine g_aload_n dX5_selection_0 rfl rfl rfl ?_
      refine g_iload_n dX5_selection_1 rfl rfl rfl ?_
      refine g_i2l dX5_selection_2 rfl rfl ?_
      refine g_lconst (v := 0) dX5_selection_3 rfl rfl ?_
      refine g_ldc2 dX5_selection_4 rfl q2552 ?_
      refine g_staticP iS_X5_in q2448 (c_in (d := d - 1) (by omega) _ _ _) dX5_selection_7 rfl rfl rfl (by first | exact Nat.le_of_ble_eq_true rfl | simp [Value.category, rf_cat]) (by omega) xN_no ?_
      refine g_ifB_eq (tgt := 17) dX5_selection_10 (by decide) rfl (fun c_10 => ?_) (fun c_10 => ?_)
      · exact absurd hc (by rw [c_10]; decide)
      · refine g_iconst (v := (nI 0)) dX5_selection_13 rfl rfl ?_
        refine g_goto (tgt := 18) dX5_selection_14 (by decide) ?_
        refine g_virtual iV_X5_refused q2451 (t_ref0 (d := d - 1) (by omega) hT) (Or.inl (tm_o hT)) rfl (by decide) dX5_selection_18 rfl rfl rfl (by first | exact Nat.le_of_ble_eq_true rfl | simp [Value.category, rf_cat]) (by omega) (by omega) (by omega) xN_no (fun v_18 m_18 h_18 => ?_)
        obtain ⟨rfl, hT, hO2⟩ := h_18
        replace hO := xo_tr hO hO2
        refine g_ifn_eq (tgt := 26) dX5_selection_21 (by decide) rfl (by omega) (fun _ => ?_) (fun c_21 => by omega)
        refine g_aload_n dX5_selection_26 rfl rfl rfl ?_
        refine g_get fl_X5_13_X5 dX5_selection_27 rfl (Or.inl (tm_o hT)) rfl ?_
        refine g_sipush (v := (nI 182)) dX5_selection_30 rfl rfl ?_
        refine t_ialdn (k := 3) (N := 184) (f := F 3) hT rfl rfl rfl (by first | rfl | assumption) dX5_selection_33 rfl (by omega) ?_
        rw [h3_182]
        refine g_bipush (v := (-9)) dX5_selection_34 rfl rfl ?_
        refine g_icmp_ne (tgt := 50) dX5_selection_36 (by decide) rfl (fun c_36 => ?_) (fun c_36 => ?_)
        · exact absurd rfl c_36
        · refine g_aload_n dX5_selection_39 rfl rfl rfl ?_
          refine g_get fl_X5_13_X5 dX5_selection_40 rfl (Or.inl (tm_o hT)) rfl ?_
          refine g_sipush (v := (nI 181)) dX5_selection_43 rfl rfl ?_
          refine t_ialdn (k := 3) (N := 184) (f := F 3) hT rfl rfl rfl (by first | rfl | assumption) dX5_selection_46 rfl (by omega) ?_
          rw [h3_181]
          refine g_goto (tgt := 58) dX5_selection_47 (by decide) ?_
          exact tail _ _ e2.symm hT hO
    · have h3_182 : F 3 182 = nI a := by rw [← e1]; exact h3.2.2
      have := hi2 a e0
      have hn9 := nI_n9 (a := a) (by omega)
      refine ct_intro (lv := [some (.ref (A 0)), some (.int (nI k)), none]) 1 (by decide) rfl (Nat.le_of_ble_eq_true rfl) rfl ?_
      refine g_aload_n dX5_selection_0 rfl rfl rfl ?_
      refine g_iload_n dX5_selection_1 rfl rfl rfl ?_
      refine g_i2l dX5_selection_2 rfl rfl ?_
      refine g_lconst (v := 0) dX5_selection_3 rfl rfl ?_
      refine g_ldc2 dX5_selection_4 rfl q2552 ?_
      refine g_staticP iS_X5_in q2448 (c_in (d := d - 1) (by omega) _ _ _) dX5_selection_7 rfl rfl rfl (by first | exact Nat.le_of_ble_eq_true rfl | simp [Value.category, rf_cat]) (by omega) xN_no ?_
      refine g_ifB_eq (tgt := 17) dX5_selection_10 (by decide) rfl (fun c_10 => ?_) (fun c_10 => ?_)
      · exact absurd hc (by rw [c_10]; decide)
      · refine g_iconst (v := (nI 0)) dX5_selection_13 rfl rfl ?_
        refine g_goto (tgt := 18) dX5_selection_14 (by decide) ?_
        refine g_virtual iV_X5_refused q2451 (t_ref0 (d := d - 1) (by omega) hT) (Or.inl (tm_o hT)) rfl (by decide) dX5_selection_18 rfl rfl rfl (by first | exact Nat.le_of_ble_eq_true rfl | simp [Value.category, rf_cat]) (by omega) (by omega) (by omega) xN_no (fun v_18 m_18 h_18 => ?_)
        obtain ⟨rfl, hT, hO2⟩ := h_18
        replace hO := xo_tr hO hO2
        refine g_ifn_eq (tgt := 26) dX5_selection_21 (by decide) rfl (by omega) (fun _ => ?_) (fun c_21 => by omega)
        refine g_aload_n dX5_selection_26 rfl rfl rfl ?_
        refine g_get fl_X5_13_X5 dX5_selection_27 rfl (Or.inl (tm_o hT)) rfl ?_
        refine g_sipush (v := (nI 182)) dX5_selection_30 rfl rfl ?_
        refine t_ialdn (k := 3) (N := 184) (f := F 3) hT rfl rfl rfl (by first | rfl | assumption) dX5_selection_33 rfl (by omega) ?_
        rw [h3_182]
        refine g_bipush (v := (-9)) dX5_selection_34 rfl rfl ?_
        refine g_icmp_ne (tgt := 50) dX5_selection_36 (by decide) rfl (fun c_36 => ?_) (fun c_36 => ?_)
        · refine g_aload_n dX5_selection_50 rfl rfl rfl ?_
          refine g_get fl_X5_13_X5 dX5_selection_51 rfl (Or.inl (tm_o hT)) rfl ?_
          refine g_sipush (v := (nI 182)) dX5_selection_54 rfl rfl ?_
          refine t_ialdn (k := 3) (N := 184) (f := F 3) hT rfl rfl rfl (by first | rfl | assumption) dX5_selection_57 rfl (by omega) ?_
          rw [h3_182]
          exact tail _ _ e2.symm hT hO
        · exact absurd c_36 hn9
  · refine ct_intro (lv := [some (.ref (A 0)), some (.int c), none]) 1 (by decide) rfl (Nat.le_of_ble_eq_true rfl) rfl ?_
    refine g_aload_n dX5_selection_0 rfl rfl rfl ?_
    refine g_iload_n dX5_selection_1 rfl rfl rfl ?_
    refine g_i2l dX5_selection_2 rfl rfl ?_
    refine g_lconst (v := 0) dX5_selection_3 rfl rfl ?_
    refine g_ldc2 dX5_selection_4 rfl q2552 ?_
    refine g_staticP iS_X5_in q2448 (c_in (d := d - 1) (by omega) _ _ _) dX5_selection_7 rfl rfl rfl (by first | exact Nat.le_of_ble_eq_true rfl | simp [Value.category, rf_cat]) (by omega) xN_no ?_
    refine g_ifB_eq (tgt := 17) dX5_selection_10 (by decide) rfl (fun c_10 => ?_) (fun c_10 => ?_)
    · refine g_iconst (v := (nI 1)) dX5_selection_17 rfl rfl ?_
      refine g_virtual iV_X5_refused q2451 (t_refS (d := d - 1) (by omega) (x := 1) (by omega) (by omega) hT) (Or.inl (tm_o hT)) rfl (by decide) dX5_selection_18 rfl rfl rfl (by first | exact Nat.le_of_ble_eq_true rfl | simp [Value.category, rf_cat]) (by omega) (by omega) (by omega) xN_no (fun v_18 m_18 h_18 => ?_)
      obtain ⟨rfl, hT, hO2⟩ := h_18
      replace hO := xo_tr hO hO2
      refine g_ifn_eq (tgt := 26) dX5_selection_21 (by decide) rfl (by omega) (fun c_21 => by omega) (fun _ => ?_)
      refine g_iconst (v := (nI 0)) dX5_selection_24 rfl rfl ?_
      refine g_ireturn dX5_selection_25 rfl ?_
      have e : uSel s c = (1, 0, s) := by unfold uSel; rw [if_neg hc]
      rw [e]
      exact ⟨rfl, ⟨_, _, _, _, hT, hs⟩, hO⟩
    · exact absurd c_10 hc
def uGrow (s : XSt) : Nat × Int32 × XSt := match grD (stP s) with
  | some q => (0, nI (itemsL q.1 (clrC q.2.1 q.2.2) q.2.1), (stT s, q, stH s, stK s, stC s))
  | none => (1, 0, s)
theorem grD_some {p q : XPage} (h : grD p = some q) : q.1 = p.1 ∧ q.2.2 = some (clrC q.2.1 q.2.2) := by
  unfold grD at h
  cases hc : growD p.1 p.2.1 p.2.2 with
  | none => rw [hc] at h; cases h
  | some z => rw [hc] at h; cases h; exact ⟨rfl, rfl⟩
theorem u_grow (hd : 6 ≤ d) (hs : TS A rf s m) (hi : Ipx (stP s)) (hb : Bal (stP s).1) (he : rowStartL (stP s).1 (stP s).2.1 ≠ 0 → endOfL (stP s).1 (rowEndL (stP s).1 (stP s).2.1) < (stP s).1.length) (hq : ∀ q, grD (stP s) = some q → Ipx q) : CT w MX5_grow d 0 0 [.ref (A 0)] m (TR A m (uGrow s).2.1 (uGrow s).1 (uGrow s).2.2) xN := by
  obtain ⟨ls, rs, dp, F, hT, hs⟩ := hs
  have hO := xo_rf A m
  have h3 := hs.2.2.1
  have hlen := h3.1.2.2
  refine ct_intro (lv := [some (.ref (A 0))]) 0 (by decide) rfl (Nat.le_of_ble_eq_true rfl) rfl ?_
  refine g_aload_n dX5_grow_0 rfl rfl rfl ?_
  refine g_aload_n dX5_grow_1 rfl rfl rfl ?_
  refine g_get fl_X5_13_X5 dX5_grow_2 rfl (Or.inl (tm_o hT)) rfl ?_
  refine g_static iS_X5_grows q2611 (q_grows (d := d - 1) (by omega) (tm_at 3 hT rfl rfl rfl rfl) h3 hi hb he) dX5_grow_5 rfl rfl rfl (by first | exact Nat.le_of_ble_eq_true rfl | simp [Value.category, rf_cat]) (by omega) (by omega) (by omega) xN_no (fun v_5 m_5 h_5 => ?_)
  obtain ⟨rfl, f3, rfl, hp3⟩ := h_5
  replace hO := xo_u (e := iA 0 184 f3) 3 rfl hO
  replace hT := tm_xu (k := 3) (t := 0) (N := 184) (f := f3) hT rfl rfl rfl
  refine g_ifB_eq (tgt := 15) dX5_grow_8 (by decide) rfl (fun c_8 => ?_) (fun c_8 => ?_)
  · refine g_iconst (v := (nI 1)) dX5_grow_15 rfl rfl ?_
    refine g_virtual iV_X5_refused q2451 (t_refS (d := d - 1) (by omega) (x := 1) (by omega) (by omega) hT) (Or.inl (tm_o hT)) rfl (by decide) dX5_grow_16 rfl rfl rfl (by first | exact Nat.le_of_ble_eq_true rfl | simp [Value.category, rf_cat]) (by omega) (by omega) (by omega) xN_no (fun v_16 m_16 h_16 => ?_)
    obtain ⟨rfl, hT, hO2⟩ := h_16
    replace hO := xo_tr hO hO2
    refine g_ifn_eq (tgt := 26) dX5_grow_19 (by decide) rfl (by omega) (fun c_19 => by omega) (fun _ => ?_)
    refine g_iconst (v := (nI 0)) dX5_grow_22 rfl rfl ?_
    refine g_goto (tgt := 49) dX5_grow_23 (by decide) ?_
    refine g_ireturn dX5_grow_49 rfl ?_
    have hqq := Option.isSome_eq_false_iff.mp c_8 |> Option.isNone_iff_eq_none.mp
    have e : uGrow s = (1, 0, s) := by unfold uGrow; rw [hqq]
    rw [e]
    rw [hqq] at hp3
    exact ⟨rfl, ⟨_, _, _, _, hT, tIn_cur (q := stP s) hs hp3 rfl rfl rfl rfl rfl⟩, hO⟩
  · refine g_iconst (v := (nI 0)) dX5_grow_11 rfl rfl ?_
    refine g_goto (tgt := 16) dX5_grow_12 (by decide) ?_
    refine g_virtual iV_X5_refused q2451 (t_ref0 (d := d - 1) (by omega) hT) (Or.inl (tm_o hT)) rfl (by decide) dX5_grow_16 rfl rfl rfl (by first | exact Nat.le_of_ble_eq_true rfl | simp [Value.category, rf_cat]) (by omega) (by omega) (by omega) xN_no (fun v_16 m_16 h_16 => ?_)
    obtain ⟨rfl, hT, hO2⟩ := h_16
    replace hO := xo_tr hO hO2
    refine g_ifn_eq (tgt := 26) dX5_grow_19 (by decide) rfl (by omega) (fun _ => ?_) (fun c_19 => by omega)
    obtain ⟨q, hqq⟩ := Option.isSome_iff_exists.mp c_8
    rw [hqq] at hp3
    change Pgx f3 q at hp3
    obtain ⟨q1, q2⟩ := grD_some hqq
    obtain ⟨i1, i2⟩ := hq q hqq
    have i2 := i2 _ q2
    have hl3 := hp3.1.2.2
    have hb : Bal q.1 := by rw [q1]; exact hb
    have h3_181 : f3 181 = nI q.2.1 := hp3.2.1
    have h3_182 : f3 182 = nI (clrC q.2.1 q.2.2) := by rw [hp3.2.2, q2]; rfl
    refine g_aload_n dX5_grow_26 rfl rfl rfl ?_
    refine g_get fl_X5_13_X5 dX5_grow_27 rfl (Or.inl (tm_o hT)) rfl ?_
    refine g_aload_n dX5_grow_30 rfl rfl rfl ?_
    refine g_get fl_X5_13_X5 dX5_grow_31 rfl (Or.inl (tm_o hT)) rfl ?_
    refine g_sipush (v := (nI 182)) dX5_grow_34 rfl rfl ?_
    refine t_ialdn (k := 3) (N := 184) (f := f3) hT rfl rfl rfl rfl dX5_grow_37 rfl (by omega) ?_
    rw [h3_182]
    refine g_aload_n dX5_grow_38 rfl rfl rfl ?_
    refine g_get fl_X5_13_X5 dX5_grow_39 rfl (Or.inl (tm_o hT)) rfl ?_
    refine g_sipush (v := (nI 181)) dX5_grow_42 rfl rfl ?_
    refine t_ialdn (k := 3) (N := 184) (f := f3) hT rfl rfl rfl rfl dX5_grow_45 rfl (by omega) ?_
    rw [h3_181]
    refine g_staticP iS_X5_itemsIn q2539 (p_itemsIn (d := d - 1) (by omega) (f := f3) (tm_at 3 hT rfl rfl rfl rfl) (Pgx_l hp3) hb (by omega) (by omega)) dX5_grow_46 rfl rfl rfl (by first | exact Nat.le_of_ble_eq_true rfl | simp [Value.category, rf_cat]) (by omega) xN_no ?_
    refine g_ireturn dX5_grow_49 rfl ?_
    have e : uGrow s = (0, nI (itemsL q.1 (clrC q.2.1 q.2.2) q.2.1), (stT s, q, stH s, stK s, stC s)) := by unfold uGrow; rw [hqq]
    rw [e]
    exact ⟨rfl, ⟨_, _, _, _, hT, tIn_cur hs hp3 rfl rfl rfl rfl rfl⟩, hO⟩
end TW11
