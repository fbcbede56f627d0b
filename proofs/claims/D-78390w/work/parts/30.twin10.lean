/-! TWIN: its acts: slots, the caret, text -/
set_option maxRecDepth 100000
section TW10
variable {w : XW} {d : Nat} {m : XM} {A : Nat → Nat} {rf : Int32} {s : XSt}
def uSave (s : XSt) (k : Int32) : Nat × Int32 × XSt :=
  if inL k.toInt64 0 1 = true then (0, nI (allL (stP s).1 0 (stP s).1.length), (stT s, stP s, stH s, (if k = 0 then (some (stP s), (stK s).2) else ((stK s).1, some (stP s))), stC s)) else (1, 0, s)
theorem u_save {c : Int32} (hd : 3 ≤ d) (hs : TS A rf s m) : CT w MX5_save d 0 0 [.ref (A 0), .int c] m (TR A m (uSave s c).2.1 (uSave s c).1 (uSave s c).2.2) xN := by
  obtain ⟨ls, rs, dp, F, hT, hs⟩ := hs
  have hO := xo_rf A m
  by_cases hc : inL c.toInt64 0 1 = true
  · obtain ⟨k, hk, rfl⟩ := inL_n (n := 1) (by omega) hc
    refine ct_intro (lv := [some (.ref (A 0)), some (.int (nI k))]) 0 (by decide) rfl (Nat.le_of_ble_eq_true rfl) rfl ?_
    refine g_aload_n dX5_save_0 rfl rfl rfl ?_
    refine g_iload_n dX5_save_1 rfl rfl rfl ?_
    refine g_i2l dX5_save_2 rfl rfl ?_
    refine g_lconst (v := 0) dX5_save_3 rfl rfl ?_
    refine g_lconst (v := 1) dX5_save_4 rfl rfl ?_
    refine g_staticP iS_X5_in q2448 (c_in (d := d - 1) (by omega) _ _ _) dX5_save_5 rfl rfl rfl (by first | exact Nat.le_of_ble_eq_true rfl | simp [Value.category, rf_cat]) (by omega) xN_no ?_
    refine g_ifB_eq (tgt := 15) dX5_save_8 (by decide) rfl (fun c_8 => ?_) (fun c_8 => ?_)
    · exact absurd hc (by rw [c_8]; decide)
    · refine g_iconst (v := (nI 0)) dX5_save_11 rfl rfl ?_
      refine g_goto (tgt := 16) dX5_save_12 (by decide) ?_
      refine g_virtual iV_X5_refused q2451 (t_ref0 (d := d - 1) (by omega) hT) (Or.inl (tm_o hT)) rfl (by decide) dX5_save_16 rfl rfl rfl (by first | exact Nat.le_of_ble_eq_true rfl | simp [Value.category, rf_cat]) (by omega) (by omega) (by omega) xN_no (fun v_16 m_16 h_16 => ?_)
      obtain ⟨rfl, hT, hO2⟩ := h_16
      replace hO := xo_tr hO hO2
      refine g_ifn_eq (tgt := 24) dX5_save_19 (by decide) rfl (by omega) (fun _ => ?_) (fun c_19 => by omega)
      refine g_aload_n dX5_save_24 rfl rfl rfl ?_
      refine g_get fl_X5_25_X5 dX5_save_25 rfl (Or.inl (tm_o hT)) rfl ?_
      refine g_iload_n dX5_save_28 rfl rfl rfl ?_
      refine g_iconst (v := 1) dX5_save_29 rfl rfl ?_
      refine t_zastn (k := 8) (N := 2) (f := F 8) hT hO rfl rfl rfl (by first | rfl | assumption) dX5_save_30 rfl (by omega) (by first | rfl | exact xB_nar _) (fun m_30 f_30 e_30 hT hO => ?_)
      refine g_aload_n dX5_save_31 rfl rfl rfl ?_
      refine g_get fl_X5_13_X5 dX5_save_32 rfl (Or.inl (tm_o hT)) rfl ?_
      refine g_iconst (v := (nI 0)) dX5_save_35 rfl rfl ?_
      refine g_aload_n dX5_save_36 rfl rfl rfl ?_
      refine g_get fl_X5_22_X5 dX5_save_37 rfl (Or.inl (tm_o hT)) rfl ?_
      refine g_sipush (v := (nI 184)) dX5_save_40 rfl rfl ?_
      refine g_iload_n dX5_save_43 rfl rfl rfl ?_
      refine g_imuln dX5_save_44 rfl ?_
      refine g_static iS_X5_copyPage q2622 (t_copy (i := 3) (k := 7) (N1 := 184) (N2 := 368) (d := d - 1) (by omega) rfl rfl rfl rfl rfl rfl (by decide) (by omega) (by omega) rfl rfl hT) dX5_save_45 rfl rfl rfl (by first | exact Nat.le_of_ble_eq_true rfl | simp [Value.category, rf_cat]) (by omega) (by omega) (by omega) xN_no (fun v_45 m_45 h_45 => ?_)
      obtain ⟨rfl, hT, hO2⟩ := h_45
      replace hO := xo_tr hO hO2
      have h3 : Pgx (F 3) (stP s) := hs.2.2.1
      have h3_180 : F 3 180 = nI (stP s).1.length := h3.1.2.1
      have hpl := Pgx_l h3
      refine g_aload_n dX5_save_48 rfl rfl rfl ?_
      refine g_get fl_X5_13_X5 dX5_save_49 rfl (Or.inl (tm_o hT)) rfl ?_
      refine g_iconst (v := (nI 0)) dX5_save_52 rfl rfl ?_
      refine g_aload_n dX5_save_53 rfl rfl rfl ?_
      refine g_get fl_X5_13_X5 dX5_save_54 rfl (Or.inl (tm_o hT)) rfl ?_
      refine g_sipush (v := (nI 180)) dX5_save_57 rfl rfl ?_
      refine t_ialdn (k := 3) (N := 184) (f := F 3) hT rfl rfl rfl (by first | rfl | assumption) dX5_save_60 rfl (by omega) ?_
      rw [h3_180]
      refine g_staticP iS_X5_allIn q2508 (p_allIn (d := d - 1) (by omega) (f := F 3) (tm_at 3 hT rfl rfl rfl rfl) hpl (by omega) (by omega)) dX5_save_61 rfl rfl rfl (by first | exact Nat.le_of_ble_eq_true rfl | simp [Value.category, rf_cat]) (by omega) xN_no ?_
      refine g_ireturn dX5_save_64 rfl ?_
      have e : uSave s (nI k) = (0, nI (allL (stP s).1 0 (stP s).1.length), (stT s, stP s, stH s, (if nI k = 0 then (some (stP s), (stK s).2) else ((stK s).1, some (stP s))), stC s)) := by unfold uSave; rw [if_pos hc]
      rw [e]
      obtain ⟨a1, a2, a3, a4, a5, a6, a7, a8⟩ := hs
      refine ⟨rfl, ⟨_, _, _, _, hT, ⟨a1, a2, a3, a4, a5, ?_, ?_, a8⟩⟩, hO⟩
      · show kpP (f_30 0) (cpF (F 3) 0 (F 7) (184 * k)) (stK (stT s, stP s, stH s, (if nI k = 0 then (some (stP s), (stK s).2) else ((stK s).1, some (stP s))), stC s)).1
        rw [e_30]
        rcases (by omega : k = 0 ∨ k = 1) with rfl | rfl
        · refine ⟨by rw [upd_eq]; rfl, fun p hp => ?_⟩
          cases hp
          exact Pgx_c (fun j hj => by unfold cpF cpK; rw [if_pos (by omega)]; congr 1; omega) a3
        · refine ⟨by rw [upd_ne (by omega)]; exact a6.1, fun p hp => ?_⟩
          exact Pgx_c (fun j hj => by unfold cpF cpK; rw [if_neg (by omega)]) (a6.2 p hp)
      · show kpP (f_30 1) (fun j => cpF (F 3) 0 (F 7) (184 * k) (184 + j)) (stK (stT s, stP s, stH s, (if nI k = 0 then (some (stP s), (stK s).2) else ((stK s).1, some (stP s))), stC s)).2
        rw [e_30]
        rcases (by omega : k = 0 ∨ k = 1) with rfl | rfl
        · refine ⟨by rw [upd_ne (by omega)]; exact a7.1, fun p hp => ?_⟩
          exact Pgx_c (fun j hj => by unfold cpF cpK; rw [if_neg (by omega)]) (a7.2 p hp)
        · refine ⟨by rw [upd_eq]; rfl, fun p hp => ?_⟩
          cases hp
          exact Pgx_c (fun j hj => by unfold cpF cpK; rw [if_pos (by omega)]; congr 1; omega) a3
  · refine ct_intro (lv := [some (.ref (A 0)), some (.int c)]) 0 (by decide) rfl (Nat.le_of_ble_eq_true rfl) rfl ?_
    refine g_aload_n dX5_save_0 rfl rfl rfl ?_
    refine g_iload_n dX5_save_1 rfl rfl rfl ?_
    refine g_i2l dX5_save_2 rfl rfl ?_
    refine g_lconst (v := 0) dX5_save_3 rfl rfl ?_
    refine g_lconst (v := 1) dX5_save_4 rfl rfl ?_
    refine g_staticP iS_X5_in q2448 (c_in (d := d - 1) (by omega) _ _ _) dX5_save_5 rfl rfl rfl (by first | exact Nat.le_of_ble_eq_true rfl | simp [Value.category, rf_cat]) (by omega) xN_no ?_
    refine g_ifB_eq (tgt := 15) dX5_save_8 (by decide) rfl (fun c_8 => ?_) (fun c_8 => ?_)
    · refine g_iconst (v := (nI 1)) dX5_save_15 rfl rfl ?_
      refine g_virtual iV_X5_refused q2451 (t_refS (d := d - 1) (by omega) (x := 1) (by omega) (by omega) hT) (Or.inl (tm_o hT)) rfl (by decide) dX5_save_16 rfl rfl rfl (by first | exact Nat.le_of_ble_eq_true rfl | simp [Value.category, rf_cat]) (by omega) (by omega) (by omega) xN_no (fun v_16 m_16 h_16 => ?_)
      obtain ⟨rfl, hT, hO2⟩ := h_16
      replace hO := xo_tr hO hO2
      refine g_ifn_eq (tgt := 24) dX5_save_19 (by decide) rfl (by omega) (fun c_19 => by omega) (fun _ => ?_)
      refine g_iconst (v := (nI 0)) dX5_save_22 rfl rfl ?_
      refine g_ireturn dX5_save_23 rfl ?_
      have e : uSave s c = (1, 0, s) := by unfold uSave; rw [if_neg hc]
      rw [e]
      exact ⟨rfl, ⟨_, _, _, _, hT, hs⟩, hO⟩
    · exact absurd c_8 hc
def uRest (s : XSt) (k : Int32) : Nat × Int32 × XSt :=
  if inL k.toInt64 0 1 = true then match (if k = 0 then (stK s).1 else (stK s).2) with
    | some q => (0, nI (allL q.1 0 q.1.length), (stT s, q, [], stK s, stC s))
    | none => (2, 0, s)
  else (1, 0, s)
theorem u_rest {c : Int32} (hd : 3 ≤ d) (hs : TS A rf s m) : CT w MX5_restore d 0 0 [.ref (A 0), .int c] m (TR A m (uRest s c).2.1 (uRest s c).1 (uRest s c).2.2) xN := by
  obtain ⟨ls, rs, dp, F, hT, hs⟩ := hs
  have hO := xo_rf A m
  by_cases hc : inL c.toInt64 0 1 = true
  · obtain ⟨k, hk, rfl⟩ := inL_n (n := 1) (by omega) hc
    have hkp : kpP (F 8 k) (fun j => F 7 (184 * k + j)) (if nI k = 0 then (stK s).1 else (stK s).2) := by
      rcases (by omega : k = 0 ∨ k = 1) with rfl | rfl
      · have := hs.2.2.2.2.2.1
        rw [if_pos (show nI 0 = 0 from rfl)]
        exact ⟨this.1, fun p hp => Pgx_c (fun j hj => by congr 1; omega) (this.2 p hp)⟩
      · rw [if_neg (by decide)]; exact hs.2.2.2.2.2.2.1
    refine ct_intro (lv := [some (.ref (A 0)), some (.int (nI k))]) 0 (by decide) rfl (Nat.le_of_ble_eq_true rfl) rfl ?_
    refine g_aload_n dX5_restore_0 rfl rfl rfl ?_
    refine g_iload_n dX5_restore_1 rfl rfl rfl ?_
    refine g_i2l dX5_restore_2 rfl rfl ?_
    refine g_lconst (v := 0) dX5_restore_3 rfl rfl ?_
    refine g_lconst (v := 1) dX5_restore_4 rfl rfl ?_
    refine g_staticP iS_X5_in q2448 (c_in (d := d - 1) (by omega) _ _ _) dX5_restore_5 rfl rfl rfl (by first | exact Nat.le_of_ble_eq_true rfl | simp [Value.category, rf_cat]) (by omega) xN_no ?_
    refine g_ifB_ne (tgt := 15) dX5_restore_8 (by decide) rfl (fun c_8 => ?_) (fun c_8 => ?_)
    · refine g_aload_n dX5_restore_15 rfl rfl rfl ?_
      refine g_get fl_X5_25_X5 dX5_restore_16 rfl (Or.inl (tm_o hT)) rfl ?_
      refine g_iload_n dX5_restore_19 rfl rfl rfl ?_
      skip
      refine t_zaldn (k := 8) (N := 2) (f := F 8) hT rfl rfl rfl (by first | rfl | assumption) dX5_restore_20 rfl (by omega) ?_
      rw [hkp.1]
      refine g_ifB_ne (tgt := 28) dX5_restore_21 (by decide) rfl (fun c_21 => ?_) (fun c_21 => ?_)
      · refine g_iconst (v := (nI 0)) dX5_restore_28 rfl rfl ?_
        refine g_virtual iV_X5_refused q2451 (t_ref0 (d := d - 1) (by omega) hT) (Or.inl (tm_o hT)) rfl (by decide) dX5_restore_29 rfl rfl rfl (by first | exact Nat.le_of_ble_eq_true rfl | simp [Value.category, rf_cat]) (by omega) (by omega) (by omega) xN_no (fun v_29 m_29 h_29 => ?_)
        obtain ⟨rfl, hT, hO2⟩ := h_29
        replace hO := xo_tr hO hO2
        refine g_ifn_eq (tgt := 37) dX5_restore_32 (by decide) rfl (by omega) (fun _ => ?_) (fun c_32 => by omega)
        refine g_aload_n dX5_restore_37 rfl rfl rfl ?_
        refine g_get fl_X5_22_X5 dX5_restore_38 rfl (Or.inl (tm_o hT)) rfl ?_
        refine g_sipush (v := (nI 184)) dX5_restore_41 rfl rfl ?_
        refine g_iload_n dX5_restore_44 rfl rfl rfl ?_
        refine g_imuln dX5_restore_45 rfl ?_
        refine g_aload_n dX5_restore_46 rfl rfl rfl ?_
        refine g_get fl_X5_13_X5 dX5_restore_47 rfl (Or.inl (tm_o hT)) rfl ?_
        refine g_iconst (v := (nI 0)) dX5_restore_50 rfl rfl ?_
        refine g_static iS_X5_copyPage q2622 (t_copy (i := 7) (k := 3) (N1 := 368) (N2 := 184) (d := d - 1) (by omega) rfl rfl rfl rfl rfl rfl (by decide) (by omega) (by omega) rfl rfl hT) dX5_restore_51 rfl rfl rfl (by first | exact Nat.le_of_ble_eq_true rfl | simp [Value.category, rf_cat]) (by omega) (by omega) (by omega) xN_no (fun v_51 m_51 h_51 => ?_)
        obtain ⟨rfl, hT, hO2⟩ := h_51
        replace hO := xo_tr hO hO2
        refine g_aload_n dX5_restore_54 rfl rfl rfl ?_
        refine g_iconst (v := (nI 0)) dX5_restore_55 rfl rfl ?_
        refine t_put6 hT hO fl_X5_182_X5 dX5_restore_56 rfl (fun m_56 hT hO => ?_)
        obtain ⟨q, hq⟩ := Option.isSome_iff_exists.mp c_21
        obtain ⟨f3, e3⟩ : ∃ f3, f3 = cpF (F 7) (184 * k) (F 3) 0 := ⟨_, rfl⟩
        rw [← e3] at hT
        have h3 : Pgx f3 q := by rw [e3]; exact Pgx_c (fun j hj => by unfold cpF cpK; rw [if_pos (by omega)]; congr 1) (hkp.2 q hq)
        have h3_180 : f3 180 = nI q.1.length := h3.1.2.1
        have hpl := Pgx_l h3
        refine g_aload_n dX5_restore_59 rfl rfl rfl ?_
        refine g_get fl_X5_13_X5 dX5_restore_60 rfl (Or.inl (tm_o hT)) rfl ?_
        refine g_iconst (v := (nI 0)) dX5_restore_63 rfl rfl ?_
        refine g_aload_n dX5_restore_64 rfl rfl rfl ?_
        refine g_get fl_X5_13_X5 dX5_restore_65 rfl (Or.inl (tm_o hT)) rfl ?_
        refine g_sipush (v := (nI 180)) dX5_restore_68 rfl rfl ?_
        refine t_ialdn (k := 3) (N := 184) (f := f3) hT rfl rfl rfl rfl dX5_restore_71 rfl (by omega) ?_
        rw [h3_180]
        refine g_staticP iS_X5_allIn q2508 (p_allIn (d := d - 1) (by omega) (f := f3) (tm_at 3 hT rfl rfl rfl rfl) hpl (by omega) (by omega)) dX5_restore_72 rfl rfl rfl (by first | exact Nat.le_of_ble_eq_true rfl | simp [Value.category, rf_cat]) (by omega) xN_no ?_
        refine g_ireturn dX5_restore_75 rfl ?_
        have e : uRest s (nI k) = (0, nI (allL q.1 0 q.1.length), (stT s, q, [], stK s, stC s)) := by unfold uRest; rw [if_pos hc, hq]
        rw [e]
        obtain ⟨a1, a2, a3, a4, a5, a6, a7, a8⟩ := hs
        exact ⟨rfl, ⟨_, _, _, _, hT, ⟨a1, a2, h3, by show (0 : Nat) ≤ 14; omega, (fun k p h => by simp [stH] at h), a6, a7, a8⟩⟩, hO⟩
      · refine g_iconst (v := (nI 2)) dX5_restore_24 rfl rfl ?_
        refine g_goto (tgt := 29) dX5_restore_25 (by decide) ?_
        refine g_virtual iV_X5_refused q2451 (t_refS (d := d - 1) (by omega) (x := 2) (by omega) (by omega) hT) (Or.inl (tm_o hT)) rfl (by decide) dX5_restore_29 rfl rfl rfl (by first | exact Nat.le_of_ble_eq_true rfl | simp [Value.category, rf_cat]) (by omega) (by omega) (by omega) xN_no (fun v_29 m_29 h_29 => ?_)
        obtain ⟨rfl, hT, hO2⟩ := h_29
        replace hO := xo_tr hO hO2
        refine g_ifn_eq (tgt := 37) dX5_restore_32 (by decide) rfl (by omega) (fun c_32 => by omega) (fun _ => ?_)
        refine g_iconst (v := (nI 0)) dX5_restore_35 rfl rfl ?_
        refine g_ireturn dX5_restore_36 rfl ?_
        have e : uRest s (nI k) = (2, 0, s) := by unfold uRest; rw [if_pos hc, Option.isSome_eq_false_iff.mp c_21 |> Option.isNone_iff_eq_none.mp]
        rw [e]
        exact ⟨rfl, ⟨_, _, _, _, hT, hs⟩, hO⟩
    · exact absurd hc (by rw [c_8]; decide)
  · refine ct_intro (lv := [some (.ref (A 0)), some (.int c)]) 0 (by decide) rfl (Nat.le_of_ble_eq_true rfl) rfl ?_
    refine g_aload_n dX5_restore_0 rfl rfl rfl ?_
    refine g_iload_n dX5_restore_1 rfl rfl rfl ?_
    refine g_i2l dX5_restore_2 rfl rfl ?_
    refine g_lconst (v := 0) dX5_restore_3 rfl rfl ?_
    refine g_lconst (v := 1) dX5_restore_4 rfl rfl ?_
    refine g_staticP iS_X5_in q2448 (c_in (d := d - 1) (by omega) _ _ _) dX5_restore_5 rfl rfl rfl (by first | exact Nat.le_of_ble_eq_true rfl | simp [Value.category, rf_cat]) (by omega) xN_no ?_
    refine g_ifB_ne (tgt := 15) dX5_restore_8 (by decide) rfl (fun c_8 => ?_) (fun c_8 => ?_)
    · exact absurd c_8 hc
    · refine g_iconst (v := (nI 1)) dX5_restore_11 rfl rfl ?_
      refine g_goto (tgt := 29) dX5_restore_12 (by decide) ?_
      refine g_virtual iV_X5_refused q2451 (t_refS (d := d - 1) (by omega) (x := 1) (by omega) (by omega) hT) (Or.inl (tm_o hT)) rfl (by decide) dX5_restore_29 rfl rfl rfl (by first | exact Nat.le_of_ble_eq_true rfl | simp [Value.category, rf_cat]) (by omega) (by omega) (by omega) xN_no (fun v_29 m_29 h_29 => ?_)
      obtain ⟨rfl, hT, hO2⟩ := h_29
      replace hO := xo_tr hO hO2
      refine g_ifn_eq (tgt := 37) dX5_restore_32 (by decide) rfl (by omega) (fun c_32 => by omega) (fun _ => ?_)
      refine g_iconst (v := (nI 0)) dX5_restore_35 rfl rfl ?_
      refine g_ireturn dX5_restore_36 rfl ?_
      have e : uRest s c = (1, 0, s) := by unfold uRest; rw [if_neg hc]
      rw [e]
      exact ⟨rfl, ⟨_, _, _, _, hT, hs⟩, hO⟩
theorem s_isPlace {ls rs dp ts ac : Int32} {F : Nat → Nat → Int32} {c : Int32} {p : XPage} (hd : 2 ≤ d) (hT : TM A rf ts ac ls rs dp F m) (h3 : Pgx (F 3) p) : CT w MX5_isPlace d 0 0 [.ref (A 0), .int c] m (xRet (some (.int (xB (inL c.toInt64 0 (nI p.1.length).toInt64)))) m) xN := by
  have h3_180 : F 3 180 = nI p.1.length := h3.1.2.1
  refine ct_intro (lv := [some (.ref (A 0)), some (.int c)]) 0 (by decide) rfl (Nat.le_of_ble_eq_true rfl) rfl ?_
  refine g_iload_n dX5_isPlace_0 rfl rfl rfl ?_
  refine g_i2l dX5_isPlace_1 rfl rfl ?_
  refine g_lconst (v := 0) dX5_isPlace_2 rfl rfl ?_
  refine g_aload_n dX5_isPlace_3 rfl rfl rfl ?_
  refine g_get fl_X5_13_X5 dX5_isPlace_4 rfl (Or.inl (tm_o hT)) rfl ?_
  refine g_sipush (v := (nI 180)) dX5_isPlace_7 rfl rfl ?_
  refine t_ialdn (k := 3) (N := 184) (f := F 3) hT rfl rfl rfl (by first | rfl | assumption) dX5_isPlace_10 rfl (by omega) ?_
  rw [h3_180]
  refine g_i2l dX5_isPlace_11 rfl rfl ?_
  refine g_staticP iS_X5_in q2448 (c_in (d := d - 1) (by omega) _ _ _) dX5_isPlace_12 rfl rfl rfl (by first | exact Nat.le_of_ble_eq_true rfl | simp [Value.category, rf_cat]) (by omega) xN_no ?_
  refine g_breturn dX5_isPlace_15 rfl ?_
  exact ⟨rfl, rfl⟩
def uTo (s : XSt) (c : Int32) : Nat × Int32 × XSt :=
  if inL c.toInt64 0 (nI (stP s).1.length).toInt64 = true then (0, nI (stP s).2.1, (stT s, ((stP s).1, c.toNatClampNeg, none), stH s, stK s, stC s)) else (1, 0, s)
theorem u_to {c : Int32} (hd : 3 ≤ d) (hs : TS A rf s m) : CT w MX5_moveTo d 0 0 [.ref (A 0), .int c] m (TR A m (uTo s c).2.1 (uTo s c).1 (uTo s c).2.2) xN := by
  obtain ⟨ls, rs, dp, F, hT, hs⟩ := hs
  have hO := xo_rf A m
  have h3 := hs.2.2.1
  have h3_181 : F 3 181 = nI (stP s).2.1 := h3.2.1
  have hlen := h3.1.2.2
  refine ct_intro (lv := [some (.ref (A 0)), some (.int c), none]) 1 (by decide) rfl (Nat.le_of_ble_eq_true rfl) rfl ?_
  refine g_aload_n dX5_moveTo_0 rfl rfl rfl ?_
  refine g_aload_n dX5_moveTo_1 rfl rfl rfl ?_
  refine g_iload_n dX5_moveTo_2 rfl rfl rfl ?_
  refine g_virtualP iV_X5_isPlace q2526 (s_isPlace (d := d - 1) (by omega) hT h3) (Or.inl (tm_o hT)) rfl (by decide) dX5_moveTo_3 rfl rfl rfl (by first | exact Nat.le_of_ble_eq_true rfl | simp [Value.category, rf_cat]) (by omega) xN_no ?_
  refine g_ifB_eq (tgt := 13) dX5_moveTo_6 (by decide) rfl (fun c_6 => ?_) (fun c_6 => ?_)
  · refine g_iconst (v := (nI 1)) dX5_moveTo_13 rfl rfl ?_
    refine g_virtual iV_X5_refused q2451 (t_refS (d := d - 1) (by omega) (x := 1) (by omega) (by omega) hT) (Or.inl (tm_o hT)) rfl (by decide) dX5_moveTo_14 rfl rfl rfl (by first | exact Nat.le_of_ble_eq_true rfl | simp [Value.category, rf_cat]) (by omega) (by omega) (by omega) xN_no (fun v_14 m_14 h_14 => ?_)
    obtain ⟨rfl, hT, hO2⟩ := h_14
    replace hO := xo_tr hO hO2
    refine g_ifn_eq (tgt := 22) dX5_moveTo_17 (by decide) rfl (by omega) (fun c_17 => by omega) (fun _ => ?_)
    refine g_iconst (v := (nI 0)) dX5_moveTo_20 rfl rfl ?_
    refine g_ireturn dX5_moveTo_21 rfl ?_
    have e : uTo s c = (1, 0, s) := by unfold uTo; rw [if_neg (by rw [c_6]; decide)]
    rw [e]
    exact ⟨rfl, ⟨_, _, _, _, hT, hs⟩, hO⟩
  · refine g_iconst (v := (nI 0)) dX5_moveTo_9 rfl rfl ?_
    refine g_goto (tgt := 14) dX5_moveTo_10 (by decide) ?_
    refine g_virtual iV_X5_refused q2451 (t_ref0 (d := d - 1) (by omega) hT) (Or.inl (tm_o hT)) rfl (by decide) dX5_moveTo_14 rfl rfl rfl (by first | exact Nat.le_of_ble_eq_true rfl | simp [Value.category, rf_cat]) (by omega) (by omega) (by omega) xN_no (fun v_14 m_14 h_14 => ?_)
    obtain ⟨rfl, hT, hO2⟩ := h_14
    replace hO := xo_tr hO hO2
    refine g_ifn_eq (tgt := 22) dX5_moveTo_17 (by decide) rfl (by omega) (fun _ => ?_) (fun c_17 => by omega)
    refine g_aload_n dX5_moveTo_22 rfl rfl rfl ?_
    refine g_get fl_X5_13_X5 dX5_moveTo_23 rfl (Or.inl (tm_o hT)) rfl ?_
    refine g_sipush (v := (nI 181)) dX5_moveTo_26 rfl rfl ?_
    refine t_ialdn (k := 3) (N := 184) (f := F 3) hT rfl rfl rfl (by first | rfl | assumption) dX5_moveTo_29 rfl (by omega) ?_
    rw [h3_181]
    refine g_ist2 dX5_moveTo_30 rfl (by decide) (k := ?_)
    refine g_aload_n dX5_moveTo_31 rfl rfl rfl ?_
    refine g_get fl_X5_13_X5 dX5_moveTo_32 rfl (Or.inl (tm_o hT)) rfl ?_
    refine g_sipush (v := (nI 181)) dX5_moveTo_35 rfl rfl ?_
    refine g_iload_n dX5_moveTo_38 rfl rfl rfl ?_
    refine t_iastn (k := 3) (N := 184) (f := F 3) hT hO rfl rfl rfl (by first | rfl | assumption) dX5_moveTo_39 rfl (by omega) (fun m_39 f_39 e_39 hT hO => ?_)
    refine g_aload_n dX5_moveTo_40 rfl rfl rfl ?_
    refine g_get fl_X5_13_X5 dX5_moveTo_41 rfl (Or.inl (tm_o hT)) rfl ?_
    refine g_sipush (v := (nI 182)) dX5_moveTo_44 rfl rfl ?_
    refine g_bipush (v := -9) dX5_moveTo_47 rfl rfl ?_
    refine t_iastn (k := 3) (N := 184) (f := f_39) hT hO rfl rfl rfl (by first | rfl | assumption) dX5_moveTo_49 rfl (by omega) (fun m_49 f_49 e_49 hT hO => ?_)
    refine g_iload_n dX5_moveTo_50 rfl rfl rfl ?_
    refine g_ireturn dX5_moveTo_51 rfl ?_
    have e : uTo s c = (0, nI (stP s).2.1, (stT s, ((stP s).1, c.toNatClampNeg, none), stH s, stK s, stC s)) := by unfold uTo; rw [if_pos c_6]
    rw [e]
    obtain ⟨k, hk, rfl⟩ := inL_n (by omega) c_6
    refine ⟨rfl, ⟨_, _, _, _, hT, tIn_cur hs ?_ rfl rfl rfl rfl rfl⟩, hO⟩
    show Pgx f_49 _
    rw [e_49, e_39]
    exact ⟨pl_u (pl_u h3.1 (by omega)) (by omega), by rw [upd_ne (by omega), upd_eq, nI_clamp (by omega)], upd_eq _ _ _⟩
def uBy (s : XSt) (c : Int32) : Nat × Int32 × XSt :=
  if inL c.toInt64 (-200) 200 = true then (0, nI (movC (stP s).1 (stP s).2.1 c), (stT s, ((stP s).1, movC (stP s).1 (stP s).2.1 c, none), stH s, stK s, stC s)) else (1, 0, s)
theorem u_by {c : Int32} (hd : 3 ≤ d) (hs : TS A rf s m) : CT w MX5_moveBy d 0 0 [.ref (A 0), .int c] m (TR A m (uBy s c).2.1 (uBy s c).1 (uBy s c).2.2) xN := by
  obtain ⟨ls, rs, dp, F, hT, hs⟩ := hs
  have hO := xo_rf A m
  have h3 := hs.2.2.1
  refine ct_intro (lv := [some (.ref (A 0)), some (.int c)]) 0 (by decide) rfl (Nat.le_of_ble_eq_true rfl) rfl ?_
  refine g_aload_n dX5_moveBy_0 rfl rfl rfl ?_
  refine g_iload_n dX5_moveBy_1 rfl rfl rfl ?_
  refine g_i2l dX5_moveBy_2 rfl rfl ?_
  refine g_ldc2 dX5_moveBy_3 rfl q2590 ?_
  refine g_ldc2 dX5_moveBy_6 rfl q2591 ?_
  refine g_staticP iS_X5_in q2448 (c_in (d := d - 1) (by omega) _ _ _) dX5_moveBy_9 rfl rfl rfl (by first | exact Nat.le_of_ble_eq_true rfl | simp [Value.category, rf_cat]) (by omega) xN_no ?_
  refine g_ifB_eq (tgt := 19) dX5_moveBy_12 (by decide) rfl (fun c_12 => ?_) (fun c_12 => ?_)
  · refine g_iconst (v := (nI 1)) dX5_moveBy_19 rfl rfl ?_
    refine g_virtual iV_X5_refused q2451 (t_refS (d := d - 1) (by omega) (x := 1) (by omega) (by omega) hT) (Or.inl (tm_o hT)) rfl (by decide) dX5_moveBy_20 rfl rfl rfl (by first | exact Nat.le_of_ble_eq_true rfl | simp [Value.category, rf_cat]) (by omega) (by omega) (by omega) xN_no (fun v_20 m_20 h_20 => ?_)
    obtain ⟨rfl, hT, hO2⟩ := h_20
    replace hO := xo_tr hO hO2
    refine g_ifn_eq (tgt := 28) dX5_moveBy_23 (by decide) rfl (by omega) (fun c_23 => by omega) (fun _ => ?_)
    refine g_iconst (v := (nI 0)) dX5_moveBy_26 rfl rfl ?_
    refine g_ireturn dX5_moveBy_27 rfl ?_
    have e : uBy s c = (1, 0, s) := by unfold uBy; rw [if_neg (by rw [c_12]; decide)]
    rw [e]
    exact ⟨rfl, ⟨_, _, _, _, hT, hs⟩, hO⟩
  · refine g_iconst (v := (nI 0)) dX5_moveBy_15 rfl rfl ?_
    refine g_goto (tgt := 20) dX5_moveBy_16 (by decide) ?_
    refine g_virtual iV_X5_refused q2451 (t_ref0 (d := d - 1) (by omega) hT) (Or.inl (tm_o hT)) rfl (by decide) dX5_moveBy_20 rfl rfl rfl (by first | exact Nat.le_of_ble_eq_true rfl | simp [Value.category, rf_cat]) (by omega) (by omega) (by omega) xN_no (fun v_20 m_20 h_20 => ?_)
    obtain ⟨rfl, hT, hO2⟩ := h_20
    replace hO := xo_tr hO hO2
    refine g_ifn_eq (tgt := 28) dX5_moveBy_23 (by decide) rfl (by omega) (fun _ => ?_) (fun c_23 => by omega)
    refine g_aload_n dX5_moveBy_28 rfl rfl rfl ?_
    refine g_get fl_X5_13_X5 dX5_moveBy_29 rfl (Or.inl (tm_o hT)) rfl ?_
    refine g_iload_n dX5_moveBy_32 rfl rfl rfl ?_
    refine g_static iS_X5_moves q2592 (p_moves (d := d - 1) (by omega) (tm_at 3 hT rfl rfl rfl rfl) h3) dX5_moveBy_33 rfl rfl rfl (by first | exact Nat.le_of_ble_eq_true rfl | simp [Value.category, rf_cat]) (by omega) (by omega) (by omega) xN_no (fun v_33 m_33 h_33 => ?_)
    obtain ⟨rfl, f3, hp3, rfl⟩ := h_33
    replace hO := xo_u (e := iA 0 184 f3) 3 rfl hO
    replace hT := tm_xu (k := 3) (t := 0) (N := 184) (f := f3) hT rfl rfl rfl
    have h3_181 : f3 181 = nI (movC (stP s).1 (stP s).2.1 c) := hp3.2.1
    refine g_aload_n dX5_moveBy_36 rfl rfl rfl ?_
    refine g_get fl_X5_13_X5 dX5_moveBy_37 rfl (Or.inl (tm_o hT)) rfl ?_
    refine g_sipush (v := (nI 181)) dX5_moveBy_40 rfl rfl ?_
    refine t_ialdn (k := 3) (N := 184) (f := f3) hT rfl rfl rfl rfl dX5_moveBy_43 rfl (by omega) ?_
    rw [h3_181]
    refine g_ireturn dX5_moveBy_44 rfl ?_
    have e : uBy s c = (0, nI (movC (stP s).1 (stP s).2.1 c), (stT s, ((stP s).1, movC (stP s).1 (stP s).2.1 c, none), stH s, stK s, stC s)) := by unfold uBy; rw [if_pos c_12]
    rw [e]
    exact ⟨rfl, ⟨_, _, _, _, hT, tIn_cur hs hp3 rfl rfl rfl rfl rfl⟩, hO⟩
end TW10
