/-! TWIN: the drawing's size; leaves of the reader -/
set_option maxRecDepth 100000
section TW25
variable {w : XW} {d : Nat} {m : XM} {A : Nat → Nat} {rf : Int32} {s : XSt}
theorem tIn_box {F F' : Nat → Nat → Int32} (h : tIn F s) (hF : bxO F F') : tIn F' s :=
  tIn_mono h (hF 1 (by decide) (by decide) (by decide) (by decide)) (hF 3 (by decide) (by decide) (by decide) (by decide)) (hF 5 (by decide) (by decide) (by decide) (by decide)) (hF 7 (by decide) (by decide) (by decide) (by decide)) (hF 8 (by decide) (by decide) (by decide) (by decide)) (hF 9 (by decide) (by decide) (by decide) (by decide))
def uDrw (s : XSt) (b : XBx) (k : Int32) : Nat × Int32 × XSt :=
  if inL k.toInt64 0 2 = true then (0, nI (if k = 0 then b.1 else if k = 1 then b.2.1 + 1 + b.2.2 else b.2.1), s) else (1, 0, s)
theorem u_drw {B : Nat → XBx} {c : Int32} (hd : 6 ≤ d) (hs : TS A rf s m) (hb : Bal (stP s).1) (hBx : BxL (stP s).1 B) : CT w MX5_drawing d 0 0 [.ref (A 0), .int c] m (TR A m (uDrw s (B 0) c).2.1 (uDrw s (B 0) c).1 (uDrw s (B 0) c).2.2) xN := by
  obtain ⟨ls, rs, dp, F, hT, hs⟩ := hs
  have hO := xo_rf A m
  have h3 := hs.2.2.1
  by_cases hc : inL c.toInt64 0 2 = true
  · obtain ⟨k, hk, rfl⟩ := inL_n (n := 2) (by omega) hc
    refine ct_intro (lv := [some (.ref (A 0)), some (.int (nI k))]) 0 (by decide) rfl (Nat.le_of_ble_eq_true rfl) rfl ?_
    refine g_aload_n dX5_drawing_0 rfl rfl rfl ?_
    refine g_iload_n dX5_drawing_1 rfl rfl rfl ?_
    refine g_i2l dX5_drawing_2 rfl rfl ?_
    refine g_lconst (v := 0) dX5_drawing_3 rfl rfl ?_
    refine g_ldc2 dX5_drawing_4 rfl q2552 ?_
    refine g_staticP iS_X5_in q2448 (c_in (d := d - 1) (by omega) _ _ _) dX5_drawing_7 rfl rfl rfl (by first | exact Nat.le_of_ble_eq_true rfl | simp [Value.category, rf_cat]) (by omega) xN_no ?_
    refine g_ifB_eq (tgt := 17) dX5_drawing_10 (by decide) rfl (fun c_10 => ?_) (fun c_10 => ?_)
    · exact absurd hc (by rw [c_10]; decide)
    · refine g_iconst (v := (nI 0)) dX5_drawing_13 rfl rfl ?_
      refine g_goto (tgt := 18) dX5_drawing_14 (by decide) ?_
      refine g_virtual iV_X5_refused q2451 (t_ref0 (d := d - 1) (by omega) hT) (Or.inl (tm_o hT)) rfl (by decide) dX5_drawing_18 rfl rfl rfl (by first | exact Nat.le_of_ble_eq_true rfl | simp [Value.category, rf_cat]) (by omega) (by omega) (by omega) xN_no (fun v_18 m_18 h_18 => ?_)
      obtain ⟨rfl, hT, hO2⟩ := h_18
      replace hO := xo_tr hO hO2
      refine g_ifn_eq (tgt := 26) dX5_drawing_21 (by decide) rfl (by omega) (fun _ => ?_) (fun c_21 => by omega)
      refine g_aload_n dX5_drawing_26 rfl rfl rfl ?_
      refine g_aload_n dX5_drawing_27 rfl rfl rfl ?_
      refine g_get fl_X5_13_X5 dX5_drawing_28 rfl (Or.inl (tm_o hT)) rfl ?_
      refine g_virtual iV_X5_layBoxes q2678 (t_box3 (d := d - 1) (by omega) hT rfl (Pgx_l h3) hb hBx) (Or.inl (tm_o hT)) rfl (by decide) dX5_drawing_31 rfl rfl rfl (by first | exact Nat.le_of_ble_eq_true rfl | simp [Value.category, rf_cat]) (by omega) (by omega) (by omega) xN_no (fun v_31 m_31 h_31 => ?_)
      obtain ⟨rfl, F, hT, hbo, hbx, hO2⟩ := h_31
      replace hO := xo_tr hO hO2
      replace hs := tIn_box hs hbo
      obtain ⟨b1, b2, b3⟩ := (hbx 0 (Nat.zero_le _) (Or.inl rfl)).1
      have hB0 := hBx.2.2.1 0 (Nat.zero_le _)
      refine g_iload_n dX5_drawing_34 rfl rfl rfl ?_
      refine g_ifn_ne (tgt := 47) dX5_drawing_35 (by decide) rfl (by omega) (fun c_35 => ?_) (fun c_35 => ?_)
      · refine g_iload_n dX5_drawing_47 rfl rfl rfl ?_
        refine g_iconst (v := (nI 1)) dX5_drawing_48 rfl rfl ?_
        refine g_icmpn_ne (tgt := 70) dX5_drawing_49 (by decide) rfl (by omega) (by omega) (fun c_49 => ?_) (fun c_49 => ?_)
        · refine g_aload_n dX5_drawing_70 rfl rfl rfl ?_
          refine g_get fl_X5_59_X5 dX5_drawing_71 rfl (Or.inl (tm_o hT)) rfl ?_
          refine g_iconst (v := (nI 0)) dX5_drawing_74 rfl rfl ?_
          refine t_ialdn (k := 22) (N := 512) (f := F 22) hT rfl rfl rfl (by first | rfl | assumption) dX5_drawing_75 rfl (by omega) ?_
          refine g_ireturn dX5_drawing_76 rfl ?_
          have e : uDrw s (B 0) (nI k) = (0, nI (if nI k = 0 then (B 0).1 else if nI k = 1 then (B 0).2.1 + 1 + (B 0).2.2 else (B 0).2.1), s) := by unfold uDrw; rw [if_pos hc]
          rw [e]
          refine ⟨?_, ⟨_, _, _, _, hT, hs⟩, hO⟩
          rcases (by omega : k = 0 ∨ k = 1 ∨ k = 2) with rfl | rfl | rfl
          all_goals first | omega | rfl | (rw [b2]; rfl)
        · refine g_aload_n dX5_drawing_52 rfl rfl rfl ?_
          refine g_get fl_X5_59_X5 dX5_drawing_53 rfl (Or.inl (tm_o hT)) rfl ?_
          refine g_iconst (v := (nI 0)) dX5_drawing_56 rfl rfl ?_
          refine t_ialdn (k := 22) (N := 512) (f := F 22) hT rfl rfl rfl (by first | rfl | assumption) dX5_drawing_57 rfl (by omega) ?_
          rw [b2]
          refine g_iconst (v := (nI 1)) dX5_drawing_58 rfl rfl ?_
          refine g_iaddn dX5_drawing_59 rfl ?_
          refine g_aload_n dX5_drawing_60 rfl rfl rfl ?_
          refine g_get fl_X5_62_X5 dX5_drawing_61 rfl (Or.inl (tm_o hT)) rfl ?_
          refine g_iconst (v := (nI 0)) dX5_drawing_64 rfl rfl ?_
          refine t_ialdn (k := 23) (N := 512) (f := F 23) hT rfl rfl rfl (by first | rfl | assumption) dX5_drawing_65 rfl (by omega) ?_
          rw [b3]
          refine g_iaddn dX5_drawing_66 rfl ?_
          refine g_goto (tgt := 76) dX5_drawing_67 (by decide) ?_
          refine g_ireturn dX5_drawing_76 rfl ?_
          have e : uDrw s (B 0) (nI k) = (0, nI (if nI k = 0 then (B 0).1 else if nI k = 1 then (B 0).2.1 + 1 + (B 0).2.2 else (B 0).2.1), s) := by unfold uDrw; rw [if_pos hc]
          rw [e]
          refine ⟨?_, ⟨_, _, _, _, hT, hs⟩, hO⟩
          rcases (by omega : k = 0 ∨ k = 1 ∨ k = 2) with rfl | rfl | rfl
          all_goals first | omega | rfl | (rw [b2]; rfl)
      · refine g_aload_n dX5_drawing_38 rfl rfl rfl ?_
        refine g_get fl_X5_56_X5 dX5_drawing_39 rfl (Or.inl (tm_o hT)) rfl ?_
        refine g_iconst (v := (nI 0)) dX5_drawing_42 rfl rfl ?_
        refine t_ialdn (k := 21) (N := 512) (f := F 21) hT rfl rfl rfl (by first | rfl | assumption) dX5_drawing_43 rfl (by omega) ?_
        rw [b1]
        refine g_goto (tgt := 76) dX5_drawing_44 (by decide) ?_
        refine g_ireturn dX5_drawing_76 rfl ?_
        have e : uDrw s (B 0) (nI k) = (0, nI (if nI k = 0 then (B 0).1 else if nI k = 1 then (B 0).2.1 + 1 + (B 0).2.2 else (B 0).2.1), s) := by unfold uDrw; rw [if_pos hc]
        rw [e]
        refine ⟨?_, ⟨_, _, _, _, hT, hs⟩, hO⟩
        rcases (by omega : k = 0 ∨ k = 1 ∨ k = 2) with rfl | rfl | rfl
        all_goals first | omega | rfl | (rw [b2]; rfl)
  · refine ct_intro (lv := [some (.ref (A 0)), some (.int c)]) 0 (by decide) rfl (Nat.le_of_ble_eq_true rfl) rfl ?_
    refine g_aload_n dX5_drawing_0 rfl rfl rfl ?_
    refine g_iload_n dX5_drawing_1 rfl rfl rfl ?_
    refine g_i2l dX5_drawing_2 rfl rfl ?_
    refine g_lconst (v := 0) dX5_drawing_3 rfl rfl ?_
    refine g_ldc2 dX5_drawing_4 rfl q2552 ?_
    refine g_staticP iS_X5_in q2448 (c_in (d := d - 1) (by omega) _ _ _) dX5_drawing_7 rfl rfl rfl (by first | exact Nat.le_of_ble_eq_true rfl | simp [Value.category, rf_cat]) (by omega) xN_no ?_
    refine g_ifB_eq (tgt := 17) dX5_drawing_10 (by decide) rfl (fun c_10 => ?_) (fun c_10 => ?_)
    · refine g_iconst (v := (nI 1)) dX5_drawing_17 rfl rfl ?_
      refine g_virtual iV_X5_refused q2451 (t_refS (d := d - 1) (by omega) (x := 1) (by omega) (by omega) hT) (Or.inl (tm_o hT)) rfl (by decide) dX5_drawing_18 rfl rfl rfl (by first | exact Nat.le_of_ble_eq_true rfl | simp [Value.category, rf_cat]) (by omega) (by omega) (by omega) xN_no (fun v_18 m_18 h_18 => ?_)
      obtain ⟨rfl, hT, hO2⟩ := h_18
      replace hO := xo_tr hO hO2
      refine g_ifn_eq (tgt := 26) dX5_drawing_21 (by decide) rfl (by omega) (fun c_21 => by omega) (fun _ => ?_)
      refine g_iconst (v := (nI 0)) dX5_drawing_24 rfl rfl ?_
      refine g_ireturn dX5_drawing_25 rfl ?_
      have e : uDrw s (B 0) c = (1, 0, s) := by unfold uDrw; rw [if_neg hc]
      rw [e]
      exact ⟨rfl, ⟨_, _, _, _, hT, hs⟩, hO⟩
    · exact absurd c_10 hc
end TW25
section TW25b
variable {w : XW} {d : Nat} {m : XM} {A : Nat → Nat} {rf ts ac ls dp : Int32} {F : Nat → Nat → Int32}
/-- the row's frame on the reader's pile: five arrays at a depth -/
def opF (F : Nat → Nat → Int32) (n : Nat) (x : Int32) : Nat → Nat → Int32 := fset (fset (fset (fset (fset F 14 (upd (F 14) n x)) 15 (upd (F 15) n (-9))) 17 (upd (F 17) n 0)) 18 (upd (F 18) n 0)) 19 (upd (F 19) n 0)
theorem t_openRow {rs : Int32} {n : Nat} {x : Int32} (hd : 1 ≤ d) (hn : n < 128) (hT : TM A rf ts ac ls rs (nI n + (-1)) F m) : CT w MX5_openRow d 0 0 [.ref (A 0), .int x] m (tP A m none rf ts ac ls rs (nI n) (opF F n x)) xN := by
  have hO := xo_rf A m
  refine ct_intro (lv := [some (.ref (A 0)), some (.int x)]) 0 (by decide) rfl (Nat.le_of_ble_eq_true rfl) rfl ?_
  refine g_aload_n dX5_openRow_0 rfl rfl rfl ?_
  refine g_dup dX5_openRow_1 rfl (by first | rfl | exact rf_cat _) ?_
  refine g_get fl_X5_156_X5 dX5_openRow_2 rfl (Or.inl (tm_o hT)) rfl ?_
  refine g_iconst (v := (nI 1)) dX5_openRow_5 rfl rfl ?_
  refine g_iadd dX5_openRow_6 rfl ?_
  rw [show nI n + (-1) + nI 1 = nI n by rw [show nI 1 = 1 from rfl, Int32.add_assoc]; exact Int32.add_zero _]
  refine t_put20 hT hO fl_X5_156_X5 dX5_openRow_7 rfl (fun m_7 hT hO => ?_)
  refine g_aload_n dX5_openRow_10 rfl rfl rfl ?_
  refine g_get fl_X5_38_X5 dX5_openRow_11 rfl (Or.inl (tm_o hT)) rfl ?_
  refine g_aload_n dX5_openRow_14 rfl rfl rfl ?_
  refine g_get fl_X5_156_X5 dX5_openRow_15 rfl (Or.inl (tm_o hT)) rfl ?_
  refine g_iload_n dX5_openRow_18 rfl rfl rfl ?_
  refine t_iastn (k := 14) (N := 128) (f := F 14) hT hO rfl rfl rfl (by first | rfl | assumption) dX5_openRow_19 rfl (by omega) (fun m_19 f_19 e_19 hT hO => ?_)
  refine g_aload_n dX5_openRow_20 rfl rfl rfl ?_
  refine g_get fl_X5_41_X5 dX5_openRow_21 rfl (Or.inl (tm_o hT)) rfl ?_
  refine g_aload_n dX5_openRow_24 rfl rfl rfl ?_
  refine g_get fl_X5_156_X5 dX5_openRow_25 rfl (Or.inl (tm_o hT)) rfl ?_
  refine g_bipush (v := -9) dX5_openRow_28 rfl rfl ?_
  refine t_iastn (k := 15) (N := 128) (f := F 15) hT hO rfl rfl rfl (by first | rfl | assumption) dX5_openRow_30 rfl (by omega) (fun m_30 f_30 e_30 hT hO => ?_)
  refine g_aload_n dX5_openRow_31 rfl rfl rfl ?_
  refine g_get fl_X5_47_X5 dX5_openRow_32 rfl (Or.inl (tm_o hT)) rfl ?_
  refine g_aload_n dX5_openRow_35 rfl rfl rfl ?_
  refine g_get fl_X5_156_X5 dX5_openRow_36 rfl (Or.inl (tm_o hT)) rfl ?_
  refine g_iconst (v := 0) dX5_openRow_39 rfl rfl ?_
  refine t_zastn (k := 17) (N := 128) (f := F 17) hT hO rfl rfl rfl (by first | rfl | assumption) dX5_openRow_40 rfl (by omega) (by first | rfl | exact xB_nar _) (fun m_40 f_40 e_40 hT hO => ?_)
  refine g_aload_n dX5_openRow_41 rfl rfl rfl ?_
  refine g_get fl_X5_50_X5 dX5_openRow_42 rfl (Or.inl (tm_o hT)) rfl ?_
  refine g_aload_n dX5_openRow_45 rfl rfl rfl ?_
  refine g_get fl_X5_156_X5 dX5_openRow_46 rfl (Or.inl (tm_o hT)) rfl ?_
  refine g_iconst (v := 0) dX5_openRow_49 rfl rfl ?_
  refine t_zastn (k := 18) (N := 128) (f := F 18) hT hO rfl rfl rfl (by first | rfl | assumption) dX5_openRow_50 rfl (by omega) (by first | rfl | exact xB_nar _) (fun m_50 f_50 e_50 hT hO => ?_)
  refine g_aload_n dX5_openRow_51 rfl rfl rfl ?_
  refine g_get fl_X5_53_X5 dX5_openRow_52 rfl (Or.inl (tm_o hT)) rfl ?_
  refine g_aload_n dX5_openRow_55 rfl rfl rfl ?_
  refine g_get fl_X5_156_X5 dX5_openRow_56 rfl (Or.inl (tm_o hT)) rfl ?_
  refine g_iconst (v := 0) dX5_openRow_59 rfl rfl ?_
  refine t_zastn (k := 19) (N := 128) (f := F 19) hT hO rfl rfl rfl (by first | rfl | assumption) dX5_openRow_60 rfl (by omega) (by first | rfl | exact xB_nar _) (fun m_60 f_60 e_60 hT hO => ?_)
  refine g_return dX5_openRow_61 rfl ?_
  refine ⟨rfl, ?_, hO⟩
  rw [e_60, e_50, e_40, e_30, e_19] at hT
  exact hT
/-- a sign put into what is read -/
def insR (g : Nat → Int32) (n a : Nat) (x : Int32) : Nat → Int32 := upd (putK g n a) a x
theorem t_insert {n a : Nat} {x : Int32} (hd : 1 ≤ d) (hn : n < 511) (ha : a ≤ n) (hT : TM A rf ts ac ls (nI n) dp F m) : CT w MX5_insert d 0 0 [.ref (A 0), .int (nI a), .int x] m (tP A m none rf ts ac ls (nI (n + 1)) dp (fset F 12 (insR (F 12) n a x))) xN := by
  have fin : ∀ m', TM A rf ts ac ls (nI n) dp (fset F 12 (putK (F 12) n a)) m' → XOf A m m' → G w MX5_insert (xZ w (tP A m none rf ts ac ls (nI (n + 1)) dp (fset F 12 (insR (F 12) n a x))) xN) d 0 0 30 [some (.ref (A 0)), some (.int (nI a)), some (.int x), some (.int (nI a))] [] m' := by
    intro m' hT hO
    refine g_aload_n dX5_insert_30 rfl rfl rfl ?_
    refine g_get fl_X5_35_X5 dX5_insert_31 rfl (Or.inl (tm_o hT)) rfl ?_
    refine g_iload_n dX5_insert_34 rfl rfl rfl ?_
    refine g_iload_n dX5_insert_35 rfl rfl rfl ?_
    refine t_iastn (k := 12) (N := 512) (f := putK (F 12) n a) hT hO rfl rfl rfl rfl dX5_insert_36 rfl (by omega) (fun m_36 f_36 e_36 hT hO => ?_)
    refine g_aload_n dX5_insert_37 rfl rfl rfl ?_
    refine g_dup dX5_insert_38 rfl (by first | rfl | exact rf_cat _) ?_
    refine g_get fl_X5_153_X5 dX5_insert_39 rfl (Or.inl (tm_o hT)) rfl ?_
    refine g_iconst (v := (nI 1)) dX5_insert_42 rfl rfl ?_
    refine g_iaddn dX5_insert_43 rfl ?_
    refine t_put13 hT hO fl_X5_153_X5 dX5_insert_44 rfl (fun m_44 hT hO => ?_)
    refine g_return dX5_insert_47 rfl ?_
    refine ⟨rfl, ?_, hO⟩
    rw [fset_fset, e_36] at hT
    exact hT
  have loop : ∀ k m', a ≤ k → k ≤ n → TM A rf ts ac ls (nI n) dp (fset F 12 (putK (F 12) n k)) m' → XOf A m m' → G w MX5_insert (xZ w (tP A m none rf ts ac ls (nI (n + 1)) dp (fset F 12 (insR (F 12) n a x))) xN) d 0 0 5 [some (.ref (A 0)), some (.int (nI a)), some (.int x), some (.int (nI k))] [] m' := by
    intro k
    induction k with
    | zero =>
      intro m' h1 h2 hT hO
      obtain rfl : a = 0 := by omega
      refine g_iload_n dX5_insert_5 rfl rfl rfl ?_
      refine g_iload_n dX5_insert_6 rfl rfl rfl ?_
      refine g_icmpn_le (tgt := 30) dX5_insert_7 (by decide) rfl (by omega) (by omega) (fun c_7 => ?_) (fun c_7 => ?_)
      · exact fin _ hT hO
      · omega
    | succ k ih =>
      intro m' h1 h2 hT hO
      have hkk : putK (F 12) n (k + 1) k = F 12 k := by unfold putK; rw [if_neg (by omega)]
      refine g_iload_n dX5_insert_5 rfl rfl rfl ?_
      refine g_iload_n dX5_insert_6 rfl rfl rfl ?_
      refine g_icmpn_le (tgt := 30) dX5_insert_7 (by decide) rfl (by omega) (by omega) (fun c_7 => ?_) (fun c_7 => ?_)
      · obtain rfl : a = k + 1 := by omega
        exact fin _ hT hO
      · refine g_aload_n dX5_insert_10 rfl rfl rfl ?_
        refine g_get fl_X5_35_X5 dX5_insert_11 rfl (Or.inl (tm_o hT)) rfl ?_
        refine g_iload_n dX5_insert_14 rfl rfl rfl ?_
        refine g_aload_n dX5_insert_15 rfl rfl rfl ?_
        refine g_get fl_X5_35_X5 dX5_insert_16 rfl (Or.inl (tm_o hT)) rfl ?_
        refine g_iload_n dX5_insert_19 rfl rfl rfl ?_
        refine g_iconst (v := (nI 1)) dX5_insert_20 rfl rfl ?_
        refine g_isubn dX5_insert_21 rfl (by omega) ?_
        refine t_ialdn (k := 12) (N := 512) (f := putK (F 12) n (k + 1)) (j := k) hT rfl rfl rfl rfl dX5_insert_22 rfl (by omega) ?_
        rw [hkk]
        refine t_iastn (k := 12) (N := 512) (f := putK (F 12) n (k + 1)) hT hO rfl rfl rfl rfl dX5_insert_23 rfl (by omega) (fun m_23 f_23 e_23 hT hO => ?_)
        rw [fset_fset, e_23, putK_s (F 12) h2] at hT
        refine g_incm3 dX5_insert_24 rfl (by decide) (k := ?_)
        rw [nI_p1]
        refine g_goto (tgt := 5) dX5_insert_27 (by decide) ?_
        exact ih _ (by omega) (by omega) hT hO
  have hO := xo_rf A m
  refine ct_intro (lv := [some (.ref (A 0)), some (.int (nI a)), some (.int x), none]) 1 (by decide) rfl (Nat.le_of_ble_eq_true rfl) rfl ?_
  refine g_aload_n dX5_insert_0 rfl rfl rfl ?_
  refine g_get fl_X5_153_X5 dX5_insert_1 rfl (Or.inl (tm_o hT)) rfl ?_
  refine g_ist3 dX5_insert_4 rfl (by decide) (k := ?_)
  exact loop n _ ha (Nat.le_refl _) (by rw [putK_0, fset_self]; exact hT) hO
end TW25b
