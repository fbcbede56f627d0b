/-! TWIN: the text of the line told -/
set_option maxRecDepth 100000
section TW21
variable {w : XW} {d : Nat} {m : XM} {A : Nat → Nat} {rf : Int32} {s : XSt}
theorem tIn_lay {F F' : Nat → Nat → Int32} (h : tIn F s) (hF : ∀ k, k ≠ 10 → k ≠ 25 → F' k = F k) : tIn F' s :=
  tIn_mono h (hF 1 (by decide) (by decide)) (hF 3 (by decide) (by decide)) (hF 5 (by decide) (by decide)) (hF 7 (by decide) (by decide)) (hF 8 (by decide) (by decide)) (hF 9 (by decide) (by decide))
theorem u_len {out : List Int32} (hd : 6 ≤ d) (hs : TS A rf s m) (hb : Bal (stP s).1) (hl : layF (stP s).1 0 [] [] = some out) : CT w MX5_linearLength d 0 0 [.ref (A 0)] m (TR A m (nI out.length) 0 s) xN := by
  obtain ⟨ls, rs, dp, F, hT, hs⟩ := hs
  have hO := xo_rf A m
  have h3 := hs.2.2.1
  refine ct_intro (lv := [some (.ref (A 0))]) 0 (by decide) rfl (Nat.le_of_ble_eq_true rfl) rfl ?_
  refine g_aload_n dX5_linearLength_0 rfl rfl rfl ?_
  refine g_iconst (v := (nI 0)) dX5_linearLength_1 rfl rfl ?_
  refine t_put0 hT hO fl_X5_71_X5 dX5_linearLength_2 rfl (fun m_2 hT hO => ?_)
  refine g_aload_n dX5_linearLength_5 rfl rfl rfl ?_
  refine g_aload_n dX5_linearLength_6 rfl rfl rfl ?_
  refine g_get fl_X5_13_X5 dX5_linearLength_7 rfl (Or.inl (tm_o hT)) rfl ?_
  refine g_virtual iV_X5_layLine q2557 (t_lay3 (d := d - 1) (by omega) hT rfl (Pgx_l h3) hb hl) (Or.inl (tm_o hT)) rfl (by decide) dX5_linearLength_10 rfl rfl rfl (by first | exact Nat.le_of_ble_eq_true rfl | simp [Value.category, rf_cat]) (by omega) (by omega) (by omega) xN_no (fun v_10 m_10 h_10 => ?_)
  obtain ⟨rfl, F, hT, hout, hF, hO2⟩ := h_10
  replace hO := xo_tr hO hO2
  refine g_aload_n dX5_linearLength_13 rfl rfl rfl ?_
  refine g_get fl_X5_193_X5 dX5_linearLength_14 rfl (Or.inl (tm_o hT)) rfl ?_
  refine g_ireturn dX5_linearLength_17 rfl ?_
  exact ⟨rfl, ⟨_, _, _, _, hT, tIn_lay hs hF⟩, hO⟩
theorem inL_m {c : Int32} {n : Nat} (hn : n < 2 ^ 31) (h : inL c.toInt64 0 (nI n - nI 1).toInt64 = true) : ∃ k, k < n ∧ c = nI k := by
  cases n with
  | zero =>
    unfold inL at h
    have h := of_decide_eq_true h
    exfalso
    have h1 : ¬ c.toInt < 0 := fun z => h.1 (Int64.lt_iff_toInt_lt.mpr (by rw [Int32.toInt_toInt64]; exact z))
    have e : (nI 0 - nI 1 : Int32) = -1 := by decide
    rw [e] at h
    refine h.2 (Int64.lt_iff_toInt_lt.mpr ?_)
    rw [Int32.toInt_toInt64, Int32.toInt_toInt64]
    have e2 : (-1 : Int32).toInt = -1 := by decide
    omega
  | succ n =>
    have e : (nI (n + 1) - nI 1 : Int32) = nI n := by rw [show nI 1 = 1 from rfl, nI_s1, nI_p1]
    rw [e] at h
    obtain ⟨k, hk, ec⟩ := inL_n (by omega) h
    exact ⟨k, by omega, ec⟩
def uLat (s : XSt) (out : List Int32) (c : Int32) : Nat × Int32 × XSt := if inL c.toInt64 0 (nI out.length - nI 1).toInt64 = true then (0, lf out c.toNatClampNeg, s) else (1, 0, s)
theorem u_lat {out : List Int32} {c : Int32} (hd : 6 ≤ d) (hs : TS A rf s m) (hb : Bal (stP s).1) (hl : layF (stP s).1 0 [] [] = some out) (hol : out.length ≤ 1000) : CT w MX5_linearAt d 0 0 [.ref (A 0), .int c] m (TR A m (uLat s out c).2.1 (uLat s out c).1 (uLat s out c).2.2) xN := by
  obtain ⟨ls, rs, dp, F, hT, hs⟩ := hs
  have hO := xo_rf A m
  have h3 := hs.2.2.1
  refine ct_intro (lv := [some (.ref (A 0)), some (.int c)]) 0 (by decide) rfl (Nat.le_of_ble_eq_true rfl) rfl ?_
  refine g_aload_n dX5_linearAt_0 rfl rfl rfl ?_
  refine g_aload_n dX5_linearAt_1 rfl rfl rfl ?_
  refine g_get fl_X5_13_X5 dX5_linearAt_2 rfl (Or.inl (tm_o hT)) rfl ?_
  refine g_virtual iV_X5_layLine q2557 (t_lay3 (d := d - 1) (by omega) hT rfl (Pgx_l h3) hb hl) (Or.inl (tm_o hT)) rfl (by decide) dX5_linearAt_5 rfl rfl rfl (by first | exact Nat.le_of_ble_eq_true rfl | simp [Value.category, rf_cat]) (by omega) (by omega) (by omega) xN_no (fun v_5 m_5 h_5 => ?_)
  obtain ⟨rfl, F, hT, hout, hF, hO2⟩ := h_5
  replace hO := xo_tr hO hO2
  replace hs := tIn_lay hs hF
  refine g_aload_n dX5_linearAt_8 rfl rfl rfl ?_
  refine g_iload_n dX5_linearAt_9 rfl rfl rfl ?_
  refine g_i2l dX5_linearAt_10 rfl rfl ?_
  refine g_lconst (v := 0) dX5_linearAt_11 rfl rfl ?_
  refine g_aload_n dX5_linearAt_12 rfl rfl rfl ?_
  refine g_get fl_X5_193_X5 dX5_linearAt_13 rfl (Or.inl (tm_o hT)) rfl ?_
  refine g_iconst (v := (nI 1)) dX5_linearAt_16 rfl rfl ?_
  refine g_isub dX5_linearAt_17 rfl ?_
  refine g_i2l dX5_linearAt_18 rfl rfl ?_
  refine g_staticP iS_X5_in q2448 (c_in (d := d - 1) (by omega) _ _ _) dX5_linearAt_19 rfl rfl rfl (by first | exact Nat.le_of_ble_eq_true rfl | simp [Value.category, rf_cat]) (by omega) xN_no ?_
  refine g_ifB_eq (tgt := 29) dX5_linearAt_22 (by decide) rfl (fun c_22 => ?_) (fun c_22 => ?_)
  · refine g_iconst (v := (nI 1)) dX5_linearAt_29 rfl rfl ?_
    refine g_virtual iV_X5_refused q2451 (t_refS (d := d - 1) (by omega) (x := 1) (by omega) (by omega) hT) (Or.inl (tm_o hT)) rfl (by decide) dX5_linearAt_30 rfl rfl rfl (by first | exact Nat.le_of_ble_eq_true rfl | simp [Value.category, rf_cat]) (by omega) (by omega) (by omega) xN_no (fun v_30 m_30 h_30 => ?_)
    obtain ⟨rfl, hT, hO2⟩ := h_30
    replace hO := xo_tr hO hO2
    refine g_ifn_eq (tgt := 40) dX5_linearAt_33 (by decide) rfl (by omega) (fun c_33 => by omega) (fun _ => ?_)
    refine g_iconst (v := (nI 0)) dX5_linearAt_36 rfl rfl ?_
    refine g_goto (tgt := 46) dX5_linearAt_37 (by decide) ?_
    first | (refine g_ireturn dX5_linearAt_46 rfl ?_; rw [e, nI_clamp (by omega)]; exact ⟨rfl, ⟨_, _, _, _, hT, hs⟩, hO⟩) | (refine g_ireturn dX5_linearAt_46 rfl ?_; have e : uLat s out c = (1, 0, s) := by { unfold uLat; rw [if_neg (by rw [c_22]; decide)] }; rw [e]; exact ⟨rfl, ⟨_, _, _, _, hT, hs⟩, hO⟩)
  · refine g_iconst (v := (nI 0)) dX5_linearAt_25 rfl rfl ?_
    refine g_goto (tgt := 30) dX5_linearAt_26 (by decide) ?_
    refine g_virtual iV_X5_refused q2451 (t_ref0 (d := d - 1) (by omega) hT) (Or.inl (tm_o hT)) rfl (by decide) dX5_linearAt_30 rfl rfl rfl (by first | exact Nat.le_of_ble_eq_true rfl | simp [Value.category, rf_cat]) (by omega) (by omega) (by omega) xN_no (fun v_30 m_30 h_30 => ?_)
    obtain ⟨rfl, hT, hO2⟩ := h_30
    replace hO := xo_tr hO hO2
    refine g_ifn_eq (tgt := 40) dX5_linearAt_33 (by decide) rfl (by omega) (fun _ => ?_) (fun c_33 => by omega)
    have e : uLat s out c = (0, lf out c.toNatClampNeg, s) := by unfold uLat; rw [if_pos c_22]
    obtain ⟨k, hk, rfl⟩ := inL_m (by omega) c_22
    refine g_aload_n dX5_linearAt_40 rfl rfl rfl ?_
    refine g_get fl_X5_32_X5 dX5_linearAt_41 rfl (Or.inl (tm_o hT)) rfl ?_
    refine g_iload_n dX5_linearAt_44 rfl rfl rfl ?_
    refine t_ialdn (k := 10) (N := 1024) (f := F 10) hT rfl rfl rfl rfl dX5_linearAt_45 rfl (by omega) ?_
    rw [hout k hk]
    first | (refine g_ireturn dX5_linearAt_46 rfl ?_; rw [e, nI_clamp (by omega)]; exact ⟨rfl, ⟨_, _, _, _, hT, hs⟩, hO⟩) | (refine g_ireturn dX5_linearAt_46 rfl ?_; have e : uLat s out c = (1, 0, s) := by { unfold uLat; rw [if_neg (by rw [c_22]; decide)] }; rw [e]; exact ⟨rfl, ⟨_, _, _, _, hT, hs⟩, hO⟩)
end TW21
