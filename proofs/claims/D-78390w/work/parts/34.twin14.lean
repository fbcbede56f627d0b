/-! TWIN: its acts: pasting -/
set_option maxRecDepth 100000
section TW14
variable {w : XW} {d : Nat} {m : XM} {A : Nat → Nat} {rf : Int32} {s : XSt}
def clrP (p : XPage) : XPage := (clrL p.1 p.2.1 p.2.2, clrC p.2.1 p.2.2, none)
def pasP (p : XPage) (C : List Int32) (k : Nat) : XPage := (p.1.take p.2.1 ++ C.take k ++ p.1.drop p.2.1, p.2.1 + k, none)
def uPaste (s : XSt) : Nat × Int32 × XSt :=
  let p := clrP (stP s)
  if 0 < (stC s).length ∧ allL p.1 0 p.1.length + allL (stC s) 0 (stC s).length ≤ 60 ∧ levF (lf p.1) p.2.1 0 0 + deepF (lf (stC s)) (stC s).length 0 0 0 ≤ nI 5 then
    (0, nI (allL (pasP p (stC s) (stC s).length).1 0 (pasP p (stC s) (stC s).length).1.length), takeS s (pasP p (stC s) (stC s).length))
  else (1, 0, s)
theorem pas_len {p : XPage} {C : List Int32} {k : Nat} (hk : k ≤ C.length) (hc : p.2.1 ≤ p.1.length) : (pasP p C k).1.length = p.1.length + k := by
  simp [pasP]; omega
theorem pas_s {p : XPage} {C : List Int32} {k : Nat} (hk : k < C.length) (hc : p.2.1 ≤ p.1.length) : insL (pasP p C k).1 (p.2.1 + k) (lf C k) = (pasP p C (k + 1)).1 := by
  have e1 : (p.1.take p.2.1 ++ C.take k).length = p.2.1 + k := by simp; omega
  have e2 : lf C k = C[k] := by simp [lf, List.getD_eq_getElem?_getD, hk]
  unfold insL pasP
  simp only
  rw [← e1, List.take_left, List.drop_left, e2, List.take_succ_eq_append_getElem hk]
  simp only [List.append_assoc, List.cons_append, List.nil_append]
theorem u_paste (hd : 7 ≤ d) (hs : TS A rf s m) (hi : Ipx (stP s)) (hsz : allL (clrP (stP s)).1 0 (clrP (stP s)).1.length + allL (stC s) 0 (stC s).length ≤ 60 → (clrP (stP s)).1.length + (stC s).length ≤ 180) : CT w MX5_paste d 0 0 [.ref (A 0)] m (TR A m (uPaste s).2.1 (uPaste s).1 (uPaste s).2.2) xN := by
  obtain ⟨ls, rs, dp, F, hT, hs⟩ := hs
  have hO := xo_rf A m
  have hcl := clr_len hi
  obtain ⟨p, ep⟩ : ∃ p, p = clrP (stP s) := ⟨_, rfl⟩
  have hC9 := hs.2.2.2.2.2.2.2
  have e0 : pasP p (stC s) 0 = p := by
    rw [ep]; unfold pasP clrP; simp
  have hcl2 : p.1.length ≤ 180 ∧ p.2.1 ≤ p.1.length := by
    have := hs.2.2.1.1.2.2
    rw [ep]; exact ⟨Nat.le_trans hcl.1 this, hcl.2⟩
  have hCl := hC9.2.2
  have ub1 := all_ub (lf p.1) p.1.length 0 0
  have ub2 := all_ub (lf (stC s)) (stC s).length 0 0
  have ub1 : allL p.1 0 p.1.length ≤ 180 := by unfold allL; omega
  have ub2 : allL (stC s) 0 (stC s).length ≤ 180 := by unfold allL; omega
  have no : ∀ (F : Nat → Nat → Int32) (ls rs dp : Int32) m', ¬ (0 < (stC s).length ∧ allL p.1 0 p.1.length + allL (stC s) 0 (stC s).length ≤ 60 ∧ levF (lf p.1) p.2.1 0 0 + deepF (lf (stC s)) (stC s).length 0 0 0 ≤ nI 5) → TM A (nI 1) (nI (stT s).length) (nI (stH s).length) ls rs dp F m' → tIn F s → XOf A m m' → TR A m (uPaste s).2.1 (uPaste s).1 (uPaste s).2.2 (some (.int (nI 0))) m' := by
    intro F ls rs dp m' hn hT hs hO
    have e : uPaste s = (1, 0, s) := by unfold uPaste; rw [← ep]; exact if_neg hn
    rw [e]
    exact ⟨rfl, ⟨_, _, _, _, hT, hs⟩, hO⟩
  have loop : allL p.1 0 p.1.length + allL (stC s) 0 (stC s).length ≤ 60 → levF (lf p.1) p.2.1 0 0 + deepF (lf (stC s)) (stC s).length 0 0 0 ≤ nI 5 → 0 < (stC s).length → ∀ t k (F : Nat → Nat → Int32) (ls rs dp : Int32) m', (stC s).length - k < t → k ≤ (stC s).length → TM A (nI 0) (nI (stT s).length) (nI (stH s).length) ls rs dp F m' → tIn F s → Pgx (F 4) (pasP p (stC s) k) → XOf A m m' → G w MX5_paste (xZ w (TR A m (uPaste s).2.1 (uPaste s).1 (uPaste s).2.2) xN) d 0 0 131 [some (.ref (A 0)), some (.int (nI 1)), some (.int (nI k))] [] m' := by
    intro hok1 hok2 hok3
    have hsz := hsz (by rw [← ep]; exact hok1)
    rw [← ep] at hsz
    intro t
    induction t with
    | zero => intro k F ls rs dp m' h; omega
    | succ t ih =>
      intro k F ls rs dp m' h hk hT hs h4 hO
      have h9_180 : F 9 180 = nI (stC s).length := hs.2.2.2.2.2.2.2.2.1
      have h4_181 : F 4 181 = nI (p.2.1 + k) := h4.2.1
      have hpl := pas_len (p := p) hk hcl2.2
      have hpk : k < (stC s).length → F 9 k = lf (stC s) k := fun h => hs.2.2.2.2.2.2.2.1 k h
      refine g_iload_n dX5_paste_131 rfl rfl rfl ?_
      refine g_aload_n dX5_paste_132 rfl rfl rfl ?_
      refine g_get fl_X5_29_X5 dX5_paste_133 rfl (Or.inl (tm_o hT)) rfl ?_
      refine g_sipush (v := (nI 180)) dX5_paste_136 rfl rfl ?_
      refine t_ialdn (k := 9) (N := 184) (f := F 9) hT rfl rfl rfl (by first | rfl | assumption) dX5_paste_139 rfl (by omega) ?_
      rw [h9_180]
      refine g_icmpn_ge (tgt := 182) dX5_paste_140 (by decide) rfl (by omega) (by omega) (fun c_140 => ?_) (fun c_140 => ?_)
      · obtain rfl : k = (stC s).length := by omega
        obtain ⟨q, eq⟩ : ∃ q, q = pasP p (stC s) (stC s).length := ⟨_, rfl⟩
        rw [← eq] at h4
        refine g_aload_n dX5_paste_182 rfl rfl rfl ?_
        refine g_virtual iV_X5_take q2640 (s_take (d := d - 1) (by omega) ⟨_, _, _, _, hT, hs, h4⟩) (Or.inl (tm_o hT)) rfl (by decide) dX5_paste_183 rfl rfl rfl (by first | exact Nat.le_of_ble_eq_true rfl | simp [Value.category, rf_cat]) (by omega) (by omega) (by omega) xN_no (fun v_183 m_183 h_183 => ?_)
        obtain ⟨rfl, ⟨ls, rs, dp, F, hT, hs, h4⟩, hO2⟩ := h_183
        replace hO := xo_tr hO hO2
        have h3 := hs.2.2.1
        have h3_180 : F 3 180 = nI q.1.length := h3.1.2.1
        have hpq := Pgx_l h3
        change Pl _ q.1 at hpq
        refine g_aload_n dX5_paste_186 rfl rfl rfl ?_
        refine g_get fl_X5_13_X5 dX5_paste_187 rfl (Or.inl (tm_o hT)) rfl ?_
        refine g_iconst (v := (nI 0)) dX5_paste_190 rfl rfl ?_
        refine g_aload_n dX5_paste_191 rfl rfl rfl ?_
        refine g_get fl_X5_13_X5 dX5_paste_192 rfl (Or.inl (tm_o hT)) rfl ?_
        refine g_sipush (v := (nI 180)) dX5_paste_195 rfl rfl ?_
        refine t_ialdn (k := 3) (N := 184) (f := F 3) hT rfl rfl rfl (by first | rfl | assumption) dX5_paste_198 rfl (by omega) ?_
        rw [h3_180]
        refine g_staticP iS_X5_allIn q2508 (p_allIn (d := d - 1) (by omega) (tm_at 3 hT rfl rfl rfl rfl) hpq (by omega) (by omega)) dX5_paste_199 rfl rfl rfl (by first | exact Nat.le_of_ble_eq_true rfl | simp [Value.category, rf_cat]) (by omega) xN_no ?_
        refine g_ireturn dX5_paste_202 rfl ?_
        have e : uPaste s = (0, nI (allL q.1 0 q.1.length), takeS s q) := by unfold uPaste; rw [← ep, eq]; exact if_pos ⟨hok3, hok1, hok2⟩
        rw [e]
        exact ⟨rfl, ⟨_, _, _, _, hT, hs⟩, hO⟩
      · refine g_aload_n dX5_paste_143 rfl rfl rfl ?_
        refine g_get fl_X5_16_X5 dX5_paste_144 rfl (Or.inl (tm_o hT)) rfl ?_
        refine g_aload_n dX5_paste_147 rfl rfl rfl ?_
        refine g_get fl_X5_16_X5 dX5_paste_148 rfl (Or.inl (tm_o hT)) rfl ?_
        refine g_sipush (v := (nI 181)) dX5_paste_151 rfl rfl ?_
        refine t_ialdn (k := 4) (N := 184) (f := F 4) hT rfl rfl rfl (by first | rfl | assumption) dX5_paste_154 rfl (by omega) ?_
        rw [h4_181]
        refine g_aload_n dX5_paste_155 rfl rfl rfl ?_
        refine g_get fl_X5_29_X5 dX5_paste_156 rfl (Or.inl (tm_o hT)) rfl ?_
        refine g_iload_n dX5_paste_159 rfl rfl rfl ?_
        skip
        refine t_ialdn (k := 9) (N := 184) (f := F 9) hT rfl rfl rfl (by first | rfl | assumption) dX5_paste_160 rfl (by omega) ?_
        rw [hpk (by omega)]
        refine g_static iS_X5_put q2637 (p_put (d := d - 1) (by omega) (tm_at 4 hT rfl rfl rfl rfl) h4.1 (a := p.2.1 + k) (by rw [hpl]; omega) (by rw [hpl]; omega)) dX5_paste_161 rfl rfl rfl (by first | exact Nat.le_of_ble_eq_true rfl | simp [Value.category, rf_cat]) (by omega) (by omega) (by omega) xN_no (fun v_161 m_161 h_161 => ?_)
        obtain ⟨rfl, f4, hp4, e181, e182, rfl⟩ := h_161
        replace hO := xo_u (e := iA 0 184 f4) 4 rfl hO
        replace hT := tm_xu (k := 4) (t := 0) (N := 184) (f := f4) hT rfl rfl rfl
        have h4_181 : f4 181 = nI (p.2.1 + k) := e181.trans h4_181
        rw [pas_s (by omega) hcl2.2] at hp4
        refine g_aload_n dX5_paste_164 rfl rfl rfl ?_
        refine g_get fl_X5_16_X5 dX5_paste_165 rfl (Or.inl (tm_o hT)) rfl ?_
        refine g_sipush (v := (nI 181)) dX5_paste_168 rfl rfl ?_
        refine g_dup2 dX5_paste_171 rfl (by first | rfl | exact rf_cat _) (by first | rfl | exact rf_cat _) ?_
        refine t_ialdn (k := 4) (N := 184) (f := f4) hT rfl rfl rfl (by first | rfl | assumption) dX5_paste_172 rfl (by omega) ?_
        rw [h4_181]
        refine g_iconst (v := (nI 1)) dX5_paste_173 rfl rfl ?_
        refine g_iaddn dX5_paste_174 rfl ?_
        refine t_iastn (k := 4) (N := 184) (f := f4) hT hO rfl rfl rfl (by first | rfl | assumption) dX5_paste_175 rfl (by omega) (fun m_175 f_175 e_175 hT hO => ?_)
        refine g_incn2 dX5_paste_176 rfl (by decide) (k := ?_)
        refine g_goto (tgt := 131) dX5_paste_179 (by decide) ?_
        refine ih (k + 1) _ _ _ _ _ (by omega) (by omega) hT (tIn_mono hs rfl rfl rfl rfl rfl rfl) ?_ hO
        show Pgx f_175 _
        rw [e_175]
        exact ⟨pl_u hp4 (by omega), upd_eq _ _ _, by rw [upd_ne (by omega)]; exact e182.trans h4.2.2⟩
  refine ct_intro (lv := [some (.ref (A 0)), none, none]) 2 (by decide) rfl (Nat.le_of_ble_eq_true rfl) rfl ?_
  refine g_aload_n dX5_paste_0 rfl rfl rfl ?_
  refine g_get fl_X5_13_X5 dX5_paste_1 rfl (Or.inl (tm_o hT)) rfl ?_
  refine g_iconst (v := (nI 0)) dX5_paste_4 rfl rfl ?_
  refine g_aload_n dX5_paste_5 rfl rfl rfl ?_
  refine g_get fl_X5_16_X5 dX5_paste_6 rfl (Or.inl (tm_o hT)) rfl ?_
  refine g_iconst (v := (nI 0)) dX5_paste_9 rfl rfl ?_
  have hs := hs
  refine g_static iS_X5_copyPage q2622 (s_copy (d := d - 1) (by omega) ⟨_, _, _, _, hT, hs⟩) dX5_paste_10 rfl rfl rfl (by first | exact Nat.le_of_ble_eq_true rfl | simp [Value.category, rf_cat]) (by omega) (by omega) (by omega) xN_no (fun v_10 m_10 h_10 => ?_)
  obtain ⟨rfl, ⟨ls, rs, dp, F, hT, hs, h4⟩, hO2⟩ := h_10
  replace hO := xo_tr hO hO2
  have h3 := hs.2.2.1
  refine g_aload_n dX5_paste_13 rfl rfl rfl ?_
  refine g_get fl_X5_16_X5 dX5_paste_14 rfl (Or.inl (tm_o hT)) rfl ?_
  refine g_static iS_X5_clear q2631 (p_clear (d := d - 1) (by omega) (tm_at 4 hT rfl rfl rfl rfl) h4 hi) dX5_paste_17 rfl rfl rfl (by first | exact Nat.le_of_ble_eq_true rfl | simp [Value.category, rf_cat]) (by omega) (by omega) (by omega) xN_no (fun v_17 m_17 h_17 => ?_)
  obtain ⟨rfl, f4, hp4, rfl⟩ := h_17
  replace hO := xo_u (e := iA 0 184 f4) 4 rfl hO
  replace hT := tm_xu (k := 4) (t := 0) (N := 184) (f := f4) hT rfl rfl rfl
  replace hs := tIn_4 (g := f4) hs
  have hp4 : Pgx f4 p := by rw [ep]; exact hp4
  have h4_180 : f4 180 = nI p.1.length := hp4.1.2.1
  have h4_181 : f4 181 = nI p.2.1 := hp4.2.1
  have h9 : Pl (F 9) (stC s) := hs.2.2.2.2.2.2.2
  have h9_180 : F 9 180 = nI (stC s).length := h9.2.1
  refine g_aload_n dX5_paste_20 rfl rfl rfl ?_
  refine g_get fl_X5_16_X5 dX5_paste_21 rfl (Or.inl (tm_o hT)) rfl ?_
  refine g_iconst (v := (nI 0)) dX5_paste_24 rfl rfl ?_
  refine g_aload_n dX5_paste_25 rfl rfl rfl ?_
  refine g_get fl_X5_16_X5 dX5_paste_26 rfl (Or.inl (tm_o hT)) rfl ?_
  refine g_sipush (v := (nI 180)) dX5_paste_29 rfl rfl ?_
  refine t_ialdn (k := 4) (N := 184) (f := f4) hT rfl rfl rfl (by first | rfl | assumption) dX5_paste_32 rfl (by omega) ?_
  rw [h4_180]
  refine g_staticP iS_X5_allIn q2508 (p_allIn (d := d - 1) (by omega) (tm_at 4 hT rfl rfl rfl rfl) (Pgx_l hp4) (by omega) (by omega)) dX5_paste_33 rfl rfl rfl (by first | exact Nat.le_of_ble_eq_true rfl | simp [Value.category, rf_cat]) (by omega) xN_no ?_
  refine g_aload_n dX5_paste_36 rfl rfl rfl ?_
  refine g_get fl_X5_29_X5 dX5_paste_37 rfl (Or.inl (tm_o hT)) rfl ?_
  refine g_iconst (v := (nI 0)) dX5_paste_40 rfl rfl ?_
  refine g_aload_n dX5_paste_41 rfl rfl rfl ?_
  refine g_get fl_X5_29_X5 dX5_paste_42 rfl (Or.inl (tm_o hT)) rfl ?_
  refine g_sipush (v := (nI 180)) dX5_paste_45 rfl rfl ?_
  refine t_ialdn (k := 9) (N := 184) (f := F 9) hT rfl rfl rfl (by first | rfl | assumption) dX5_paste_48 rfl (by omega) ?_
  rw [h9_180]
  refine g_staticP iS_X5_allIn q2508 (p_allIn (d := d - 1) (by omega) (tm_at 9 hT rfl rfl rfl rfl) h9 (by omega) (by omega)) dX5_paste_49 rfl rfl rfl (by first | exact Nat.le_of_ble_eq_true rfl | simp [Value.category, rf_cat]) (by omega) xN_no ?_
  refine g_iaddn dX5_paste_52 rfl ?_
  refine g_bipush (v := (nI 60)) dX5_paste_53 rfl rfl ?_
  refine g_icmpn_gt (tgt := 98) dX5_paste_55 (by decide) rfl (by omega) (by omega) (fun c_55 => ?_) (fun c_55 => ?_)
  · refine g_iconst (v := (nI 0)) dX5_paste_98 rfl rfl ?_
    refine g_ist1 dX5_paste_99 rfl (by decide) (k := ?_)
    refine g_aload_n dX5_paste_100 rfl rfl rfl ?_
    refine g_aload_n dX5_paste_101 rfl rfl rfl ?_
    refine g_get fl_X5_29_X5 dX5_paste_102 rfl (Or.inl (tm_o hT)) rfl ?_
    refine g_sipush (v := (nI 180)) dX5_paste_105 rfl rfl ?_
    refine t_ialdn (k := 9) (N := 184) (f := F 9) hT rfl rfl rfl (by first | rfl | assumption) dX5_paste_108 rfl (by omega) ?_
    rw [h9_180]
    refine g_ifn_le (tgt := 120) dX5_paste_109 (by decide) rfl (by omega) (fun c_109 => ?_) (fun c_109 => ?_)
    · refine g_iconst (v := (nI 1)) dX5_paste_120 rfl rfl ?_
      refine g_virtual iV_X5_refused q2451 (t_refS (d := d - 1) (by omega) (x := 1) (by omega) (by omega) hT) (Or.inl (tm_o hT)) rfl (by decide) dX5_paste_121 rfl rfl rfl (by first | exact Nat.le_of_ble_eq_true rfl | simp [Value.category, rf_cat]) (by omega) (by omega) (by omega) xN_no (fun v_121 m_121 h_121 => ?_)
      obtain ⟨rfl, hT, hO2⟩ := h_121
      replace hO := xo_tr hO hO2
      refine g_ifn_eq (tgt := 129) dX5_paste_124 (by decide) rfl (by omega) (fun c_124 => by omega) (fun _ => ?_)
      refine g_iconst (v := (nI 0)) dX5_paste_127 rfl rfl ?_
      refine g_ireturn dX5_paste_128 rfl ?_
      refine no _ _ _ _ _ (fun h => ?_) hT hs hO
      first | omega | exact Int32.not_lt.mpr h.2.2 (by assumption)
    · refine g_iload_n dX5_paste_112 rfl rfl rfl ?_
      refine g_ifn_eq (tgt := 120) dX5_paste_113 (by decide) rfl (by omega) (fun _ => ?_) (fun c_113 => by omega)
      refine g_iconst (v := (nI 1)) dX5_paste_120 rfl rfl ?_
      refine g_virtual iV_X5_refused q2451 (t_refS (d := d - 1) (by omega) (x := 1) (by omega) (by omega) hT) (Or.inl (tm_o hT)) rfl (by decide) dX5_paste_121 rfl rfl rfl (by first | exact Nat.le_of_ble_eq_true rfl | simp [Value.category, rf_cat]) (by omega) (by omega) (by omega) xN_no (fun v_121 m_121 h_121 => ?_)
      obtain ⟨rfl, hT, hO2⟩ := h_121
      replace hO := xo_tr hO hO2
      refine g_ifn_eq (tgt := 129) dX5_paste_124 (by decide) rfl (by omega) (fun c_124 => by omega) (fun _ => ?_)
      refine g_iconst (v := (nI 0)) dX5_paste_127 rfl rfl ?_
      refine g_ireturn dX5_paste_128 rfl ?_
      refine no _ _ _ _ _ (fun h => ?_) hT hs hO
      first | omega | exact Int32.not_lt.mpr h.2.2 (by assumption)
  · refine g_aload_n dX5_paste_58 rfl rfl rfl ?_
    refine g_get fl_X5_16_X5 dX5_paste_59 rfl (Or.inl (tm_o hT)) rfl ?_
    refine g_aload_n dX5_paste_62 rfl rfl rfl ?_
    refine g_get fl_X5_16_X5 dX5_paste_63 rfl (Or.inl (tm_o hT)) rfl ?_
    refine g_sipush (v := (nI 181)) dX5_paste_66 rfl rfl ?_
    refine t_ialdn (k := 4) (N := 184) (f := f4) hT rfl rfl rfl (by first | rfl | assumption) dX5_paste_69 rfl (by omega) ?_
    rw [h4_181]
    refine g_staticP iS_X5_levelAt q2536 (p_levelAt (d := d - 1) (by omega) (tm_at 4 hT rfl rfl rfl rfl) (Pgx_l hp4) (by omega)) dX5_paste_70 rfl rfl rfl (by first | exact Nat.le_of_ble_eq_true rfl | simp [Value.category, rf_cat]) (by omega) xN_no ?_
    refine g_aload_n dX5_paste_73 rfl rfl rfl ?_
    refine g_get fl_X5_29_X5 dX5_paste_74 rfl (Or.inl (tm_o hT)) rfl ?_
    refine g_iconst (v := (nI 0)) dX5_paste_77 rfl rfl ?_
    refine g_aload_n dX5_paste_78 rfl rfl rfl ?_
    refine g_get fl_X5_29_X5 dX5_paste_79 rfl (Or.inl (tm_o hT)) rfl ?_
    refine g_sipush (v := (nI 180)) dX5_paste_82 rfl rfl ?_
    refine t_ialdn (k := 9) (N := 184) (f := F 9) hT rfl rfl rfl (by first | rfl | assumption) dX5_paste_85 rfl (by omega) ?_
    rw [h9_180]
    refine g_staticP iS_X5_deepest q2514 (p_deepest (d := d - 1) (by omega) (tm_at 9 hT rfl rfl rfl rfl) h9 (by omega) (by omega)) dX5_paste_86 rfl rfl rfl (by first | exact Nat.le_of_ble_eq_true rfl | simp [Value.category, rf_cat]) (by omega) xN_no ?_
    refine g_iadd dX5_paste_89 rfl ?_
    refine g_iconst (v := (nI 5)) dX5_paste_90 rfl rfl ?_
    refine g_icmp_gt (tgt := 98) dX5_paste_91 (by decide) rfl (fun c_91 => ?_) (fun c_91 => ?_)
    · refine g_iconst (v := (nI 0)) dX5_paste_98 rfl rfl ?_
      refine g_ist1 dX5_paste_99 rfl (by decide) (k := ?_)
      refine g_aload_n dX5_paste_100 rfl rfl rfl ?_
      refine g_aload_n dX5_paste_101 rfl rfl rfl ?_
      refine g_get fl_X5_29_X5 dX5_paste_102 rfl (Or.inl (tm_o hT)) rfl ?_
      refine g_sipush (v := (nI 180)) dX5_paste_105 rfl rfl ?_
      refine t_ialdn (k := 9) (N := 184) (f := F 9) hT rfl rfl rfl (by first | rfl | assumption) dX5_paste_108 rfl (by omega) ?_
      rw [h9_180]
      refine g_ifn_le (tgt := 120) dX5_paste_109 (by decide) rfl (by omega) (fun c_109 => ?_) (fun c_109 => ?_)
      · refine g_iconst (v := (nI 1)) dX5_paste_120 rfl rfl ?_
        refine g_virtual iV_X5_refused q2451 (t_refS (d := d - 1) (by omega) (x := 1) (by omega) (by omega) hT) (Or.inl (tm_o hT)) rfl (by decide) dX5_paste_121 rfl rfl rfl (by first | exact Nat.le_of_ble_eq_true rfl | simp [Value.category, rf_cat]) (by omega) (by omega) (by omega) xN_no (fun v_121 m_121 h_121 => ?_)
        obtain ⟨rfl, hT, hO2⟩ := h_121
        replace hO := xo_tr hO hO2
        refine g_ifn_eq (tgt := 129) dX5_paste_124 (by decide) rfl (by omega) (fun c_124 => by omega) (fun _ => ?_)
        refine g_iconst (v := (nI 0)) dX5_paste_127 rfl rfl ?_
        refine g_ireturn dX5_paste_128 rfl ?_
        refine no _ _ _ _ _ (fun h => ?_) hT hs hO
        first | omega | exact Int32.not_lt.mpr h.2.2 (by assumption)
      · refine g_iload_n dX5_paste_112 rfl rfl rfl ?_
        refine g_ifn_eq (tgt := 120) dX5_paste_113 (by decide) rfl (by omega) (fun _ => ?_) (fun c_113 => by omega)
        refine g_iconst (v := (nI 1)) dX5_paste_120 rfl rfl ?_
        refine g_virtual iV_X5_refused q2451 (t_refS (d := d - 1) (by omega) (x := 1) (by omega) (by omega) hT) (Or.inl (tm_o hT)) rfl (by decide) dX5_paste_121 rfl rfl rfl (by first | exact Nat.le_of_ble_eq_true rfl | simp [Value.category, rf_cat]) (by omega) (by omega) (by omega) xN_no (fun v_121 m_121 h_121 => ?_)
        obtain ⟨rfl, hT, hO2⟩ := h_121
        replace hO := xo_tr hO hO2
        refine g_ifn_eq (tgt := 129) dX5_paste_124 (by decide) rfl (by omega) (fun c_124 => by omega) (fun _ => ?_)
        refine g_iconst (v := (nI 0)) dX5_paste_127 rfl rfl ?_
        refine g_ireturn dX5_paste_128 rfl ?_
        refine no _ _ _ _ _ (fun h => ?_) hT hs hO
        first | omega | exact Int32.not_lt.mpr h.2.2 (by assumption)
    · refine g_iconst (v := (nI 1)) dX5_paste_94 rfl rfl ?_
      refine g_goto (tgt := 99) dX5_paste_95 (by decide) ?_
      refine g_ist1 dX5_paste_99 rfl (by decide) (k := ?_)
      refine g_aload_n dX5_paste_100 rfl rfl rfl ?_
      refine g_aload_n dX5_paste_101 rfl rfl rfl ?_
      refine g_get fl_X5_29_X5 dX5_paste_102 rfl (Or.inl (tm_o hT)) rfl ?_
      refine g_sipush (v := (nI 180)) dX5_paste_105 rfl rfl ?_
      refine t_ialdn (k := 9) (N := 184) (f := F 9) hT rfl rfl rfl (by first | rfl | assumption) dX5_paste_108 rfl (by omega) ?_
      rw [h9_180]
      refine g_ifn_le (tgt := 120) dX5_paste_109 (by decide) rfl (by omega) (fun c_109 => ?_) (fun c_109 => ?_)
      · refine g_iconst (v := (nI 1)) dX5_paste_120 rfl rfl ?_
        refine g_virtual iV_X5_refused q2451 (t_refS (d := d - 1) (by omega) (x := 1) (by omega) (by omega) hT) (Or.inl (tm_o hT)) rfl (by decide) dX5_paste_121 rfl rfl rfl (by first | exact Nat.le_of_ble_eq_true rfl | simp [Value.category, rf_cat]) (by omega) (by omega) (by omega) xN_no (fun v_121 m_121 h_121 => ?_)
        obtain ⟨rfl, hT, hO2⟩ := h_121
        replace hO := xo_tr hO hO2
        refine g_ifn_eq (tgt := 129) dX5_paste_124 (by decide) rfl (by omega) (fun c_124 => by omega) (fun _ => ?_)
        refine g_iconst (v := (nI 0)) dX5_paste_127 rfl rfl ?_
        refine g_ireturn dX5_paste_128 rfl ?_
        refine no _ _ _ _ _ (fun h => ?_) hT hs hO
        first | omega | exact Int32.not_lt.mpr h.2.2 (by assumption)
      · refine g_iload_n dX5_paste_112 rfl rfl rfl ?_
        refine g_ifn_eq (tgt := 120) dX5_paste_113 (by decide) rfl (by omega) (fun c_113 => by omega) (fun _ => ?_)
        refine g_iconst (v := (nI 0)) dX5_paste_116 rfl rfl ?_
        refine g_goto (tgt := 121) dX5_paste_117 (by decide) ?_
        refine g_virtual iV_X5_refused q2451 (t_ref0 (d := d - 1) (by omega) hT) (Or.inl (tm_o hT)) rfl (by decide) dX5_paste_121 rfl rfl rfl (by first | exact Nat.le_of_ble_eq_true rfl | simp [Value.category, rf_cat]) (by omega) (by omega) (by omega) xN_no (fun v_121 m_121 h_121 => ?_)
        obtain ⟨rfl, hT, hO2⟩ := h_121
        replace hO := xo_tr hO hO2
        refine g_ifn_eq (tgt := 129) dX5_paste_124 (by decide) rfl (by omega) (fun _ => ?_) (fun c_124 => by omega)
        refine g_iconst (v := (nI 0)) dX5_paste_129 rfl rfl ?_
        refine g_ist2 dX5_paste_130 rfl (by decide) (k := ?_)
        exact loop (by omega) (Int32.not_lt.mp (by assumption)) (by omega) ((stC s).length + 1) 0 _ _ _ _ _ (by omega) (by omega) hT hs (by rw [e0]; exact hp4) hO
end TW14
