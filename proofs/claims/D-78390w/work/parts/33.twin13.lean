/-! TWIN: its acts: replacing, pasting -/
set_option maxRecDepth 100000
section TW13
variable {w : XW} {d : Nat} {m : XM} {A : Nat → Nat} {rf : Int32} {s : XSt}
def repS (c e x : Int32) : Int32 := if x = c then e else x
def cntF (f : Nat → Int32) (c : Int32) : Nat → Nat
  | 0 => 0
  | k + 1 => cntF f c k + if f k = c then 1 else 0
theorem cntF_le (f : Nat → Int32) (c : Int32) (k : Nat) : cntF f c k ≤ k := by
  induction k with
  | zero => exact Nat.le_refl _
  | succ k ih => rw [cntF]; split <;> omega
def repP (p : XPage) (c e : Int32) : XPage := (p.1.map (repS c e), p.2.1, p.2.2)
def uRepl (s : XSt) (c e : Int32) : Nat × Int32 × XSt :=
  if symF c = true ∧ symF e = true then (0, nI (cntF (lf (stP s).1) c (stP s).1.length), (stT s, repP (stP s) c e, noteL (stH s) (stP s), stK s, stC s)) else (1, 0, s)
theorem s_note {ls rs dp : Int32} {F : Nat → Nat → Int32} (hd : 2 ≤ d) (hT : TM A rf (nI (stT s).length) (nI (stH s).length) ls rs dp F m) (hs : tIn F s) : CT w MX5_note d 0 0 [.ref (A 0)] m (fun v m' => none = v ∧ ∃ F', TM A rf (nI (stT s).length) (nI (noteL (stH s) (stP s)).length) ls rs dp F' m' ∧ tIn F' (stT s, stP s, noteL (stH s) (stP s), stK s, stC s) ∧ XOf A m m') xN := by
  refine CT_post (t_note hd hs.2.2.2.1 rfl rfl hT) fun v m' h => ?_
  obtain ⟨h1, h2, h3⟩ := h
  have h2 := h2
  rw [← noteL_len (p := stP s)] at h2
  obtain ⟨a1, a2, a3, a4, a5, a6, a7, a8⟩ := hs
  exact ⟨h1, _, h2, ⟨a1, a2, a3, by show (noteL (stH s) (stP s)).length ≤ 14; rw [noteL_len]; have := noteA_le a4; omega, note_in a4 a3 a5, a6, a7, a8⟩, h3⟩
theorem u_repl {c e : Int32} (hd : 4 ≤ d) (hs : TS A rf s m) : CT w MX5_replace d 0 0 [.ref (A 0), .int c, .int e] m (TR A m (uRepl s c e).2.1 (uRepl s c e).1 (uRepl s c e).2.2) xN := by
  obtain ⟨ls, rs, dp, F, hT, hs⟩ := hs
  have hO := xo_rf A m
  by_cases hc : symF c = true ∧ symF e = true
  · have eq : uRepl s c e = (0, nI (cntF (lf (stP s).1) c (stP s).1.length), (stT s, repP (stP s) c e, noteL (stH s) (stP s), stK s, stC s)) := by unfold uRepl; rw [if_pos hc]
    rw [eq]
    have loop : ∀ (F0 : Nat → Nat → Int32) t k (F : Nat → Nat → Int32) m', (stP s).1.length - k < t → k ≤ (stP s).1.length → TM A (nI 0) (nI (stT s).length) (nI (noteL (stH s) (stP s)).length) ls rs dp F m' → tIn F0 (stT s, stP s, noteL (stH s) (stP s), stK s, stC s) → (∀ i, i ≠ 3 → F i = F0 i) → (∀ j, j < k → F 3 j = repS c e (F0 3 j)) → (∀ j, k ≤ j → F 3 j = F0 3 j) → XOf A m m' → G w MX5_replace (xZ w (TR A m (nI (cntF (lf (stP s).1) c (stP s).1.length)) 0 (stT s, repP (stP s) c e, noteL (stH s) (stP s), stK s, stC s)) xN) d 0 0 37 [some (.ref (A 0)), some (.int c), some (.int e), some (.int (nI (cntF (lf (stP s).1) c k))), some (.int (nI k))] [] m' := by
      intro F0 t
      induction t with
      | zero => intro k F m' h; omega
      | succ t ih =>
        intro k F m' h hk hT hs hF hlo hhi hO
        have h30 : Pgx (F0 3) (stP s) := hs.2.2.1
        have hlen := h30.1.2.2
        have h3_180 : F 3 180 = nI (stP s).1.length := by rw [hhi 180 (by omega)]; exact h30.1.2.1
        have hcn := cntF_le (lf (stP s).1) c k
        have hkk : k < (stP s).1.length → F 3 k = lf (stP s).1 k := fun h => by rw [hhi k (Nat.le_refl _)]; exact h30.1.1 k h
        have next : ∀ (x : Int32) (m2 : XM) (f2 : Nat → Int32), k < (stP s).1.length → f2 = upd (F 3) k x → x = repS c e (F 3 k) → TM A (nI 0) (nI (stT s).length) (nI (noteL (stH s) (stP s)).length) ls rs dp (fset F 3 f2) m2 → XOf A m m2 → ∀ z, z = nI (cntF (lf (stP s).1) c (k + 1)) → G w MX5_replace (xZ w (TR A m (nI (cntF (lf (stP s).1) c (stP s).1.length)) 0 (stT s, repP (stP s) c e, noteL (stH s) (stP s), stK s, stC s)) xN) d 0 0 37 [some (.ref (A 0)), some (.int c), some (.int e), some (.int z), some (.int (nI (k + 1)))] [] m2 := by
          intro x m2 f2 hkl ef ex hT2 hO2 z hz
          rw [hz]
          refine ih (k + 1) _ _ (by omega) (by omega) hT2 hs (fun i hi => by rw [fset_ne hi]; exact hF i hi) (fun j hj => ?_) (fun j hj => ?_) hO2
          · rw [fset_eq, ef]
            by_cases hjk : j = k
            · rw [hjk, upd_eq, ex, hhi k (Nat.le_refl _)]
            · rw [upd_ne hjk]; exact hlo j (by omega)
          · rw [fset_eq, ef, upd_ne (by omega)]; exact hhi j (by omega)
        refine g_iload dX5_replace_37 rfl rfl ?_
        refine g_aload_n dX5_replace_39 rfl rfl rfl ?_
        refine g_get fl_X5_13_X5 dX5_replace_40 rfl (Or.inl (tm_o hT)) rfl ?_
        refine g_sipush (v := (nI 180)) dX5_replace_43 rfl rfl ?_
        refine t_ialdn (k := 3) (N := 184) (f := F 3) hT rfl rfl rfl (by first | rfl | assumption) dX5_replace_46 rfl (by omega) ?_
        rw [h3_180]
        refine g_icmpn_ge (tgt := 104) dX5_replace_47 (by decide) rfl (by omega) (by omega) (fun c_47 => ?_) (fun c_47 => ?_)
        · refine g_iload_n dX5_replace_104 rfl rfl rfl ?_
          refine g_ireturn dX5_replace_105 rfl ?_
          obtain rfl : k = (stP s).1.length := by omega
          obtain ⟨a1, a2, a3, a4, a5, a6, a7, a8⟩ := hs
          have hm : (repP (stP s) c e).1.length = (stP s).1.length := List.length_map ..
          refine ⟨rfl, ⟨_, _, _, _, hT, ⟨?_, a2, ⟨⟨fun j hj => ?_, ?_, ?_⟩, ?_, ?_⟩, a4, ?_, ?_, ?_, ?_⟩⟩, hO⟩
          · rw [hF 1 (by decide)]; exact a1
          · have hj : j < (repP (stP s) c e).1.length := hj
            rw [hm] at hj
            show F 3 j = lf ((stP s).1.map (repS c e)) j
            rw [hlo j hj, h30.1.1 j hj]
            simp only [lf, List.getD_eq_getElem?_getD, List.getElem?_map]
            rw [List.getElem?_eq_getElem hj]
            rfl
          · show F 3 180 = nI (repP (stP s) c e).1.length
            rw [hm]; exact h3_180
          · show (repP (stP s) c e).1.length ≤ 180
            rw [hm]; exact hlen
          · rw [hhi 181 (by omega)]; exact h30.2.1
          · rw [hhi 182 (by omega)]; exact h30.2.2
          · rw [hF 5 (by decide)]; exact a5
          · rw [hF 7 (by decide), hF 8 (by decide)]; exact a6
          · rw [hF 7 (by decide), hF 8 (by decide)]; exact a7
          · rw [hF 9 (by decide)]; exact a8
        · refine g_iload_n dX5_replace_50 rfl rfl rfl ?_
          refine g_aload_n dX5_replace_51 rfl rfl rfl ?_
          refine g_get fl_X5_13_X5 dX5_replace_52 rfl (Or.inl (tm_o hT)) rfl ?_
          refine g_iload dX5_replace_55 rfl rfl ?_
          refine t_ialdn (k := 3) (N := 184) (f := F 3) hT rfl rfl rfl (by first | rfl | assumption) dX5_replace_57 rfl (by omega) ?_
          refine g_iload_n dX5_replace_58 rfl rfl rfl ?_
          refine g_icmp_ne (tgt := 66) dX5_replace_59 (by decide) rfl (fun c_59 => ?_) (fun c_59 => ?_)
          · refine g_iconst (v := (nI 0)) dX5_replace_66 rfl rfl ?_
            refine g_iaddn dX5_replace_67 rfl ?_
            refine g_ist3 dX5_replace_68 rfl (by decide) (k := ?_)
            refine g_aload_n dX5_replace_69 rfl rfl rfl ?_
            refine g_get fl_X5_13_X5 dX5_replace_70 rfl (Or.inl (tm_o hT)) rfl ?_
            refine g_iload dX5_replace_73 rfl rfl ?_
            refine g_aload_n dX5_replace_75 rfl rfl rfl ?_
            refine g_get fl_X5_13_X5 dX5_replace_76 rfl (Or.inl (tm_o hT)) rfl ?_
            refine g_iload dX5_replace_79 rfl rfl ?_
            refine t_ialdn (k := 3) (N := 184) (f := F 3) hT rfl rfl rfl (by first | rfl | assumption) dX5_replace_81 rfl (by omega) ?_
            refine g_iload_n dX5_replace_82 rfl rfl rfl ?_
            refine g_icmp_ne (tgt := 90) dX5_replace_83 (by decide) rfl (fun c_83 => ?_) (fun c_83 => ?_)
            · refine g_aload_n dX5_replace_90 rfl rfl rfl ?_
              refine g_get fl_X5_13_X5 dX5_replace_91 rfl (Or.inl (tm_o hT)) rfl ?_
              refine g_iload dX5_replace_94 rfl rfl ?_
              refine t_ialdn (k := 3) (N := 184) (f := F 3) hT rfl rfl rfl (by first | rfl | assumption) dX5_replace_96 rfl (by omega) ?_
              refine t_iastn (k := 3) (N := 184) (f := F 3) hT hO rfl rfl rfl (by first | rfl | assumption) dX5_replace_97 rfl (by omega) (fun m_97 f_97 e_97 hT hO => ?_)
              refine g_incn4 dX5_replace_98 rfl (by decide) (k := ?_)
              refine g_goto (tgt := 37) dX5_replace_101 (by decide) ?_
              refine next _ _ _ (by omega) (by assumption) (by unfold repS; first | rw [if_pos (by assumption)] | rw [if_neg (by assumption)]) hT hO _ ?_
              rw [cntF, ← hkk (by omega)]
              first | rw [if_pos (by assumption)] | rw [if_neg (by assumption)]
            · exact absurd c_83 c_59
          · refine g_iconst (v := (nI 1)) dX5_replace_62 rfl rfl ?_
            refine g_goto (tgt := 67) dX5_replace_63 (by decide) ?_
            refine g_iaddn dX5_replace_67 rfl ?_
            refine g_ist3 dX5_replace_68 rfl (by decide) (k := ?_)
            refine g_aload_n dX5_replace_69 rfl rfl rfl ?_
            refine g_get fl_X5_13_X5 dX5_replace_70 rfl (Or.inl (tm_o hT)) rfl ?_
            refine g_iload dX5_replace_73 rfl rfl ?_
            refine g_aload_n dX5_replace_75 rfl rfl rfl ?_
            refine g_get fl_X5_13_X5 dX5_replace_76 rfl (Or.inl (tm_o hT)) rfl ?_
            refine g_iload dX5_replace_79 rfl rfl ?_
            refine t_ialdn (k := 3) (N := 184) (f := F 3) hT rfl rfl rfl (by first | rfl | assumption) dX5_replace_81 rfl (by omega) ?_
            refine g_iload_n dX5_replace_82 rfl rfl rfl ?_
            refine g_icmp_ne (tgt := 90) dX5_replace_83 (by decide) rfl (fun c_83 => ?_) (fun c_83 => ?_)
            · exact absurd c_59 c_83
            · refine g_iload_n dX5_replace_86 rfl rfl rfl ?_
              refine g_goto (tgt := 97) dX5_replace_87 (by decide) ?_
              refine t_iastn (k := 3) (N := 184) (f := F 3) hT hO rfl rfl rfl (by first | rfl | assumption) dX5_replace_97 rfl (by omega) (fun m_97 f_97 e_97 hT hO => ?_)
              refine g_incn4 dX5_replace_98 rfl (by decide) (k := ?_)
              refine g_goto (tgt := 37) dX5_replace_101 (by decide) ?_
              refine next _ _ _ (by omega) (by assumption) (by unfold repS; first | rw [if_pos (by assumption)] | rw [if_neg (by assumption)]) hT hO _ ?_
              rw [cntF, ← hkk (by omega)]
              first | rw [if_pos (by assumption)] | rw [if_neg (by assumption)]
    refine ct_intro (lv := [some (.ref (A 0)), some (.int c), some (.int e), none, none]) 2 (by decide) rfl (Nat.le_of_ble_eq_true rfl) rfl ?_
    refine g_aload_n dX5_replace_0 rfl rfl rfl ?_
    refine g_iload_n dX5_replace_1 rfl rfl rfl ?_
    refine g_staticP iS_X5_isSymbol q2625 (c_isSymbol (d := d - 1) (by omega) _) dX5_replace_2 rfl rfl rfl (by first | exact Nat.le_of_ble_eq_true rfl | simp [Value.category, rf_cat]) (by omega) xN_no ?_
    refine g_ifB_eq (tgt := 19) dX5_replace_5 (by decide) rfl (fun c_5 => ?_) (fun c_5 => ?_)
    · exact absurd hc.1 (by rw [c_5]; decide)
    · refine g_iload_n dX5_replace_8 rfl rfl rfl ?_
      refine g_staticP iS_X5_isSymbol q2625 (c_isSymbol (d := d - 1) (by omega) _) dX5_replace_9 rfl rfl rfl (by first | exact Nat.le_of_ble_eq_true rfl | simp [Value.category, rf_cat]) (by omega) xN_no ?_
      refine g_ifB_eq (tgt := 19) dX5_replace_12 (by decide) rfl (fun c_12 => ?_) (fun c_12 => ?_)
      · exact absurd hc.2 (by rw [c_12]; decide)
      · refine g_iconst (v := (nI 0)) dX5_replace_15 rfl rfl ?_
        refine g_goto (tgt := 20) dX5_replace_16 (by decide) ?_
        refine g_virtual iV_X5_refused q2451 (t_ref0 (d := d - 1) (by omega) hT) (Or.inl (tm_o hT)) rfl (by decide) dX5_replace_20 rfl rfl rfl (by first | exact Nat.le_of_ble_eq_true rfl | simp [Value.category, rf_cat]) (by omega) (by omega) (by omega) xN_no (fun v_20 m_20 h_20 => ?_)
        obtain ⟨rfl, hT, hO2⟩ := h_20
        replace hO := xo_tr hO hO2
        refine g_ifn_eq (tgt := 28) dX5_replace_23 (by decide) rfl (by omega) (fun _ => ?_) (fun c_23 => by omega)
        refine g_aload_n dX5_replace_28 rfl rfl rfl ?_
        refine g_virtual iV_X5_note q2644 (s_note (d := d - 1) (by omega) hT hs) (Or.inl (tm_o hT)) rfl (by decide) dX5_replace_29 rfl rfl rfl (by first | exact Nat.le_of_ble_eq_true rfl | simp [Value.category, rf_cat]) (by omega) (by omega) (by omega) xN_no (fun v_29 m_29 h_29 => ?_)
        obtain ⟨rfl, F, hT, hs, hO2⟩ := h_29
        replace hO := xo_tr hO hO2
        refine g_iconst (v := (nI 0)) dX5_replace_32 rfl rfl ?_
        refine g_ist3 dX5_replace_33 rfl (by decide) (k := ?_)
        refine g_iconst (v := (nI 0)) dX5_replace_34 rfl rfl ?_
        refine g_ist4 dX5_replace_35 rfl (by decide) (k := ?_)
        exact loop F ((stP s).1.length + 1) 0 F _ (by omega) (by omega) hT hs (fun _ _ => rfl) (fun j hj => absurd hj (Nat.not_lt_zero _)) (fun _ _ => rfl) hO
  · have eq : uRepl s c e = (1, 0, s) := by unfold uRepl; rw [if_neg hc]
    rw [eq]
    refine ct_intro (lv := [some (.ref (A 0)), some (.int c), some (.int e), none, none]) 2 (by decide) rfl (Nat.le_of_ble_eq_true rfl) rfl ?_
    refine g_aload_n dX5_replace_0 rfl rfl rfl ?_
    refine g_iload_n dX5_replace_1 rfl rfl rfl ?_
    refine g_staticP iS_X5_isSymbol q2625 (c_isSymbol (d := d - 1) (by omega) _) dX5_replace_2 rfl rfl rfl (by first | exact Nat.le_of_ble_eq_true rfl | simp [Value.category, rf_cat]) (by omega) xN_no ?_
    refine g_ifB_eq (tgt := 19) dX5_replace_5 (by decide) rfl (fun c_5 => ?_) (fun c_5 => ?_)
    · refine g_iconst (v := (nI 1)) dX5_replace_19 rfl rfl ?_
      refine g_virtual iV_X5_refused q2451 (t_refS (d := d - 1) (by omega) (x := 1) (by omega) (by omega) hT) (Or.inl (tm_o hT)) rfl (by decide) dX5_replace_20 rfl rfl rfl (by first | exact Nat.le_of_ble_eq_true rfl | simp [Value.category, rf_cat]) (by omega) (by omega) (by omega) xN_no (fun v_20 m_20 h_20 => ?_)
      obtain ⟨rfl, hT, hO2⟩ := h_20
      replace hO := xo_tr hO hO2
      refine g_ifn_eq (tgt := 28) dX5_replace_23 (by decide) rfl (by omega) (fun c_23 => by omega) (fun _ => ?_)
      refine g_iconst (v := (nI 0)) dX5_replace_26 rfl rfl ?_
      refine g_ireturn dX5_replace_27 rfl ?_
      exact ⟨rfl, ⟨_, _, _, _, hT, hs⟩, hO⟩
    · refine g_iload_n dX5_replace_8 rfl rfl rfl ?_
      refine g_staticP iS_X5_isSymbol q2625 (c_isSymbol (d := d - 1) (by omega) _) dX5_replace_9 rfl rfl rfl (by first | exact Nat.le_of_ble_eq_true rfl | simp [Value.category, rf_cat]) (by omega) xN_no ?_
      refine g_ifB_eq (tgt := 19) dX5_replace_12 (by decide) rfl (fun c_12 => ?_) (fun c_12 => ?_)
      · refine g_iconst (v := (nI 1)) dX5_replace_19 rfl rfl ?_
        refine g_virtual iV_X5_refused q2451 (t_refS (d := d - 1) (by omega) (x := 1) (by omega) (by omega) hT) (Or.inl (tm_o hT)) rfl (by decide) dX5_replace_20 rfl rfl rfl (by first | exact Nat.le_of_ble_eq_true rfl | simp [Value.category, rf_cat]) (by omega) (by omega) (by omega) xN_no (fun v_20 m_20 h_20 => ?_)
        obtain ⟨rfl, hT, hO2⟩ := h_20
        replace hO := xo_tr hO hO2
        refine g_ifn_eq (tgt := 28) dX5_replace_23 (by decide) rfl (by omega) (fun c_23 => by omega) (fun _ => ?_)
        refine g_iconst (v := (nI 0)) dX5_replace_26 rfl rfl ?_
        refine g_ireturn dX5_replace_27 rfl ?_
        exact ⟨rfl, ⟨_, _, _, _, hT, hs⟩, hO⟩
      · exact absurd ⟨c_5, c_12⟩ hc
end TW13
