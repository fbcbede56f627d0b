/-! TWIN: its acts: copying, extending, replacing, pasting -/
set_option maxRecDepth 100000
section TW12
variable {w : XW} {d : Nat} {m : XM} {A : Nat → Nat} {rf : Int32} {s : XSt}
def subL (L : List Int32) (a c : Nat) : List Int32 := (L.drop a).take (c - a)
theorem subL_len {L : List Int32} {a c : Nat} (h : c ≤ L.length) : (subL L a c).length = c - a := by
  unfold subL; rw [List.length_take, List.length_drop]; omega
theorem lf_sub {L : List Int32} {a c j : Nat} (h : j < c - a) : lf (subL L a c) j = lf L (a + j) := by
  simp only [lf, subL, List.getD_eq_getElem?_getD]
  rw [List.getElem?_take, if_pos h, List.getElem?_drop]
def uCopy (s : XSt) : Nat × Int32 × XSt := match (stP s).2.2 with
  | some a => (0, nI (allL (subL (stP s).1 a (stP s).2.1) 0 (subL (stP s).1 a (stP s).2.1).length), (stT s, stP s, stH s, stK s, subL (stP s).1 a (stP s).2.1))
  | none => (1, 0, s)
theorem u_copy (hd : 3 ≤ d) (hs : TS A rf s m) (hi : Ipx (stP s)) : CT w MX5_copy d 0 0 [.ref (A 0)] m (TR A m (uCopy s).2.1 (uCopy s).1 (uCopy s).2.2) xN := by
  obtain ⟨ls, rs, dp, F, hT, hs⟩ := hs
  have hO := xo_rf A m
  have h3 := hs.2.2.1
  have h3_181 : F 3 181 = nI (stP s).2.1 := h3.2.1
  have hlen := h3.1.2.2
  obtain ⟨hi1, hi2⟩ := id hi
  rcases fr_cases (stP s).2.2 (stP s).2.1 with ⟨e0, e1, e2⟩ | ⟨a, e0, e1, e2⟩
  · have h3_182 : F 3 182 = -9 := by rw [← e1]; exact h3.2.2
    refine ct_intro (lv := [some (.ref (A 0)), none]) 1 (by decide) rfl (Nat.le_of_ble_eq_true rfl) rfl ?_
    refine g_aload_n dX5_copy_0 rfl rfl rfl ?_
    refine g_aload_n dX5_copy_1 rfl rfl rfl ?_
    refine g_get fl_X5_13_X5 dX5_copy_2 rfl (Or.inl (tm_o hT)) rfl ?_
    refine g_sipush (v := (nI 182)) dX5_copy_5 rfl rfl ?_
    refine t_ialdn (k := 3) (N := 184) (f := F 3) hT rfl rfl rfl (by first | rfl | assumption) dX5_copy_8 rfl (by omega) ?_
    rw [h3_182]
    refine g_bipush (v := (-9)) dX5_copy_9 rfl rfl ?_
    refine g_icmp_ne (tgt := 18) dX5_copy_11 (by decide) rfl (fun c_11 => ?_) (fun c_11 => ?_)
    · exact absurd rfl c_11
    · refine g_iconst (v := (nI 1)) dX5_copy_14 rfl rfl ?_
      refine g_goto (tgt := 19) dX5_copy_15 (by decide) ?_
      refine g_virtual iV_X5_refused q2451 (t_refS (d := d - 1) (by omega) (x := 1) (by omega) (by omega) hT) (Or.inl (tm_o hT)) rfl (by decide) dX5_copy_19 rfl rfl rfl (by first | exact Nat.le_of_ble_eq_true rfl | simp [Value.category, rf_cat]) (by omega) (by omega) (by omega) xN_no (fun v_19 m_19 h_19 => ?_)
      obtain ⟨rfl, hT, hO2⟩ := h_19
      replace hO := xo_tr hO hO2
      refine g_ifn_eq (tgt := 27) dX5_copy_22 (by decide) rfl (by omega) (fun c_22 => by omega) (fun _ => ?_)
      refine g_iconst (v := (nI 0)) dX5_copy_25 rfl rfl ?_
      refine g_ireturn dX5_copy_26 rfl ?_
      have e : uCopy s = (1, 0, s) := by unfold uCopy; rw [e0]
      rw [e]
      exact ⟨rfl, ⟨_, _, _, _, hT, hs⟩, hO⟩
  · have h3_182 : F 3 182 = nI a := by rw [← e1]; exact h3.2.2
    have ha := hi2 a e0
    have hn9 := nI_n9 (a := a) (by omega)
    have hlc : (subL (stP s).1 a (stP s).2.1).length = (stP s).2.1 - a := subL_len hi1
    have loop : ∀ (F0 : Nat → Nat → Int32) t k (F : Nat → Nat → Int32) m', (stP s).2.1 - a - k < t → k ≤ (stP s).2.1 - a → TM A (nI 0) (nI (stT s).length) (nI (stH s).length) ls rs dp F m' → tIn F0 s → (∀ i, i ≠ 9 → F i = F0 i) → F 9 180 = nI ((stP s).2.1 - a) → (∀ j, j < k → F 9 j = F0 3 (a + j)) → XOf A m m' → G w MX5_copy (xZ w (TR A m (uCopy s).2.1 (uCopy s).1 (uCopy s).2.2) xN) d 0 0 54 [some (.ref (A 0)), some (.int (nI k))] [] m' := by
      intro F0 t
      induction t with
      | zero => intro k F m' h; omega
      | succ t ih =>
        intro k F m' h hk hT hs hF h9_180 h9 hO
        have e3 : F 3 = F0 3 := hF 3 (by decide)
        have h3 : Pgx (F 3) (stP s) := by rw [e3]; exact hs.2.2.1
        have h3_182 : F 3 182 = nI a := by rw [← e1]; exact h3.2.2
        refine g_iload_n dX5_copy_54 rfl rfl rfl ?_
        refine g_aload_n dX5_copy_55 rfl rfl rfl ?_
        refine g_get fl_X5_29_X5 dX5_copy_56 rfl (Or.inl (tm_o hT)) rfl ?_
        refine g_sipush (v := (nI 180)) dX5_copy_59 rfl rfl ?_
        refine t_ialdn (k := 9) (N := 184) (f := F 9) hT rfl rfl rfl (by first | rfl | assumption) dX5_copy_62 rfl (by omega) ?_
        rw [h9_180]
        refine g_icmpn_ge (tgt := 93) dX5_copy_63 (by decide) rfl (by omega) (by omega) (fun c_63 => ?_) (fun c_63 => ?_)
        · obtain rfl : k = (stP s).2.1 - a := by omega
          have hp9 : Pl (F 9) (subL (stP s).1 a (stP s).2.1) := ⟨fun j hj => by rw [lf_sub (by omega), h9 j (by omega), ← e3]; exact h3.1.1 _ (by omega), by rw [hlc]; exact h9_180, by omega⟩
          refine g_aload_n dX5_copy_93 rfl rfl rfl ?_
          refine g_get fl_X5_29_X5 dX5_copy_94 rfl (Or.inl (tm_o hT)) rfl ?_
          refine g_iconst (v := (nI 0)) dX5_copy_97 rfl rfl ?_
          refine g_aload_n dX5_copy_98 rfl rfl rfl ?_
          refine g_get fl_X5_29_X5 dX5_copy_99 rfl (Or.inl (tm_o hT)) rfl ?_
          refine g_sipush (v := (nI 180)) dX5_copy_102 rfl rfl ?_
          refine t_ialdn (k := 9) (N := 184) (f := F 9) hT rfl rfl rfl (by first | rfl | assumption) dX5_copy_105 rfl (by omega) ?_
          rw [h9_180]
          refine g_staticP iS_X5_allIn q2508 (p_allIn (d := d - 1) (by omega) (f := F 9) (tm_at 9 hT rfl rfl rfl rfl) hp9 (by omega) (by omega)) dX5_copy_106 rfl rfl rfl (by first | exact Nat.le_of_ble_eq_true rfl | simp [Value.category, rf_cat]) (by omega) xN_no ?_
          refine g_ireturn dX5_copy_109 rfl ?_
          have e : uCopy s = (0, nI (allL (subL (stP s).1 a (stP s).2.1) 0 (subL (stP s).1 a (stP s).2.1).length), (stT s, stP s, stH s, stK s, subL (stP s).1 a (stP s).2.1)) := by unfold uCopy; rw [e0]
          rw [e]
          have hs2 := tIn_mono (F' := fset F 9 (F0 9)) hs (hF 1 (by decide)) (hF 3 (by decide)) (hF 5 (by decide)) (hF 7 (by decide)) (hF 8 (by decide)) rfl
          obtain ⟨a1, a2, a3, a4, a5, a6, a7, a8⟩ := hs2
          exact ⟨by rw [hlc], ⟨_, _, _, _, hT, ⟨a1, a2, a3, a4, a5, a6, a7, hp9⟩⟩, hO⟩
        · refine g_aload_n dX5_copy_66 rfl rfl rfl ?_
          refine g_get fl_X5_29_X5 dX5_copy_67 rfl (Or.inl (tm_o hT)) rfl ?_
          refine g_iload_n dX5_copy_70 rfl rfl rfl ?_
          refine g_aload_n dX5_copy_71 rfl rfl rfl ?_
          refine g_get fl_X5_13_X5 dX5_copy_72 rfl (Or.inl (tm_o hT)) rfl ?_
          refine g_aload_n dX5_copy_75 rfl rfl rfl ?_
          refine g_get fl_X5_13_X5 dX5_copy_76 rfl (Or.inl (tm_o hT)) rfl ?_
          refine g_sipush (v := (nI 182)) dX5_copy_79 rfl rfl ?_
          refine t_ialdn (k := 3) (N := 184) (f := F 3) hT rfl rfl rfl (by first | rfl | assumption) dX5_copy_82 rfl (by omega) ?_
          rw [h3_182]
          refine g_iload_n dX5_copy_83 rfl rfl rfl ?_
          refine g_iaddn dX5_copy_84 rfl ?_
          refine t_ialdn (k := 3) (N := 184) (f := F 3) hT rfl rfl rfl (by first | rfl | assumption) dX5_copy_85 rfl (by omega) ?_
          refine t_iastn (k := 9) (N := 184) (f := F 9) hT hO rfl rfl rfl (by first | rfl | assumption) dX5_copy_86 rfl (by omega) (fun m_86 f_86 e_86 hT hO => ?_)
          refine g_incn1 dX5_copy_87 rfl (by decide) (k := ?_)
          refine g_goto (tgt := 54) dX5_copy_90 (by decide) ?_
          refine ih (k + 1) _ _ (by omega) (by omega) hT hs (fun i hi => by rw [fset_ne hi]; exact hF i hi) (by rw [fset_eq, e_86, upd_ne (by omega)]; exact h9_180) (fun j hj => ?_) hO
          rw [fset_eq, e_86]
          by_cases hjk : j = k
          · rw [hjk, upd_eq, e3]
          · rw [upd_ne hjk]; exact h9 j (by omega)
    refine ct_intro (lv := [some (.ref (A 0)), none]) 1 (by decide) rfl (Nat.le_of_ble_eq_true rfl) rfl ?_
    refine g_aload_n dX5_copy_0 rfl rfl rfl ?_
    refine g_aload_n dX5_copy_1 rfl rfl rfl ?_
    refine g_get fl_X5_13_X5 dX5_copy_2 rfl (Or.inl (tm_o hT)) rfl ?_
    refine g_sipush (v := (nI 182)) dX5_copy_5 rfl rfl ?_
    refine t_ialdn (k := 3) (N := 184) (f := F 3) hT rfl rfl rfl (by first | rfl | assumption) dX5_copy_8 rfl (by omega) ?_
    rw [h3_182]
    refine g_bipush (v := (-9)) dX5_copy_9 rfl rfl ?_
    refine g_icmp_ne (tgt := 18) dX5_copy_11 (by decide) rfl (fun c_11 => ?_) (fun c_11 => ?_)
    · refine g_iconst (v := (nI 0)) dX5_copy_18 rfl rfl ?_
      refine g_virtual iV_X5_refused q2451 (t_ref0 (d := d - 1) (by omega) hT) (Or.inl (tm_o hT)) rfl (by decide) dX5_copy_19 rfl rfl rfl (by first | exact Nat.le_of_ble_eq_true rfl | simp [Value.category, rf_cat]) (by omega) (by omega) (by omega) xN_no (fun v_19 m_19 h_19 => ?_)
      obtain ⟨rfl, hT, hO2⟩ := h_19
      replace hO := xo_tr hO hO2
      refine g_ifn_eq (tgt := 27) dX5_copy_22 (by decide) rfl (by omega) (fun _ => ?_) (fun c_22 => by omega)
      refine g_aload_n dX5_copy_27 rfl rfl rfl ?_
      refine g_get fl_X5_29_X5 dX5_copy_28 rfl (Or.inl (tm_o hT)) rfl ?_
      refine g_sipush (v := (nI 180)) dX5_copy_31 rfl rfl ?_
      refine g_aload_n dX5_copy_34 rfl rfl rfl ?_
      refine g_get fl_X5_13_X5 dX5_copy_35 rfl (Or.inl (tm_o hT)) rfl ?_
      refine g_sipush (v := (nI 181)) dX5_copy_38 rfl rfl ?_
      refine t_ialdn (k := 3) (N := 184) (f := F 3) hT rfl rfl rfl (by first | rfl | assumption) dX5_copy_41 rfl (by omega) ?_
      rw [h3_181]
      refine g_aload_n dX5_copy_42 rfl rfl rfl ?_
      refine g_get fl_X5_13_X5 dX5_copy_43 rfl (Or.inl (tm_o hT)) rfl ?_
      refine g_sipush (v := (nI 182)) dX5_copy_46 rfl rfl ?_
      refine t_ialdn (k := 3) (N := 184) (f := F 3) hT rfl rfl rfl (by first | rfl | assumption) dX5_copy_49 rfl (by omega) ?_
      rw [h3_182]
      refine g_isubn dX5_copy_50 rfl (by omega) ?_
      refine t_iastn (k := 9) (N := 184) (f := F 9) hT hO rfl rfl rfl (by first | rfl | assumption) dX5_copy_51 rfl (by omega) (fun m_51 f_51 e_51 hT hO => ?_)
      refine g_iconst (v := (nI 0)) dX5_copy_52 rfl rfl ?_
      refine g_ist1 dX5_copy_53 rfl (by decide) (k := ?_)
      refine loop F ((stP s).2.1 + 1) 0 _ _ (by omega) (by omega) hT hs (fun i hi => fset_ne hi) (by rw [fset_eq, e_51, upd_eq]) (fun j hj => absurd hj (Nat.not_lt_zero _)) hO
    · exact absurd c_11 hn9
def uExt (s : XSt) (r : Bool) : Nat × Int32 × XSt :=
  let L := (stP s).1
  let c := (stP s).2.1
  let a := clrC c (stP s).2.2
  if r = true then if c < rowEndL L c then (0, nI (itemsL L a (itemEndL L c)), (stT s, (L, itemEndL L c, some a), stH s, stK s, stC s)) else (1, 0, s)
  else if rowStartL L a < a then (0, nI (itemsL L (itemStartL L a) c), (stT s, (L, c, some (itemStartL L a)), stH s, stK s, stC s)) else (1, 0, s)
theorem itemEnd_le {L : List Int32} {k : Nat} (hb : Bal L) (hk : k < L.length) : itemEndL L k ≤ L.length := by
  unfold itemEndL itemEndF
  split
  · next h => exact hb.1 k hk h
  · omega
theorem itemStart_le {L : List Int32} {g : Nat} : itemStartL L g ≤ g := by
  unfold itemStartL itemStartF
  split
  · have := beginOf_le (lf L) 0 (g - 1); omega
  · omega
theorem u_ext {r : Bool} (hd : 5 ≤ d) (hs : TS A rf s m) (hi : Ipx (stP s)) (hb : Bal (stP s).1) : CT w MX5_extend d 0 0 [.ref (A 0), .int (xB r)] m (TR A m (uExt s r).2.1 (uExt s r).1 (uExt s r).2.2) xN := by
  obtain ⟨ls, rs, dp, F, hT, hs⟩ := hs
  have hO := xo_rf A m
  have h3 := hs.2.2.1
  have h3_181 : F 3 181 = nI (stP s).2.1 := h3.2.1
  have hpl := Pgx_l h3
  have hlen := h3.1.2.2
  obtain ⟨hi1, hi2⟩ := id hi
  have hre := rowEnd_le (lf (stP s).1) (stP s).1.length 0 (stP s).2.1 hi1
  change (stP s).2.1 ≤ rowEndL (stP s).1 (stP s).2.1 ∧ rowEndL (stP s).1 (stP s).2.1 ≤ (stP s).1.length at hre
  have hac : clrC (stP s).2.1 (stP s).2.2 ≤ (stP s).2.1 := by
    rcases fr_cases (stP s).2.2 (stP s).2.1 with ⟨_, _, e⟩ | ⟨b, e0, _, e⟩
    · rw [e]; exact Nat.le_refl _
    · rw [e]; exact hi2 b e0
  obtain ⟨c, ec⟩ : ∃ c, c = (stP s).2.1 := ⟨_, rfl⟩
  obtain ⟨a, ea⟩ : ∃ a, a = clrC c (stP s).2.2 := ⟨_, rfl⟩
  rw [← ec] at hac hi1 hre h3_181
  rw [← ea] at hac
  have tail : ∀ m', TM A rf (nI (stT s).length) (nI (stH s).length) ls rs dp F m' → XOf A m m' → G w MX5_extend (xZ w (TR A m (uExt s r).2.1 (uExt s r).1 (uExt s r).2.2) xN) d 0 0 34 [some (.ref (A 0)), some (.int (xB r)), some (.int (nI c)), none] [.int (nI a)] m' := by
    intro m' hT hO
    have hrs := rowStart_le (lf (stP s).1) 0 a
    change rowStartL (stP s).1 a ≤ a at hrs
    cases r with
    | true =>
      refine g_ist3 dX5_extend_34 rfl (by decide) (k := ?_)
      refine g_aload_n dX5_extend_35 rfl rfl rfl ?_
      refine g_iload_n dX5_extend_36 rfl rfl rfl ?_
      refine g_ifB_eq (tgt := 60) dX5_extend_37 (by decide) rfl (fun c_37 => ?_) (fun c_37 => ?_)
      · cases c_37
      · refine g_iload_n dX5_extend_40 rfl rfl rfl ?_
        refine g_aload_n dX5_extend_41 rfl rfl rfl ?_
        refine g_get fl_X5_13_X5 dX5_extend_42 rfl (Or.inl (tm_o hT)) rfl ?_
        refine g_iload_n dX5_extend_45 rfl rfl rfl ?_
        refine g_staticP iS_X5_rowEnd q2533 (p_rowEnd (d := d - 1) (by omega) (by first | exact tm_at 3 hT rfl rfl rfl rfl | exact tm_at 4 hT rfl rfl rfl rfl) (by assumption) (by omega)) dX5_extend_46 rfl rfl rfl (by first | exact Nat.le_of_ble_eq_true rfl | simp [Value.category, rf_cat]) (by omega) xN_no ?_
        refine g_icmpn_ge (tgt := 56) dX5_extend_49 (by decide) rfl (by omega) (by omega) (fun c_49 => ?_) (fun c_49 => ?_)
        · refine g_iconst (v := (nI 1)) dX5_extend_56 rfl rfl ?_
          refine g_goto (tgt := 77) dX5_extend_57 (by decide) ?_
          refine g_virtual iV_X5_refused q2451 (t_refS (d := d - 1) (by omega) (x := 1) (by omega) (by omega) hT) (Or.inl (tm_o hT)) rfl (by decide) dX5_extend_77 rfl rfl rfl (by first | exact Nat.le_of_ble_eq_true rfl | simp [Value.category, rf_cat]) (by omega) (by omega) (by omega) xN_no (fun v_77 m_77 h_77 => ?_)
          obtain ⟨rfl, hT, hO2⟩ := h_77
          replace hO := xo_tr hO hO2
          refine g_ifn_eq (tgt := 85) dX5_extend_80 (by decide) rfl (by omega) (fun c_80 => by omega) (fun _ => ?_)
          refine g_iconst (v := (nI 0)) dX5_extend_83 rfl rfl ?_
          refine g_ireturn dX5_extend_84 rfl ?_
          have e : uExt s true = (1, 0, s) := by
            simp only [uExt]
            rw [if_true, if_neg (by rw [← ec]; omega)]
          rw [e]
          exact ⟨rfl, ⟨_, _, _, _, hT, hs⟩, hO⟩
        · refine g_iconst (v := (nI 0)) dX5_extend_52 rfl rfl ?_
          refine g_goto (tgt := 77) dX5_extend_53 (by decide) ?_
          refine g_virtual iV_X5_refused q2451 (t_ref0 (d := d - 1) (by omega) hT) (Or.inl (tm_o hT)) rfl (by decide) dX5_extend_77 rfl rfl rfl (by first | exact Nat.le_of_ble_eq_true rfl | simp [Value.category, rf_cat]) (by omega) (by omega) (by omega) xN_no (fun v_77 m_77 h_77 => ?_)
          obtain ⟨rfl, hT, hO2⟩ := h_77
          replace hO := xo_tr hO hO2
          refine g_ifn_eq (tgt := 85) dX5_extend_80 (by decide) rfl (by omega) (fun _ => ?_) (fun c_80 => by omega)
          refine g_aload_n dX5_extend_85 rfl rfl rfl ?_
          refine g_get fl_X5_13_X5 dX5_extend_86 rfl (Or.inl (tm_o hT)) rfl ?_
          refine g_sipush (v := (nI 182)) dX5_extend_89 rfl rfl ?_
          refine g_iload_n dX5_extend_92 rfl rfl rfl ?_
          refine g_ifB_eq (tgt := 100) dX5_extend_93 (by decide) rfl (fun c_93 => ?_) (fun c_93 => ?_)
          · cases c_93
          · refine g_iload_n dX5_extend_96 rfl rfl rfl ?_
            refine g_goto (tgt := 108) dX5_extend_97 (by decide) ?_
            refine t_iastn (k := 3) (N := 184) (f := F 3) hT hO rfl rfl rfl (by first | rfl | assumption) dX5_extend_108 rfl (by omega) (fun m_108 f_108 e_108 hT hO => ?_)
            have hpl : Pl f_108 (stP s).1 := by rw [e_108]; exact pl_u hpl (by omega)
            refine g_aload_n dX5_extend_109 rfl rfl rfl ?_
            refine g_get fl_X5_13_X5 dX5_extend_110 rfl (Or.inl (tm_o hT)) rfl ?_
            refine g_sipush (v := (nI 181)) dX5_extend_113 rfl rfl ?_
            refine g_iload_n dX5_extend_116 rfl rfl rfl ?_
            refine g_ifB_eq (tgt := 131) dX5_extend_117 (by decide) rfl (fun c_117 => ?_) (fun c_117 => ?_)
            · cases c_117
            · refine g_aload_n dX5_extend_120 rfl rfl rfl ?_
              refine g_get fl_X5_13_X5 dX5_extend_121 rfl (Or.inl (tm_o hT)) rfl ?_
              refine g_iload_n dX5_extend_124 rfl rfl rfl ?_
              refine g_staticP iS_X5_itemEnd q2542 (p_itemEnd (d := d - 1) (by omega) (tm_at 3 hT rfl rfl rfl rfl) hpl hb (by omega)) dX5_extend_125 rfl rfl rfl (by first | exact Nat.le_of_ble_eq_true rfl | simp [Value.category, rf_cat]) (by omega) xN_no ?_
              refine g_goto (tgt := 132) dX5_extend_128 (by decide) ?_
              refine t_iastn (k := 3) (N := 184) (f := f_108) hT hO rfl rfl rfl (by first | rfl | assumption) dX5_extend_132 rfl (by omega) (fun m_132 f_132 e_132 hT hO => ?_)
              have hpl : Pl f_132 (stP s).1 := by rw [e_132]; exact pl_u hpl (by omega)
              have h3_182 : f_132 182 = nI a := by rw [e_132, upd_ne (by omega), e_108, upd_eq]
              have h3_181 : f_132 181 = nI (itemEndL (stP s).1 c) := by rw [e_132, upd_eq]
              have hie := itemEnd_le hb (show c < (stP s).1.length by omega)
              have hig : c < itemEndL (stP s).1 c := itemEnd_gt _ _ _
              refine g_aload_n dX5_extend_133 rfl rfl rfl ?_
              refine g_get fl_X5_13_X5 dX5_extend_134 rfl (Or.inl (tm_o hT)) rfl ?_
              refine g_aload_n dX5_extend_137 rfl rfl rfl ?_
              refine g_get fl_X5_13_X5 dX5_extend_138 rfl (Or.inl (tm_o hT)) rfl ?_
              refine g_sipush (v := (nI 182)) dX5_extend_141 rfl rfl ?_
              refine t_ialdn (k := 3) (N := 184) (f := f_132) hT rfl rfl rfl (by first | rfl | assumption) dX5_extend_144 rfl (by omega) ?_
              rw [h3_182]
              refine g_aload_n dX5_extend_145 rfl rfl rfl ?_
              refine g_get fl_X5_13_X5 dX5_extend_146 rfl (Or.inl (tm_o hT)) rfl ?_
              refine g_sipush (v := (nI 181)) dX5_extend_149 rfl rfl ?_
              refine t_ialdn (k := 3) (N := 184) (f := f_132) hT rfl rfl rfl (by first | rfl | assumption) dX5_extend_152 rfl (by omega) ?_
              rw [h3_181]
              refine g_staticP iS_X5_itemsIn q2539 (p_itemsIn (d := d - 1) (by omega) (tm_at 3 hT rfl rfl rfl rfl) hpl hb (by omega) (by omega)) dX5_extend_153 rfl rfl rfl (by first | exact Nat.le_of_ble_eq_true rfl | simp [Value.category, rf_cat]) (by omega) xN_no ?_
              refine g_ireturn dX5_extend_156 rfl ?_
              have e : uExt s true = (0, nI (itemsL (stP s).1 a (itemEndL (stP s).1 c)), (stT s, ((stP s).1, itemEndL (stP s).1 c, some a), stH s, stK s, stC s)) := by
                simp only [uExt]
                rw [if_true, if_pos (by rw [← ec]; omega), ← ec, ← ea]
              rw [e]
              exact ⟨rfl, ⟨_, _, _, _, hT, tIn_cur hs ⟨hpl, h3_181, h3_182⟩ rfl rfl rfl rfl rfl⟩, hO⟩
    | false =>
      refine g_ist3 dX5_extend_34 rfl (by decide) (k := ?_)
      refine g_aload_n dX5_extend_35 rfl rfl rfl ?_
      refine g_iload_n dX5_extend_36 rfl rfl rfl ?_
      refine g_ifB_eq (tgt := 60) dX5_extend_37 (by decide) rfl (fun c_37 => ?_) (fun c_37 => ?_)
      · refine g_iload_n dX5_extend_60 rfl rfl rfl ?_
        refine g_aload_n dX5_extend_61 rfl rfl rfl ?_
        refine g_get fl_X5_13_X5 dX5_extend_62 rfl (Or.inl (tm_o hT)) rfl ?_
        refine g_iload_n dX5_extend_65 rfl rfl rfl ?_
        refine g_staticP iS_X5_rowStart q2530 (p_rowStart (d := d - 1) (by omega) (by first | exact tm_at 3 hT rfl rfl rfl rfl | exact tm_at 4 hT rfl rfl rfl rfl) (by assumption) (by omega)) dX5_extend_66 rfl rfl rfl (by first | exact Nat.le_of_ble_eq_true rfl | simp [Value.category, rf_cat]) (by omega) xN_no ?_
        refine g_icmpn_le (tgt := 76) dX5_extend_69 (by decide) rfl (by omega) (by omega) (fun c_69 => ?_) (fun c_69 => ?_)
        · refine g_iconst (v := (nI 1)) dX5_extend_76 rfl rfl ?_
          refine g_virtual iV_X5_refused q2451 (t_refS (d := d - 1) (by omega) (x := 1) (by omega) (by omega) hT) (Or.inl (tm_o hT)) rfl (by decide) dX5_extend_77 rfl rfl rfl (by first | exact Nat.le_of_ble_eq_true rfl | simp [Value.category, rf_cat]) (by omega) (by omega) (by omega) xN_no (fun v_77 m_77 h_77 => ?_)
          obtain ⟨rfl, hT, hO2⟩ := h_77
          replace hO := xo_tr hO hO2
          refine g_ifn_eq (tgt := 85) dX5_extend_80 (by decide) rfl (by omega) (fun c_80 => by omega) (fun _ => ?_)
          refine g_iconst (v := (nI 0)) dX5_extend_83 rfl rfl ?_
          refine g_ireturn dX5_extend_84 rfl ?_
          have e : uExt s false = (1, 0, s) := by
            simp only [uExt]
            rw [if_neg (by decide), if_neg (by rw [← ec, ← ea]; omega)]
          rw [e]
          exact ⟨rfl, ⟨_, _, _, _, hT, hs⟩, hO⟩
        · refine g_iconst (v := (nI 0)) dX5_extend_72 rfl rfl ?_
          refine g_goto (tgt := 77) dX5_extend_73 (by decide) ?_
          refine g_virtual iV_X5_refused q2451 (t_ref0 (d := d - 1) (by omega) hT) (Or.inl (tm_o hT)) rfl (by decide) dX5_extend_77 rfl rfl rfl (by first | exact Nat.le_of_ble_eq_true rfl | simp [Value.category, rf_cat]) (by omega) (by omega) (by omega) xN_no (fun v_77 m_77 h_77 => ?_)
          obtain ⟨rfl, hT, hO2⟩ := h_77
          replace hO := xo_tr hO hO2
          refine g_ifn_eq (tgt := 85) dX5_extend_80 (by decide) rfl (by omega) (fun _ => ?_) (fun c_80 => by omega)
          refine g_aload_n dX5_extend_85 rfl rfl rfl ?_
          refine g_get fl_X5_13_X5 dX5_extend_86 rfl (Or.inl (tm_o hT)) rfl ?_
          refine g_sipush (v := (nI 182)) dX5_extend_89 rfl rfl ?_
          refine g_iload_n dX5_extend_92 rfl rfl rfl ?_
          refine g_ifB_eq (tgt := 100) dX5_extend_93 (by decide) rfl (fun c_93 => ?_) (fun c_93 => ?_)
          · refine g_aload_n dX5_extend_100 rfl rfl rfl ?_
            refine g_get fl_X5_13_X5 dX5_extend_101 rfl (Or.inl (tm_o hT)) rfl ?_
            refine g_iload_n dX5_extend_104 rfl rfl rfl ?_
            refine g_staticP iS_X5_itemStart q2572 (p_itemStart (d := d - 1) (by omega) (tm_at 3 hT rfl rfl rfl rfl) hpl hb (by omega) (by omega)) dX5_extend_105 rfl rfl rfl (by first | exact Nat.le_of_ble_eq_true rfl | simp [Value.category, rf_cat]) (by omega) xN_no ?_
            refine t_iastn (k := 3) (N := 184) (f := F 3) hT hO rfl rfl rfl (by first | rfl | assumption) dX5_extend_108 rfl (by omega) (fun m_108 f_108 e_108 hT hO => ?_)
            have hpl : Pl f_108 (stP s).1 := by rw [e_108]; exact pl_u hpl (by omega)
            refine g_aload_n dX5_extend_109 rfl rfl rfl ?_
            refine g_get fl_X5_13_X5 dX5_extend_110 rfl (Or.inl (tm_o hT)) rfl ?_
            refine g_sipush (v := (nI 181)) dX5_extend_113 rfl rfl ?_
            refine g_iload_n dX5_extend_116 rfl rfl rfl ?_
            refine g_ifB_eq (tgt := 131) dX5_extend_117 (by decide) rfl (fun c_117 => ?_) (fun c_117 => ?_)
            · refine g_iload_n dX5_extend_131 rfl rfl rfl ?_
              refine t_iastn (k := 3) (N := 184) (f := f_108) hT hO rfl rfl rfl (by first | rfl | assumption) dX5_extend_132 rfl (by omega) (fun m_132 f_132 e_132 hT hO => ?_)
              have hpl : Pl f_132 (stP s).1 := by rw [e_132]; exact pl_u hpl (by omega)
              have h3_182 : f_132 182 = nI (itemStartL (stP s).1 a) := by rw [e_132, upd_ne (by omega), e_108, upd_eq]
              have h3_181 : f_132 181 = nI c := by rw [e_132, upd_eq]
              have hie := itemStart_le (L := (stP s).1) (g := a)
              refine g_aload_n dX5_extend_133 rfl rfl rfl ?_
              refine g_get fl_X5_13_X5 dX5_extend_134 rfl (Or.inl (tm_o hT)) rfl ?_
              refine g_aload_n dX5_extend_137 rfl rfl rfl ?_
              refine g_get fl_X5_13_X5 dX5_extend_138 rfl (Or.inl (tm_o hT)) rfl ?_
              refine g_sipush (v := (nI 182)) dX5_extend_141 rfl rfl ?_
              refine t_ialdn (k := 3) (N := 184) (f := f_132) hT rfl rfl rfl (by first | rfl | assumption) dX5_extend_144 rfl (by omega) ?_
              rw [h3_182]
              refine g_aload_n dX5_extend_145 rfl rfl rfl ?_
              refine g_get fl_X5_13_X5 dX5_extend_146 rfl (Or.inl (tm_o hT)) rfl ?_
              refine g_sipush (v := (nI 181)) dX5_extend_149 rfl rfl ?_
              refine t_ialdn (k := 3) (N := 184) (f := f_132) hT rfl rfl rfl (by first | rfl | assumption) dX5_extend_152 rfl (by omega) ?_
              rw [h3_181]
              refine g_staticP iS_X5_itemsIn q2539 (p_itemsIn (d := d - 1) (by omega) (tm_at 3 hT rfl rfl rfl rfl) hpl hb (by omega) (by omega)) dX5_extend_153 rfl rfl rfl (by first | exact Nat.le_of_ble_eq_true rfl | simp [Value.category, rf_cat]) (by omega) xN_no ?_
              refine g_ireturn dX5_extend_156 rfl ?_
              have e : uExt s false = (0, nI (itemsL (stP s).1 (itemStartL (stP s).1 a) c), (stT s, ((stP s).1, c, some (itemStartL (stP s).1 a)), stH s, stK s, stC s)) := by
                simp only [uExt]
                rw [if_neg (by decide), if_pos (by rw [← ec, ← ea]; omega), ← ec, ← ea]
              rw [e]
              exact ⟨rfl, ⟨_, _, _, _, hT, tIn_cur hs ⟨hpl, h3_181, h3_182⟩ rfl rfl rfl rfl rfl⟩, hO⟩
            · cases c_117
          · cases c_93
      · cases c_37
  rcases fr_cases (stP s).2.2 (stP s).2.1 with ⟨e0, e1, e2⟩ | ⟨b, e0, e1, e2⟩
  · have h3_182 : F 3 182 = -9 := by rw [← e1]; exact h3.2.2
    obtain rfl : a = c := by rw [ea, ec]; exact e2
    refine ct_intro (lv := [some (.ref (A 0)), some (.int (xB r)), none, none]) 2 (by decide) rfl (Nat.le_of_ble_eq_true rfl) rfl ?_
    refine g_aload_n dX5_extend_0 rfl rfl rfl ?_
    refine g_get fl_X5_13_X5 dX5_extend_1 rfl (Or.inl (tm_o hT)) rfl ?_
    refine g_sipush (v := (nI 181)) dX5_extend_4 rfl rfl ?_
    refine t_ialdn (k := 3) (N := 184) (f := F 3) hT rfl rfl rfl (by first | rfl | assumption) dX5_extend_7 rfl (by omega) ?_
    rw [h3_181]
    refine g_ist2 dX5_extend_8 rfl (by decide) (k := ?_)
    refine g_aload_n dX5_extend_9 rfl rfl rfl ?_
    refine g_get fl_X5_13_X5 dX5_extend_10 rfl (Or.inl (tm_o hT)) rfl ?_
    refine g_sipush (v := (nI 182)) dX5_extend_13 rfl rfl ?_
    refine t_ialdn (k := 3) (N := 184) (f := F 3) hT rfl rfl rfl (by first | rfl | assumption) dX5_extend_16 rfl (by omega) ?_
    rw [h3_182]
    refine g_bipush (v := (-9)) dX5_extend_17 rfl rfl ?_
    refine g_icmp_ne (tgt := 26) dX5_extend_19 (by decide) rfl (fun c_19 => ?_) (fun c_19 => ?_)
    · exact absurd rfl c_19
    · refine g_iload_n dX5_extend_22 rfl rfl rfl ?_
      refine g_goto (tgt := 34) dX5_extend_23 (by decide) ?_
      exact tail _ hT hO
  · have h3_182 : F 3 182 = nI b := by rw [← e1]; exact h3.2.2
    obtain rfl : a = b := by rw [ea, ec]; exact e2
    have hn9 := nI_n9 (a := a) (by omega)
    refine ct_intro (lv := [some (.ref (A 0)), some (.int (xB r)), none, none]) 2 (by decide) rfl (Nat.le_of_ble_eq_true rfl) rfl ?_
    refine g_aload_n dX5_extend_0 rfl rfl rfl ?_
    refine g_get fl_X5_13_X5 dX5_extend_1 rfl (Or.inl (tm_o hT)) rfl ?_
    refine g_sipush (v := (nI 181)) dX5_extend_4 rfl rfl ?_
    refine t_ialdn (k := 3) (N := 184) (f := F 3) hT rfl rfl rfl (by first | rfl | assumption) dX5_extend_7 rfl (by omega) ?_
    rw [h3_181]
    refine g_ist2 dX5_extend_8 rfl (by decide) (k := ?_)
    refine g_aload_n dX5_extend_9 rfl rfl rfl ?_
    refine g_get fl_X5_13_X5 dX5_extend_10 rfl (Or.inl (tm_o hT)) rfl ?_
    refine g_sipush (v := (nI 182)) dX5_extend_13 rfl rfl ?_
    refine t_ialdn (k := 3) (N := 184) (f := F 3) hT rfl rfl rfl (by first | rfl | assumption) dX5_extend_16 rfl (by omega) ?_
    rw [h3_182]
    refine g_bipush (v := (-9)) dX5_extend_17 rfl rfl ?_
    refine g_icmp_ne (tgt := 26) dX5_extend_19 (by decide) rfl (fun c_19 => ?_) (fun c_19 => ?_)
    · refine g_aload_n dX5_extend_26 rfl rfl rfl ?_
      refine g_get fl_X5_13_X5 dX5_extend_27 rfl (Or.inl (tm_o hT)) rfl ?_
      refine g_sipush (v := (nI 182)) dX5_extend_30 rfl rfl ?_
      refine t_ialdn (k := 3) (N := 184) (f := F 3) hT rfl rfl rfl (by first | rfl | assumption) dX5_extend_33 rfl (by omega) ?_
      rw [h3_182]
      exact tail _ hT hO
    · exact absurd c_19 hn9
end TW12
