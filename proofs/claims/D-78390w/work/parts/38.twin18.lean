/-! TWIN: the text of a line: what needs no parentheses -/
set_option maxRecDepth 100000
section TW18
variable {w : XW} {d : Nat} {m : XM} {r : Nat} {f : Nat → Int32} {L : List Int32}
def shB (s : Int32) : Bool := letF s || digF s || decide (s = -4)
def scS (s : Int32) : Bool := decide (s = -2) || decide (s = -3)
def shK2 (L : List Int32) (en : Nat) (b : Bool) (k : Nat) : Bool := if k < en then shK2 L en (b && scS (lf L k)) (itemEndL L k) else b
termination_by en - k
decreasing_by have h : k < itemEndL L k := itemEnd_gt _ _ _; omega
def isSh (L : List Int32) (st : Nat) (op : Bool) : Bool :=
  if st = rowEndL L st then false
  else if op = false ∨ itemEndL L st = rowEndL L st then shB (lf L st) && decide (itemEndL L st = rowEndL L st)
  else shK2 L (rowEndL L st) (shB (lf L st) || decide (lf L st = -5)) (itemEndL L st)
theorem p_isShort {st : Nat} {op : Bool} (hd : 4 ≤ d) (hm : m r = some (iA 0 184 f)) (hp : Pl f L) (hb : Bal L) (hst : st ≤ L.length) : CT w MX5_isShort d 0 0 [.ref r, .int (nI st), .int (xB op)] m (xRet (some (.int (xB (isSh L st op)))) m) xN := by
  have hlen := hp.2.2
  have hre := rowEnd_le (lf L) L.length 0 st hst
  change st ≤ rowEndL L st ∧ rowEndL L st ≤ L.length at hre
  have loop : ∀ t k b x6, rowEndL L st - k < t → k ≤ L.length → xc1 x6 = true → isSh L st op = shK2 L (rowEndL L st) b k → G w MX5_isShort (xZ w (xRet (some (.int (xB (isSh L st op)))) m) xN) d 0 0 101 [some (.ref r), some (.int (nI st)), some (.int (xB op)), some (.int (nI (rowEndL L st))), some (.int (lf L st)), some (.int (nI k)), x6, some (.int (xB b))] [] m := by
    intro t
    induction t with
    | zero => intro k b x6 h; omega
    | succ t ih =>
      intro k b x6 h hk h6 he
      have hig : k < itemEndL L k := itemEnd_gt _ _ _
      have hfk : k < L.length → f k = lf L k := fun h => hp.1 k h
      have hie := fun (z : k < L.length) => itemEnd_le hb z
      have next : ∀ b2 : Bool, k < rowEndL L st → b2 = (b && scS (lf L k)) → G w MX5_isShort (xZ w (xRet (some (.int (xB (isSh L st op)))) m) xN) d 0 0 135 [some (.ref r), some (.int (nI st)), some (.int (xB op)), some (.int (nI (rowEndL L st))), some (.int (lf L st)), some (.int (nI k)), x6, some (.int (xB b))] [.int (xB b2)] m := by
        intro b2 hkl hb2
        refine g_ist7 dX5_isShort_135 rfl (by decide) (k := ?_)
        first | refine g_aload_n dX5_isShort_137 rfl rfl rfl ?_ | refine g_aload_nR dX5_isShort_137 rfl rfl rfl ?_ | refine g_aload_nN dX5_isShort_137 rfl rfl rfl ?_
        refine g_iload dX5_isShort_138 rfl rfl ?_
        refine g_staticP iS_X5_itemEnd q2542 (p_itemEnd (d := d - 1) (by omega) hm hp hb (by omega)) dX5_isShort_140 rfl rfl rfl (by first | exact Nat.le_of_ble_eq_true rfl | simp [Value.category, rf_cat]) (by omega) xN_no ?_
        refine g_ist5 dX5_isShort_143 rfl (by decide) (k := ?_)
        refine g_goto (tgt := 101) dX5_isShort_145 (by decide) ?_
        refine ih _ _ _ (by omega) (hie (by omega)) h6 ?_
        rw [he]
        conv => lhs; rw [shK2, if_pos (by omega)]
        rw [hb2]
      refine g_iload dX5_isShort_101 rfl rfl ?_
      refine g_iload_n dX5_isShort_103 rfl rfl rfl ?_
      refine g_icmpn_ge (tgt := 148) dX5_isShort_104 (by decide) rfl (by omega) (by omega) (fun c_104 => ?_) (fun c_104 => ?_)
      · refine g_iload dX5_isShort_148 rfl rfl ?_
        refine g_breturn dX5_isShort_150 rfl ?_
        refine ⟨?_, rfl⟩
        rw [he]
        conv => lhs; rw [shK2]
        rw [if_neg (by omega)]
      · refine g_iload dX5_isShort_107 rfl rfl ?_
        refine g_ifB_eq (tgt := 134) dX5_isShort_109 (by decide) rfl (fun c_109 => ?_) (fun c_109 => ?_)
        · exact (by
          refine g_iconst (v := nI 0) dX5_isShort_134 rfl rfl ?_
          exact next false (by omega) (by
            by_cases hbb : b = true
            · have e : scS (lf L k) = false := by
                unfold scS
                first | rw [decide_eq_false (by assumption), decide_eq_false (by assumption)]; rfl | exact (bo_no (by assumption : b = false) hbb).elim
              rw [e, Bool.and_false]
            · rw [Bool.not_eq_true] at hbb
              rw [hbb]; rfl))
        · first | refine g_aload_n dX5_isShort_112 rfl rfl rfl ?_ | refine g_aload_nR dX5_isShort_112 rfl rfl rfl ?_ | refine g_aload_nN dX5_isShort_112 rfl rfl rfl ?_
          refine g_iload dX5_isShort_113 rfl rfl ?_
          refine g_ialdn dX5_isShort_115 rfl (Or.inl (by first | assumption | exact xu_eq _ _ _)) (by omega) (by omega) ?_
          rw [hfk (by omega)]
          refine g_bipush (v := (-2)) dX5_isShort_116 rfl rfl ?_
          refine g_icmp_eq (tgt := 130) dX5_isShort_118 (by decide) rfl (fun c_118 => ?_) (fun c_118 => ?_)
          · exact (by
            refine g_iconst (v := nI 1) dX5_isShort_130 rfl rfl ?_
            refine g_goto (tgt := 135) dX5_isShort_131 (by decide) ?_
            exact next true (by omega) (by
              have e : scS (lf L k) = true := by unfold scS; first | rw [decide_eq_true (by assumption), Bool.true_or] | rw [decide_eq_true (show lf L k = -3 by assumption), Bool.or_true]
              rw [e, Bool.and_true]; exact (by assumption : b = true).symm))
          · first | refine g_aload_n dX5_isShort_121 rfl rfl rfl ?_ | refine g_aload_nR dX5_isShort_121 rfl rfl rfl ?_ | refine g_aload_nN dX5_isShort_121 rfl rfl rfl ?_
            refine g_iload dX5_isShort_122 rfl rfl ?_
            refine g_ialdn dX5_isShort_124 rfl (Or.inl (by first | assumption | exact xu_eq _ _ _)) (by omega) (by omega) ?_
            rw [hfk (by omega)]
            refine g_bipush (v := (-3)) dX5_isShort_125 rfl rfl ?_
            refine g_icmp_ne (tgt := 134) dX5_isShort_127 (by decide) rfl (fun c_127 => ?_) (fun c_127 => ?_)
            · exact (by
              refine g_iconst (v := nI 0) dX5_isShort_134 rfl rfl ?_
              exact next false (by omega) (by
                by_cases hbb : b = true
                · have e : scS (lf L k) = false := by
                    unfold scS
                    first | rw [decide_eq_false (by assumption), decide_eq_false (by assumption)]; rfl | exact (bo_no (by assumption : b = false) hbb).elim
                  rw [e, Bool.and_false]
                · rw [Bool.not_eq_true] at hbb
                  rw [hbb]; rfl))
            · exact (by
              refine g_iconst (v := nI 1) dX5_isShort_130 rfl rfl ?_
              refine g_goto (tgt := 135) dX5_isShort_131 (by decide) ?_
              exact next true (by omega) (by
                have e : scS (lf L k) = true := by unfold scS; first | rw [decide_eq_true (by assumption), Bool.true_or] | rw [decide_eq_true (show lf L k = -3 by assumption), Bool.or_true]
                rw [e, Bool.and_true]; exact (by assumption : b = true).symm))
  have hig : st < itemEndL L st := itemEnd_gt _ _ _
  have hie := fun (z : st < L.length) => itemEnd_le hb z
  have hfk : st < L.length → f st = lf L st := fun h => hp.1 st h
  have tail : ∀ b : Bool, st ≠ rowEndL L st → b = shB (lf L st) → G w MX5_isShort (xZ w (xRet (some (.int (xB (isSh L st op)))) m) xN) d 0 0 53 [some (.ref r), some (.int (nI st)), some (.int (xB op)), some (.int (nI (rowEndL L st))), some (.int (lf L st)), some (.int (nI (itemEndL L st))), none, none] [.int (xB b)] m := by
    intro b hne hbs
    have hil := hie (by omega)
    have e1 : (op = false ∨ itemEndL L st = rowEndL L st) → isSh L st op = (b && decide (itemEndL L st = rowEndL L st)) := fun h => by unfold isSh; rw [if_neg hne, if_pos h, hbs]
    have e2 : ¬ (op = false ∨ itemEndL L st = rowEndL L st) → isSh L st op = shK2 L (rowEndL L st) (b || decide (lf L st = -5)) (itemEndL L st) := fun h => by unfold isSh; rw [if_neg hne, if_neg h, hbs]
    have t65 : (op = false ∨ itemEndL L st = rowEndL L st) → G w MX5_isShort (xZ w (xRet (some (.int (xB (isSh L st op)))) m) xN) d 0 0 65 [some (.ref r), some (.int (nI st)), some (.int (xB op)), some (.int (nI (rowEndL L st))), some (.int (lf L st)), some (.int (nI (itemEndL L st))), some (.int (xB b)), none] [] m := by
      intro h
      rw [e1 h]
      refine g_iload dX5_isShort_65 rfl rfl ?_
      refine g_ifB_eq (tgt := 80) dX5_isShort_67 (by decide) rfl (fun c_67 => ?_) (fun c_67 => ?_)
      · refine g_iconst (v := (nI 0)) dX5_isShort_80 rfl rfl ?_
        refine g_zreturn dX5_isShort_81 rfl rfl ?_
        refine ⟨?_, rfl⟩
        first | (rw [(by assumption : b = true), decide_eq_true (by omega)]; rfl) | (rw [decide_eq_false (by omega), Bool.and_false]; rfl) | (rw [(by assumption : b = false)]; rfl)
      · refine g_iload dX5_isShort_70 rfl rfl ?_
        refine g_iload_n dX5_isShort_72 rfl rfl rfl ?_
        refine g_icmpn_ne (tgt := 80) dX5_isShort_73 (by decide) rfl (by omega) (by omega) (fun c_73 => ?_) (fun c_73 => ?_)
        · refine g_iconst (v := (nI 0)) dX5_isShort_80 rfl rfl ?_
          refine g_zreturn dX5_isShort_81 rfl rfl ?_
          refine ⟨?_, rfl⟩
          first | (rw [(by assumption : b = true), decide_eq_true (by omega)]; rfl) | (rw [decide_eq_false (by omega), Bool.and_false]; rfl) | (rw [(by assumption : b = false)]; rfl)
        · refine g_iconst (v := (nI 1)) dX5_isShort_76 rfl rfl ?_
          refine g_goto (tgt := 81) dX5_isShort_77 (by decide) ?_
          refine g_zreturn dX5_isShort_81 rfl rfl ?_
          refine ⟨?_, rfl⟩
          first | (rw [(by assumption : b = true), decide_eq_true (by omega)]; rfl) | (rw [decide_eq_false (by omega), Bool.and_false]; rfl) | (rw [(by assumption : b = false)]; rfl)
    have t82 : ¬ (op = false ∨ itemEndL L st = rowEndL L st) → G w MX5_isShort (xZ w (xRet (some (.int (xB (isSh L st op)))) m) xN) d 0 0 82 [some (.ref r), some (.int (nI st)), some (.int (xB op)), some (.int (nI (rowEndL L st))), some (.int (lf L st)), some (.int (nI (itemEndL L st))), some (.int (xB b)), none] [] m := by
      intro h
      have e2 := e2 h
      refine g_iload dX5_isShort_82 rfl rfl ?_
      refine g_ifB_ne (tgt := 94) dX5_isShort_84 (by decide) rfl (fun c_84 => ?_) (fun c_84 => ?_)
      · refine g_iconst (v := (nI 1)) dX5_isShort_94 rfl rfl ?_
        refine g_goto (tgt := 99) dX5_isShort_95 (by decide) ?_
        refine g_ist7 dX5_isShort_99 rfl (by decide) (k := ?_)
        refine loop _ _ true _ (Nat.lt_succ_self _) hil rfl ?_
        rw [e2]; first | rw [(by assumption : b = true), Bool.true_or] | rw [decide_eq_true (by assumption), Bool.or_true]
      · refine g_iload dX5_isShort_87 rfl rfl ?_
        refine g_bipush (v := (-5)) dX5_isShort_89 rfl rfl ?_
        refine g_icmp_ne (tgt := 98) dX5_isShort_91 (by decide) rfl (fun c_91 => ?_) (fun c_91 => ?_)
        · refine g_iconst (v := (nI 0)) dX5_isShort_98 rfl rfl ?_
          refine g_ist7 dX5_isShort_99 rfl (by decide) (k := ?_)
          first | (refine loop _ _ false _ (Nat.lt_succ_self _) hil rfl ?_; rw [e2, (by assumption : b = false), decide_eq_false (by assumption)]; rfl) | (refine loop _ _ true _ (Nat.lt_succ_self _) hil rfl ?_; rw [e2]; first | rw [(by assumption : b = true), Bool.true_or] | rw [decide_eq_true (by assumption), Bool.or_true])
        · refine g_iconst (v := (nI 1)) dX5_isShort_94 rfl rfl ?_
          refine g_goto (tgt := 99) dX5_isShort_95 (by decide) ?_
          refine g_ist7 dX5_isShort_99 rfl (by decide) (k := ?_)
          first | (refine loop _ _ false _ (Nat.lt_succ_self _) hil rfl ?_; rw [e2, (by assumption : b = false), decide_eq_false (by assumption)]; rfl) | (refine loop _ _ true _ (Nat.lt_succ_self _) hil rfl ?_; rw [e2]; first | rw [(by assumption : b = true), Bool.true_or] | rw [decide_eq_true (by assumption), Bool.or_true])
    refine g_ist6 dX5_isShort_53 rfl (by decide) (k := ?_)
    refine g_iload_n dX5_isShort_55 rfl rfl rfl ?_
    refine g_ifB_eq (tgt := 65) dX5_isShort_56 (by decide) rfl (fun c_56 => ?_) (fun c_56 => ?_)
    · first | exact t65 (Or.inl (by assumption)) | exact t65 (Or.inr (by omega))
    · refine g_iload dX5_isShort_59 rfl rfl ?_
      refine g_iload_n dX5_isShort_61 rfl rfl rfl ?_
      refine g_icmpn_ne (tgt := 82) dX5_isShort_62 (by decide) rfl (by omega) (by omega) (fun c_62 => ?_) (fun c_62 => ?_)
      · exact t82 (fun h => by
        rcases h with h | h
        · exact bo_no h (by assumption)
        · omega)
      · first | exact t65 (Or.inl (by assumption)) | exact t65 (Or.inr (by omega))
  refine ct_intro (lv := [some (.ref r), some (.int (nI st)), some (.int (xB op)), none, none, none, none, none]) 5 (by decide) rfl (Nat.le_of_ble_eq_true rfl) rfl ?_
  first | refine g_aload_n dX5_isShort_0 rfl rfl rfl ?_ | refine g_aload_nR dX5_isShort_0 rfl rfl rfl ?_ | refine g_aload_nN dX5_isShort_0 rfl rfl rfl ?_
  refine g_iload_n dX5_isShort_1 rfl rfl rfl ?_
  refine g_staticP iS_X5_rowEnd q2533 (p_rowEnd (d := d - 1) (by omega) (by first | assumption | exact xu_eq _ _ _) (by assumption) (by omega)) dX5_isShort_2 rfl rfl rfl (by first | exact Nat.le_of_ble_eq_true rfl | simp [Value.category, rf_cat]) (by omega) xN_no ?_
  refine g_ist3 dX5_isShort_5 rfl (by decide) (k := ?_)
  refine g_iload_n dX5_isShort_6 rfl rfl rfl ?_
  refine g_iload_n dX5_isShort_7 rfl rfl rfl ?_
  refine g_icmpn_ne (tgt := 13) dX5_isShort_8 (by decide) rfl (by omega) (by omega) (fun c_8 => ?_) (fun c_8 => ?_)
  · first | refine g_aload_n dX5_isShort_13 rfl rfl rfl ?_ | refine g_aload_nR dX5_isShort_13 rfl rfl rfl ?_ | refine g_aload_nN dX5_isShort_13 rfl rfl rfl ?_
    refine g_iload_n dX5_isShort_14 rfl rfl rfl ?_
    refine g_ialdn dX5_isShort_15 rfl (Or.inl (by first | assumption | exact xu_eq _ _ _)) (by omega) (by omega) ?_
    rw [hfk (by omega)]
    refine g_ist4 dX5_isShort_16 rfl (by decide) (k := ?_)
    first | refine g_aload_n dX5_isShort_18 rfl rfl rfl ?_ | refine g_aload_nR dX5_isShort_18 rfl rfl rfl ?_ | refine g_aload_nN dX5_isShort_18 rfl rfl rfl ?_
    refine g_iload_n dX5_isShort_19 rfl rfl rfl ?_
    refine g_staticP iS_X5_itemEnd q2542 (p_itemEnd (d := d - 1) (by omega) hm hp hb (by omega)) dX5_isShort_20 rfl rfl rfl (by first | exact Nat.le_of_ble_eq_true rfl | simp [Value.category, rf_cat]) (by omega) xN_no ?_
    refine g_ist5 dX5_isShort_23 rfl (by decide) (k := ?_)
    refine g_iload dX5_isShort_25 rfl rfl ?_
    refine g_staticP iS_X5_isLetter q2471 (c_isLetter (d := d - 1) (by omega) _) dX5_isShort_27 rfl rfl rfl (by first | exact Nat.le_of_ble_eq_true rfl | simp [Value.category, rf_cat]) (by omega) xN_no ?_
    refine g_ifB_ne (tgt := 48) dX5_isShort_30 (by decide) rfl (fun c_30 => ?_) (fun c_30 => ?_)
    · refine g_iconst (v := (nI 1)) dX5_isShort_48 rfl rfl ?_
      refine g_goto (tgt := 53) dX5_isShort_49 (by decide) ?_
      refine tail true (by assumption) ?_
      unfold shB; first | rw [(by assumption : letF (lf L st) = true), Bool.true_or, Bool.true_or]
    · refine g_iload dX5_isShort_33 rfl rfl ?_
      refine g_staticP iS_X5_isDigit q2476 (c_isDigit (d := d - 1) (by omega) _) dX5_isShort_35 rfl rfl rfl (by first | exact Nat.le_of_ble_eq_true rfl | simp [Value.category, rf_cat]) (by omega) xN_no ?_
      refine g_ifB_ne (tgt := 48) dX5_isShort_38 (by decide) rfl (fun c_38 => ?_) (fun c_38 => ?_)
      · refine g_iconst (v := (nI 1)) dX5_isShort_48 rfl rfl ?_
        refine g_goto (tgt := 53) dX5_isShort_49 (by decide) ?_
        first | (refine tail true (by assumption) ?_; unfold shB; first | rw [(by assumption : letF (lf L st) = true), Bool.true_or, Bool.true_or] | rw [(by assumption : digF (lf L st) = true), Bool.or_true, Bool.true_or] | rw [decide_eq_true (by assumption), Bool.or_true]) | (refine tail false (by assumption) ?_; unfold shB; rw [(by assumption : letF (lf L st) = false), (by assumption : digF (lf L st) = false), decide_eq_false (by assumption)]; rfl)
      · refine g_iload dX5_isShort_41 rfl rfl ?_
        refine g_bipush (v := (-4)) dX5_isShort_43 rfl rfl ?_
        refine g_icmp_ne (tgt := 52) dX5_isShort_45 (by decide) rfl (fun c_45 => ?_) (fun c_45 => ?_)
        · refine g_iconst (v := (nI 0)) dX5_isShort_52 rfl rfl ?_
          first | (refine tail true (by assumption) ?_; unfold shB; first | rw [(by assumption : letF (lf L st) = true), Bool.true_or, Bool.true_or] | rw [(by assumption : digF (lf L st) = true), Bool.or_true, Bool.true_or] | rw [decide_eq_true (by assumption), Bool.or_true]) | (refine tail false (by assumption) ?_; unfold shB; rw [(by assumption : letF (lf L st) = false), (by assumption : digF (lf L st) = false), decide_eq_false (by assumption)]; rfl)
        · refine g_iconst (v := (nI 1)) dX5_isShort_48 rfl rfl ?_
          refine g_goto (tgt := 53) dX5_isShort_49 (by decide) ?_
          first | (refine tail true (by assumption) ?_; unfold shB; first | rw [(by assumption : letF (lf L st) = true), Bool.true_or, Bool.true_or] | rw [(by assumption : digF (lf L st) = true), Bool.or_true, Bool.true_or] | rw [decide_eq_true (by assumption), Bool.or_true]) | (refine tail false (by assumption) ?_; unfold shB; rw [(by assumption : letF (lf L st) = false), (by assumption : digF (lf L st) = false), decide_eq_false (by assumption)]; rfl)
  · refine g_iconst (v := 0) dX5_isShort_11 rfl rfl ?_
    refine g_zreturn dX5_isShort_12 rfl rfl ?_
    refine ⟨?_, rfl⟩
    unfold isSh; rw [if_pos (by omega)]; rfl
end TW18
