/-! TWIN: a script's group done on the trial page -/
set_option maxRecDepth 100000
section TW28
variable {w : XW} {d : Nat} {m : XM} {A : Nat → Nat} {rf : Int32} {s : XSt} {p : XPage} {B : Nat → XBx}
/-- what the acts want of a page -/
def WfP (p : XPage) (B : Nat → XBx) : Prop := Ipx p ∧ Bal p.1 ∧ (rowStartL p.1 p.2.1 ≠ 0 → endOfL p.1 (rowStartL p.1 p.2.1) < p.1.length) ∧ (rowStartL p.1 p.2.1 ≠ 0 → endOfL p.1 (rowEndL p.1 p.2.1) < p.1.length) ∧
  (allL p.1 0 p.1.length - goneL p.1 p.2.1 p.2.2 ≠ 60 → (clrL p.1 p.2.1 p.2.2).length < 180) ∧ (allL p.1 0 p.1.length ≠ 60 → p.1.length ≤ 177) ∧ BxL p.1 B
def mvP (p : XPage) (x : Int32) : XPage := (p.1, movC p.1 p.2.1 x, none)
def opB (o : Option XPage) (p : XPage) : Bool × XPage := (o.isSome, o.getD p)
/-- a group: whether it can be; the page behind -/
def doD (p : XPage) (b : XBx) (how a two : Nat) : Bool × XPage := match how with
  | 1 => opB (typD p (nI (100 * a + two))) p
  | 2 => if a = 0 then opB (wrD p (nI two)) p else (false, p)
  | 3 => if a = 0 then (true, mvP p (nI two)) else (false, p)
  | 4 => if a = 0 then (true, mvP p (-(nI two))) else (false, p)
  | 5 => if a = 0 ∧ two = 0 then opB (bkD p) p else (false, p)
  | 6 => if a = 0 ∧ two = 0 then opB (grD p) p else (false, p)
  | 7 => (decide (a = 0 ∧ allL p.1 0 p.1.length = two), p)
  | 8 => (decide (a = 0 ∧ p.2.1 = two), p)
  | 9 => (decide (a = 0 ∧ b.1 = two), p)
  | _ => (false, p)
theorem s_moves {x : Int32} (hd : 1 ≤ d) (h : TSp A rf s p m) : CT w MX5_moves d 0 0 [.ref (A 4), .int x] m (tS A m none rf s (mvP p x)) xN := by
  obtain ⟨ls, rs, dp, F, hT, hs, h4⟩ := h
  refine CT_post (p_moves hd (tm_at 4 hT rfl rfl rfl rfl) h4) fun v m' h => ?_
  obtain ⟨h1, f', h2, rfl⟩ := h
  exact ⟨h1, ⟨_, _, _, _, tm_xu hT rfl rfl rfl, tIn_4 hs, h2⟩, xo_u 4 rfl (xo_rf A m)⟩
theorem s_does {how a two : Nat} (hd : 6 ≤ d) (hh : how ≤ 9) (ha : a ≤ 9) (ht : two ≤ 99) (h : TSp A rf s p m) (hw : WfP p B) : CT w MX5_does d 0 0 [.ref (A 0), .int (nI how), .int (nI a), .int (nI two)] m (tS A m (some (.int (xB (doD p (B 0) how a two).1))) rf s (doD p (B 0) how a two).2) xN := by
  obtain ⟨ls, rs, dp, F, hT, hs, h4⟩ := h
  obtain ⟨w1, w2, w3, w4, w5, w6, w7⟩ := hw
  have hO := xo_rf A m
  have hpl := Pgx_l h4
  have h4_180 : F 4 180 = nI p.1.length := h4.1.2.1
  have h4_181 : F 4 181 = nI p.2.1 := h4.2.1
  have hlen := h4.1.2.2
  have hcl := w1.1
  have ub1 := all_ub (lf p.1) p.1.length 0 0
  have ub1 : allL p.1 0 p.1.length ≤ 180 := by unfold allL; omega
  have hB0 := w7.2.2.1 0 (Nat.zero_le _)
  refine ct_intro (lv := [some (.ref (A 0)), some (.int (nI how)), some (.int (nI a)), some (.int (nI two))]) 0 (by decide) rfl (Nat.le_of_ble_eq_true rfl) rfl ?_
  rcases (by omega : how = 0 ∨ how = 1 ∨ how = 2 ∨ how = 3 ∨ how = 4 ∨ how = 5 ∨ how = 6 ∨ how = 7 ∨ how = 8 ∨ how = 9) with rfl | rfl | rfl | rfl | rfl | rfl | rfl | rfl | rfl | rfl
  · skip
    refine g_iload_n dX5_does_0 rfl rfl rfl ?_
    refine g_tswOut (tgt := 241) dX5_does_1 (by decide) (by decide) ?_
    refine g_iconst (v := (nI 0)) dX5_does_241 rfl rfl ?_
    refine g_zreturn dX5_does_242 rfl rfl ?_
    exact ⟨rfl, ⟨_, _, _, _, hT, hs, h4⟩, hO⟩
  · skip
    refine g_iload_n dX5_does_0 rfl rfl rfl ?_
    refine g_tswIn (tgt := 52) dX5_does_1 (by decide) (by decide) rfl (by decide) ?_
    refine g_aload_n dX5_does_52 rfl rfl rfl ?_
    refine g_get fl_X5_16_X5 dX5_does_53 rfl (Or.inl (tm_o hT)) rfl ?_
    refine g_bipush (v := (nI 100)) dX5_does_56 rfl rfl ?_
    refine g_iload_n dX5_does_58 rfl rfl rfl ?_
    refine g_imuln dX5_does_59 rfl ?_
    refine g_iload_n dX5_does_60 rfl rfl rfl ?_
    refine g_iaddn dX5_does_61 rfl ?_
    refine g_static iS_X5_types q2628 (s_op hT hs (q_types (d := d - 1) (by omega) (tm_at 4 hT rfl rfl rfl rfl) h4 w1 w5)) dX5_does_62 rfl rfl rfl (by first | exact Nat.le_of_ble_eq_true rfl | simp [Value.category, rf_cat]) (by omega) (by omega) (by omega) xN_no (fun v_62 m_62 h_62 => ?_)
    obtain ⟨rfl, ⟨ls, rs, dp, F, hT, hs, h4⟩, hO2⟩ := h_62
    replace hO := xo_tr hO hO2
    have h3 := hs.2.2.1
    refine g_breturn dX5_does_65 rfl ?_
    exact ⟨rfl, ⟨_, _, _, _, hT, hs, h4⟩, hO⟩
  · skip
    refine g_iload_n dX5_does_0 rfl rfl rfl ?_
    refine g_tswIn (tgt := 66) dX5_does_1 (by decide) (by decide) rfl (by decide) ?_
    refine g_iload_n dX5_does_66 rfl rfl rfl ?_
    refine g_ifn_ne (tgt := 85) dX5_does_67 (by decide) rfl (by omega) (fun c_67 => ?_) (fun c_67 => ?_)
    · refine g_iconst (v := (nI 0)) dX5_does_85 rfl rfl ?_
      refine g_zreturn dX5_does_86 rfl rfl ?_
      simp only [doD]
      first | (rw [if_neg (by omega)]; exact ⟨rfl, ⟨_, _, _, _, hT, hs, h4⟩, hO⟩) | (rw [if_pos (by omega)]; exact ⟨by simp only [opB]; rw [c_78]; rfl, ⟨_, _, _, _, hT, hs, h4⟩, hO⟩)
    · refine g_aload_n dX5_does_70 rfl rfl rfl ?_
      refine g_get fl_X5_16_X5 dX5_does_71 rfl (Or.inl (tm_o hT)) rfl ?_
      refine g_iload_n dX5_does_74 rfl rfl rfl ?_
      refine g_static iS_X5_wraps q2652 (s_op hT hs (q_wraps (d := d - 1) (by omega) (tm_at 4 hT rfl rfl rfl rfl) h4 w1 w6)) dX5_does_75 rfl rfl rfl (by first | exact Nat.le_of_ble_eq_true rfl | simp [Value.category, rf_cat]) (by omega) (by omega) (by omega) xN_no (fun v_75 m_75 h_75 => ?_)
      obtain ⟨rfl, ⟨ls, rs, dp, F, hT, hs, h4⟩, hO2⟩ := h_75
      replace hO := xo_tr hO hO2
      have h3 := hs.2.2.1
      refine g_ifB_eq (tgt := 85) dX5_does_78 (by decide) rfl (fun c_78 => ?_) (fun c_78 => ?_)
      · refine g_iconst (v := (nI 0)) dX5_does_85 rfl rfl ?_
        refine g_zreturn dX5_does_86 rfl rfl ?_
        simp only [doD]
        first | (rw [if_neg (by omega)]; exact ⟨rfl, ⟨_, _, _, _, hT, hs, h4⟩, hO⟩) | (rw [if_pos (by omega)]; exact ⟨by simp only [opB]; rw [c_78]; rfl, ⟨_, _, _, _, hT, hs, h4⟩, hO⟩)
      · refine g_iconst (v := (nI 1)) dX5_does_81 rfl rfl ?_
        refine g_goto (tgt := 86) dX5_does_82 (by decide) ?_
        refine g_zreturn dX5_does_86 rfl rfl ?_
        simp only [doD]
        first | (rw [if_neg (by omega)]; exact ⟨rfl, ⟨_, _, _, _, hT, hs, h4⟩, hO⟩) | (rw [if_pos (by omega)]; exact ⟨by simp only [opB]; rw [c_78]; rfl, ⟨_, _, _, _, hT, hs, h4⟩, hO⟩)
  · skip
    refine g_iload_n dX5_does_0 rfl rfl rfl ?_
    refine g_tswIn (tgt := 87) dX5_does_1 (by decide) (by decide) rfl (by decide) ?_
    refine g_iload_n dX5_does_87 rfl rfl rfl ?_
    refine g_ifn_eq (tgt := 93) dX5_does_88 (by decide) rfl (by omega) (fun c_88 => ?_) (fun c_88 => ?_)
    · refine g_aload_n dX5_does_93 rfl rfl rfl ?_
      refine g_get fl_X5_16_X5 dX5_does_94 rfl (Or.inl (tm_o hT)) rfl ?_
      refine g_iload_n dX5_does_97 rfl rfl rfl ?_
      refine g_iconst (v := (nI 3)) dX5_does_98 rfl rfl ?_
      refine g_icmpn_ne (tgt := 106) dX5_does_99 (by decide) rfl (by omega) (by omega) (fun c_99 => ?_) (fun c_99 => ?_)
      · exact absurd rfl c_99
      · refine g_iload_n dX5_does_102 rfl rfl rfl ?_
        refine g_goto (tgt := 108) dX5_does_103 (by decide) ?_
        refine g_static iS_X5_moves q2592 (s_moves (x := nI two) (d := d - 1) (by omega) ⟨_, _, _, _, hT, hs, h4⟩) dX5_does_108 rfl rfl rfl (by first | exact Nat.le_of_ble_eq_true rfl | simp [Value.category, rf_cat]) (by omega) (by omega) (by omega) xN_no (fun v_108 m_108 h_108 => ?_)
        obtain ⟨rfl, ⟨ls, rs, dp, F, hT, hs, h4⟩, hO2⟩ := h_108
        replace hO := xo_tr hO hO2
        have h3 := hs.2.2.1
        refine g_iconst (v := (nI 1)) dX5_does_111 rfl rfl ?_
        refine g_zreturn dX5_does_112 rfl rfl ?_
        simp only [doD]
        first | (rw [if_neg (by omega)]; exact ⟨rfl, ⟨_, _, _, _, hT, hs, h4⟩, hO⟩) | (rw [if_pos (by omega)]; exact ⟨rfl, ⟨_, _, _, _, hT, hs, h4⟩, hO⟩)
    · refine g_iconst (v := (nI 0)) dX5_does_91 rfl rfl ?_
      refine g_zreturn dX5_does_92 rfl rfl ?_
      simp only [doD]
      first | (rw [if_neg (by omega)]; exact ⟨rfl, ⟨_, _, _, _, hT, hs, h4⟩, hO⟩) | (rw [if_pos (by omega)]; exact ⟨rfl, ⟨_, _, _, _, hT, hs, h4⟩, hO⟩)
  · skip
    refine g_iload_n dX5_does_0 rfl rfl rfl ?_
    refine g_tswIn (tgt := 87) dX5_does_1 (by decide) (by decide) rfl (by decide) ?_
    refine g_iload_n dX5_does_87 rfl rfl rfl ?_
    refine g_ifn_eq (tgt := 93) dX5_does_88 (by decide) rfl (by omega) (fun c_88 => ?_) (fun c_88 => ?_)
    · refine g_aload_n dX5_does_93 rfl rfl rfl ?_
      refine g_get fl_X5_16_X5 dX5_does_94 rfl (Or.inl (tm_o hT)) rfl ?_
      refine g_iload_n dX5_does_97 rfl rfl rfl ?_
      refine g_iconst (v := (nI 3)) dX5_does_98 rfl rfl ?_
      refine g_icmpn_ne (tgt := 106) dX5_does_99 (by decide) rfl (by omega) (by omega) (fun c_99 => ?_) (fun c_99 => ?_)
      · refine g_iload_n dX5_does_106 rfl rfl rfl ?_
        refine g_ineg dX5_does_107 rfl ?_
        refine g_static iS_X5_moves q2592 (s_moves (x := -(nI two)) (d := d - 1) (by omega) ⟨_, _, _, _, hT, hs, h4⟩) dX5_does_108 rfl rfl rfl (by first | exact Nat.le_of_ble_eq_true rfl | simp [Value.category, rf_cat]) (by omega) (by omega) (by omega) xN_no (fun v_108 m_108 h_108 => ?_)
        obtain ⟨rfl, ⟨ls, rs, dp, F, hT, hs, h4⟩, hO2⟩ := h_108
        replace hO := xo_tr hO hO2
        have h3 := hs.2.2.1
        refine g_iconst (v := (nI 1)) dX5_does_111 rfl rfl ?_
        refine g_zreturn dX5_does_112 rfl rfl ?_
        simp only [doD]
        first | (rw [if_neg (by omega)]; exact ⟨rfl, ⟨_, _, _, _, hT, hs, h4⟩, hO⟩) | (rw [if_pos (by omega)]; exact ⟨rfl, ⟨_, _, _, _, hT, hs, h4⟩, hO⟩)
      · exact absurd c_99 (by decide)
    · refine g_iconst (v := (nI 0)) dX5_does_91 rfl rfl ?_
      refine g_zreturn dX5_does_92 rfl rfl ?_
      simp only [doD]
      first | (rw [if_neg (by omega)]; exact ⟨rfl, ⟨_, _, _, _, hT, hs, h4⟩, hO⟩) | (rw [if_pos (by omega)]; exact ⟨rfl, ⟨_, _, _, _, hT, hs, h4⟩, hO⟩)
  · skip
    refine g_iload_n dX5_does_0 rfl rfl rfl ?_
    refine g_tswIn (tgt := 113) dX5_does_1 (by decide) (by decide) rfl (by decide) ?_
    refine g_iload_n dX5_does_113 rfl rfl rfl ?_
    refine g_ifn_ne (tgt := 135) dX5_does_114 (by decide) rfl (by omega) (fun c_114 => ?_) (fun c_114 => ?_)
    · refine g_iconst (v := (nI 0)) dX5_does_135 rfl rfl ?_
      refine g_zreturn dX5_does_136 rfl rfl ?_
      simp only [doD]
      first | (rw [if_neg (by omega)]; exact ⟨rfl, ⟨_, _, _, _, hT, hs, h4⟩, hO⟩) | (rw [if_pos ⟨by omega, by omega⟩]; exact ⟨by simp only [opB]; rw [c_128]; rfl, ⟨_, _, _, _, hT, hs, h4⟩, hO⟩)
    · refine g_iload_n dX5_does_117 rfl rfl rfl ?_
      refine g_ifn_ne (tgt := 135) dX5_does_118 (by decide) rfl (by omega) (fun c_118 => ?_) (fun c_118 => ?_)
      · refine g_iconst (v := (nI 0)) dX5_does_135 rfl rfl ?_
        refine g_zreturn dX5_does_136 rfl rfl ?_
        simp only [doD]
        first | (rw [if_neg (by omega)]; exact ⟨rfl, ⟨_, _, _, _, hT, hs, h4⟩, hO⟩) | (rw [if_pos ⟨by omega, by omega⟩]; exact ⟨by simp only [opB]; rw [c_128]; rfl, ⟨_, _, _, _, hT, hs, h4⟩, hO⟩)
      · refine g_aload_n dX5_does_121 rfl rfl rfl ?_
        refine g_get fl_X5_16_X5 dX5_does_122 rfl (Or.inl (tm_o hT)) rfl ?_
        refine g_static iS_X5_backs q2659 (s_op hT hs (q_backs (d := d - 1) (by omega) (tm_at 4 hT rfl rfl rfl rfl) h4 w1 w2 w3)) dX5_does_125 rfl rfl rfl (by first | exact Nat.le_of_ble_eq_true rfl | simp [Value.category, rf_cat]) (by omega) (by omega) (by omega) xN_no (fun v_125 m_125 h_125 => ?_)
        obtain ⟨rfl, ⟨ls, rs, dp, F, hT, hs, h4⟩, hO2⟩ := h_125
        replace hO := xo_tr hO hO2
        have h3 := hs.2.2.1
        refine g_ifB_eq (tgt := 135) dX5_does_128 (by decide) rfl (fun c_128 => ?_) (fun c_128 => ?_)
        · refine g_iconst (v := (nI 0)) dX5_does_135 rfl rfl ?_
          refine g_zreturn dX5_does_136 rfl rfl ?_
          simp only [doD]
          first | (rw [if_neg (by omega)]; exact ⟨rfl, ⟨_, _, _, _, hT, hs, h4⟩, hO⟩) | (rw [if_pos ⟨by omega, by omega⟩]; exact ⟨by simp only [opB]; rw [c_128]; rfl, ⟨_, _, _, _, hT, hs, h4⟩, hO⟩)
        · refine g_iconst (v := (nI 1)) dX5_does_131 rfl rfl ?_
          refine g_goto (tgt := 136) dX5_does_132 (by decide) ?_
          refine g_zreturn dX5_does_136 rfl rfl ?_
          simp only [doD]
          first | (rw [if_neg (by omega)]; exact ⟨rfl, ⟨_, _, _, _, hT, hs, h4⟩, hO⟩) | (rw [if_pos ⟨by omega, by omega⟩]; exact ⟨by simp only [opB]; rw [c_128]; rfl, ⟨_, _, _, _, hT, hs, h4⟩, hO⟩)
  · skip
    refine g_iload_n dX5_does_0 rfl rfl rfl ?_
    refine g_tswIn (tgt := 137) dX5_does_1 (by decide) (by decide) rfl (by decide) ?_
    refine g_iload_n dX5_does_137 rfl rfl rfl ?_
    refine g_ifn_ne (tgt := 159) dX5_does_138 (by decide) rfl (by omega) (fun c_138 => ?_) (fun c_138 => ?_)
    · refine g_iconst (v := (nI 0)) dX5_does_159 rfl rfl ?_
      refine g_zreturn dX5_does_160 rfl rfl ?_
      simp only [doD]
      first | (rw [if_neg (by omega)]; exact ⟨rfl, ⟨_, _, _, _, hT, hs, h4⟩, hO⟩) | (rw [if_pos ⟨by omega, by omega⟩]; exact ⟨by simp only [opB]; rw [c_152]; rfl, ⟨_, _, _, _, hT, hs, h4⟩, hO⟩)
    · refine g_iload_n dX5_does_141 rfl rfl rfl ?_
      refine g_ifn_ne (tgt := 159) dX5_does_142 (by decide) rfl (by omega) (fun c_142 => ?_) (fun c_142 => ?_)
      · refine g_iconst (v := (nI 0)) dX5_does_159 rfl rfl ?_
        refine g_zreturn dX5_does_160 rfl rfl ?_
        simp only [doD]
        first | (rw [if_neg (by omega)]; exact ⟨rfl, ⟨_, _, _, _, hT, hs, h4⟩, hO⟩) | (rw [if_pos ⟨by omega, by omega⟩]; exact ⟨by simp only [opB]; rw [c_152]; rfl, ⟨_, _, _, _, hT, hs, h4⟩, hO⟩)
      · refine g_aload_n dX5_does_145 rfl rfl rfl ?_
        refine g_get fl_X5_16_X5 dX5_does_146 rfl (Or.inl (tm_o hT)) rfl ?_
        refine g_static iS_X5_grows q2611 (s_op hT hs (q_grows (d := d - 1) (by omega) (tm_at 4 hT rfl rfl rfl rfl) h4 w1 w2 w4)) dX5_does_149 rfl rfl rfl (by first | exact Nat.le_of_ble_eq_true rfl | simp [Value.category, rf_cat]) (by omega) (by omega) (by omega) xN_no (fun v_149 m_149 h_149 => ?_)
        obtain ⟨rfl, ⟨ls, rs, dp, F, hT, hs, h4⟩, hO2⟩ := h_149
        replace hO := xo_tr hO hO2
        have h3 := hs.2.2.1
        refine g_ifB_eq (tgt := 159) dX5_does_152 (by decide) rfl (fun c_152 => ?_) (fun c_152 => ?_)
        · refine g_iconst (v := (nI 0)) dX5_does_159 rfl rfl ?_
          refine g_zreturn dX5_does_160 rfl rfl ?_
          simp only [doD]
          first | (rw [if_neg (by omega)]; exact ⟨rfl, ⟨_, _, _, _, hT, hs, h4⟩, hO⟩) | (rw [if_pos ⟨by omega, by omega⟩]; exact ⟨by simp only [opB]; rw [c_152]; rfl, ⟨_, _, _, _, hT, hs, h4⟩, hO⟩)
        · refine g_iconst (v := (nI 1)) dX5_does_155 rfl rfl ?_
          refine g_goto (tgt := 160) dX5_does_156 (by decide) ?_
          refine g_zreturn dX5_does_160 rfl rfl ?_
          simp only [doD]
          first | (rw [if_neg (by omega)]; exact ⟨rfl, ⟨_, _, _, _, hT, hs, h4⟩, hO⟩) | (rw [if_pos ⟨by omega, by omega⟩]; exact ⟨by simp only [opB]; rw [c_152]; rfl, ⟨_, _, _, _, hT, hs, h4⟩, hO⟩)
  · skip
    refine g_iload_n dX5_does_0 rfl rfl rfl ?_
    refine g_tswIn (tgt := 161) dX5_does_1 (by decide) (by decide) rfl (by decide) ?_
    refine g_iload_n dX5_does_161 rfl rfl rfl ?_
    refine g_ifn_ne (tgt := 189) dX5_does_162 (by decide) rfl (by omega) (fun c_162 => ?_) (fun c_162 => ?_)
    · refine g_iconst (v := (nI 0)) dX5_does_189 rfl rfl ?_
      refine g_zreturn dX5_does_190 rfl rfl ?_
      simp only [doD]
      first | (rw [decide_eq_false (by omega)]; exact ⟨rfl, ⟨_, _, _, _, hT, hs, h4⟩, hO⟩) | (rw [decide_eq_true (by omega)]; exact ⟨rfl, ⟨_, _, _, _, hT, hs, h4⟩, hO⟩)
    · refine g_aload_n dX5_does_165 rfl rfl rfl ?_
      refine g_get fl_X5_16_X5 dX5_does_166 rfl (Or.inl (tm_o hT)) rfl ?_
      refine g_iconst (v := (nI 0)) dX5_does_169 rfl rfl ?_
      refine g_aload_n dX5_does_170 rfl rfl rfl ?_
      refine g_get fl_X5_16_X5 dX5_does_171 rfl (Or.inl (tm_o hT)) rfl ?_
      refine g_sipush (v := (nI 180)) dX5_does_174 rfl rfl ?_
      refine t_ialdn (k := 4) (N := 184) (f := F 4) hT rfl rfl rfl (by first | rfl | assumption) dX5_does_177 rfl (by omega) ?_
      rw [h4_180]
      refine g_staticP iS_X5_allIn q2508 (p_allIn (d := d - 1) (by omega) (tm_at 4 hT rfl rfl rfl rfl) hpl (by omega) (by omega)) dX5_does_178 rfl rfl rfl (by first | exact Nat.le_of_ble_eq_true rfl | simp [Value.category, rf_cat]) (by omega) xN_no ?_
      refine g_iload_n dX5_does_181 rfl rfl rfl ?_
      refine g_icmpn_ne (tgt := 189) dX5_does_182 (by decide) rfl (by omega) (by omega) (fun c_182 => ?_) (fun c_182 => ?_)
      · refine g_iconst (v := (nI 0)) dX5_does_189 rfl rfl ?_
        refine g_zreturn dX5_does_190 rfl rfl ?_
        simp only [doD]
        first | (rw [decide_eq_false (by omega)]; exact ⟨rfl, ⟨_, _, _, _, hT, hs, h4⟩, hO⟩) | (rw [decide_eq_true (by omega)]; exact ⟨rfl, ⟨_, _, _, _, hT, hs, h4⟩, hO⟩)
      · refine g_iconst (v := (nI 1)) dX5_does_185 rfl rfl ?_
        refine g_goto (tgt := 190) dX5_does_186 (by decide) ?_
        refine g_zreturn dX5_does_190 rfl rfl ?_
        simp only [doD]
        first | (rw [decide_eq_false (by omega)]; exact ⟨rfl, ⟨_, _, _, _, hT, hs, h4⟩, hO⟩) | (rw [decide_eq_true (by omega)]; exact ⟨rfl, ⟨_, _, _, _, hT, hs, h4⟩, hO⟩)
  · skip
    refine g_iload_n dX5_does_0 rfl rfl rfl ?_
    refine g_tswIn (tgt := 191) dX5_does_1 (by decide) (by decide) rfl (by decide) ?_
    refine g_iload_n dX5_does_191 rfl rfl rfl ?_
    refine g_ifn_ne (tgt := 211) dX5_does_192 (by decide) rfl (by omega) (fun c_192 => ?_) (fun c_192 => ?_)
    · refine g_iconst (v := (nI 0)) dX5_does_211 rfl rfl ?_
      refine g_zreturn dX5_does_212 rfl rfl ?_
      simp only [doD]
      first | (rw [decide_eq_false (by omega)]; exact ⟨rfl, ⟨_, _, _, _, hT, hs, h4⟩, hO⟩) | (rw [decide_eq_true (by omega)]; exact ⟨rfl, ⟨_, _, _, _, hT, hs, h4⟩, hO⟩)
    · refine g_aload_n dX5_does_195 rfl rfl rfl ?_
      refine g_get fl_X5_16_X5 dX5_does_196 rfl (Or.inl (tm_o hT)) rfl ?_
      refine g_sipush (v := (nI 181)) dX5_does_199 rfl rfl ?_
      refine t_ialdn (k := 4) (N := 184) (f := F 4) hT rfl rfl rfl (by first | rfl | assumption) dX5_does_202 rfl (by omega) ?_
      rw [h4_181]
      refine g_iload_n dX5_does_203 rfl rfl rfl ?_
      refine g_icmpn_ne (tgt := 211) dX5_does_204 (by decide) rfl (by omega) (by omega) (fun c_204 => ?_) (fun c_204 => ?_)
      · refine g_iconst (v := (nI 0)) dX5_does_211 rfl rfl ?_
        refine g_zreturn dX5_does_212 rfl rfl ?_
        simp only [doD]
        first | (rw [decide_eq_false (by omega)]; exact ⟨rfl, ⟨_, _, _, _, hT, hs, h4⟩, hO⟩) | (rw [decide_eq_true (by omega)]; exact ⟨rfl, ⟨_, _, _, _, hT, hs, h4⟩, hO⟩)
      · refine g_iconst (v := (nI 1)) dX5_does_207 rfl rfl ?_
        refine g_goto (tgt := 212) dX5_does_208 (by decide) ?_
        refine g_zreturn dX5_does_212 rfl rfl ?_
        simp only [doD]
        first | (rw [decide_eq_false (by omega)]; exact ⟨rfl, ⟨_, _, _, _, hT, hs, h4⟩, hO⟩) | (rw [decide_eq_true (by omega)]; exact ⟨rfl, ⟨_, _, _, _, hT, hs, h4⟩, hO⟩)
  · skip
    refine g_iload_n dX5_does_0 rfl rfl rfl ?_
    refine g_tswIn (tgt := 213) dX5_does_1 (by decide) (by decide) rfl (by decide) ?_
    refine g_aload_n dX5_does_213 rfl rfl rfl ?_
    refine g_aload_n dX5_does_214 rfl rfl rfl ?_
    refine g_get fl_X5_16_X5 dX5_does_215 rfl (Or.inl (tm_o hT)) rfl ?_
    refine g_virtual iV_X5_layBoxes q2678 (t_box4 (d := d - 1) (by omega) hT rfl hpl w2 w7) (Or.inl (tm_o hT)) rfl (by decide) dX5_does_218 rfl rfl rfl (by first | exact Nat.le_of_ble_eq_true rfl | simp [Value.category, rf_cat]) (by omega) (by omega) (by omega) xN_no (fun v_218 m_218 h_218 => ?_)
    obtain ⟨rfl, F, hT, hbo, hbx, hO2⟩ := h_218
    replace hO := xo_tr hO hO2
    replace hs := tIn_box hs hbo
    rw [← hbo 4 (by decide) (by decide) (by decide) (by decide)] at h4
    obtain ⟨b1, b2, b3⟩ := (hbx 0 (Nat.zero_le _) (Or.inl rfl)).1
    refine g_iload_n dX5_does_221 rfl rfl rfl ?_
    refine g_ifn_ne (tgt := 239) dX5_does_222 (by decide) rfl (by omega) (fun c_222 => ?_) (fun c_222 => ?_)
    · refine g_iconst (v := (nI 0)) dX5_does_239 rfl rfl ?_
      refine g_zreturn dX5_does_240 rfl rfl ?_
      simp only [doD]
      first | (rw [decide_eq_false (by omega)]; exact ⟨rfl, ⟨_, _, _, _, hT, hs, h4⟩, hO⟩) | (rw [decide_eq_true (by omega)]; exact ⟨rfl, ⟨_, _, _, _, hT, hs, h4⟩, hO⟩)
    · refine g_aload_n dX5_does_225 rfl rfl rfl ?_
      refine g_get fl_X5_56_X5 dX5_does_226 rfl (Or.inl (tm_o hT)) rfl ?_
      refine g_iconst (v := (nI 0)) dX5_does_229 rfl rfl ?_
      refine t_ialdn (k := 21) (N := 512) (f := F 21) hT rfl rfl rfl (by first | rfl | assumption) dX5_does_230 rfl (by omega) ?_
      rw [b1]
      refine g_iload_n dX5_does_231 rfl rfl rfl ?_
      refine g_icmpn_ne (tgt := 239) dX5_does_232 (by decide) rfl (by omega) (by omega) (fun c_232 => ?_) (fun c_232 => ?_)
      · refine g_iconst (v := (nI 0)) dX5_does_239 rfl rfl ?_
        refine g_zreturn dX5_does_240 rfl rfl ?_
        simp only [doD]
        first | (rw [decide_eq_false (by omega)]; exact ⟨rfl, ⟨_, _, _, _, hT, hs, h4⟩, hO⟩) | (rw [decide_eq_true (by omega)]; exact ⟨rfl, ⟨_, _, _, _, hT, hs, h4⟩, hO⟩)
      · refine g_iconst (v := (nI 1)) dX5_does_235 rfl rfl ?_
        refine g_goto (tgt := 240) dX5_does_236 (by decide) ?_
        refine g_zreturn dX5_does_240 rfl rfl ?_
        simp only [doD]
        first | (rw [decide_eq_false (by omega)]; exact ⟨rfl, ⟨_, _, _, _, hT, hs, h4⟩, hO⟩) | (rw [decide_eq_true (by omega)]; exact ⟨rfl, ⟨_, _, _, _, hT, hs, h4⟩, hO⟩)
end TW28
