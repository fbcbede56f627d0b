/-! TWIN: a place -/
set_option maxRecDepth 100000
section TW16
variable {w : XW} {d : Nat} {m : XM} {A : Nat → Nat} {rf : Int32} {s : XSt}
def secL (L : List Int32) (g : Nat) : Bool := decide (0 < rowStartL L g ∧ lf L (rowStartL L g - 1) = -10)
def plA (L : List Int32) (g k : Nat) : Int32 := match k with
  | 0 => levF (lf L) g 0 0
  | 1 => nI (itemsL L (rowStartL L g) g)
  | 2 => nI (itemsL L (rowStartL L g) (rowEndL L g))
  | 3 => if rowStartL L g = 0 then nI 0 else if secL L g = true then nI 1 else -(lf L (rowStartL L g - 1))
  | 4 => if secL L g = true then nI 1 else nI 0
  | _ => if g = rowEndL L g then -9 else if 0 < lf L g then lf L g else -(lf L g)
def uPlc (s : XSt) (g k : Int32) : Nat × Int32 × XSt :=
  if inL g.toInt64 0 (nI (stP s).1.length).toInt64 = true then if inL k.toInt64 0 5 = true then (0, plA (stP s).1 g.toNatClampNeg k.toNatClampNeg, s) else (2, 0, s) else (1, 0, s)
theorem u_plc {g c : Int32} (hd : 5 ≤ d) (hs : TS A rf s m) (hb : Bal (stP s).1) : CT w MX5_place d 0 0 [.ref (A 0), .int g, .int c] m (TR A m (uPlc s g c).2.1 (uPlc s g c).1 (uPlc s g c).2.2) xN := by
  obtain ⟨ls, rs, dp, F, hT, hs⟩ := hs
  have hO := xo_rf A m
  have h3 := hs.2.2.1
  have h3_180 : F 3 180 = nI (stP s).1.length := h3.1.2.1
  have hlen := h3.1.2.2
  have hpl := Pgx_l h3
  by_cases hg : inL g.toInt64 0 (nI (stP s).1.length).toInt64 = true
  · obtain ⟨g, hgl, rfl⟩ := inL_n (by omega) hg
    by_cases hc : inL c.toInt64 0 5 = true
    · obtain ⟨k, hk, rfl⟩ := inL_n (n := 5) (by omega) hc
      have hre := rowEnd_le (lf (stP s).1) (stP s).1.length 0 g hgl
      change g ≤ rowEndL (stP s).1 g ∧ rowEndL (stP s).1 g ≤ (stP s).1.length at hre
      have hrs := rowStart_le (lf (stP s).1) 0 g
      change rowStartL (stP s).1 g ≤ g at hrs
      have fin : ∀ v m', v = plA (stP s).1 g k → TM A (nI 0) (nI (stT s).length) (nI (stH s).length) ls rs dp F m' → XOf A m m' → TR A m (uPlc s (nI g) (nI k)).2.1 (uPlc s (nI g) (nI k)).1 (uPlc s (nI g) (nI k)).2.2 (some (.int v)) m' := by
        intro v m' hv hT hO
        have e : uPlc s (nI g) (nI k) = (0, v, s) := by unfold uPlc; rw [if_pos hg, if_pos hc, nI_clamp (by omega), nI_clamp (by omega), hv]
        rw [e]
        exact ⟨rfl, ⟨_, _, _, _, hT, hs⟩, hO⟩
      have tail : ∀ b m', b = secL (stP s).1 g → TM A (nI 0) (nI (stT s).length) (nI (stH s).length) ls rs dp F m' → XOf A m m' → G w MX5_place (xZ w (TR A m (uPlc s (nI g) (nI k)).2.1 (uPlc s (nI g) (nI k)).1 (uPlc s (nI g) (nI k)).2.2) xN) d 0 0 81 [some (.ref (A 0)), some (.int (nI g)), some (.int (nI k)), some (.int (nI (rowStartL (stP s).1 g))), some (.int (nI (rowEndL (stP s).1 g))), some (.int (xB b))] [] m' := by
        intro b m' hbs hT hO
        rcases (by omega : k = 0 ∨ k = 1 ∨ k = 2 ∨ k = 3 ∨ k = 4 ∨ k = 5) with rfl | rfl | rfl | rfl | rfl | rfl
        · skip
          refine g_iload_n dX5_place_81 rfl rfl rfl ?_
          refine g_tswIn (tgt := 116) dX5_place_82 (by decide) (by decide) rfl (by decide) ?_
          refine g_aload_n dX5_place_116 rfl rfl rfl ?_
          refine g_get fl_X5_13_X5 dX5_place_117 rfl (Or.inl (tm_o hT)) rfl ?_
          refine g_iload_n dX5_place_120 rfl rfl rfl ?_
          refine g_staticP iS_X5_levelAt q2536 (p_levelAt (d := d - 1) (by omega) (by first | exact tm_at 3 hT rfl rfl rfl rfl | exact tm_at 4 hT rfl rfl rfl rfl) (by assumption) (by omega)) dX5_place_121 rfl rfl rfl (by first | exact Nat.le_of_ble_eq_true rfl | simp [Value.category, rf_cat]) (by omega) xN_no ?_
          refine g_ireturn dX5_place_124 rfl ?_
          exact fin _ _ rfl hT hO
        · skip
          refine g_iload_n dX5_place_81 rfl rfl rfl ?_
          refine g_tswIn (tgt := 125) dX5_place_82 (by decide) (by decide) rfl (by decide) ?_
          refine g_aload_n dX5_place_125 rfl rfl rfl ?_
          refine g_get fl_X5_13_X5 dX5_place_126 rfl (Or.inl (tm_o hT)) rfl ?_
          refine g_iload_n dX5_place_129 rfl rfl rfl ?_
          refine g_iload_n dX5_place_130 rfl rfl rfl ?_
          refine g_staticP iS_X5_itemsIn q2539 (p_itemsIn (d := d - 1) (by omega) (by first | exact tm_at 3 hT rfl rfl rfl rfl | exact tm_at 4 hT rfl rfl rfl rfl | exact tm_at 9 hT rfl rfl rfl rfl) (by assumption) (by assumption) (by omega) (by omega)) dX5_place_131 rfl rfl rfl (by first | exact Nat.le_of_ble_eq_true rfl | simp [Value.category, rf_cat]) (by omega) xN_no ?_
          refine g_ireturn dX5_place_134 rfl ?_
          exact fin _ _ rfl hT hO
        · skip
          refine g_iload_n dX5_place_81 rfl rfl rfl ?_
          refine g_tswIn (tgt := 135) dX5_place_82 (by decide) (by decide) rfl (by decide) ?_
          refine g_aload_n dX5_place_135 rfl rfl rfl ?_
          refine g_get fl_X5_13_X5 dX5_place_136 rfl (Or.inl (tm_o hT)) rfl ?_
          refine g_iload_n dX5_place_139 rfl rfl rfl ?_
          refine g_iload dX5_place_140 rfl rfl ?_
          refine g_staticP iS_X5_itemsIn q2539 (p_itemsIn (d := d - 1) (by omega) (by first | exact tm_at 3 hT rfl rfl rfl rfl | exact tm_at 4 hT rfl rfl rfl rfl | exact tm_at 9 hT rfl rfl rfl rfl) (by assumption) (by assumption) (by omega) (by omega)) dX5_place_142 rfl rfl rfl (by first | exact Nat.le_of_ble_eq_true rfl | simp [Value.category, rf_cat]) (by omega) xN_no ?_
          refine g_ireturn dX5_place_145 rfl ?_
          exact fin _ _ rfl hT hO
        · skip
          have hv : 0 < rowStartL (stP s).1 g → F 3 (rowStartL (stP s).1 g - 1) = lf (stP s).1 (rowStartL (stP s).1 g - 1) := fun h => hpl.1 _ (by omega)
          refine g_iload_n dX5_place_81 rfl rfl rfl ?_
          refine g_tswIn (tgt := 146) dX5_place_82 (by decide) (by decide) rfl (by decide) ?_
          refine g_iload_n dX5_place_146 rfl rfl rfl ?_
          refine g_ifn_ne (tgt := 154) dX5_place_147 (by decide) rfl (by omega) (fun c_147 => ?_) (fun c_147 => ?_)
          · refine g_iload dX5_place_154 rfl rfl ?_
            refine g_ifB_eq (tgt := 163) dX5_place_156 (by decide) rfl (fun c_156 => ?_) (fun c_156 => ?_)
            · refine g_aload_n dX5_place_163 rfl rfl rfl ?_
              refine g_get fl_X5_13_X5 dX5_place_164 rfl (Or.inl (tm_o hT)) rfl ?_
              refine g_iload_n dX5_place_167 rfl rfl rfl ?_
              refine g_iconst (v := (nI 1)) dX5_place_168 rfl rfl ?_
              refine g_isubn dX5_place_169 rfl (by omega) ?_
              refine t_ialdn (k := 3) (N := 184) (f := F 3) hT rfl rfl rfl (by first | rfl | assumption) dX5_place_170 rfl (by omega) ?_
              rw [hv (by omega)]
              refine g_ineg dX5_place_171 rfl ?_
              refine g_ireturn dX5_place_172 rfl ?_
              refine fin _ _ ?_ hT hO
              rw [hbs] at *
              simp only [plA]
              first | rw [if_pos (by omega)] | rw [if_neg (by omega), if_pos (by assumption)] | rw [if_neg (by omega), if_neg (by rw [Bool.not_eq_true]; assumption)]
            · refine g_iconst (v := (nI 1)) dX5_place_159 rfl rfl ?_
              refine g_goto (tgt := 172) dX5_place_160 (by decide) ?_
              refine g_ireturn dX5_place_172 rfl ?_
              refine fin _ _ ?_ hT hO
              rw [hbs] at *
              simp only [plA]
              first | rw [if_pos (by omega)] | rw [if_neg (by omega), if_pos (by assumption)] | rw [if_neg (by omega), if_neg (by rw [Bool.not_eq_true]; assumption)]
          · refine g_iconst (v := (nI 0)) dX5_place_150 rfl rfl ?_
            refine g_goto (tgt := 172) dX5_place_151 (by decide) ?_
            refine g_ireturn dX5_place_172 rfl ?_
            refine fin _ _ ?_ hT hO
            rw [hbs] at *
            simp only [plA]
            first | rw [if_pos (by omega)] | rw [if_neg (by omega), if_pos (by assumption)] | rw [if_neg (by omega), if_neg (by rw [Bool.not_eq_true]; assumption)]
        · skip
          refine g_iload_n dX5_place_81 rfl rfl rfl ?_
          refine g_tswIn (tgt := 173) dX5_place_82 (by decide) (by decide) rfl (by decide) ?_
          refine g_iload dX5_place_173 rfl rfl ?_
          refine g_ifB_eq (tgt := 182) dX5_place_175 (by decide) rfl (fun c_175 => ?_) (fun c_175 => ?_)
          · refine g_iconst (v := (nI 0)) dX5_place_182 rfl rfl ?_
            refine g_ireturn dX5_place_183 rfl ?_
            refine fin _ _ ?_ hT hO
            rw [hbs] at *
            simp only [plA]
            first | rw [if_pos (by assumption)] | rw [if_neg (by rw [Bool.not_eq_true]; assumption)]
          · refine g_iconst (v := (nI 1)) dX5_place_178 rfl rfl ?_
            refine g_goto (tgt := 183) dX5_place_179 (by decide) ?_
            refine g_ireturn dX5_place_183 rfl ?_
            refine fin _ _ ?_ hT hO
            rw [hbs] at *
            simp only [plA]
            first | rw [if_pos (by assumption)] | rw [if_neg (by rw [Bool.not_eq_true]; assumption)]
        · skip
          have hv : g < (stP s).1.length → F 3 g = lf (stP s).1 g := fun h => hpl.1 _ h
          refine g_iload_n dX5_place_81 rfl rfl rfl ?_
          refine g_tswOut (tgt := 184) dX5_place_82 (by decide) (by decide) ?_
          refine g_iload_n dX5_place_184 rfl rfl rfl ?_
          refine g_iload dX5_place_185 rfl rfl ?_
          refine g_icmpn_ne (tgt := 195) dX5_place_187 (by decide) rfl (by omega) (by omega) (fun c_187 => ?_) (fun c_187 => ?_)
          · refine g_aload_n dX5_place_195 rfl rfl rfl ?_
            refine g_get fl_X5_13_X5 dX5_place_196 rfl (Or.inl (tm_o hT)) rfl ?_
            refine g_iload_n dX5_place_199 rfl rfl rfl ?_
            refine t_ialdn (k := 3) (N := 184) (f := F 3) hT rfl rfl rfl (by first | rfl | assumption) dX5_place_200 rfl (by omega) ?_
            rw [hv (by omega)]
            refine g_if_le (tgt := 213) dX5_place_201 (by decide) rfl (fun c_201 => ?_) (fun c_201 => ?_)
            · refine g_aload_n dX5_place_213 rfl rfl rfl ?_
              refine g_get fl_X5_13_X5 dX5_place_214 rfl (Or.inl (tm_o hT)) rfl ?_
              refine g_iload_n dX5_place_217 rfl rfl rfl ?_
              refine t_ialdn (k := 3) (N := 184) (f := F 3) hT rfl rfl rfl (by first | rfl | assumption) dX5_place_218 rfl (by omega) ?_
              rw [hv (by omega)]
              refine g_ineg dX5_place_219 rfl ?_
              refine g_ireturn dX5_place_220 rfl ?_
              refine fin _ _ ?_ hT hO
              simp only [plA]
              first | rw [if_pos (by omega)] | rw [if_neg (by omega), if_pos (Int32.not_le.mp (by assumption))] | rw [if_neg (by omega), if_neg (Int32.not_lt.mpr (by assumption))]
            · refine g_aload_n dX5_place_204 rfl rfl rfl ?_
              refine g_get fl_X5_13_X5 dX5_place_205 rfl (Or.inl (tm_o hT)) rfl ?_
              refine g_iload_n dX5_place_208 rfl rfl rfl ?_
              refine t_ialdn (k := 3) (N := 184) (f := F 3) hT rfl rfl rfl (by first | rfl | assumption) dX5_place_209 rfl (by omega) ?_
              rw [hv (by omega)]
              refine g_goto (tgt := 220) dX5_place_210 (by decide) ?_
              refine g_ireturn dX5_place_220 rfl ?_
              refine fin _ _ ?_ hT hO
              simp only [plA]
              first | rw [if_pos (by omega)] | rw [if_neg (by omega), if_pos (Int32.not_le.mp (by assumption))] | rw [if_neg (by omega), if_neg (Int32.not_lt.mpr (by assumption))]
          · refine g_bipush (v := -9) dX5_place_190 rfl rfl ?_
            refine g_goto (tgt := 220) dX5_place_192 (by decide) ?_
            refine g_ireturn dX5_place_220 rfl ?_
            refine fin _ _ ?_ hT hO
            simp only [plA]
            first | rw [if_pos (by omega)] | rw [if_neg (by omega), if_pos (Int32.not_le.mp (by assumption))] | rw [if_neg (by omega), if_neg (Int32.not_lt.mpr (by assumption))]
      have hv : 0 < rowStartL (stP s).1 g → F 3 (rowStartL (stP s).1 g - 1) = lf (stP s).1 (rowStartL (stP s).1 g - 1) := fun h => hpl.1 _ (by omega)
      refine ct_intro (lv := [some (.ref (A 0)), some (.int (nI g)), some (.int (nI k)), none, none, none]) 3 (by decide) rfl (Nat.le_of_ble_eq_true rfl) rfl ?_
      refine g_aload_n dX5_place_0 rfl rfl rfl ?_
      refine g_aload_n dX5_place_1 rfl rfl rfl ?_
      refine g_iload_n dX5_place_2 rfl rfl rfl ?_
      refine g_virtualP iV_X5_isPlace q2526 (s_isPlace (d := d - 1) (by omega) hT h3) (Or.inl (tm_o hT)) rfl (by decide) dX5_place_3 rfl rfl rfl (by first | exact Nat.le_of_ble_eq_true rfl | simp [Value.category, rf_cat]) (by omega) xN_no ?_
      refine g_ifB_ne (tgt := 13) dX5_place_6 (by decide) rfl (fun c_6 => ?_) (fun c_6 => ?_)
      · refine g_iload_n dX5_place_13 rfl rfl rfl ?_
        refine g_i2l dX5_place_14 rfl rfl ?_
        refine g_lconst (v := 0) dX5_place_15 rfl rfl ?_
        refine g_ldc2 dX5_place_16 rfl q2521 ?_
        refine g_staticP iS_X5_in q2448 (c_in (d := d - 1) (by omega) _ _ _) dX5_place_19 rfl rfl rfl (by first | exact Nat.le_of_ble_eq_true rfl | simp [Value.category, rf_cat]) (by omega) xN_no ?_
        refine g_ifB_ne (tgt := 29) dX5_place_22 (by decide) rfl (fun c_22 => ?_) (fun c_22 => ?_)
        · refine g_iconst (v := (nI 0)) dX5_place_29 rfl rfl ?_
          refine g_virtual iV_X5_refused q2451 (t_ref0 (d := d - 1) (by omega) hT) (Or.inl (tm_o hT)) rfl (by decide) dX5_place_30 rfl rfl rfl (by first | exact Nat.le_of_ble_eq_true rfl | simp [Value.category, rf_cat]) (by omega) (by omega) (by omega) xN_no (fun v_30 m_30 h_30 => ?_)
          obtain ⟨rfl, hT, hO2⟩ := h_30
          replace hO := xo_tr hO hO2
          refine g_ifn_eq (tgt := 38) dX5_place_33 (by decide) rfl (by omega) (fun _ => ?_) (fun c_33 => by omega)
          refine g_aload_n dX5_place_38 rfl rfl rfl ?_
          refine g_get fl_X5_13_X5 dX5_place_39 rfl (Or.inl (tm_o hT)) rfl ?_
          refine g_iload_n dX5_place_42 rfl rfl rfl ?_
          refine g_staticP iS_X5_rowStart q2530 (p_rowStart (d := d - 1) (by omega) (by first | exact tm_at 3 hT rfl rfl rfl rfl | exact tm_at 4 hT rfl rfl rfl rfl) (by assumption) (by omega)) dX5_place_43 rfl rfl rfl (by first | exact Nat.le_of_ble_eq_true rfl | simp [Value.category, rf_cat]) (by omega) xN_no ?_
          refine g_ist3 dX5_place_46 rfl (by decide) (k := ?_)
          refine g_aload_n dX5_place_47 rfl rfl rfl ?_
          refine g_get fl_X5_13_X5 dX5_place_48 rfl (Or.inl (tm_o hT)) rfl ?_
          refine g_iload_n dX5_place_51 rfl rfl rfl ?_
          refine g_staticP iS_X5_rowEnd q2533 (p_rowEnd (d := d - 1) (by omega) (by first | exact tm_at 3 hT rfl rfl rfl rfl | exact tm_at 4 hT rfl rfl rfl rfl) (by assumption) (by omega)) dX5_place_52 rfl rfl rfl (by first | exact Nat.le_of_ble_eq_true rfl | simp [Value.category, rf_cat]) (by omega) xN_no ?_
          refine g_ist4 dX5_place_55 rfl (by decide) (k := ?_)
          refine g_iload_n dX5_place_57 rfl rfl rfl ?_
          refine g_ifn_le (tgt := 78) dX5_place_58 (by decide) rfl (by omega) (fun c_58 => ?_) (fun c_58 => ?_)
          · refine g_iconst (v := (nI 0)) dX5_place_78 rfl rfl ?_
            refine g_ist5 dX5_place_79 rfl (by decide) (k := ?_)
            exact tail false _ (by unfold secL; rw [decide_eq_false (fun h => by first | omega | exact absurd h.2 (by assumption))]) hT hO
          · refine g_aload_n dX5_place_61 rfl rfl rfl ?_
            refine g_get fl_X5_13_X5 dX5_place_62 rfl (Or.inl (tm_o hT)) rfl ?_
            refine g_iload_n dX5_place_65 rfl rfl rfl ?_
            refine g_iconst (v := (nI 1)) dX5_place_66 rfl rfl ?_
            refine g_isubn dX5_place_67 rfl (by omega) ?_
            refine t_ialdn (k := 3) (N := 184) (f := F 3) hT rfl rfl rfl (by first | rfl | assumption) dX5_place_68 rfl (by omega) ?_
            rw [hv (by omega)]
            refine g_bipush (v := (-10)) dX5_place_69 rfl rfl ?_
            refine g_icmp_ne (tgt := 78) dX5_place_71 (by decide) rfl (fun c_71 => ?_) (fun c_71 => ?_)
            · refine g_iconst (v := (nI 0)) dX5_place_78 rfl rfl ?_
              refine g_ist5 dX5_place_79 rfl (by decide) (k := ?_)
              exact tail false _ (by unfold secL; rw [decide_eq_false (fun h => by first | omega | exact absurd h.2 (by assumption))]) hT hO
            · refine g_iconst (v := (nI 1)) dX5_place_74 rfl rfl ?_
              refine g_goto (tgt := 79) dX5_place_75 (by decide) ?_
              refine g_ist5 dX5_place_79 rfl (by decide) (k := ?_)
              exact tail true _ (by unfold secL; rw [decide_eq_true ⟨by omega, by assumption⟩]) hT hO
        · exact absurd hc (by rw [c_22]; decide)
      · exact absurd hg (by rw [c_6]; decide)
    · refine ct_intro (lv := [some (.ref (A 0)), some (.int (nI g)), some (.int c), none, none, none]) 3 (by decide) rfl (Nat.le_of_ble_eq_true rfl) rfl ?_
      refine g_aload_n dX5_place_0 rfl rfl rfl ?_
      refine g_aload_n dX5_place_1 rfl rfl rfl ?_
      refine g_iload_n dX5_place_2 rfl rfl rfl ?_
      refine g_virtualP iV_X5_isPlace q2526 (s_isPlace (d := d - 1) (by omega) hT h3) (Or.inl (tm_o hT)) rfl (by decide) dX5_place_3 rfl rfl rfl (by first | exact Nat.le_of_ble_eq_true rfl | simp [Value.category, rf_cat]) (by omega) xN_no ?_
      refine g_ifB_ne (tgt := 13) dX5_place_6 (by decide) rfl (fun c_6 => ?_) (fun c_6 => ?_)
      · refine g_iload_n dX5_place_13 rfl rfl rfl ?_
        refine g_i2l dX5_place_14 rfl rfl ?_
        refine g_lconst (v := 0) dX5_place_15 rfl rfl ?_
        refine g_ldc2 dX5_place_16 rfl q2521 ?_
        refine g_staticP iS_X5_in q2448 (c_in (d := d - 1) (by omega) _ _ _) dX5_place_19 rfl rfl rfl (by first | exact Nat.le_of_ble_eq_true rfl | simp [Value.category, rf_cat]) (by omega) xN_no ?_
        refine g_ifB_ne (tgt := 29) dX5_place_22 (by decide) rfl (fun c_22 => ?_) (fun c_22 => ?_)
        · exact absurd c_22 hc
        · refine g_iconst (v := (nI 2)) dX5_place_25 rfl rfl ?_
          refine g_goto (tgt := 30) dX5_place_26 (by decide) ?_
          refine g_virtual iV_X5_refused q2451 (t_refS (d := d - 1) (by omega) (x := 2) (by omega) (by omega) hT) (Or.inl (tm_o hT)) rfl (by decide) dX5_place_30 rfl rfl rfl (by first | exact Nat.le_of_ble_eq_true rfl | simp [Value.category, rf_cat]) (by omega) (by omega) (by omega) xN_no (fun v_30 m_30 h_30 => ?_)
          obtain ⟨rfl, hT, hO2⟩ := h_30
          replace hO := xo_tr hO hO2
          refine g_ifn_eq (tgt := 38) dX5_place_33 (by decide) rfl (by omega) (fun c_33 => by omega) (fun _ => ?_)
          refine g_iconst (v := (nI 0)) dX5_place_36 rfl rfl ?_
          refine g_ireturn dX5_place_37 rfl ?_
          have e : uPlc s (nI g) c = (2, 0, s) := by unfold uPlc; rw [if_pos hg, if_neg hc]
          rw [e]
          exact ⟨rfl, ⟨_, _, _, _, hT, hs⟩, hO⟩
      · exact absurd hg (by rw [c_6]; decide)
  · refine ct_intro (lv := [some (.ref (A 0)), some (.int g), some (.int c), none, none, none]) 3 (by decide) rfl (Nat.le_of_ble_eq_true rfl) rfl ?_
    refine g_aload_n dX5_place_0 rfl rfl rfl ?_
    refine g_aload_n dX5_place_1 rfl rfl rfl ?_
    refine g_iload_n dX5_place_2 rfl rfl rfl ?_
    refine g_virtualP iV_X5_isPlace q2526 (s_isPlace (d := d - 1) (by omega) hT h3) (Or.inl (tm_o hT)) rfl (by decide) dX5_place_3 rfl rfl rfl (by first | exact Nat.le_of_ble_eq_true rfl | simp [Value.category, rf_cat]) (by omega) xN_no ?_
    refine g_ifB_ne (tgt := 13) dX5_place_6 (by decide) rfl (fun c_6 => ?_) (fun c_6 => ?_)
    · exact absurd c_6 hg
    · refine g_iconst (v := (nI 1)) dX5_place_9 rfl rfl ?_
      refine g_goto (tgt := 30) dX5_place_10 (by decide) ?_
      refine g_virtual iV_X5_refused q2451 (t_refS (d := d - 1) (by omega) (x := 1) (by omega) (by omega) hT) (Or.inl (tm_o hT)) rfl (by decide) dX5_place_30 rfl rfl rfl (by first | exact Nat.le_of_ble_eq_true rfl | simp [Value.category, rf_cat]) (by omega) (by omega) (by omega) xN_no (fun v_30 m_30 h_30 => ?_)
      obtain ⟨rfl, hT, hO2⟩ := h_30
      replace hO := xo_tr hO hO2
      refine g_ifn_eq (tgt := 38) dX5_place_33 (by decide) rfl (by omega) (fun c_33 => by omega) (fun _ => ?_)
      refine g_iconst (v := (nI 0)) dX5_place_36 rfl rfl ?_
      refine g_ireturn dX5_place_37 rfl ?_
      have e : uPlc s g c = (1, 0, s) := by unfold uPlc; rw [if_neg hg]
      rw [e]
      exact ⟨rfl, ⟨_, _, _, _, hT, hs⟩, hO⟩
end TW16
