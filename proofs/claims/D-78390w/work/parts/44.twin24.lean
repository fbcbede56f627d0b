/-! TWIN: all boxes laid (printed by gen/gen_box.py) -/
set_option maxRecDepth 100000
section TW24
variable {w : XW} {d : Nat} {m : XM} {A : Nat → Nat} {rf ts ac ls rs dp : Int32} {F : Nat → Nat → Int32}
/-- the box of the row at a gap and its items' widths stand in the memory -/
def bxH (L : List Int32) (B : Nat → XBx) (F : Nat → Nat → Int32) (g : Nat) : Prop := bxA F B g ∧ ∀ i, inCh L (rowEndL L g) g i = true → rtI L B F i
def tBox (A : Nat → Nat) (m : XM) (rf ts ac ls rs dp : Int32) (F : Nat → Nat → Int32) (L : List Int32) (B : Nat → XBx) : Option Value → XM → Prop := fun v m' => none = v ∧ ∃ F', TM A rf ts ac ls rs dp F' m' ∧ bxO F F' ∧ (∀ g, g ≤ L.length → g = 0 ∨ opnL L (g - 1) → bxH L B F' g) ∧ XOf A m m'
theorem bxH_row {L : List Int32} {B : Nat → XBx} {F F' : Nat → Nat → Int32} {st g : Nat} (hg : g ≠ st) (h1 : ∀ g, g ≠ st → F' 21 g = F 21 g ∧ F' 22 g = F 22 g ∧ F' 23 g = F 23 g) (h2 : ∀ j, inCh L (rowEndL L st) st j = true ∨ rtI L B F j → rtI L B F' j) (h : bxH L B F g) : bxH L B F' g := by
  obtain ⟨⟨a, b, c⟩, e⟩ := h
  obtain ⟨z1, z2, z3⟩ := h1 g hg
  exact ⟨⟨z1.trans a, z2.trans b, z3.trans c⟩, fun i hi => h2 i (Or.inr (e i hi))⟩
theorem bxO_tr {F F1 F2 : Nat → Nat → Int32} (h : bxO F F1) (h2 : bxO F1 F2) : bxO F F2 := fun k a b c d => (h2 k a b c d).trans (h k a b c d)
theorem nI_m1_neg : nI 0 + (-1) < 0 := by decide
theorem t_box3 {f : Nat → Int32} {L : List Int32} {B : Nat → XBx} (hd : 5 ≤ d) (hT : TM A rf ts ac ls rs dp F m) (hf : F 3 = f) (hp : Pl f L) (hb : Bal L) (hBx : BxL L B) : CT w MX5_layBoxes d 0 0 [.ref (A 0), .ref (A 3)] m (tBox A m rf ts ac ls rs dp F L B) xN := by
  have hlen := hp.2.2
  have h3_180 : f 180 = nI L.length := hp.2.1
  have hf0 := hf
  obtain ⟨F0, eF0⟩ : ∃ F0, F0 = F := ⟨_, rfl⟩
  rw [← eF0]
  have fin : ∀ F m' o2, TM A rf ts ac ls rs dp F m' → XOf A m m' → bxO F0 F → (∀ g, 0 < g → g ≤ L.length → opnL L (g - 1) → bxH L B F g) → G w MX5_layBoxes (xZ w (tBox A m rf ts ac ls rs dp F0 L B) xN) d 0 0 43 [some (.ref (A 0)), some (.ref (A 3)), o2] [] m' := by
    intro F m' o2 hT hO hbo hbx
    have hf : F 3 = f := (hbo 3 (by decide) (by decide) (by decide) (by decide)).trans (eF0 ▸ hf0)
    refine g_aload_n dX5_layBoxes_43 rfl rfl rfl ?_
    refine g_aload_n dX5_layBoxes_44 rfl rfl rfl ?_
    refine g_iconst (v := (nI 0)) dX5_layBoxes_45 rfl rfl ?_
    refine g_virtual iV_X5_layRow q2682 (t_row3 (d := d - 1) (by omega) hT hf hp hb hBx (Nat.zero_le _) (Or.inl rfl) (fun g h1 h2 h3 => (hbx g h1 h2 h3).1)) (Or.inl (tm_o hT)) rfl (by decide) dX5_layBoxes_46 rfl rfl rfl (by first | exact Nat.le_of_ble_eq_true rfl | simp [Value.category, rf_cat]) (by omega) (by omega) (by omega) xN_no (fun v_46 m_46 h_46 => ?_)
    obtain ⟨rfl, F2, hT, hbo2, hA, hoth, hdn, hO2⟩ := h_46
    replace hO := xo_tr hO hO2
    refine g_return dX5_layBoxes_49 rfl ?_
    refine ⟨rfl, F2, hT, bxO_tr hbo hbo2, fun g hg hop => ?_, hO⟩
    by_cases h0 : g = 0
    · subst h0
      exact ⟨hA, fun i hi => hdn i (Or.inl hi)⟩
    · rcases hop with z | z
      · exact absurd z h0
      · exact bxH_row h0 hoth hdn (hbx g (by omega) hg z)
  have loop : ∀ j F m', j ≤ L.length → TM A rf ts ac ls rs dp F m' → XOf A m m' → bxO F0 F → (∀ g, j < g → g ≤ L.length → opnL L (g - 1) → bxH L B F g) → G w MX5_layBoxes (xZ w (tBox A m rf ts ac ls rs dp F0 L B) xN) d 0 0 8 [some (.ref (A 0)), some (.ref (A 3)), some (.int (nI j + (-1)))] [] m' := by
    intro j
    induction j with
    | zero =>
      intro F m' hj hT hO hbo hbx
      refine g_iload_n dX5_layBoxes_8 rfl rfl rfl ?_
      refine g_if_lt (tgt := 43) dX5_layBoxes_9 (by decide) rfl (fun c_9 => ?_) (fun c_9 => ?_)
      · exact fin F _ _ hT hO hbo hbx
      · exact absurd nI_m1_neg c_9
    | succ j ih =>
      intro F m' hj hT hO hbo hbx
      have hf : F 3 = f := (hbo 3 (by decide) (by decide) (by decide) (by decide)).trans (eF0 ▸ hf0)
      have hfj : f j = lf L j := hp.1 j (by omega)
      rw [nI_p1]
      have no : ¬ opnL L j → ∀ m', TM A rf ts ac ls rs dp F m' → XOf A m m' → G w MX5_layBoxes (xZ w (tBox A m rf ts ac ls rs dp F0 L B) xN) d 0 0 37 [some (.ref (A 0)), some (.ref (A 3)), some (.int (nI j))] [] m' := by
        intro hn m' hT hO
        refine g_incm2 dX5_layBoxes_37 rfl (by decide) (k := ?_)
        refine g_goto (tgt := 8) dX5_layBoxes_40 (by decide) ?_
        exact ih F _ (by omega) hT hO hbo (fun g h1 h2 h3 => hbx g (by
          rcases Nat.lt_or_ge (j + 1) g with z | z
          · exact z
          · have e : g = j + 1 := by omega
            rw [e] at h3
            exact absurd h3 hn) h2 h3)
      have yes : opnL L j → ∀ m', TM A rf ts ac ls rs dp F m' → XOf A m m' → G w MX5_layBoxes (xZ w (tBox A m rf ts ac ls rs dp F0 L B) xN) d 0 0 29 [some (.ref (A 0)), some (.ref (A 3)), some (.int (nI j))] [] m' := by
        intro hop m' hT hO
        refine g_aload_n dX5_layBoxes_29 rfl rfl rfl ?_
        refine g_aload_n dX5_layBoxes_30 rfl rfl rfl ?_
        refine g_iload_n dX5_layBoxes_31 rfl rfl rfl ?_
        refine g_iconst (v := (nI 1)) dX5_layBoxes_32 rfl rfl ?_
        refine g_iaddn dX5_layBoxes_33 rfl ?_
        refine g_virtual iV_X5_layRow q2682 (t_row3 (st := j + 1) (d := d - 1) (by omega) hT hf hp hb hBx (by omega) (Or.inr hop) (fun g h1 h2 h3 => (hbx g (by omega) h2 h3).1)) (Or.inl (tm_o hT)) rfl (by decide) dX5_layBoxes_34 rfl rfl rfl (by first | exact Nat.le_of_ble_eq_true rfl | simp [Value.category, rf_cat]) (by omega) (by omega) (by omega) xN_no (fun v_34 m_34 h_34 => ?_)
        obtain ⟨rfl, F2, hT, hbo2, hA, hoth, hdn, hO2⟩ := h_34
        replace hO := xo_tr hO hO2
        refine g_incm2 dX5_layBoxes_37 rfl (by decide) (k := ?_)
        refine g_goto (tgt := 8) dX5_layBoxes_40 (by decide) ?_
        refine ih F2 _ (by omega) hT hO (bxO_tr hbo hbo2) (fun g h1 h2 h3 => ?_)
        by_cases h0 : g = j + 1
        · subst h0
          exact ⟨hA, fun i hi => hdn i (Or.inl hi)⟩
        · exact bxH_row h0 hoth hdn (hbx g (by omega) h2 h3)
      refine g_iload_n dX5_layBoxes_8 rfl rfl rfl ?_
      refine g_if_lt (tgt := 43) dX5_layBoxes_9 (by decide) rfl (fun c_9 => ?_) (fun c_9 => ?_)
      · exact absurd c_9 (nI_pos (by omega))
      · refine g_aload_n dX5_layBoxes_12 rfl rfl rfl ?_
        refine g_iload_n dX5_layBoxes_13 rfl rfl rfl ?_
        refine t_ialdn (k := 3) (N := 184) (f := f) hT rfl rfl rfl (by first | rfl | assumption) dX5_layBoxes_14 rfl (by omega) ?_
        rw [hfj]
        refine g_staticP iS_X5_isBegin q2511 (c_isBegin (d := d - 1) (by omega) _) dX5_layBoxes_15 rfl rfl rfl (by first | exact Nat.le_of_ble_eq_true rfl | simp [Value.category, rf_cat]) (by omega) xN_no ?_
        refine g_ifB_ne (tgt := 29) dX5_layBoxes_18 (by decide) rfl (fun c_18 => ?_) (fun c_18 => ?_)
        · exact yes (Or.inl (by assumption)) _ hT hO
        · refine g_aload_n dX5_layBoxes_21 rfl rfl rfl ?_
          refine g_iload_n dX5_layBoxes_22 rfl rfl rfl ?_
          refine t_ialdn (k := 3) (N := 184) (f := f) hT rfl rfl rfl (by first | rfl | assumption) dX5_layBoxes_23 rfl (by omega) ?_
          rw [hfj]
          refine g_bipush (v := (-10)) dX5_layBoxes_24 rfl rfl ?_
          refine g_icmp_ne (tgt := 37) dX5_layBoxes_26 (by decide) rfl (fun c_26 => ?_) (fun c_26 => ?_)
          · exact no (fun h => by rcases h with h | h; exact bo_no (by assumption) h; contradiction) _ hT hO
          · exact yes (Or.inr (by assumption)) _ hT hO
  have hO := xo_rf A m
  refine ct_intro (lv := [some (.ref (A 0)), some (.ref (A 3)), none]) 1 (by decide) rfl (Nat.le_of_ble_eq_true rfl) rfl ?_
  refine g_aload_n dX5_layBoxes_0 rfl rfl rfl ?_
  refine g_sipush (v := (nI 180)) dX5_layBoxes_1 rfl rfl ?_
  refine t_ialdn (k := 3) (N := 184) (f := f) hT rfl rfl rfl (by first | rfl | assumption) dX5_layBoxes_4 rfl (by omega) ?_
  rw [h3_180]
  refine g_iconst (v := (nI 1)) dX5_layBoxes_5 rfl rfl ?_
  refine g_isub dX5_layBoxes_6 rfl ?_
  rw [show nI 1 = 1 from rfl, nI_s1]
  refine g_ist2 dX5_layBoxes_7 rfl (by decide) (k := ?_)
  exact loop L.length F _ (Nat.le_refl _) hT hO (fun k _ _ _ _ => by rw [eF0]) (fun g h1 h2 => by omega)
theorem t_box4 {f : Nat → Int32} {L : List Int32} {B : Nat → XBx} (hd : 5 ≤ d) (hT : TM A rf ts ac ls rs dp F m) (hf : F 4 = f) (hp : Pl f L) (hb : Bal L) (hBx : BxL L B) : CT w MX5_layBoxes d 0 0 [.ref (A 0), .ref (A 4)] m (tBox A m rf ts ac ls rs dp F L B) xN := by
  have hlen := hp.2.2
  have h4_180 : f 180 = nI L.length := hp.2.1
  have hf0 := hf
  obtain ⟨F0, eF0⟩ : ∃ F0, F0 = F := ⟨_, rfl⟩
  rw [← eF0]
  have fin : ∀ F m' o2, TM A rf ts ac ls rs dp F m' → XOf A m m' → bxO F0 F → (∀ g, 0 < g → g ≤ L.length → opnL L (g - 1) → bxH L B F g) → G w MX5_layBoxes (xZ w (tBox A m rf ts ac ls rs dp F0 L B) xN) d 0 0 43 [some (.ref (A 0)), some (.ref (A 4)), o2] [] m' := by
    intro F m' o2 hT hO hbo hbx
    have hf : F 4 = f := (hbo 4 (by decide) (by decide) (by decide) (by decide)).trans (eF0 ▸ hf0)
    refine g_aload_n dX5_layBoxes_43 rfl rfl rfl ?_
    refine g_aload_n dX5_layBoxes_44 rfl rfl rfl ?_
    refine g_iconst (v := (nI 0)) dX5_layBoxes_45 rfl rfl ?_
    refine g_virtual iV_X5_layRow q2682 (t_row4 (d := d - 1) (by omega) hT hf hp hb hBx (Nat.zero_le _) (Or.inl rfl) (fun g h1 h2 h3 => (hbx g h1 h2 h3).1)) (Or.inl (tm_o hT)) rfl (by decide) dX5_layBoxes_46 rfl rfl rfl (by first | exact Nat.le_of_ble_eq_true rfl | simp [Value.category, rf_cat]) (by omega) (by omega) (by omega) xN_no (fun v_46 m_46 h_46 => ?_)
    obtain ⟨rfl, F2, hT, hbo2, hA, hoth, hdn, hO2⟩ := h_46
    replace hO := xo_tr hO hO2
    refine g_return dX5_layBoxes_49 rfl ?_
    refine ⟨rfl, F2, hT, bxO_tr hbo hbo2, fun g hg hop => ?_, hO⟩
    by_cases h0 : g = 0
    · subst h0
      exact ⟨hA, fun i hi => hdn i (Or.inl hi)⟩
    · rcases hop with z | z
      · exact absurd z h0
      · exact bxH_row h0 hoth hdn (hbx g (by omega) hg z)
  have loop : ∀ j F m', j ≤ L.length → TM A rf ts ac ls rs dp F m' → XOf A m m' → bxO F0 F → (∀ g, j < g → g ≤ L.length → opnL L (g - 1) → bxH L B F g) → G w MX5_layBoxes (xZ w (tBox A m rf ts ac ls rs dp F0 L B) xN) d 0 0 8 [some (.ref (A 0)), some (.ref (A 4)), some (.int (nI j + (-1)))] [] m' := by
    intro j
    induction j with
    | zero =>
      intro F m' hj hT hO hbo hbx
      refine g_iload_n dX5_layBoxes_8 rfl rfl rfl ?_
      refine g_if_lt (tgt := 43) dX5_layBoxes_9 (by decide) rfl (fun c_9 => ?_) (fun c_9 => ?_)
      · exact fin F _ _ hT hO hbo hbx
      · exact absurd nI_m1_neg c_9
    | succ j ih =>
      intro F m' hj hT hO hbo hbx
      have hf : F 4 = f := (hbo 4 (by decide) (by decide) (by decide) (by decide)).trans (eF0 ▸ hf0)
      have hfj : f j = lf L j := hp.1 j (by omega)
      rw [nI_p1]
      have no : ¬ opnL L j → ∀ m', TM A rf ts ac ls rs dp F m' → XOf A m m' → G w MX5_layBoxes (xZ w (tBox A m rf ts ac ls rs dp F0 L B) xN) d 0 0 37 [some (.ref (A 0)), some (.ref (A 4)), some (.int (nI j))] [] m' := by
        intro hn m' hT hO
        refine g_incm2 dX5_layBoxes_37 rfl (by decide) (k := ?_)
        refine g_goto (tgt := 8) dX5_layBoxes_40 (by decide) ?_
        exact ih F _ (by omega) hT hO hbo (fun g h1 h2 h3 => hbx g (by
          rcases Nat.lt_or_ge (j + 1) g with z | z
          · exact z
          · have e : g = j + 1 := by omega
            rw [e] at h3
            exact absurd h3 hn) h2 h3)
      have yes : opnL L j → ∀ m', TM A rf ts ac ls rs dp F m' → XOf A m m' → G w MX5_layBoxes (xZ w (tBox A m rf ts ac ls rs dp F0 L B) xN) d 0 0 29 [some (.ref (A 0)), some (.ref (A 4)), some (.int (nI j))] [] m' := by
        intro hop m' hT hO
        refine g_aload_n dX5_layBoxes_29 rfl rfl rfl ?_
        refine g_aload_n dX5_layBoxes_30 rfl rfl rfl ?_
        refine g_iload_n dX5_layBoxes_31 rfl rfl rfl ?_
        refine g_iconst (v := (nI 1)) dX5_layBoxes_32 rfl rfl ?_
        refine g_iaddn dX5_layBoxes_33 rfl ?_
        refine g_virtual iV_X5_layRow q2682 (t_row4 (st := j + 1) (d := d - 1) (by omega) hT hf hp hb hBx (by omega) (Or.inr hop) (fun g h1 h2 h3 => (hbx g (by omega) h2 h3).1)) (Or.inl (tm_o hT)) rfl (by decide) dX5_layBoxes_34 rfl rfl rfl (by first | exact Nat.le_of_ble_eq_true rfl | simp [Value.category, rf_cat]) (by omega) (by omega) (by omega) xN_no (fun v_34 m_34 h_34 => ?_)
        obtain ⟨rfl, F2, hT, hbo2, hA, hoth, hdn, hO2⟩ := h_34
        replace hO := xo_tr hO hO2
        refine g_incm2 dX5_layBoxes_37 rfl (by decide) (k := ?_)
        refine g_goto (tgt := 8) dX5_layBoxes_40 (by decide) ?_
        refine ih F2 _ (by omega) hT hO (bxO_tr hbo hbo2) (fun g h1 h2 h3 => ?_)
        by_cases h0 : g = j + 1
        · subst h0
          exact ⟨hA, fun i hi => hdn i (Or.inl hi)⟩
        · exact bxH_row h0 hoth hdn (hbx g (by omega) h2 h3)
      refine g_iload_n dX5_layBoxes_8 rfl rfl rfl ?_
      refine g_if_lt (tgt := 43) dX5_layBoxes_9 (by decide) rfl (fun c_9 => ?_) (fun c_9 => ?_)
      · exact absurd c_9 (nI_pos (by omega))
      · refine g_aload_n dX5_layBoxes_12 rfl rfl rfl ?_
        refine g_iload_n dX5_layBoxes_13 rfl rfl rfl ?_
        refine t_ialdn (k := 4) (N := 184) (f := f) hT rfl rfl rfl (by first | rfl | assumption) dX5_layBoxes_14 rfl (by omega) ?_
        rw [hfj]
        refine g_staticP iS_X5_isBegin q2511 (c_isBegin (d := d - 1) (by omega) _) dX5_layBoxes_15 rfl rfl rfl (by first | exact Nat.le_of_ble_eq_true rfl | simp [Value.category, rf_cat]) (by omega) xN_no ?_
        refine g_ifB_ne (tgt := 29) dX5_layBoxes_18 (by decide) rfl (fun c_18 => ?_) (fun c_18 => ?_)
        · exact yes (Or.inl (by assumption)) _ hT hO
        · refine g_aload_n dX5_layBoxes_21 rfl rfl rfl ?_
          refine g_iload_n dX5_layBoxes_22 rfl rfl rfl ?_
          refine t_ialdn (k := 4) (N := 184) (f := f) hT rfl rfl rfl (by first | rfl | assumption) dX5_layBoxes_23 rfl (by omega) ?_
          rw [hfj]
          refine g_bipush (v := (-10)) dX5_layBoxes_24 rfl rfl ?_
          refine g_icmp_ne (tgt := 37) dX5_layBoxes_26 (by decide) rfl (fun c_26 => ?_) (fun c_26 => ?_)
          · exact no (fun h => by rcases h with h | h; exact bo_no (by assumption) h; contradiction) _ hT hO
          · exact yes (Or.inr (by assumption)) _ hT hO
  have hO := xo_rf A m
  refine ct_intro (lv := [some (.ref (A 0)), some (.ref (A 4)), none]) 1 (by decide) rfl (Nat.le_of_ble_eq_true rfl) rfl ?_
  refine g_aload_n dX5_layBoxes_0 rfl rfl rfl ?_
  refine g_sipush (v := (nI 180)) dX5_layBoxes_1 rfl rfl ?_
  refine t_ialdn (k := 4) (N := 184) (f := f) hT rfl rfl rfl (by first | rfl | assumption) dX5_layBoxes_4 rfl (by omega) ?_
  rw [h4_180]
  refine g_iconst (v := (nI 1)) dX5_layBoxes_5 rfl rfl ?_
  refine g_isub dX5_layBoxes_6 rfl ?_
  rw [show nI 1 = 1 from rfl, nI_s1]
  refine g_ist2 dX5_layBoxes_7 rfl (by decide) (k := ?_)
  exact loop L.length F _ (Nat.le_refl _) hT hO (fun k _ _ _ _ => by rw [eF0]) (fun g h1 h2 => by omega)
end TW24
