/-! TWIN: pages copied, noted -/
set_option maxRecDepth 100000
def cpK (f g : Nat → Int32) (a b k : Nat) : Nat → Int32 := fun j => if b ≤ j ∧ j < b + k then f (a + (j - b)) else g j
def cpF (f : Nat → Int32) (a : Nat) (g : Nat → Int32) (b : Nat) : Nat → Int32 := cpK f g a b 184
theorem cpK_0 (f g : Nat → Int32) (a b : Nat) : cpK f g a b 0 = g := by
  funext j; unfold cpK; rw [if_neg (by omega)]
theorem cpK_s (f g : Nat → Int32) (a b k : Nat) : upd (cpK f g a b k) (b + k) (f (a + k)) = cpK f g a b (k + 1) := by
  funext j
  by_cases hj : j = b + k
  · subst hj; rw [upd_eq]; unfold cpK; rw [if_pos (by omega)]; congr 1; omega
  · rw [upd_ne hj]; unfold cpK
    by_cases h1 : b ≤ j ∧ j < b + k
    · rw [if_pos h1, if_pos (by omega)]
    · rw [if_neg h1, if_neg (by omega)]
section TW7
variable {w : XW} {d : Nat} {m : XM} {A : Nat → Nat} {rf ts ac ls rs dp x : Int32} {F : Nat → Nat → Int32}
theorem l_copy {r1 r2 a b N1 N2 : Nat} {f g : Nat → Int32} {P : Option Value → XM → Prop} (hm : m r1 = some (iA 0 N1 f)) (hne : r1 ≠ r2) (ha : a + 184 ≤ N1) (hb : b + 184 ≤ N2) (hN : N1 ≤ 3000 ∧ N2 ≤ 3000) (hP : P none (xu m r2 (iA 0 N2 (cpF f a g b)))) : ∀ t k, 184 - k < t → k ≤ 184 → G w MX5_copyPage (xZ w P xN) d 0 0 3 [some (.ref r1), some (.int (nI a)), some (.ref r2), some (.int (nI b)), some (.int (nI k))] [] (xu m r2 (iA 0 N2 (cpK f g a b k))) := by
  intro t
  induction t with
  | zero => intro k h; omega
  | succ t ih =>
    intro k h hk1
    have hm1 : ∀ e, xu m r2 e r1 = some (iA 0 N1 f) := fun e => (xu_ne hne).trans hm
    refine g_iload dX5_copyPage_3 rfl rfl ?_
    refine g_sipush (v := (nI 184)) dX5_copyPage_5 rfl rfl ?_
    refine g_icmpn_ge (tgt := 29) dX5_copyPage_8 (by decide) rfl (by omega) (by omega) (fun c_8 => ?_) (fun c_8 => ?_)
    · obtain rfl : k = 184 := by omega
      refine g_return dX5_copyPage_29 rfl ?_
      exact hP
    · first | refine g_aload_n dX5_copyPage_11 rfl rfl rfl ?_ | refine g_aload_nR dX5_copyPage_11 rfl rfl rfl ?_ | refine g_aload_nN dX5_copyPage_11 rfl rfl rfl ?_
      refine g_iload_n dX5_copyPage_12 rfl rfl rfl ?_
      refine g_iload dX5_copyPage_13 rfl rfl ?_
      refine g_iaddn dX5_copyPage_15 rfl ?_
      first | refine g_aload_n dX5_copyPage_16 rfl rfl rfl ?_ | refine g_aload_nR dX5_copyPage_16 rfl rfl rfl ?_ | refine g_aload_nN dX5_copyPage_16 rfl rfl rfl ?_
      refine g_iload_n dX5_copyPage_17 rfl rfl rfl ?_
      refine g_iload dX5_copyPage_18 rfl rfl ?_
      refine g_iaddn dX5_copyPage_20 rfl ?_
      refine g_ialdn dX5_copyPage_21 rfl (Or.inl (hm1 _)) (j := a + k) (by omega) (by omega) ?_
      refine g_iastnU dX5_copyPage_22 rfl (by omega) (by omega) ?_
      rw [cpK_s]
      refine g_incn4 dX5_copyPage_23 rfl (by decide) (k := ?_)
      refine g_goto (tgt := 3) dX5_copyPage_26 (by decide) ?_
      exact ih (k + 1) (by omega) (by omega)
theorem c_copy {r1 r2 a b N1 N2 : Nat} {f g : Nat → Int32} (hd : 1 ≤ d) (hm : m r1 = some (iA 0 N1 f)) (hm2 : m r2 = some (iA 0 N2 g)) (hne : r1 ≠ r2) (ha : a + 184 ≤ N1) (hb : b + 184 ≤ N2) (hN : N1 ≤ 3000 ∧ N2 ≤ 3000) : CT w MX5_copyPage d 0 0 [.ref r1, .int (nI a), .ref r2, .int (nI b)] m (xRet none (xu m r2 (iA 0 N2 (cpF f a g b)))) xN := by
  refine ct_intro (lv := [some (.ref r1), some (.int (nI a)), some (.ref r2), some (.int (nI b)), none]) 1 (by decide) rfl (Nat.le_of_ble_eq_true rfl) rfl ?_
  refine g_iconst (v := (nI 0)) dX5_copyPage_0 rfl rfl ?_
  refine g_ist4 dX5_copyPage_1 rfl (by decide) (k := ?_)
  rw [← xu_self hm2, xu_xu]
  have := l_copy (w := w) (d := d) (g := g) hm hne ha hb hN (P := xRet none (xu m r2 (iA 0 N2 (cpF f a g b)))) ⟨rfl, rfl⟩ 185 0 (by omega) (by omega)
  rw [cpK_0] at this
  exact this
theorem t_copy {i k a b N1 N2 : Nat} {f g : Nat → Int32} (hd : 1 ≤ d) (hi : tIs i = true) (hk : tIs k = true) (ti : tT i = 0) (tk : tT k = 0) (n1 : tN i = N1) (n2 : tN k = N2) (hne : i ≠ k) (ha : a + 184 ≤ N1) (hb : b + 184 ≤ N2) (hf : F i = f) (hg : F k = g) (hT : TM A rf ts ac ls rs dp F m) : CT w MX5_copyPage d 0 0 [.ref (A i), .int (nI a), .ref (A k), .int (nI b)] m (tP A m none rf ts ac ls rs dp (fset F k (cpF f a g b))) xN := by
  have hN : ∀ j, tN j ≤ 3000 := by intro j; unfold tN; split <;> exact Nat.le_of_ble_eq_true rfl
  refine CT_post (c_copy hd (tm_at i hT hi ti n1 hf) (tm_at k hT hk tk n2 hg) (fun e => hne (hT.2.2 i k (tK_is hi) (tK_is hk) e)) ha hb ⟨by rw [← n1]; exact hN i, by rw [← n2]; exact hN k⟩) ?_
  rintro v m' ⟨rfl, rfl⟩
  exact ⟨rfl, tm_xu hT hk tk n2, xo_u k (tK_is hk) (xo_rf A m)⟩
/-- the diary shifted by a page -/
def shK (D : Nat → Int32) (k : Nat) : Nat → Int32 := fun j => if j < k then D (j + 184) else D j
theorem shK_0 (D : Nat → Int32) : shK D 0 = D := by
  funext j; unfold shK; rw [if_neg (by omega)]
theorem shK_s (D : Nat → Int32) (k : Nat) : upd (shK D k) k (D (k + 184)) = shK D (k + 1) := by
  funext j
  by_cases hj : j = k
  · subst hj; rw [upd_eq]; unfold shK; rw [if_pos (by omega)]
  · rw [upd_ne hj]; unfold shK
    by_cases h1 : j < k
    · rw [if_pos h1, if_pos (by omega)]
    · rw [if_neg h1, if_neg (by omega)]
/-- the diary with a page noted -/
def noteA (n : Nat) : Nat := if n = 14 then 13 else n
def noteF (f D : Nat → Int32) (n : Nat) : Nat → Int32 := cpF f 0 (if n = 14 then shK D 2392 else D) (184 * noteA n)
theorem noteA_le {n : Nat} (h : n ≤ 14) : noteA n ≤ 13 := by unfold noteA; split <;> omega
theorem t_note {n : Nat} {f D : Nat → Int32} (hd : 2 ≤ d) (hn : n ≤ 14) (h3 : F 3 = f) (h5 : F 5 = D) (hT : TM A rf ts (nI n) ls rs dp F m) : CT w MX5_note d 0 0 [.ref (A 0)] m (tP A m none rf ts (nI (noteA n + 1)) ls rs dp (fset F 5 (noteF f D n))) xN := by
  have tail : ∀ (o1 : Option Value) (m' : XM), xc1 o1 = true → TM A rf ts (nI (noteA n)) ls rs dp (fset F 5 (if n = 14 then shK D 2392 else D)) m' → XOf A m m' → G w MX5_note (xZ w (tP A m none rf ts (nI (noteA n + 1)) ls rs dp (fset F 5 (noteF f D n))) xN) d 0 0 50 [some (.ref (A 0)), o1] [] m' := by
    intro o1 m' ho hT hO
    have := noteA_le hn
    refine g_aload_n dX5_note_50 rfl rfl rfl ?_
    refine g_get fl_X5_13_X5 dX5_note_51 rfl (Or.inl (tm_o hT)) rfl ?_
    refine g_iconst (v := (nI 0)) dX5_note_54 rfl rfl ?_
    refine g_aload_n dX5_note_55 rfl rfl rfl ?_
    refine g_get fl_X5_19_X5 dX5_note_56 rfl (Or.inl (tm_o hT)) rfl ?_
    refine g_sipush (v := (nI 184)) dX5_note_59 rfl rfl ?_
    refine g_aload_n dX5_note_62 rfl rfl rfl ?_
    refine g_get fl_X5_182_X5 dX5_note_63 rfl (Or.inl (tm_o hT)) rfl ?_
    refine g_imuln dX5_note_66 rfl ?_
    refine g_static iS_X5_copyPage q2622 (t_copy (i := 3) (k := 5) (N1 := 184) (N2 := 2576) (f := f) (d := d - 1) (by omega) rfl rfl rfl rfl rfl rfl (by decide) (by omega) (by omega) (by exact h3) rfl hT) dX5_note_67 rfl rfl rfl (by first | exact Nat.le_of_ble_eq_true rfl | simp [Value.category, rf_cat]) (by omega) (by omega) (by omega) xN_no (fun v_67 m_67 h_67 => ?_)
    obtain ⟨rfl, hT, hO2⟩ := h_67
    replace hO := xo_tr hO hO2
    refine g_aload_n dX5_note_70 rfl rfl rfl ?_
    refine g_dup dX5_note_71 rfl (by first | rfl | exact rf_cat _) ?_
    refine g_get fl_X5_182_X5 dX5_note_72 rfl (Or.inl (tm_o hT)) rfl ?_
    refine g_iconst (v := (nI 1)) dX5_note_75 rfl rfl ?_
    refine g_iaddn dX5_note_76 rfl ?_
    refine t_put6 hT hO fl_X5_182_X5 dX5_note_77 rfl (fun m_77 hT hO => ?_)
    refine g_return dX5_note_80 rfl ?_
    rw [fset_fset] at hT
    exact ⟨rfl, hT, hO⟩
  have loop : ∀ t k m', 2392 - k < t → k ≤ 2392 → n = 14 → TM A rf ts (nI n) ls rs dp (fset F 5 (shK D k)) m' → XOf A m m' → G w MX5_note (xZ w (tP A m none rf ts (nI (noteA n + 1)) ls rs dp (fset F 5 (noteF f D n))) xN) d 0 0 11 [some (.ref (A 0)), some (.int (nI k))] [] m' := by
    intro t
    induction t with
    | zero => intro k m' h; omega
    | succ t ih =>
      intro k m' h hk h14 hT hO
      have hkk : shK D k (k + 184) = D (k + 184) := by unfold shK; rw [if_neg (by omega)]
      refine g_iload_n dX5_note_11 rfl rfl rfl ?_
      refine g_sipush (v := (nI 2392)) dX5_note_12 rfl rfl ?_
      refine g_icmpn_ge (tgt := 40) dX5_note_15 (by decide) rfl (by omega) (by omega) (fun c_15 => ?_) (fun c_15 => ?_)
      · refine g_aload_n dX5_note_40 rfl rfl rfl ?_
        refine g_dup dX5_note_41 rfl (by first | rfl | exact rf_cat _) ?_
        refine g_get fl_X5_182_X5 dX5_note_42 rfl (Or.inl (tm_o hT)) rfl ?_
        refine g_iconst (v := (nI 1)) dX5_note_45 rfl rfl ?_
        refine g_isubn dX5_note_46 rfl (by omega) ?_
        refine t_put6 hT hO fl_X5_182_X5 dX5_note_47 rfl (fun m_47 hT hO => ?_)
        obtain rfl : k = 2392 := by omega
        refine tail _ _ rfl ?_ hO
        unfold noteA
        rw [if_pos h14, if_pos h14]
        rw [h14] at hT
        exact hT
      · refine g_aload_n dX5_note_18 rfl rfl rfl ?_
        refine g_get fl_X5_19_X5 dX5_note_19 rfl (Or.inl (tm_o hT)) rfl ?_
        refine g_iload_n dX5_note_22 rfl rfl rfl ?_
        refine g_aload_n dX5_note_23 rfl rfl rfl ?_
        refine g_get fl_X5_19_X5 dX5_note_24 rfl (Or.inl (tm_o hT)) rfl ?_
        refine g_iload_n dX5_note_27 rfl rfl rfl ?_
        refine g_sipush (v := (nI 184)) dX5_note_28 rfl rfl ?_
        refine g_iaddn dX5_note_31 rfl ?_
        refine t_ialdn (k := 5) (N := 2576) (f := shK D k) hT rfl rfl rfl rfl dX5_note_32 rfl (by omega) ?_
        rw [hkk]
        refine t_iastn (k := 5) (N := 2576) (f := shK D k) hT hO rfl rfl rfl rfl dX5_note_33 rfl (by omega) (fun m_33 f_33 e_33 hT hO => ?_)
        rw [fset_fset, e_33, shK_s] at hT
        refine g_incn1 dX5_note_34 rfl (by decide) (k := ?_)
        refine g_goto (tgt := 11) dX5_note_37 (by decide) ?_
        exact ih (k + 1) _ (by omega) (by omega) h14 hT hO
  have hO := xo_rf A m
  refine ct_intro (lv := [some (.ref (A 0)), none]) 1 (by decide) rfl (Nat.le_of_ble_eq_true rfl) rfl ?_
  refine g_aload_n dX5_note_0 rfl rfl rfl ?_
  refine g_get fl_X5_182_X5 dX5_note_1 rfl (Or.inl (tm_o hT)) rfl ?_
  refine g_bipush (v := (nI 14)) dX5_note_4 rfl rfl ?_
  refine g_icmpn_ne (tgt := 50) dX5_note_6 (by decide) rfl (by omega) (by omega) (fun c_6 => ?_) (fun c_6 => ?_)
  · refine tail _ _ rfl ?_ hO
    unfold noteA
    rw [if_neg c_6, if_neg c_6, ← h5, fset_self]; exact hT
  · refine g_iconst (v := (nI 0)) dX5_note_9 rfl rfl ?_
    refine g_ist1 dX5_note_10 rfl (by decide) (k := ?_)
    refine loop 2393 0 _ (by omega) (by omega) c_6 ?_ hO
    rw [shK_0, ← h5, fset_self]; exact hT
theorem t_take {n : Nat} {f g D : Nat → Int32} (hd : 3 ≤ d) (hn : n ≤ 14) (h3 : F 3 = f) (h4 : F 4 = g) (h5 : F 5 = D) (hT : TM A rf ts (nI n) ls rs dp F m) : CT w MX5_take d 0 0 [.ref (A 0)] m (tP A m none rf ts (nI (noteA n + 1)) ls rs dp (fset (fset F 5 (noteF f D n)) 3 (cpF g 0 f 0))) xN := by
  have hO := xo_rf A m
  refine ct_intro (lv := [some (.ref (A 0))]) 0 (by decide) rfl (Nat.le_of_ble_eq_true rfl) rfl ?_
  refine g_aload_n dX5_take_0 rfl rfl rfl ?_
  refine g_virtual iV_X5_note q2644 (t_note (d := d - 1) (by omega) hn h3 h5 hT) (Or.inl (tm_o hT)) rfl (by decide) dX5_take_1 rfl rfl rfl (by first | exact Nat.le_of_ble_eq_true rfl | simp [Value.category, rf_cat]) (by omega) (by omega) (by omega) xN_no (fun v_1 m_1 h_1 => ?_)
  obtain ⟨rfl, hT, hO2⟩ := h_1
  replace hO := xo_tr hO hO2
  refine g_aload_n dX5_take_4 rfl rfl rfl ?_
  refine g_get fl_X5_16_X5 dX5_take_5 rfl (Or.inl (tm_o hT)) rfl ?_
  refine g_iconst (v := (nI 0)) dX5_take_8 rfl rfl ?_
  refine g_aload_n dX5_take_9 rfl rfl rfl ?_
  refine g_get fl_X5_13_X5 dX5_take_10 rfl (Or.inl (tm_o hT)) rfl ?_
  refine g_iconst (v := (nI 0)) dX5_take_13 rfl rfl ?_
  refine g_static iS_X5_copyPage q2622 (t_copy (i := 4) (k := 3) (N1 := 184) (N2 := 184) (f := g) (g := f) (d := d - 1) (by omega) rfl rfl rfl rfl rfl rfl (by decide) (by omega) (by omega) (by exact h4) (by exact h3) hT) dX5_take_14 rfl rfl rfl (by first | exact Nat.le_of_ble_eq_true rfl | simp [Value.category, rf_cat]) (by omega) (by omega) (by omega) xN_no (fun v_14 m_14 h_14 => ?_)
  obtain ⟨rfl, hT, hO2⟩ := h_14
  replace hO := xo_tr hO hO2
  refine g_return dX5_take_17 rfl ?_
  exact ⟨rfl, hT, hO⟩
end TW7
