/-! TREES: where a row is -/
set_option maxRecDepth 100000
section WHERE
variable {w : XW} {id d : Nat} {g : XG} {m : XM} {T : XT}
theorem c_indexOf {r x sl cap : Nat} {own : Option Nat} {l1 l2 : List Nat} (hd : 4 ≤ d) (h : SM w g m id T) (hR : T.1 r = some (own, sl, cap, l1 ++ x :: l2)) (hx : x ∉ l1) : CT w MX4_indexOf d 0 0 [.ref r, .ref x] m (xRet (some (.int (nI l1.length))) m) xN := by
  obtain ⟨la, ar, bx, mc, h1, k1, hA, h3, h4, h5, hz⟩ := sm_row h hR
  have hlen := al_len hA
  refine ct_intro (lv := [some (.ref r), some (.ref x), none]) 1 (by decide) rfl (Nat.le_of_ble_eq_true rfl) rfl ?_
  have loop : ∀ (b a : List Nat), l1 = a ++ b → G w MX4_indexOf (xZ w (xRet (some (.int (nI l1.length))) m) xN) d 0 0 2 [some (.ref r), some (.ref x), some (.int (nI a.length))] [] m := by
    intro b
    induction b with
    | nil =>
      intro a ha
      rw [List.append_nil] at ha; subst ha
      first | refine g_aload_n dX4_indexOf_2 rfl rfl rfl ?_ | refine g_aload_nR dX4_indexOf_2 rfl rfl rfl ?_ | refine g_aload_nN dX4_indexOf_2 rfl rfl rfl ?_
      refine g_get fl_X4_12_X4 dX4_indexOf_3 rfl (Or.inl (by first | assumption | exact xu_eq _ _ _ | exact (xu_ne (by first | assumption | exact Ne.symm (by assumption))).trans (by first | assumption | exact xu_eq _ _ _) | exact (xu_ne (by first | assumption | exact Ne.symm (by assumption))).trans ((xu_ne (by first | assumption | exact Ne.symm (by assumption))).trans (by first | assumption | exact xu_eq _ _ _)) | exact (xu_ne (by first | assumption | exact Ne.symm (by assumption))).trans ((xu_ne (by first | assumption | exact Ne.symm (by assumption))).trans ((xu_ne (by first | assumption | exact Ne.symm (by assumption))).trans (by first | assumption | exact xu_eq _ _ _))))) rfl ?_
      refine g_iload_n dX4_indexOf_6 rfl rfl rfl ?_
      refine g_ifaceP iI_J26_get_J26 q1552 (c_get (d := d - 1) (by omega) hA (at_mid _ _ _)) (Or.inl (by first | assumption | exact xu_eq _ _ _ | exact (xu_ne (by first | assumption | exact Ne.symm (by assumption))).trans (by first | assumption | exact xu_eq _ _ _) | exact (xu_ne (by first | assumption | exact Ne.symm (by assumption))).trans ((xu_ne (by first | assumption | exact Ne.symm (by assumption))).trans (by first | assumption | exact xu_eq _ _ _)) | exact (xu_ne (by first | assumption | exact Ne.symm (by assumption))).trans ((xu_ne (by first | assumption | exact Ne.symm (by assumption))).trans ((xu_ne (by first | assumption | exact Ne.symm (by assumption))).trans (by first | assumption | exact xu_eq _ _ _))))) rfl (by decide) dX4_indexOf_7 rfl rfl rfl (by first | exact Nat.le_of_ble_eq_true rfl | simp [Value.category, rf_cat]) (by omega) xN_no ?_
      first | refine g_aload_n dX4_indexOf_12 rfl rfl rfl ?_ | refine g_aload_nR dX4_indexOf_12 rfl rfl rfl ?_ | refine g_aload_nN dX4_indexOf_12 rfl rfl rfl ?_
      refine g_acmp_eqQ (tgt := 22) dX4_indexOf_13 (by decide) rfl (fun c_13 => ?_) (fun c_13 => absurd rfl c_13)
      refine g_iload_n dX4_indexOf_22 rfl rfl rfl ?_
      exact g_ireturn dX4_indexOf_23 rfl ⟨rfl, rfl⟩
    | cons z b ih =>
      intro a ha
      have hzx : z ≠ x := by rintro rfl; exact hx (by rw [ha]; simp)
      first | refine g_aload_n dX4_indexOf_2 rfl rfl rfl ?_ | refine g_aload_nR dX4_indexOf_2 rfl rfl rfl ?_ | refine g_aload_nN dX4_indexOf_2 rfl rfl rfl ?_
      refine g_get fl_X4_12_X4 dX4_indexOf_3 rfl (Or.inl (by first | assumption | exact xu_eq _ _ _ | exact (xu_ne (by first | assumption | exact Ne.symm (by assumption))).trans (by first | assumption | exact xu_eq _ _ _) | exact (xu_ne (by first | assumption | exact Ne.symm (by assumption))).trans ((xu_ne (by first | assumption | exact Ne.symm (by assumption))).trans (by first | assumption | exact xu_eq _ _ _)) | exact (xu_ne (by first | assumption | exact Ne.symm (by assumption))).trans ((xu_ne (by first | assumption | exact Ne.symm (by assumption))).trans ((xu_ne (by first | assumption | exact Ne.symm (by assumption))).trans (by first | assumption | exact xu_eq _ _ _))))) rfl ?_
      refine g_iload_n dX4_indexOf_6 rfl rfl rfl ?_
      refine g_ifaceP iI_J26_get_J26 q1552 (c_get (d := d - 1) (by omega) hA (by rw [ha, List.append_assoc]; exact at_mid _ _ _)) (Or.inl (by first | assumption | exact xu_eq _ _ _ | exact (xu_ne (by first | assumption | exact Ne.symm (by assumption))).trans (by first | assumption | exact xu_eq _ _ _) | exact (xu_ne (by first | assumption | exact Ne.symm (by assumption))).trans ((xu_ne (by first | assumption | exact Ne.symm (by assumption))).trans (by first | assumption | exact xu_eq _ _ _)) | exact (xu_ne (by first | assumption | exact Ne.symm (by assumption))).trans ((xu_ne (by first | assumption | exact Ne.symm (by assumption))).trans ((xu_ne (by first | assumption | exact Ne.symm (by assumption))).trans (by first | assumption | exact xu_eq _ _ _))))) rfl (by decide) dX4_indexOf_7 rfl rfl rfl (by first | exact Nat.le_of_ble_eq_true rfl | simp [Value.category, rf_cat]) (by omega) xN_no ?_
      first | refine g_aload_n dX4_indexOf_12 rfl rfl rfl ?_ | refine g_aload_nR dX4_indexOf_12 rfl rfl rfl ?_ | refine g_aload_nN dX4_indexOf_12 rfl rfl rfl ?_
      refine g_acmp_eqQ (tgt := 22) dX4_indexOf_13 (by decide) rfl (fun c_13 => absurd c_13 hzx) (fun c_13 => ?_)
      refine g_incn2 dX4_indexOf_16 rfl (by decide) (k := ?_)
      refine g_goto (tgt := 2) dX4_indexOf_19 (by decide) ?_
      rw [show a.length + 1 = (a ++ [z]).length from by simp]
      exact ih (a ++ [z]) (by rw [ha]; simp)
  refine g_iconst (v := (nI 0)) dX4_indexOf_0 rfl rfl ?_
  refine g_ist2 dX4_indexOf_1 rfl (by decide) (k := ?_)
  exact loop l1 [] rfl
/-- a slot of a structure, and the row in which the structure is -/
theorem rc_own {top r : Nat} {P Q U M1 M2 V : List XE} {S : XK} (hT : DT T top (P ++ Q)) (h : SM w g m id T) (hR : RC T top P Q r S U M1 M2 V) :
    (S = [] ∧ r = top ∧ U = [] ∧ V = []) ∨ ∃ (gg : Nat × Option Nat) (S' : XK) (k i o p sl cap : Nat) (X1 A B V' : List XE) (sa : Nat) (bx : Option Nat) (f : Nat → Option Nat) (rs rd : Nat), S = gg :: S' ∧ scn [(top, none)] X1 = some (gg :: S') ∧ P ++ Q = X1 ++ (sI k i gg.1 o p A B ++ V') ∧ Bd o A ∧ (k = 1 → Bd p B) ∧ HO top X1 V' gg.1 gg.2 S' ∧
      T.1 r = some (some i, sl, cap, drs r (M1 ++ M2)) ∧ m i = some (.inr (7, [va_rf (some gg.1), .int (nI k), .ref sa, .int (nI rs), .int (nI rd), va_rf bx])) ∧ m sa = some (rA 6 (if k = 1 then 2 else 1) f) ∧ f 0 = some o ∧ (k = 1 → f 1 = some p) ∧ DT T o A ∧ (k = 1 → DT T p B) ∧ drs gg.1 (P ++ Q) = drs gg.1 X1 ++ i :: drs gg.1 V' ∧ T.2.1 i = some (.inr (k, o, p, rs, rd)) ∧ 1 ≤ k ∧ k < 6 ∧
      ((sl = 0 ∧ r = o ∧ A = M1 ++ M2 ∧ U = X1 ++ [eB k i gg.1 o p] ∧ V = (if k = 1 then eD :: B else []) ++ eN :: V') ∨ (sl = 1 ∧ k = 1 ∧ r = p ∧ B = M1 ++ M2 ∧ U = X1 ++ eB k i gg.1 o p :: (A ++ [eD]) ∧ V = eN :: V')) := by
  rcases hR with hR | ⟨gg, S', k, i, o, p, X1, A, B, V', rfl, a1, a2, a3, a4, a5, a6⟩
  · exact Or.inl hR
  · right
    have hT2 := hT; rw [a5] at hT2
    obtain ⟨e1, e2, eA, eB', ⟨rs, rd, e3⟩, e4, ⟨ca, e5⟩, e6⟩ := dt_strH hT2 a2 a3 a4
    obtain ⟨sa, bx2, f, hx1, hsa, hfp, hfq, -, -, hk1, hk2, -⟩ := sm_str h e3
    rw [e4] at hx1
    rw [← a5] at e1
    rcases a6 with ⟨rfl, b2, b3, b4⟩ | ⟨b0, rfl, b2, b3, b4⟩
    · exact ⟨gg, S', k, i, _, p, 0, ca, X1, A, B, V', sa, bx2, f, rs, rd, rfl, a1, a5, a3, a4, a2, by rw [← b2]; exact e5, hx1, hsa, hfp, hfq, eA, eB', e1, e3, hk1, hk2, Or.inl ⟨rfl, rfl, b2, b3, b4⟩⟩
    · obtain ⟨-, cb, e7⟩ := e6 b0
      exact ⟨gg, S', k, i, o, _, 1, cb, X1, A, B, V', sa, bx2, f, rs, rd, rfl, a1, a5, a3, a4, a2, by rw [← b2]; exact e7, hx1, hsa, hfp, hfq, eA, eB', e1, e3, hk1, hk2, Or.inr ⟨rfl, b0, rfl, b2, b3, b4⟩⟩
/-- level() of a row -/
theorem c_level (h : SM w g m id T) {top cap0 sl0 : Nat} {is0 : List Nat} (h0 : T.1 top = some (none, sl0, cap0, is0)) : ∀ (n : Nat) (P Q : List XE) (r : Nat) (q : Option Nat) (S : XK), S.length ≤ n → DT T top (P ++ Q) → scn [(top, none)] P = some ((r, q) :: S) → ∀ d, 1 + S.length ≤ d → CT w MX4_level d 0 0 [.ref r] m (xRet (some (.int (nI S.length))) m) xN := by
  intro n
  induction n with
  | zero =>
    intro P Q r q S hS hT hP d hd
    obtain rfl : S = [] := List.eq_nil_of_length_eq_zero (by omega)
    obtain ⟨rfl, rfl, -⟩ := bd_whole hP
    obtain ⟨la, ar, bx, mc, h1, -⟩ := sm_row h h0
    refine ct_intro (lv := [some (.ref r)]) 0 (by decide) rfl (Nat.le_of_ble_eq_true rfl) rfl ?_
    first | refine g_aload_n dX4_level_0 rfl rfl rfl ?_ | refine g_aload_nR dX4_level_0 rfl rfl rfl ?_ | refine g_aload_nN dX4_level_0 rfl rfl rfl ?_
    refine g_get fl_X4_56_X4 dX4_level_1 rfl (Or.inl (by first | assumption | exact xu_eq _ _ _ | exact (xu_ne (by first | assumption | exact Ne.symm (by assumption))).trans (by first | assumption | exact xu_eq _ _ _) | exact (xu_ne (by first | assumption | exact Ne.symm (by assumption))).trans ((xu_ne (by first | assumption | exact Ne.symm (by assumption))).trans (by first | assumption | exact xu_eq _ _ _)) | exact (xu_ne (by first | assumption | exact Ne.symm (by assumption))).trans ((xu_ne (by first | assumption | exact Ne.symm (by assumption))).trans ((xu_ne (by first | assumption | exact Ne.symm (by assumption))).trans (by first | assumption | exact xu_eq _ _ _))))) rfl ?_
    refine g_ifnonnullN dX4_level_4 rfl ?_
    refine g_iconst (v := (nI 0)) dX4_level_7 rfl rfl ?_
    refine g_goto (tgt := 23) dX4_level_8 (by decide) ?_
    refine g_ireturn dX4_level_23 rfl ?_
    exact ⟨by first | rfl | simp [*], rfl⟩
  | succ n ih =>
    intro P Q r q S hS hT hP d hd
    obtain ⟨U, M1, M2, V, -, -, -, -, -, hRC, -, -⟩ := rc_of hT hP
    rcases rc_own hT h hRC with ⟨rfl, rfl, -, -⟩ | ⟨gg, S', k, i, o, p, sl, cap, X1, A, B, V', sa, bx, f, rs, rd, rfl, a1, a2, -, -, -, a3, a4, a5, a6, a7, a8, a9, a10, -⟩
    · obtain ⟨la, ar, bx, mc, h1, -⟩ := sm_row h h0
      refine ct_intro (lv := [some (.ref r)]) 0 (by decide) rfl (Nat.le_of_ble_eq_true rfl) rfl ?_
      first | refine g_aload_n dX4_level_0 rfl rfl rfl ?_ | refine g_aload_nR dX4_level_0 rfl rfl rfl ?_ | refine g_aload_nN dX4_level_0 rfl rfl rfl ?_
      refine g_get fl_X4_56_X4 dX4_level_1 rfl (Or.inl (by first | assumption | exact xu_eq _ _ _ | exact (xu_ne (by first | assumption | exact Ne.symm (by assumption))).trans (by first | assumption | exact xu_eq _ _ _) | exact (xu_ne (by first | assumption | exact Ne.symm (by assumption))).trans ((xu_ne (by first | assumption | exact Ne.symm (by assumption))).trans (by first | assumption | exact xu_eq _ _ _)) | exact (xu_ne (by first | assumption | exact Ne.symm (by assumption))).trans ((xu_ne (by first | assumption | exact Ne.symm (by assumption))).trans ((xu_ne (by first | assumption | exact Ne.symm (by assumption))).trans (by first | assumption | exact xu_eq _ _ _))))) rfl ?_
      refine g_ifnonnullN dX4_level_4 rfl ?_
      refine g_iconst (v := (nI 0)) dX4_level_7 rfl rfl ?_
      refine g_goto (tgt := 23) dX4_level_8 (by decide) ?_
      refine g_ireturn dX4_level_23 rfl ?_
      exact ⟨by first | rfl | simp [*], rfl⟩
    · obtain ⟨la, ar, bx2, mc, h1, -⟩ := sm_row h a3
      simp only [List.length_cons] at hS hd ⊢
      have hT2 := hT; rw [a2] at hT2
      have hg0 := h.1
      have hgr : ∃ fo, m gg.1 = some (.inr (3, fo)) := by
        have := ih X1 (sI k i gg.1 o p A B ++ V') gg.1 gg.2 S' (by omega) hT2 a1
        obtain ⟨U2, M12, M22, V2, -, -, -, -, -, -, hD2, -⟩ := rc_of (r := gg.1) (q := gg.2) (S := S') hT2 a1
        obtain ⟨ow, s2, c2, e2⟩ := dt_row hD2
        obtain ⟨la2, ar2, bx3, mc2, h12, -⟩ := sm_row h e2
        exact ⟨_, h12⟩
      obtain ⟨fo, hgr⟩ := hgr
      refine ct_intro (lv := [some (.ref r)]) 0 (by decide) rfl (Nat.le_of_ble_eq_true rfl) rfl ?_
      first | refine g_aload_n dX4_level_0 rfl rfl rfl ?_ | refine g_aload_nR dX4_level_0 rfl rfl rfl ?_ | refine g_aload_nN dX4_level_0 rfl rfl rfl ?_
      refine g_get fl_X4_56_X4 dX4_level_1 rfl (Or.inl (by first | assumption | exact xu_eq _ _ _ | exact (xu_ne (by first | assumption | exact Ne.symm (by assumption))).trans (by first | assumption | exact xu_eq _ _ _) | exact (xu_ne (by first | assumption | exact Ne.symm (by assumption))).trans ((xu_ne (by first | assumption | exact Ne.symm (by assumption))).trans (by first | assumption | exact xu_eq _ _ _)) | exact (xu_ne (by first | assumption | exact Ne.symm (by assumption))).trans ((xu_ne (by first | assumption | exact Ne.symm (by assumption))).trans ((xu_ne (by first | assumption | exact Ne.symm (by assumption))).trans (by first | assumption | exact xu_eq _ _ _))))) rfl ?_
      refine g_ifnonnull (tgt := 11) dX4_level_4 (by decide) ?_
      refine g_iconst (v := (nI 1)) dX4_level_11 rfl rfl ?_
      first | refine g_aload_n dX4_level_12 rfl rfl rfl ?_ | refine g_aload_nR dX4_level_12 rfl rfl rfl ?_ | refine g_aload_nN dX4_level_12 rfl rfl rfl ?_
      refine g_get fl_X4_56_X4 dX4_level_13 rfl (Or.inl (by first | assumption | exact xu_eq _ _ _ | exact (xu_ne (by first | assumption | exact Ne.symm (by assumption))).trans (by first | assumption | exact xu_eq _ _ _) | exact (xu_ne (by first | assumption | exact Ne.symm (by assumption))).trans ((xu_ne (by first | assumption | exact Ne.symm (by assumption))).trans (by first | assumption | exact xu_eq _ _ _)) | exact (xu_ne (by first | assumption | exact Ne.symm (by assumption))).trans ((xu_ne (by first | assumption | exact Ne.symm (by assumption))).trans ((xu_ne (by first | assumption | exact Ne.symm (by assumption))).trans (by first | assumption | exact xu_eq _ _ _))))) rfl ?_
      refine g_get fl_X4_60_X9 dX4_level_16 rfl (Or.inl (by first | assumption | exact xu_eq _ _ _ | exact (xu_ne (by first | assumption | exact Ne.symm (by assumption))).trans (by first | assumption | exact xu_eq _ _ _) | exact (xu_ne (by first | assumption | exact Ne.symm (by assumption))).trans ((xu_ne (by first | assumption | exact Ne.symm (by assumption))).trans (by first | assumption | exact xu_eq _ _ _)) | exact (xu_ne (by first | assumption | exact Ne.symm (by assumption))).trans ((xu_ne (by first | assumption | exact Ne.symm (by assumption))).trans ((xu_ne (by first | assumption | exact Ne.symm (by assumption))).trans (by first | assumption | exact xu_eq _ _ _))))) rfl ?_
      refine g_virtualP iV_X4_level q2009 (ih X1 (sI k i gg.1 o p A B ++ V') gg.1 gg.2 S' (by omega) hT2 a1 (d - 1) (by omega)) (Or.inl (by first | assumption | exact xu_eq _ _ _ | exact (xu_ne (by first | assumption | exact Ne.symm (by assumption))).trans (by first | assumption | exact xu_eq _ _ _) | exact (xu_ne (by first | assumption | exact Ne.symm (by assumption))).trans ((xu_ne (by first | assumption | exact Ne.symm (by assumption))).trans (by first | assumption | exact xu_eq _ _ _)) | exact (xu_ne (by first | assumption | exact Ne.symm (by assumption))).trans ((xu_ne (by first | assumption | exact Ne.symm (by assumption))).trans ((xu_ne (by first | assumption | exact Ne.symm (by assumption))).trans (by first | assumption | exact xu_eq _ _ _))))) rfl (by decide) dX4_level_19 rfl rfl rfl (by first | exact Nat.le_of_ble_eq_true rfl | simp [Value.category, rf_cat]) (by omega) xN_no ?_
      refine g_iaddn dX4_level_22 rfl ?_
      exact g_ireturn dX4_level_23 rfl ⟨by rw [Nat.add_comm], rfl⟩
end WHERE
