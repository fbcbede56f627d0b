/-! TREES: the number of a place -/
set_option maxRecDepth 100000
theorem dpF_mx : ∀ (M : List XE) (c mx : Nat), mx ≤ dpF c mx M := by
  intro M
  induction M with
  | nil => intro c mx; exact Nat.le_refl _
  | cons x M ih =>
    intro c mx
    obtain ⟨c', i, r'⟩ | ⟨k, i, r', o, p⟩ | b := x
    · exact ih c mx
    · exact Nat.le_trans (Nat.le_max_left _ _) (ih (c + 1) _)
    · cases b with
      | false => exact ih c mx
      | true => exact ih (c - 1) mx
theorem dpF_app : ∀ (X : List XE) (c mx : Nat), ∃ c' mx', ∀ Z, dpF c mx (X ++ Z) = dpF c' mx' Z := by
  intro X
  induction X with
  | nil => intro c mx; exact ⟨c, mx, fun Z => rfl⟩
  | cons x X ih =>
    intro c mx
    obtain ⟨c', i, r'⟩ | ⟨k, i, r', o, p⟩ | b := x
    · exact ih c mx
    · exact ih (c + 1) _
    · cases b with
      | false => exact ih c mx
      | true => exact ih (c - 1) mx
/-- no part is deeper than the whole -/
theorem hts_in {r : Nat} {M : List XE} (X Y : List XE) (h : Bd r M) : hts M ≤ hts (X ++ (M ++ Y)) := by
  obtain ⟨c', mx', e⟩ := dpF_app X 0 0
  show _ ≤ dpF 0 0 (X ++ (M ++ Y))
  rw [e, dpF_bd r M h]
  refine Nat.le_trans ?_ (dpF_mx Y c' _)
  split <;> omega
theorem drs_itm {s z : Nat} {X : List XE} (h : z ∈ drs s X) : z ∈ itm X := by
  induction X with
  | nil => simp [drs] at h
  | cons x X ih =>
    obtain ⟨c', i, r'⟩ | ⟨k, i, r', o, p⟩ | b := x
    · simp only [drs] at h
      simp only [itm, List.mem_cons]
      by_cases e : r' = s
      · rw [if_pos e] at h
        rcases List.mem_cons.mp h with h | h
        · exact Or.inl h
        · exact Or.inr (ih h)
      · rw [if_neg e] at h; exact Or.inr (ih h)
    · simp only [drs] at h
      simp only [itm, List.mem_cons]
      by_cases e : r' = s
      · rw [if_pos e] at h
        rcases List.mem_cons.mp h with h | h
        · exact Or.inl h
        · exact Or.inr (ih h)
      · rw [if_neg e] at h; exact Or.inr (ih h)
    · exact ih h
theorem itm_no {s k i r o p : Nat} {A B X Y : List XE} (h : (itm (X ++ (sI k i r o p A B ++ Y))).Nodup) : i ∉ drs s X := by
  intro hm
  rw [itm_app, itm_app, itm_sI, List.nodup_append] at h
  exact h.2.2 i (drs_itm hm) i (by simp) rfl
section PLACE
variable {w : XW} {id d : Nat} {g : XG} {m : XM} {T : XT}
theorem l_placeloop (h : SM w g m id T) {r pl : Nat} {M1 M2 : List XE} (hT : DT T r (M1 ++ M2)) (h1 : Bd r M1) (h2 : Bd r M2) (hLL : (M1 ++ M2).length < 2 ^ 30) (hd : 4 + 2 * hts (M1 ++ M2) ≤ d) : G w MX4_place (xZ w (xRet (some (.int (nI (pl + M1.length)))) m) xN) d 0 0 76 [some (.ref r), some (.int (nI (drs r M1).length)), some (.int (nI pl)), none] [] m := by
  obtain ⟨own, sl, cap, hR⟩ := dt_row hT
  obtain ⟨la, ar, bx, mc, hr1, k1, hA, h3, h4, h5, hz⟩ := sm_row h hR
  have hlen := al_len hA
  have hdl : (drs r (M1 ++ M2)).length = (drs r M1).length + (drs r M2).length := by rw [drs_app]; simp
  have loop : ∀ (l : Nat) (N2 : List XE), N2.length ≤ l → ∀ (N1 : List XE) (s : Nat), M1 = N1 ++ N2 → Bd r N1 → Bd r N2 → s + N2.length = pl + M1.length → G w MX4_place (xZ w (xRet (some (.int (nI (pl + M1.length)))) m) xN) d 0 0 78 [some (.ref r), some (.int (nI (drs r M1).length)), some (.int (nI s)), some (.int (nI (drs r N1).length))] [] m := by
    intro l
    induction l with
    | zero =>
      intro N2 hl N1 s hNe hN1 hN2 hs
      obtain rfl : N2 = [] := List.eq_nil_of_length_eq_zero (by omega)
      rw [List.append_nil] at hNe; subst hNe
      refine g_iload_n dX4_place_78 rfl rfl rfl ?_
      refine g_iload_n dX4_place_79 rfl rfl rfl ?_
      refine g_icmpn_ge (tgt := 110) dX4_place_80 (by decide) rfl (by omega) (by omega) (fun c_80 => ?_) (fun c_80 => by omega)
      refine g_iload_n dX4_place_110 rfl rfl rfl ?_
      exact g_ireturn dX4_place_111 rfl ⟨by rw [← hs]; rfl, rfl⟩
    | succ l il =>
      intro N2 hl N1 s hNe hN1 hN2 hs
      rcases bd_cases hN2 with rfl | ⟨c, x, N3, rfl, hb⟩ | ⟨k, x, o, p, A, B, N3, rfl, hbA, hbB, hb⟩
      · rw [List.append_nil] at hNe; subst hNe
        refine g_iload_n dX4_place_78 rfl rfl rfl ?_
        refine g_iload_n dX4_place_79 rfl rfl rfl ?_
        refine g_icmpn_ge (tgt := 110) dX4_place_80 (by decide) rfl (by omega) (by omega) (fun c_80 => ?_) (fun c_80 => by omega)
        refine g_iload_n dX4_place_110 rfl rfl rfl ?_
        exact g_ireturn dX4_place_111 rfl ⟨by rw [← hs]; rfl, rfl⟩
      · have hMe2 : M1 ++ M2 = N1 ++ eS c x r :: (N3 ++ M2) := by rw [hNe]; simp
        obtain ⟨e1, e2, e3, e4, hx1, hcc, hci⟩ := dt_C h hT hMe2
        have hln : (drs r M1).length = (drs r N1).length + ((drs r N3).length + 1) := by rw [hNe, drs_app, drs_sS]; simp
        rw [List.length_cons] at hs hl
        refine g_iload_n dX4_place_78 rfl rfl rfl ?_
        refine g_iload_n dX4_place_79 rfl rfl rfl ?_
        refine g_icmpn_ge (tgt := 110) dX4_place_80 (by decide) rfl (by omega) (by omega) (fun c_80 => by omega) (fun c_80 => ?_)
        refine g_iload_n dX4_place_83 rfl rfl rfl ?_
        refine g_iconst (v := (nI 1)) dX4_place_84 rfl rfl ?_
        first | refine g_aload_n dX4_place_85 rfl rfl rfl ?_ | refine g_aload_nR dX4_place_85 rfl rfl rfl ?_ | refine g_aload_nN dX4_place_85 rfl rfl rfl ?_
        refine g_get fl_X4_12_X4 dX4_place_86 rfl (Or.inl (by first | assumption | exact xu_eq _ _ _ | exact (xu_ne (by first | assumption | exact Ne.symm (by assumption))).trans (by first | assumption | exact xu_eq _ _ _) | exact (xu_ne (by first | assumption | exact Ne.symm (by assumption))).trans ((xu_ne (by first | assumption | exact Ne.symm (by assumption))).trans (by first | assumption | exact xu_eq _ _ _)) | exact (xu_ne (by first | assumption | exact Ne.symm (by assumption))).trans ((xu_ne (by first | assumption | exact Ne.symm (by assumption))).trans ((xu_ne (by first | assumption | exact Ne.symm (by assumption))).trans (by first | assumption | exact xu_eq _ _ _))))) rfl ?_
        refine g_iload_n dX4_place_89 rfl rfl rfl ?_
        refine g_ifaceP iI_J26_get_J26 q1552 (c_get (d := d - 1) (by omega) hA e1) (Or.inl (by first | assumption | exact xu_eq _ _ _ | exact (xu_ne (by first | assumption | exact Ne.symm (by assumption))).trans (by first | assumption | exact xu_eq _ _ _) | exact (xu_ne (by first | assumption | exact Ne.symm (by assumption))).trans ((xu_ne (by first | assumption | exact Ne.symm (by assumption))).trans (by first | assumption | exact xu_eq _ _ _)) | exact (xu_ne (by first | assumption | exact Ne.symm (by assumption))).trans ((xu_ne (by first | assumption | exact Ne.symm (by assumption))).trans ((xu_ne (by first | assumption | exact Ne.symm (by assumption))).trans (by first | assumption | exact xu_eq _ _ _))))) rfl (by decide) dX4_place_90 rfl rfl rfl (by first | exact Nat.le_of_ble_eq_true rfl | simp [Value.category, rf_cat]) (by omega) xN_no ?_
        refine g_castI q1473 dX4_place_95 rfl (by assumption) ?_
        refine g_staticP iS_X4_placesIn q1855 (c_pinC (d := d - 1) (by omega) hx1) dX4_place_98 rfl rfl rfl (by first | exact Nat.le_of_ble_eq_true rfl | simp [Value.category, rf_cat]) (by omega) xN_no ?_
        refine g_iaddn dX4_place_101 rfl ?_
        refine g_iaddn dX4_place_102 rfl ?_
        refine g_ist2 dX4_place_103 rfl (by decide) (k := ?_)
        refine g_incn3 dX4_place_104 rfl (by decide) (k := ?_)
        refine g_goto (tgt := 78) dX4_place_107 (by decide) ?_
        have := il N3 (by omega) (N1 ++ [eS c x r]) (s + (1 + 0)) (by rw [hNe]; simp) (bd_app hN1 (bd_sym c x (bd_nil r))) hb (by omega)
        rw [drs_app, drs_sS] at this
        simp only [drs, List.length_append, List.length_cons, List.length_nil] at this
        exact this
      · have hMe2 : M1 ++ M2 = N1 ++ (sI k x r o p A B ++ (N3 ++ M2)) := by rw [hNe]; simp
        obtain ⟨e1, e2, e3, -⟩ := dt_S h hT hMe2 hN1 hbA hbB (bd_app hb h2)
        obtain ⟨-, -, -, -, -, -, -, -, -, -, e7, hci⟩ := dt_S h hT hMe2 hN1 hbA hbB (bd_app hb h2)
        have hcS := c_pinS (d := d - 1) h hT hMe2 hN1 hbA hbB (bd_app hb h2) hLL (by omega)
        have hln : (drs r M1).length = (drs r N1).length + ((drs r N3).length + 1) := by rw [hNe, drs_app, drs_app, e3]; simp
        have hls := sI_len k x r o p A B
        rw [List.length_append] at hs
        have hlN : N3.length ≤ l := by rw [List.length_append, sI_len] at hl; omega
        have hls2 : (sI k x r o p A B).length = 1 + (A.length + 1 + if k = 1 then B.length + 1 else 0) := by rw [hls]; omega
        rw [hls2] at hs
        generalize hu : A.length + 1 + (if k = 1 then B.length + 1 else 0) = u at *
        clear hls hls2 hl
        refine g_iload_n dX4_place_78 rfl rfl rfl ?_
        refine g_iload_n dX4_place_79 rfl rfl rfl ?_
        refine g_icmpn_ge (tgt := 110) dX4_place_80 (by decide) rfl (by omega) (by omega) (fun c_80 => by omega) (fun c_80 => ?_)
        refine g_iload_n dX4_place_83 rfl rfl rfl ?_
        refine g_iconst (v := (nI 1)) dX4_place_84 rfl rfl ?_
        first | refine g_aload_n dX4_place_85 rfl rfl rfl ?_ | refine g_aload_nR dX4_place_85 rfl rfl rfl ?_ | refine g_aload_nN dX4_place_85 rfl rfl rfl ?_
        refine g_get fl_X4_12_X4 dX4_place_86 rfl (Or.inl (by first | assumption | exact xu_eq _ _ _ | exact (xu_ne (by first | assumption | exact Ne.symm (by assumption))).trans (by first | assumption | exact xu_eq _ _ _) | exact (xu_ne (by first | assumption | exact Ne.symm (by assumption))).trans ((xu_ne (by first | assumption | exact Ne.symm (by assumption))).trans (by first | assumption | exact xu_eq _ _ _)) | exact (xu_ne (by first | assumption | exact Ne.symm (by assumption))).trans ((xu_ne (by first | assumption | exact Ne.symm (by assumption))).trans ((xu_ne (by first | assumption | exact Ne.symm (by assumption))).trans (by first | assumption | exact xu_eq _ _ _))))) rfl ?_
        refine g_iload_n dX4_place_89 rfl rfl rfl ?_
        refine g_ifaceP iI_J26_get_J26 q1552 (c_get (d := d - 1) (by omega) hA e1) (Or.inl (by first | assumption | exact xu_eq _ _ _ | exact (xu_ne (by first | assumption | exact Ne.symm (by assumption))).trans (by first | assumption | exact xu_eq _ _ _) | exact (xu_ne (by first | assumption | exact Ne.symm (by assumption))).trans ((xu_ne (by first | assumption | exact Ne.symm (by assumption))).trans (by first | assumption | exact xu_eq _ _ _)) | exact (xu_ne (by first | assumption | exact Ne.symm (by assumption))).trans ((xu_ne (by first | assumption | exact Ne.symm (by assumption))).trans ((xu_ne (by first | assumption | exact Ne.symm (by assumption))).trans (by first | assumption | exact xu_eq _ _ _))))) rfl (by decide) dX4_place_90 rfl rfl rfl (by first | exact Nat.le_of_ble_eq_true rfl | simp [Value.category, rf_cat]) (by omega) xN_no ?_
        refine g_castI q1473 dX4_place_95 rfl (by assumption) ?_
        refine g_staticP iS_X4_placesIn q1855 (hcS) dX4_place_98 rfl rfl rfl (by first | exact Nat.le_of_ble_eq_true rfl | simp [Value.category, rf_cat]) (by omega) xN_no ?_
        refine g_iaddn dX4_place_101 rfl ?_
        refine g_iaddn dX4_place_102 rfl ?_
        refine g_ist2 dX4_place_103 rfl (by decide) (k := ?_)
        refine g_incn3 dX4_place_104 rfl (by decide) (k := ?_)
        refine g_goto (tgt := 78) dX4_place_107 (by decide) ?_
        have := il N3 hlN (N1 ++ sI k x r o p A B) (s + (1 + u)) (by rw [hNe]; simp) (bd_app hN1 (bd_sI hbA hbB)) hb (by omega)
        rw [drs_app, e3] at this
        simp only [List.length_append, List.length_cons, List.length_nil] at this
        exact this
  refine g_iconst (v := (nI 0)) dX4_place_76 rfl rfl ?_
  refine g_ist3 dX4_place_77 rfl (by decide) (k := ?_)
  exact loop M1.length M1 (Nat.le_refl _) [] pl rfl (bd_nil r) h1 rfl
/-- place(index) of a row: the gap's number -/
theorem c_place (h : SM w g m id T) {top cap0 sl0 : Nat} {is0 : List Nat} (h0 : T.1 top = some (none, sl0, cap0, is0)) : ∀ (n : Nat) (P Q : List XE) (r : Nat) (q : Option Nat) (S : XK), S.length ≤ n → DT T top (P ++ Q) → (P ++ Q).length < 2 ^ 30 → scn [(top, none)] P = some ((r, q) :: S) → ∀ d i, i = (drs r P).length → 5 + 2 * hts (P ++ Q) + S.length ≤ d → CT w MX4_place d 0 0 [.ref r, .int (nI i)] m (xRet (some (.int (nI P.length))) m) xN := by
  intro n
  induction n with
  | zero =>
    intro P Q r q S hS hT hLL hP d i hi hd
    subst hi
    obtain rfl : S = [] := List.eq_nil_of_length_eq_zero (by omega)
    obtain ⟨rfl, rfl, hbP⟩ := bd_whole hP
    have hbQ : Bd r Q := by
      have := hT.1; unfold Bd at this; rw [scn_app' _ hP] at this; exact this
    obtain ⟨la, ar, bx, mc, h1, -⟩ := sm_row h h0
    refine ct_intro (lv := [some (.ref r), some (.int (nI (drs r P).length)), none, none]) 2 (by decide) rfl (Nat.le_of_ble_eq_true rfl) rfl ?_
    first | refine g_aload_n dX4_place_0 rfl rfl rfl ?_ | refine g_aload_nR dX4_place_0 rfl rfl rfl ?_ | refine g_aload_nN dX4_place_0 rfl rfl rfl ?_
    refine g_get fl_X4_56_X4 dX4_place_1 rfl (Or.inl (by first | assumption | exact xu_eq _ _ _ | exact (xu_ne (by first | assumption | exact Ne.symm (by assumption))).trans (by first | assumption | exact xu_eq _ _ _) | exact (xu_ne (by first | assumption | exact Ne.symm (by assumption))).trans ((xu_ne (by first | assumption | exact Ne.symm (by assumption))).trans (by first | assumption | exact xu_eq _ _ _)) | exact (xu_ne (by first | assumption | exact Ne.symm (by assumption))).trans ((xu_ne (by first | assumption | exact Ne.symm (by assumption))).trans ((xu_ne (by first | assumption | exact Ne.symm (by assumption))).trans (by first | assumption | exact xu_eq _ _ _))))) rfl ?_
    refine g_ifnonnullN dX4_place_4 rfl ?_
    refine g_iconst (v := (nI 0)) dX4_place_7 rfl rfl ?_
    refine g_goto (tgt := 37) dX4_place_8 (by decide) ?_
    refine g_ist2 dX4_place_37 rfl (by decide) (k := ?_)
    refine g_iconst (v := (nI 0)) dX4_place_38 rfl rfl ?_
    refine g_ist3 dX4_place_39 rfl (by decide) (k := ?_)
    first | refine g_aload_n dX4_place_40 rfl rfl rfl ?_ | refine g_aload_nR dX4_place_40 rfl rfl rfl ?_ | refine g_aload_nN dX4_place_40 rfl rfl rfl ?_
    refine g_get fl_X4_56_X4 dX4_place_41 rfl (Or.inl (by first | assumption | exact xu_eq _ _ _ | exact (xu_ne (by first | assumption | exact Ne.symm (by assumption))).trans (by first | assumption | exact xu_eq _ _ _) | exact (xu_ne (by first | assumption | exact Ne.symm (by assumption))).trans ((xu_ne (by first | assumption | exact Ne.symm (by assumption))).trans (by first | assumption | exact xu_eq _ _ _)) | exact (xu_ne (by first | assumption | exact Ne.symm (by assumption))).trans ((xu_ne (by first | assumption | exact Ne.symm (by assumption))).trans ((xu_ne (by first | assumption | exact Ne.symm (by assumption))).trans (by first | assumption | exact xu_eq _ _ _))))) rfl ?_
    refine g_ifnullN (tgt := 76) dX4_place_44 (by decide) ?_
    refine g_fg [some (.ref r), some (.int (nI (drs r P).length)), some (.int (nI 0)), none] ⟨rfl, rfl, rfl, trivial⟩ ?_
    have := l_placeloop (pl := 0) (d := d) h hT hbP hbQ hLL (by omega)
    rw [Nat.zero_add] at this
    exact this
  | succ n ih =>
    intro P Q r q S hS hT hLL hP d i hi hd
    subst hi
    obtain ⟨U, M1, M2, V, hPU, hQV, hb1, hb2, hH, hRC, hD, hu0, hv0, hdr⟩ := rc_of hT hP
    rcases rc_own hT h hRC with ⟨rfl, rfl, rfl, rfl⟩ | ⟨gg, S', k, i, o, p, sl, cap, X1, A, B, V', sa, bx, f, rs, rd, rfl, a1, a2, bA, bB, hH1, a3, a4, a5, a6, a7, a8, a9, a10, -, hk1, hk2, a11⟩
    · obtain ⟨la, ar, bx, mc, h1, -⟩ := sm_row h h0
      rw [List.nil_append] at hPU; subst hPU
      rw [List.append_nil] at hQV; subst hQV
      refine ct_intro (lv := [some (.ref r), some (.int (nI (drs r P).length)), none, none]) 2 (by decide) rfl (Nat.le_of_ble_eq_true rfl) rfl ?_
      first | refine g_aload_n dX4_place_0 rfl rfl rfl ?_ | refine g_aload_nR dX4_place_0 rfl rfl rfl ?_ | refine g_aload_nN dX4_place_0 rfl rfl rfl ?_
      refine g_get fl_X4_56_X4 dX4_place_1 rfl (Or.inl (by first | assumption | exact xu_eq _ _ _ | exact (xu_ne (by first | assumption | exact Ne.symm (by assumption))).trans (by first | assumption | exact xu_eq _ _ _) | exact (xu_ne (by first | assumption | exact Ne.symm (by assumption))).trans ((xu_ne (by first | assumption | exact Ne.symm (by assumption))).trans (by first | assumption | exact xu_eq _ _ _)) | exact (xu_ne (by first | assumption | exact Ne.symm (by assumption))).trans ((xu_ne (by first | assumption | exact Ne.symm (by assumption))).trans ((xu_ne (by first | assumption | exact Ne.symm (by assumption))).trans (by first | assumption | exact xu_eq _ _ _))))) rfl ?_
      refine g_ifnonnullN dX4_place_4 rfl ?_
      refine g_iconst (v := (nI 0)) dX4_place_7 rfl rfl ?_
      refine g_goto (tgt := 37) dX4_place_8 (by decide) ?_
      refine g_ist2 dX4_place_37 rfl (by decide) (k := ?_)
      refine g_iconst (v := (nI 0)) dX4_place_38 rfl rfl ?_
      refine g_ist3 dX4_place_39 rfl (by decide) (k := ?_)
      first | refine g_aload_n dX4_place_40 rfl rfl rfl ?_ | refine g_aload_nR dX4_place_40 rfl rfl rfl ?_ | refine g_aload_nN dX4_place_40 rfl rfl rfl ?_
      refine g_get fl_X4_56_X4 dX4_place_41 rfl (Or.inl (by first | assumption | exact xu_eq _ _ _ | exact (xu_ne (by first | assumption | exact Ne.symm (by assumption))).trans (by first | assumption | exact xu_eq _ _ _) | exact (xu_ne (by first | assumption | exact Ne.symm (by assumption))).trans ((xu_ne (by first | assumption | exact Ne.symm (by assumption))).trans (by first | assumption | exact xu_eq _ _ _)) | exact (xu_ne (by first | assumption | exact Ne.symm (by assumption))).trans ((xu_ne (by first | assumption | exact Ne.symm (by assumption))).trans ((xu_ne (by first | assumption | exact Ne.symm (by assumption))).trans (by first | assumption | exact xu_eq _ _ _))))) rfl ?_
      refine g_ifnullN (tgt := 76) dX4_place_44 (by decide) ?_
      refine g_fg [some (.ref r), some (.int (nI (drs r P).length)), some (.int (nI 0)), none] ⟨rfl, rfl, rfl, trivial⟩ ?_
      have := l_placeloop (pl := 0) (d := d) h hT hb1 hb2 hLL (by omega)
      rw [Nat.zero_add] at this
      exact this
    · have hdP : drs r P = drs r M1 := by rw [hPU, drs_app, hu0]; rfl
      rw [hdP]
      obtain ⟨la, ar, bx2, mc, h1, -⟩ := sm_row h a3
      simp only [List.length_cons] at hS hd ⊢
      have hT2 := hT; rw [a2] at hT2
      have hL2 := hLL; rw [a2] at hL2
      have hht : 1 + max (hts A) (if k = 1 then hts B else 0) ≤ hts (P ++ Q) := by
        rw [← hts_sI bA bB, a2]; exact hts_in _ _ (bd_sI (r := gg.1) bA bB)
      have hAl : A.length < 2 ^ 30 := by
        rw [List.length_append, List.length_append, sI_len] at hL2; omega
      have hMl : (M1 ++ M2).length < 2 ^ 30 := by rw [hPU, hQV] at hLL; simp at hLL ⊢; omega
      obtain ⟨U2, M12, M22, V2, -, -, -, -, hH2, -, hD2, -⟩ := rc_of (r := gg.1) (q := gg.2) (S := S') hT2 a1
      obtain ⟨ow, s2, c2, e2⟩ := dt_at hT2 hH1 (bd_sI bA bB)
      rw [← a2, a10] at e2
      obtain ⟨la2, ar2, bx3, mc2, h12, -⟩ := sm_row h e2
      have hni : i ∉ drs gg.1 X1 := itm_no hT2.2.2.1
      refine ct_intro (lv := [some (.ref r), some (.int (nI (drs r M1).length)), none, none]) 2 (by decide) rfl (Nat.le_of_ble_eq_true rfl) rfl ?_
      rcases a11 with ⟨rfl, rfl, rfl, b3, b4⟩ | ⟨rfl, b0, rfl, rfl, b3, b4⟩
      · have hfin : P.length = X1.length + 1 + M1.length := by rw [hPU, b3]; simp; try omega
        rw [hfin]
        first | refine g_aload_n dX4_place_0 rfl rfl rfl ?_ | refine g_aload_nR dX4_place_0 rfl rfl rfl ?_ | refine g_aload_nN dX4_place_0 rfl rfl rfl ?_
        refine g_get fl_X4_56_X4 dX4_place_1 rfl (Or.inl (by first | assumption | exact xu_eq _ _ _ | exact (xu_ne (by first | assumption | exact Ne.symm (by assumption))).trans (by first | assumption | exact xu_eq _ _ _) | exact (xu_ne (by first | assumption | exact Ne.symm (by assumption))).trans ((xu_ne (by first | assumption | exact Ne.symm (by assumption))).trans (by first | assumption | exact xu_eq _ _ _)) | exact (xu_ne (by first | assumption | exact Ne.symm (by assumption))).trans ((xu_ne (by first | assumption | exact Ne.symm (by assumption))).trans ((xu_ne (by first | assumption | exact Ne.symm (by assumption))).trans (by first | assumption | exact xu_eq _ _ _))))) rfl ?_
        refine g_ifnonnull (tgt := 11) dX4_place_4 (by decide) ?_
        first | refine g_aload_n dX4_place_11 rfl rfl rfl ?_ | refine g_aload_nR dX4_place_11 rfl rfl rfl ?_ | refine g_aload_nN dX4_place_11 rfl rfl rfl ?_
        refine g_get fl_X4_56_X4 dX4_place_12 rfl (Or.inl (by first | assumption | exact xu_eq _ _ _ | exact (xu_ne (by first | assumption | exact Ne.symm (by assumption))).trans (by first | assumption | exact xu_eq _ _ _) | exact (xu_ne (by first | assumption | exact Ne.symm (by assumption))).trans ((xu_ne (by first | assumption | exact Ne.symm (by assumption))).trans (by first | assumption | exact xu_eq _ _ _)) | exact (xu_ne (by first | assumption | exact Ne.symm (by assumption))).trans ((xu_ne (by first | assumption | exact Ne.symm (by assumption))).trans ((xu_ne (by first | assumption | exact Ne.symm (by assumption))).trans (by first | assumption | exact xu_eq _ _ _))))) rfl ?_
        refine g_get fl_X4_60_X9 dX4_place_15 rfl (Or.inl (by first | assumption | exact xu_eq _ _ _ | exact (xu_ne (by first | assumption | exact Ne.symm (by assumption))).trans (by first | assumption | exact xu_eq _ _ _) | exact (xu_ne (by first | assumption | exact Ne.symm (by assumption))).trans ((xu_ne (by first | assumption | exact Ne.symm (by assumption))).trans (by first | assumption | exact xu_eq _ _ _)) | exact (xu_ne (by first | assumption | exact Ne.symm (by assumption))).trans ((xu_ne (by first | assumption | exact Ne.symm (by assumption))).trans ((xu_ne (by first | assumption | exact Ne.symm (by assumption))).trans (by first | assumption | exact xu_eq _ _ _))))) rfl ?_
        first | refine g_aload_n dX4_place_18 rfl rfl rfl ?_ | refine g_aload_nR dX4_place_18 rfl rfl rfl ?_ | refine g_aload_nN dX4_place_18 rfl rfl rfl ?_
        refine g_get fl_X4_56_X4 dX4_place_19 rfl (Or.inl (by first | assumption | exact xu_eq _ _ _ | exact (xu_ne (by first | assumption | exact Ne.symm (by assumption))).trans (by first | assumption | exact xu_eq _ _ _) | exact (xu_ne (by first | assumption | exact Ne.symm (by assumption))).trans ((xu_ne (by first | assumption | exact Ne.symm (by assumption))).trans (by first | assumption | exact xu_eq _ _ _)) | exact (xu_ne (by first | assumption | exact Ne.symm (by assumption))).trans ((xu_ne (by first | assumption | exact Ne.symm (by assumption))).trans ((xu_ne (by first | assumption | exact Ne.symm (by assumption))).trans (by first | assumption | exact xu_eq _ _ _))))) rfl ?_
        refine g_get fl_X4_60_X9 dX4_place_22 rfl (Or.inl (by first | assumption | exact xu_eq _ _ _ | exact (xu_ne (by first | assumption | exact Ne.symm (by assumption))).trans (by first | assumption | exact xu_eq _ _ _) | exact (xu_ne (by first | assumption | exact Ne.symm (by assumption))).trans ((xu_ne (by first | assumption | exact Ne.symm (by assumption))).trans (by first | assumption | exact xu_eq _ _ _)) | exact (xu_ne (by first | assumption | exact Ne.symm (by assumption))).trans ((xu_ne (by first | assumption | exact Ne.symm (by assumption))).trans ((xu_ne (by first | assumption | exact Ne.symm (by assumption))).trans (by first | assumption | exact xu_eq _ _ _))))) rfl ?_
        first | refine g_aload_n dX4_place_25 rfl rfl rfl ?_ | refine g_aload_nR dX4_place_25 rfl rfl rfl ?_ | refine g_aload_nN dX4_place_25 rfl rfl rfl ?_
        refine g_get fl_X4_56_X4 dX4_place_26 rfl (Or.inl (by first | assumption | exact xu_eq _ _ _ | exact (xu_ne (by first | assumption | exact Ne.symm (by assumption))).trans (by first | assumption | exact xu_eq _ _ _) | exact (xu_ne (by first | assumption | exact Ne.symm (by assumption))).trans ((xu_ne (by first | assumption | exact Ne.symm (by assumption))).trans (by first | assumption | exact xu_eq _ _ _)) | exact (xu_ne (by first | assumption | exact Ne.symm (by assumption))).trans ((xu_ne (by first | assumption | exact Ne.symm (by assumption))).trans ((xu_ne (by first | assumption | exact Ne.symm (by assumption))).trans (by first | assumption | exact xu_eq _ _ _))))) rfl ?_
        refine g_virtualP iV_X4_indexOf q1849 (c_indexOf (d := d - 1) (by omega) h e2 hni) (Or.inl (by first | assumption | exact xu_eq _ _ _ | exact (xu_ne (by first | assumption | exact Ne.symm (by assumption))).trans (by first | assumption | exact xu_eq _ _ _) | exact (xu_ne (by first | assumption | exact Ne.symm (by assumption))).trans ((xu_ne (by first | assumption | exact Ne.symm (by assumption))).trans (by first | assumption | exact xu_eq _ _ _)) | exact (xu_ne (by first | assumption | exact Ne.symm (by assumption))).trans ((xu_ne (by first | assumption | exact Ne.symm (by assumption))).trans ((xu_ne (by first | assumption | exact Ne.symm (by assumption))).trans (by first | assumption | exact xu_eq _ _ _))))) rfl (by decide) dX4_place_29 rfl rfl rfl (by first | exact Nat.le_of_ble_eq_true rfl | simp [Value.category, rf_cat]) (by omega) xN_no ?_
        refine g_virtualP iV_X4_place q1850 (ih X1 (sI k i gg.1 r p (M1 ++ M2) B ++ V') gg.1 gg.2 S' (by omega) hT2 hL2 a1 (d - 1) _ rfl (by rw [a2] at hd; omega)) (Or.inl (by first | assumption | exact xu_eq _ _ _ | exact (xu_ne (by first | assumption | exact Ne.symm (by assumption))).trans (by first | assumption | exact xu_eq _ _ _) | exact (xu_ne (by first | assumption | exact Ne.symm (by assumption))).trans ((xu_ne (by first | assumption | exact Ne.symm (by assumption))).trans (by first | assumption | exact xu_eq _ _ _)) | exact (xu_ne (by first | assumption | exact Ne.symm (by assumption))).trans ((xu_ne (by first | assumption | exact Ne.symm (by assumption))).trans ((xu_ne (by first | assumption | exact Ne.symm (by assumption))).trans (by first | assumption | exact xu_eq _ _ _))))) rfl (by decide) dX4_place_32 rfl rfl rfl (by first | exact Nat.le_of_ble_eq_true rfl | simp [Value.category, rf_cat]) (by omega) xN_no ?_
        refine g_iconst (v := (nI 1)) dX4_place_35 rfl rfl ?_
        refine g_iaddn dX4_place_36 rfl ?_
        refine g_ist2 dX4_place_37 rfl (by decide) (k := ?_)
        refine g_iconst (v := (nI 0)) dX4_place_38 rfl rfl ?_
        refine g_ist3 dX4_place_39 rfl (by decide) (k := ?_)
        first | refine g_aload_n dX4_place_40 rfl rfl rfl ?_ | refine g_aload_nR dX4_place_40 rfl rfl rfl ?_ | refine g_aload_nN dX4_place_40 rfl rfl rfl ?_
        refine g_get fl_X4_56_X4 dX4_place_41 rfl (Or.inl (by first | assumption | exact xu_eq _ _ _ | exact (xu_ne (by first | assumption | exact Ne.symm (by assumption))).trans (by first | assumption | exact xu_eq _ _ _) | exact (xu_ne (by first | assumption | exact Ne.symm (by assumption))).trans ((xu_ne (by first | assumption | exact Ne.symm (by assumption))).trans (by first | assumption | exact xu_eq _ _ _)) | exact (xu_ne (by first | assumption | exact Ne.symm (by assumption))).trans ((xu_ne (by first | assumption | exact Ne.symm (by assumption))).trans ((xu_ne (by first | assumption | exact Ne.symm (by assumption))).trans (by first | assumption | exact xu_eq _ _ _))))) rfl ?_
        refine g_ifnull dX4_place_44 rfl ?_
        refine g_iload_n dX4_place_47 rfl rfl rfl ?_
        first | refine g_aload_n dX4_place_48 rfl rfl rfl ?_ | refine g_aload_nR dX4_place_48 rfl rfl rfl ?_ | refine g_aload_nN dX4_place_48 rfl rfl rfl ?_
        refine g_get fl_X4_124_X4 dX4_place_49 rfl (Or.inl (by first | assumption | exact xu_eq _ _ _ | exact (xu_ne (by first | assumption | exact Ne.symm (by assumption))).trans (by first | assumption | exact xu_eq _ _ _) | exact (xu_ne (by first | assumption | exact Ne.symm (by assumption))).trans ((xu_ne (by first | assumption | exact Ne.symm (by assumption))).trans (by first | assumption | exact xu_eq _ _ _)) | exact (xu_ne (by first | assumption | exact Ne.symm (by assumption))).trans ((xu_ne (by first | assumption | exact Ne.symm (by assumption))).trans ((xu_ne (by first | assumption | exact Ne.symm (by assumption))).trans (by first | assumption | exact xu_eq _ _ _))))) rfl ?_
        refine g_icmpn_ge (tgt := 76) dX4_place_52 (by decide) rfl (by omega) (by omega) (fun c_52 => ?_) (fun c_52 => by omega)
        refine g_fg [some (.ref r), some (.int (nI (drs r M1).length)), some (.int (nI (X1.length + 1))), none] ⟨rfl, rfl, rfl, trivial⟩ ?_
        exact l_placeloop (d := d) h a8 hb1 hb2 hMl (by omega)
      · subst b0
        have hfin : P.length = X1.length + 1 + (A.length + 1) + M1.length := by rw [hPU, b3]; simp; try omega
        rw [hfin]
        rw [if_pos rfl] at a5 hht
        obtain ⟨ow3, s3, c3, e3⟩ := dt_row a8
        obtain ⟨lo, ao, bo, mo, ho, -⟩ := sm_row h e3
        first | refine g_aload_n dX4_place_0 rfl rfl rfl ?_ | refine g_aload_nR dX4_place_0 rfl rfl rfl ?_ | refine g_aload_nN dX4_place_0 rfl rfl rfl ?_
        refine g_get fl_X4_56_X4 dX4_place_1 rfl (Or.inl (by first | assumption | exact xu_eq _ _ _ | exact (xu_ne (by first | assumption | exact Ne.symm (by assumption))).trans (by first | assumption | exact xu_eq _ _ _) | exact (xu_ne (by first | assumption | exact Ne.symm (by assumption))).trans ((xu_ne (by first | assumption | exact Ne.symm (by assumption))).trans (by first | assumption | exact xu_eq _ _ _)) | exact (xu_ne (by first | assumption | exact Ne.symm (by assumption))).trans ((xu_ne (by first | assumption | exact Ne.symm (by assumption))).trans ((xu_ne (by first | assumption | exact Ne.symm (by assumption))).trans (by first | assumption | exact xu_eq _ _ _))))) rfl ?_
        refine g_ifnonnull (tgt := 11) dX4_place_4 (by decide) ?_
        first | refine g_aload_n dX4_place_11 rfl rfl rfl ?_ | refine g_aload_nR dX4_place_11 rfl rfl rfl ?_ | refine g_aload_nN dX4_place_11 rfl rfl rfl ?_
        refine g_get fl_X4_56_X4 dX4_place_12 rfl (Or.inl (by first | assumption | exact xu_eq _ _ _ | exact (xu_ne (by first | assumption | exact Ne.symm (by assumption))).trans (by first | assumption | exact xu_eq _ _ _) | exact (xu_ne (by first | assumption | exact Ne.symm (by assumption))).trans ((xu_ne (by first | assumption | exact Ne.symm (by assumption))).trans (by first | assumption | exact xu_eq _ _ _)) | exact (xu_ne (by first | assumption | exact Ne.symm (by assumption))).trans ((xu_ne (by first | assumption | exact Ne.symm (by assumption))).trans ((xu_ne (by first | assumption | exact Ne.symm (by assumption))).trans (by first | assumption | exact xu_eq _ _ _))))) rfl ?_
        refine g_get fl_X4_60_X9 dX4_place_15 rfl (Or.inl (by first | assumption | exact xu_eq _ _ _ | exact (xu_ne (by first | assumption | exact Ne.symm (by assumption))).trans (by first | assumption | exact xu_eq _ _ _) | exact (xu_ne (by first | assumption | exact Ne.symm (by assumption))).trans ((xu_ne (by first | assumption | exact Ne.symm (by assumption))).trans (by first | assumption | exact xu_eq _ _ _)) | exact (xu_ne (by first | assumption | exact Ne.symm (by assumption))).trans ((xu_ne (by first | assumption | exact Ne.symm (by assumption))).trans ((xu_ne (by first | assumption | exact Ne.symm (by assumption))).trans (by first | assumption | exact xu_eq _ _ _))))) rfl ?_
        first | refine g_aload_n dX4_place_18 rfl rfl rfl ?_ | refine g_aload_nR dX4_place_18 rfl rfl rfl ?_ | refine g_aload_nN dX4_place_18 rfl rfl rfl ?_
        refine g_get fl_X4_56_X4 dX4_place_19 rfl (Or.inl (by first | assumption | exact xu_eq _ _ _ | exact (xu_ne (by first | assumption | exact Ne.symm (by assumption))).trans (by first | assumption | exact xu_eq _ _ _) | exact (xu_ne (by first | assumption | exact Ne.symm (by assumption))).trans ((xu_ne (by first | assumption | exact Ne.symm (by assumption))).trans (by first | assumption | exact xu_eq _ _ _)) | exact (xu_ne (by first | assumption | exact Ne.symm (by assumption))).trans ((xu_ne (by first | assumption | exact Ne.symm (by assumption))).trans ((xu_ne (by first | assumption | exact Ne.symm (by assumption))).trans (by first | assumption | exact xu_eq _ _ _))))) rfl ?_
        refine g_get fl_X4_60_X9 dX4_place_22 rfl (Or.inl (by first | assumption | exact xu_eq _ _ _ | exact (xu_ne (by first | assumption | exact Ne.symm (by assumption))).trans (by first | assumption | exact xu_eq _ _ _) | exact (xu_ne (by first | assumption | exact Ne.symm (by assumption))).trans ((xu_ne (by first | assumption | exact Ne.symm (by assumption))).trans (by first | assumption | exact xu_eq _ _ _)) | exact (xu_ne (by first | assumption | exact Ne.symm (by assumption))).trans ((xu_ne (by first | assumption | exact Ne.symm (by assumption))).trans ((xu_ne (by first | assumption | exact Ne.symm (by assumption))).trans (by first | assumption | exact xu_eq _ _ _))))) rfl ?_
        first | refine g_aload_n dX4_place_25 rfl rfl rfl ?_ | refine g_aload_nR dX4_place_25 rfl rfl rfl ?_ | refine g_aload_nN dX4_place_25 rfl rfl rfl ?_
        refine g_get fl_X4_56_X4 dX4_place_26 rfl (Or.inl (by first | assumption | exact xu_eq _ _ _ | exact (xu_ne (by first | assumption | exact Ne.symm (by assumption))).trans (by first | assumption | exact xu_eq _ _ _) | exact (xu_ne (by first | assumption | exact Ne.symm (by assumption))).trans ((xu_ne (by first | assumption | exact Ne.symm (by assumption))).trans (by first | assumption | exact xu_eq _ _ _)) | exact (xu_ne (by first | assumption | exact Ne.symm (by assumption))).trans ((xu_ne (by first | assumption | exact Ne.symm (by assumption))).trans ((xu_ne (by first | assumption | exact Ne.symm (by assumption))).trans (by first | assumption | exact xu_eq _ _ _))))) rfl ?_
        refine g_virtualP iV_X4_indexOf q1849 (c_indexOf (d := d - 1) (by omega) h e2 hni) (Or.inl (by first | assumption | exact xu_eq _ _ _ | exact (xu_ne (by first | assumption | exact Ne.symm (by assumption))).trans (by first | assumption | exact xu_eq _ _ _) | exact (xu_ne (by first | assumption | exact Ne.symm (by assumption))).trans ((xu_ne (by first | assumption | exact Ne.symm (by assumption))).trans (by first | assumption | exact xu_eq _ _ _)) | exact (xu_ne (by first | assumption | exact Ne.symm (by assumption))).trans ((xu_ne (by first | assumption | exact Ne.symm (by assumption))).trans ((xu_ne (by first | assumption | exact Ne.symm (by assumption))).trans (by first | assumption | exact xu_eq _ _ _))))) rfl (by decide) dX4_place_29 rfl rfl rfl (by first | exact Nat.le_of_ble_eq_true rfl | simp [Value.category, rf_cat]) (by omega) xN_no ?_
        refine g_virtualP iV_X4_place q1850 (ih X1 (sI 1 i gg.1 o r A (M1 ++ M2) ++ V') gg.1 gg.2 S' (by omega) hT2 hL2 a1 (d - 1) _ rfl (by rw [a2] at hd; omega)) (Or.inl (by first | assumption | exact xu_eq _ _ _ | exact (xu_ne (by first | assumption | exact Ne.symm (by assumption))).trans (by first | assumption | exact xu_eq _ _ _) | exact (xu_ne (by first | assumption | exact Ne.symm (by assumption))).trans ((xu_ne (by first | assumption | exact Ne.symm (by assumption))).trans (by first | assumption | exact xu_eq _ _ _)) | exact (xu_ne (by first | assumption | exact Ne.symm (by assumption))).trans ((xu_ne (by first | assumption | exact Ne.symm (by assumption))).trans ((xu_ne (by first | assumption | exact Ne.symm (by assumption))).trans (by first | assumption | exact xu_eq _ _ _))))) rfl (by decide) dX4_place_32 rfl rfl rfl (by first | exact Nat.le_of_ble_eq_true rfl | simp [Value.category, rf_cat]) (by omega) xN_no ?_
        refine g_iconst (v := (nI 1)) dX4_place_35 rfl rfl ?_
        refine g_iaddn dX4_place_36 rfl ?_
        refine g_ist2 dX4_place_37 rfl (by decide) (k := ?_)
        refine g_iconst (v := (nI 0)) dX4_place_38 rfl rfl ?_
        refine g_ist3 dX4_place_39 rfl (by decide) (k := ?_)
        first | refine g_aload_n dX4_place_40 rfl rfl rfl ?_ | refine g_aload_nR dX4_place_40 rfl rfl rfl ?_ | refine g_aload_nN dX4_place_40 rfl rfl rfl ?_
        refine g_get fl_X4_56_X4 dX4_place_41 rfl (Or.inl (by first | assumption | exact xu_eq _ _ _ | exact (xu_ne (by first | assumption | exact Ne.symm (by assumption))).trans (by first | assumption | exact xu_eq _ _ _) | exact (xu_ne (by first | assumption | exact Ne.symm (by assumption))).trans ((xu_ne (by first | assumption | exact Ne.symm (by assumption))).trans (by first | assumption | exact xu_eq _ _ _)) | exact (xu_ne (by first | assumption | exact Ne.symm (by assumption))).trans ((xu_ne (by first | assumption | exact Ne.symm (by assumption))).trans ((xu_ne (by first | assumption | exact Ne.symm (by assumption))).trans (by first | assumption | exact xu_eq _ _ _))))) rfl ?_
        refine g_ifnull dX4_place_44 rfl ?_
        refine g_iload_n dX4_place_47 rfl rfl rfl ?_
        first | refine g_aload_n dX4_place_48 rfl rfl rfl ?_ | refine g_aload_nR dX4_place_48 rfl rfl rfl ?_ | refine g_aload_nN dX4_place_48 rfl rfl rfl ?_
        refine g_get fl_X4_124_X4 dX4_place_49 rfl (Or.inl (by first | assumption | exact xu_eq _ _ _ | exact (xu_ne (by first | assumption | exact Ne.symm (by assumption))).trans (by first | assumption | exact xu_eq _ _ _) | exact (xu_ne (by first | assumption | exact Ne.symm (by assumption))).trans ((xu_ne (by first | assumption | exact Ne.symm (by assumption))).trans (by first | assumption | exact xu_eq _ _ _)) | exact (xu_ne (by first | assumption | exact Ne.symm (by assumption))).trans ((xu_ne (by first | assumption | exact Ne.symm (by assumption))).trans ((xu_ne (by first | assumption | exact Ne.symm (by assumption))).trans (by first | assumption | exact xu_eq _ _ _))))) rfl ?_
        refine g_icmpn_ge (tgt := 76) dX4_place_52 (by decide) rfl (by omega) (by omega) (fun c_52 => by omega) (fun c_52 => ?_)
        refine g_iload_n dX4_place_55 rfl rfl rfl ?_
        first | refine g_aload_n dX4_place_56 rfl rfl rfl ?_ | refine g_aload_nR dX4_place_56 rfl rfl rfl ?_ | refine g_aload_nN dX4_place_56 rfl rfl rfl ?_
        refine g_get fl_X4_56_X4 dX4_place_57 rfl (Or.inl (by first | assumption | exact xu_eq _ _ _ | exact (xu_ne (by first | assumption | exact Ne.symm (by assumption))).trans (by first | assumption | exact xu_eq _ _ _) | exact (xu_ne (by first | assumption | exact Ne.symm (by assumption))).trans ((xu_ne (by first | assumption | exact Ne.symm (by assumption))).trans (by first | assumption | exact xu_eq _ _ _)) | exact (xu_ne (by first | assumption | exact Ne.symm (by assumption))).trans ((xu_ne (by first | assumption | exact Ne.symm (by assumption))).trans ((xu_ne (by first | assumption | exact Ne.symm (by assumption))).trans (by first | assumption | exact xu_eq _ _ _))))) rfl ?_
        refine g_get fl_X4_89_X9 dX4_place_60 rfl (Or.inl (by first | assumption | exact xu_eq _ _ _ | exact (xu_ne (by first | assumption | exact Ne.symm (by assumption))).trans (by first | assumption | exact xu_eq _ _ _) | exact (xu_ne (by first | assumption | exact Ne.symm (by assumption))).trans ((xu_ne (by first | assumption | exact Ne.symm (by assumption))).trans (by first | assumption | exact xu_eq _ _ _)) | exact (xu_ne (by first | assumption | exact Ne.symm (by assumption))).trans ((xu_ne (by first | assumption | exact Ne.symm (by assumption))).trans ((xu_ne (by first | assumption | exact Ne.symm (by assumption))).trans (by first | assumption | exact xu_eq _ _ _))))) rfl ?_
        refine g_iload_n dX4_place_63 rfl rfl rfl ?_
        refine g_aaldn (t := 6) rfl dX4_place_64 rfl (by first | assumption | exact Or.inl (by first | assumption | exact xu_eq _ _ _ | exact (xu_ne (by first | assumption | exact Ne.symm (by assumption))).trans (by first | assumption | exact xu_eq _ _ _) | exact (xu_ne (by first | assumption | exact Ne.symm (by assumption))).trans ((xu_ne (by first | assumption | exact Ne.symm (by assumption))).trans (by first | assumption | exact xu_eq _ _ _)) | exact (xu_ne (by first | assumption | exact Ne.symm (by assumption))).trans ((xu_ne (by first | assumption | exact Ne.symm (by assumption))).trans ((xu_ne (by first | assumption | exact Ne.symm (by assumption))).trans (by first | assumption | exact xu_eq _ _ _))))) (by omega) (by omega) ?_
        rw [a6]
        refine g_virtualP iV_X4_places q1851 (c_places h A.length A o (Nat.le_refl _) hAl a8 (d - 1) (by omega)) (Or.inl (by first | assumption | exact xu_eq _ _ _ | exact (xu_ne (by first | assumption | exact Ne.symm (by assumption))).trans (by first | assumption | exact xu_eq _ _ _) | exact (xu_ne (by first | assumption | exact Ne.symm (by assumption))).trans ((xu_ne (by first | assumption | exact Ne.symm (by assumption))).trans (by first | assumption | exact xu_eq _ _ _)) | exact (xu_ne (by first | assumption | exact Ne.symm (by assumption))).trans ((xu_ne (by first | assumption | exact Ne.symm (by assumption))).trans ((xu_ne (by first | assumption | exact Ne.symm (by assumption))).trans (by first | assumption | exact xu_eq _ _ _))))) rfl (by decide) dX4_place_65 rfl rfl rfl (by first | exact Nat.le_of_ble_eq_true rfl | simp [Value.category, rf_cat]) (by omega) xN_no ?_
        refine g_iaddn dX4_place_68 rfl ?_
        refine g_ist2 dX4_place_69 rfl (by decide) (k := ?_)
        refine g_incn3 dX4_place_70 rfl (by decide) (k := ?_)
        refine g_goto (tgt := 40) dX4_place_73 (by decide) ?_
        first | refine g_aload_n dX4_place_40 rfl rfl rfl ?_ | refine g_aload_nR dX4_place_40 rfl rfl rfl ?_ | refine g_aload_nN dX4_place_40 rfl rfl rfl ?_
        refine g_get fl_X4_56_X4 dX4_place_41 rfl (Or.inl (by first | assumption | exact xu_eq _ _ _ | exact (xu_ne (by first | assumption | exact Ne.symm (by assumption))).trans (by first | assumption | exact xu_eq _ _ _) | exact (xu_ne (by first | assumption | exact Ne.symm (by assumption))).trans ((xu_ne (by first | assumption | exact Ne.symm (by assumption))).trans (by first | assumption | exact xu_eq _ _ _)) | exact (xu_ne (by first | assumption | exact Ne.symm (by assumption))).trans ((xu_ne (by first | assumption | exact Ne.symm (by assumption))).trans ((xu_ne (by first | assumption | exact Ne.symm (by assumption))).trans (by first | assumption | exact xu_eq _ _ _))))) rfl ?_
        refine g_ifnull dX4_place_44 rfl ?_
        refine g_iload_n dX4_place_47 rfl rfl rfl ?_
        first | refine g_aload_n dX4_place_48 rfl rfl rfl ?_ | refine g_aload_nR dX4_place_48 rfl rfl rfl ?_ | refine g_aload_nN dX4_place_48 rfl rfl rfl ?_
        refine g_get fl_X4_124_X4 dX4_place_49 rfl (Or.inl (by first | assumption | exact xu_eq _ _ _ | exact (xu_ne (by first | assumption | exact Ne.symm (by assumption))).trans (by first | assumption | exact xu_eq _ _ _) | exact (xu_ne (by first | assumption | exact Ne.symm (by assumption))).trans ((xu_ne (by first | assumption | exact Ne.symm (by assumption))).trans (by first | assumption | exact xu_eq _ _ _)) | exact (xu_ne (by first | assumption | exact Ne.symm (by assumption))).trans ((xu_ne (by first | assumption | exact Ne.symm (by assumption))).trans ((xu_ne (by first | assumption | exact Ne.symm (by assumption))).trans (by first | assumption | exact xu_eq _ _ _))))) rfl ?_
        refine g_icmpn_ge (tgt := 76) dX4_place_52 (by decide) rfl (by omega) (by omega) (fun c_52 => ?_) (fun c_52 => by omega)
        refine g_fg [some (.ref r), some (.int (nI (drs r M1).length)), some (.int (nI (X1.length + 1 + (A.length + 1)))), none] ⟨rfl, rfl, rfl, trivial⟩ ?_
        exact l_placeloop (d := d) h (a9 rfl) hb1 hb2 hMl (by omega)
end PLACE
