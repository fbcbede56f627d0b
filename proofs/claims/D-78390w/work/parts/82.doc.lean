/-! DOCUMENTS -/
set_option maxRecDepth 100000
theorem bd_len3 : ∀ (r : Nat) (M : List XE), Bd r M → M.length ≤ 3 * cnt M := by
  refine bd_ind (fun r => Nat.le_refl _) (fun r c i M hb ih => ?_) (fun r k i o p A B M hA hB hM iA iB iM => ?_)
  · simp only [List.length_cons, cnt]; omega
  · rw [List.length_append, sI_len, cnt_app, cnt_sI]
    by_cases hk : k = 1
    · have := iB hk
      rw [if_pos hk, if_pos hk]; omega
    · rw [if_neg hk, if_neg hk]; omega
theorem scn_hts : ∀ (P : List XE) (S0 S1 : XK) (mx : Nat), scn S0 P = some S1 → S0.length ≤ mx + 1 → ∃ mx', S1.length ≤ mx' + 1 ∧ ∀ Z, dpF (S0.length - 1) mx (P ++ Z) = dpF (S1.length - 1) mx' Z := by
  intro P
  induction P with
  | nil => intro S0 S1 mx h hl; rw [scn_nil] at h; cases h; exact ⟨mx, hl, fun Z => rfl⟩
  | cons x P ih =>
    intro S0 S1 mx h hl
    obtain ⟨S2, h1, h2⟩ := scn_cons' h
    cases S0 with
    | nil => exact (stp_0 h1).elim
    | cons f T =>
      obtain ⟨c, i, r⟩ | ⟨k, i, r, o, p⟩ | b := x
      · obtain ⟨-, rfl⟩ := stp_S h1
        exact ih _ _ mx h2 hl
      · obtain ⟨-, rfl⟩ := stp_B h1
        simp only [List.length_cons, Nat.add_sub_cancel] at hl ⊢
        obtain ⟨mx', e1, e2⟩ := ih _ _ (max mx (T.length + 1)) h2 (by simp only [List.length_cons]; omega)
        exact ⟨mx', e1, e2⟩
      · cases b with
        | false =>
          obtain ⟨p, g, T', -, rfl, rfl⟩ := stp_D h1
          exact ih ((p, none) :: g :: T') S1 mx h2 hl
        | true =>
          obtain ⟨g, T', -, rfl, rfl⟩ := stp_N h1
          simp only [List.length_cons, Nat.add_sub_cancel] at hl ⊢
          obtain ⟨mx', e1, e2⟩ := ih _ _ mx h2 (by simp only [List.length_cons]; omega)
          exact ⟨mx', e1, e2⟩
/-- a gap's level is no more than the height -/
theorem scn_lev {top : Nat} {P Z : List XE} {f : Nat × Option Nat} {S : XK} (h : scn [(top, none)] P = some (f :: S)) : S.length ≤ hts (P ++ Z) := by
  obtain ⟨mx', e1, e2⟩ := scn_hts P _ _ 0 h (by simp)
  simp only [List.length_cons, List.length_nil, Nat.add_sub_cancel] at e1 e2
  show _ ≤ dpF 0 0 (P ++ Z)
  rw [e2]
  exact Nat.le_trans (by omega) (dpF_mx Z _ _)
/-- a document: its tree's items P N Q, the caret behind N, N selected, r the row of the caret -/
def DC (w : XW) (g : XG) (m : XM) (id D : Nat) (T : XT) (top r : Nat) (P N Q : List XE) (q : Option Nat) (S : XK) : Prop :=
  SM w g m id T ∧ m D = some (.inr (2, [.ref top, .ref r, .int (nI (drs r (P ++ N)).length), .int (nI (drs r N).length)])) ∧ ((g D).1 = 0 ∧ id ≠ 0) ∧ DT T top (P ++ (N ++ Q)) ∧ (∃ sl cap, T.1 top = some (none, sl, cap, drs top (P ++ (N ++ Q)))) ∧ scn [(top, none)] P = some ((r, q) :: S) ∧ Bd r N ∧ cnt (P ++ (N ++ Q)) ≤ 60 ∧ hts (P ++ (N ++ Q)) ≤ 5
/-- a document that shows the page p -/
def DP (w : XW) (g : XG) (m : XM) (id D : Nat) (p : XPage) : Prop := ∃ T top r P N Q q S, DC w g m id D T top r P N Q q S ∧ p = ((P ++ (N ++ Q)).map sg, (P ++ N).length, if N = [] then none else some P.length)
/-- what a call on a document leaves: other colours stay, but for the document's own cell -/
def FrD (id D : Nat) (g : XG) (m : XM) (g' : XG) (m' : XM) : Prop := (∀ a, m a ≠ none → g' a = g a ∧ m' a ≠ none ∧ ((g a).1 ≠ id → a ≠ D → m' a = m a)) ∧ ∀ a, m a = none → m' a ≠ none → (g' a).1 = id
theorem FrD_of {id D : Nat} {g g' : XG} {m m' : XM} (h : Fr id g m g' m') : FrD id D g m g' m' := ⟨fun a ha => ⟨(h.1 a ha).1, (h.1 a ha).2.1, fun hn _ => (h.1 a ha).2.2 hn⟩, h.2⟩
theorem FrD_tr {id D : Nat} {g g1 g2 : XG} {m m1 m2 : XM} (h : FrD id D g m g1 m1) (h2 : FrD id D g1 m1 g2 m2) : FrD id D g m g2 m2 := by
  refine ⟨fun a ha => ?_, fun a ha => ?_⟩
  · obtain ⟨e1, e2, e3⟩ := h.1 a ha
    obtain ⟨f1, f2, f3⟩ := h2.1 a e2
    exact ⟨f1.trans e1, f2, fun hn hD => (f3 (by rw [e1]; exact hn) hD).trans (e3 hn hD)⟩
  · intro h2a
    by_cases hm : m1 a = none
    · exact h2.2 a hm h2a
    · rw [(h2.1 a hm).1]; exact h.2 a ha hm
theorem FrD_u {id D : Nat} {g : XG} {m : XM} {e : va_E} (hm : m D ≠ none) : FrD id D g m g (xu m D e) := by
  refine ⟨fun b hb => ⟨rfl, ?_, fun _ hn => xu_ne hn⟩, fun b hb h2 => ?_⟩
  · by_cases e : b = D
    · subst e; rw [xu_eq]; exact fun h => by cases h
    · rw [xu_ne e]; exact hb
  · by_cases e : b = D
    · subst e; exact absurd hb hm
    · rw [xu_ne e] at h2; exact absurd hb h2
theorem SM_frD {w : XW} {g g1 : XG} {m m1 : XM} {id jd D : Nat} {T : XT} (hF : FrD jd D g m g1 m1) (hn : id ≠ jd) (hD : (g D).1 ≠ id) (h : SM w g m id T) : SM w g1 m1 id T := by
  have hF2 : Fr jd g (fun a => if a = D then m1 D else m a) g1 m1 ∨ True := Or.inr trivial
  have old : ∀ {a : Nat} {e : va_E} {x : Nat × Nat}, m a = some e → g a = (id, x) → m1 a = some e ∧ g1 a = (id, x) := by
    intro a e x h1 h2
    have hs : m a ≠ none := by rw [h1]; exact fun h => by cases h
    obtain ⟨f1, f2, f3⟩ := hF.1 a hs
    exact ⟨(f3 (by rw [h2]; exact hn) (fun e => by subst e; rw [h2] at hD; exact hD rfl)).trans h1, f1.trans h2⟩
  refine ⟨fun r v hr => ?_, fun i v hi => ?_⟩
  · obtain ⟨⟨la, ar, bx, h1, ⟨mc, f, k1, k2, k3, k4, k5⟩, h3, h4, h5⟩, hz⟩ := h.1 r v hr
    have e1 := old h1 h3
    have e2 := old k1 h4
    refine ⟨⟨la, ar, bx, e1.1, ⟨mc, f, e2.1, k2, k3, k4, ?_⟩, e1.2, e2.2, fun hc => ?_⟩, hz⟩
    · rcases k5 with k5 | ⟨k5, k6⟩
      · exact Or.inl k5
      · exact Or.inr ⟨k5, (old k6 (h5 (by omega))).1⟩
    · rcases k5 with ⟨k5, -⟩ | ⟨k5, k6⟩
      · exact absurd k5 hc
      · exact (old k6 (h5 hc)).2
  · obtain ⟨h1, h2⟩ := h.2 i v hi
    cases v with
    | inl c =>
      obtain ⟨h2, h3⟩ := h2
      exact ⟨(old h2 h1).2, (old h2 h1).1, h3⟩
    | inr v =>
      obtain ⟨k, p, q, rs, rd⟩ := v
      obtain ⟨sa, bx, f, a1, a2, a3, a4, a5, a6⟩ := h2
      exact ⟨(old a1 h1).2, sa, bx, f, (old a1 h1).1, (old a2 a5).1, a3, a4, (old a2 a5).2, a6⟩
theorem sm_D {w : XW} {g : XG} {m : XM} {id D : Nat} {T : XT} {e : va_E} (h : SM w g m id T) (hD : (g D).1 ≠ id) (hm : m D ≠ none) : SM w g (xu m D e) id T :=
  SM_fr (fr_u (id := (g D).1) rfl hm) (fun e => hD e.symm) h
section DOC
variable {w : XW} {id d D : Nat} {g : XG} {m : XM} {T : XT} {top r : Nat} {P N Q : List XE} {q : Option Nat} {S : XK}
theorem dc_len (h : DC w g m id D T top r P N Q q S) : (P ++ (N ++ Q)).length ≤ 180 ∧ S.length ≤ 5 := by
  obtain ⟨h1, h2, h3, h4, h5, h6, h7, h8, h9⟩ := h
  have := bd_len3 top _ h4.1
  have := scn_lev (Z := N ++ Q) h6
  omega
theorem dc_ho (h : DC w g m id D T top r P N Q q S) : HO top P Q r q S := ho_of h.2.2.2.1.1 h.2.2.2.2.2.1 h.2.2.2.2.2.2.1
theorem dc_row (h : DC w g m id D T top r P N Q q S) : ∃ own sl cap, T.1 r = some (own, sl, cap, drs r P ++ (drs r N ++ drs r Q)) := by
  obtain ⟨ow, sl, cap, e⟩ := dt_at h.2.2.2.1 (dc_ho h) h.2.2.2.2.2.2.1
  exact ⟨ow, sl, cap, by rw [e, drs_app, drs_app]⟩
theorem dc_l (h : DC w g m id D T top r P N Q q S) : (drs r P).length + ((drs r N).length + (drs r Q).length) ≤ 180 := by
  have h1 := (dc_len h).1
  have a := drs_len r P
  have b := drs_len r N
  have c := drs_len r Q
  simp only [List.length_append] at h1
  omega
theorem c_dplace (h : DC w g m id D T top r P N Q q S) (hd : 30 ≤ d) : CT w MX3_place d 0 0 [.ref D] m (xRet (some (.int (nI (P ++ N).length))) m) xN := by
  have hL := dc_len h
  obtain ⟨own, sl, cap, hR⟩ := dc_row h
  obtain ⟨h1, h2, h3, h4, ⟨sl0, cap0, h5⟩, h6, h7, h8, h9⟩ := h
  obtain ⟨la, ar, bx, mc, hr1, -⟩ := sm_row h1 hR
  have hc := c_place h1 h5 S.length (P ++ N) Q r q S (Nat.le_refl _) (by rw [List.append_assoc]; exact h4) (by rw [List.append_assoc]; omega) (by rw [scn_app' _ h6]; exact bd_any h7 _ _) (d - 1) _ rfl (by rw [List.append_assoc]; omega)
  refine ct_intro (lv := [some (.ref D)]) 0 (by decide) rfl (Nat.le_of_ble_eq_true rfl) rfl ?_
  first | refine g_aload_n dX3_place_0 rfl rfl rfl ?_ | refine g_aload_nR dX3_place_0 rfl rfl rfl ?_ | refine g_aload_nN dX3_place_0 rfl rfl rfl ?_
  refine g_get fl_X3_15_X3 dX3_place_1 rfl (Or.inl (by first | assumption | exact xu_eq _ _ _ | exact (xu_ne (by first | assumption | exact Ne.symm (by assumption))).trans (by first | assumption | exact xu_eq _ _ _) | exact (xu_ne (by first | assumption | exact Ne.symm (by assumption))).trans ((xu_ne (by first | assumption | exact Ne.symm (by assumption))).trans (by first | assumption | exact xu_eq _ _ _)) | exact (xu_ne (by first | assumption | exact Ne.symm (by assumption))).trans ((xu_ne (by first | assumption | exact Ne.symm (by assumption))).trans ((xu_ne (by first | assumption | exact Ne.symm (by assumption))).trans (by first | assumption | exact xu_eq _ _ _))))) rfl ?_
  first | refine g_aload_n dX3_place_4 rfl rfl rfl ?_ | refine g_aload_nR dX3_place_4 rfl rfl rfl ?_ | refine g_aload_nN dX3_place_4 rfl rfl rfl ?_
  refine g_get fl_X3_38_X3 dX3_place_5 rfl (Or.inl (by first | assumption | exact xu_eq _ _ _ | exact (xu_ne (by first | assumption | exact Ne.symm (by assumption))).trans (by first | assumption | exact xu_eq _ _ _) | exact (xu_ne (by first | assumption | exact Ne.symm (by assumption))).trans ((xu_ne (by first | assumption | exact Ne.symm (by assumption))).trans (by first | assumption | exact xu_eq _ _ _)) | exact (xu_ne (by first | assumption | exact Ne.symm (by assumption))).trans ((xu_ne (by first | assumption | exact Ne.symm (by assumption))).trans ((xu_ne (by first | assumption | exact Ne.symm (by assumption))).trans (by first | assumption | exact xu_eq _ _ _))))) rfl ?_
  refine g_virtualP iV_X4_place q1845 (hc) (Or.inl (by first | assumption | exact xu_eq _ _ _ | exact (xu_ne (by first | assumption | exact Ne.symm (by assumption))).trans (by first | assumption | exact xu_eq _ _ _) | exact (xu_ne (by first | assumption | exact Ne.symm (by assumption))).trans ((xu_ne (by first | assumption | exact Ne.symm (by assumption))).trans (by first | assumption | exact xu_eq _ _ _)) | exact (xu_ne (by first | assumption | exact Ne.symm (by assumption))).trans ((xu_ne (by first | assumption | exact Ne.symm (by assumption))).trans ((xu_ne (by first | assumption | exact Ne.symm (by assumption))).trans (by first | assumption | exact xu_eq _ _ _))))) rfl (by decide) dX3_place_8 rfl rfl rfl (by first | exact Nat.le_of_ble_eq_true rfl | simp [Value.category, rf_cat]) (by omega) xN_no ?_
  refine g_ireturn dX3_place_11 rfl ?_
  exact ⟨by first | rfl | simp [*], rfl⟩
theorem c_goTo {r' i : Nat} {a b c e : Value} (hd : 1 ≤ d) (hm : m D = some (.inr (2, [a, b, c, e]))) : CT w MX3_goTo d 0 0 [.ref D, .ref r', .int (nI i)] m (xRet none (xu m D (.inr (2, [a, .ref r', .int (nI i), .int (nI 0)])))) xN := by
  refine ct_intro (lv := [some (.ref D), some (.ref r'), some (.int (nI i))]) 0 (by decide) rfl (Nat.le_of_ble_eq_true rfl) rfl ?_
  first | refine g_aload_n dX3_goTo_0 rfl rfl rfl ?_ | refine g_aload_nR dX3_goTo_0 rfl rfl rfl ?_ | refine g_aload_nN dX3_goTo_0 rfl rfl rfl ?_
  first | refine g_aload_n dX3_goTo_1 rfl rfl rfl ?_ | refine g_aload_nR dX3_goTo_1 rfl rfl rfl ?_ | refine g_aload_nN dX3_goTo_1 rfl rfl rfl ?_
  refine g_put1 fl_X3_15_X3 dX3_goTo_2 rfl (by first | assumption | exact xu_eq _ _ _ | exact (xu_ne (by first | assumption | exact Ne.symm (by assumption))).trans (by first | assumption | exact xu_eq _ _ _) | exact (xu_ne (by first | assumption | exact Ne.symm (by assumption))).trans ((xu_ne (by first | assumption | exact Ne.symm (by assumption))).trans (by first | assumption | exact xu_eq _ _ _)) | exact (xu_ne (by first | assumption | exact Ne.symm (by assumption))).trans ((xu_ne (by first | assumption | exact Ne.symm (by assumption))).trans ((xu_ne (by first | assumption | exact Ne.symm (by assumption))).trans (by first | assumption | exact xu_eq _ _ _)))) rfl rfl ?_
  first | refine g_aload_n dX3_goTo_5 rfl rfl rfl ?_ | refine g_aload_nR dX3_goTo_5 rfl rfl rfl ?_ | refine g_aload_nN dX3_goTo_5 rfl rfl rfl ?_
  refine g_iload_n dX3_goTo_6 rfl rfl rfl ?_
  refine g_put2 fl_X3_38_X3 dX3_goTo_7 rfl (by first | assumption | exact xu_eq _ _ _ | exact (xu_ne (by first | assumption | exact Ne.symm (by assumption))).trans (by first | assumption | exact xu_eq _ _ _) | exact (xu_ne (by first | assumption | exact Ne.symm (by assumption))).trans ((xu_ne (by first | assumption | exact Ne.symm (by assumption))).trans (by first | assumption | exact xu_eq _ _ _)) | exact (xu_ne (by first | assumption | exact Ne.symm (by assumption))).trans ((xu_ne (by first | assumption | exact Ne.symm (by assumption))).trans ((xu_ne (by first | assumption | exact Ne.symm (by assumption))).trans (by first | assumption | exact xu_eq _ _ _)))) rfl rfl ?_
  first | refine g_aload_n dX3_goTo_10 rfl rfl rfl ?_ | refine g_aload_nR dX3_goTo_10 rfl rfl rfl ?_ | refine g_aload_nN dX3_goTo_10 rfl rfl rfl ?_
  refine g_iconst (v := (nI 0)) dX3_goTo_11 rfl rfl ?_
  refine g_put3 fl_X3_50_X3 dX3_goTo_12 rfl (by first | assumption | exact xu_eq _ _ _ | exact (xu_ne (by first | assumption | exact Ne.symm (by assumption))).trans (by first | assumption | exact xu_eq _ _ _) | exact (xu_ne (by first | assumption | exact Ne.symm (by assumption))).trans ((xu_ne (by first | assumption | exact Ne.symm (by assumption))).trans (by first | assumption | exact xu_eq _ _ _)) | exact (xu_ne (by first | assumption | exact Ne.symm (by assumption))).trans ((xu_ne (by first | assumption | exact Ne.symm (by assumption))).trans ((xu_ne (by first | assumption | exact Ne.symm (by assumption))).trans (by first | assumption | exact xu_eq _ _ _)))) rfl rfl ?_
  refine g_return dX3_goTo_15 rfl ⟨rfl, ?_⟩
  rw [xu_xu, xu_xu]
theorem c_selSize (h : DC w g m id D T top r P N Q q S) (hd : 30 ≤ d) : CT w MX3_selectedSize d 0 0 [.ref D] m (xRet (some (.int (nI (cnt N)))) m) xN := by
  have hL := dc_len h
  have hl := dc_l h
  obtain ⟨own, sl, cap, hR⟩ := dc_row h
  obtain ⟨h1, h2, h3, h4, ⟨sl0, cap0, h5⟩, h6, h7, h8, h9⟩ := h
  obtain ⟨la, ar, bx, mc, hr1, -⟩ := sm_row h1 hR
  obtain ⟨U, M1, M2, V, e1, e2, e3, e4, e5, e6, e7, e8, e9, e10, e11⟩ := rc3 h4 h6 h7
  have hM : (M1 ++ (N ++ M2)).length ≤ 180 := by
    have := hL.1; rw [e1, e2] at this
    simp only [List.length_append] at this ⊢; omega
  have hH : hts (M1 ++ (N ++ M2)) ≤ 5 := by
    have e : P ++ (N ++ Q) = U ++ ((M1 ++ (N ++ M2)) ++ V) := by rw [e1, e2]; simp
    rw [e] at h9
    exact Nat.le_trans (hts_in U V (bd_app e3 (bd_app h7 e4))) h9
  have hpn : (drs r (P ++ N)).length = (drs r M1).length + (drs r N).length := by rw [drs_app, e11, List.length_append]
  have hc := c_sizeOf h1 (M1 ++ (N ++ M2)).length (M1 ++ (N ++ M2)) r (Nat.le_refl _) e7 M1 N M2 _ _ (d - 1) rfl e3 h7 e4 rfl rfl (by omega)
  rw [← hpn] at hc
  have hpn2 : (drs r (P ++ N)).length - (drs r N).length = (drs r M1).length := by omega
  rw [← hpn2] at hc
  have hb : (drs r (P ++ N)).length ≤ 180 := by rw [drs_app, List.length_append]; omega
  refine ct_intro (lv := [some (.ref D)]) 0 (by decide) rfl (Nat.le_of_ble_eq_true rfl) rfl ?_
  first | refine g_aload_n dX3_selectedSize_0 rfl rfl rfl ?_ | refine g_aload_nR dX3_selectedSize_0 rfl rfl rfl ?_ | refine g_aload_nN dX3_selectedSize_0 rfl rfl rfl ?_
  refine g_get fl_X3_15_X3 dX3_selectedSize_1 rfl (Or.inl (by first | assumption | exact xu_eq _ _ _ | exact (xu_ne (by first | assumption | exact Ne.symm (by assumption))).trans (by first | assumption | exact xu_eq _ _ _) | exact (xu_ne (by first | assumption | exact Ne.symm (by assumption))).trans ((xu_ne (by first | assumption | exact Ne.symm (by assumption))).trans (by first | assumption | exact xu_eq _ _ _)) | exact (xu_ne (by first | assumption | exact Ne.symm (by assumption))).trans ((xu_ne (by first | assumption | exact Ne.symm (by assumption))).trans ((xu_ne (by first | assumption | exact Ne.symm (by assumption))).trans (by first | assumption | exact xu_eq _ _ _))))) rfl ?_
  first | refine g_aload_n dX3_selectedSize_4 rfl rfl rfl ?_ | refine g_aload_nR dX3_selectedSize_4 rfl rfl rfl ?_ | refine g_aload_nN dX3_selectedSize_4 rfl rfl rfl ?_
  refine g_get fl_X3_38_X3 dX3_selectedSize_5 rfl (Or.inl (by first | assumption | exact xu_eq _ _ _ | exact (xu_ne (by first | assumption | exact Ne.symm (by assumption))).trans (by first | assumption | exact xu_eq _ _ _) | exact (xu_ne (by first | assumption | exact Ne.symm (by assumption))).trans ((xu_ne (by first | assumption | exact Ne.symm (by assumption))).trans (by first | assumption | exact xu_eq _ _ _)) | exact (xu_ne (by first | assumption | exact Ne.symm (by assumption))).trans ((xu_ne (by first | assumption | exact Ne.symm (by assumption))).trans ((xu_ne (by first | assumption | exact Ne.symm (by assumption))).trans (by first | assumption | exact xu_eq _ _ _))))) rfl ?_
  first | refine g_aload_n dX3_selectedSize_8 rfl rfl rfl ?_ | refine g_aload_nR dX3_selectedSize_8 rfl rfl rfl ?_ | refine g_aload_nN dX3_selectedSize_8 rfl rfl rfl ?_
  refine g_get fl_X3_50_X3 dX3_selectedSize_9 rfl (Or.inl (by first | assumption | exact xu_eq _ _ _ | exact (xu_ne (by first | assumption | exact Ne.symm (by assumption))).trans (by first | assumption | exact xu_eq _ _ _) | exact (xu_ne (by first | assumption | exact Ne.symm (by assumption))).trans ((xu_ne (by first | assumption | exact Ne.symm (by assumption))).trans (by first | assumption | exact xu_eq _ _ _)) | exact (xu_ne (by first | assumption | exact Ne.symm (by assumption))).trans ((xu_ne (by first | assumption | exact Ne.symm (by assumption))).trans ((xu_ne (by first | assumption | exact Ne.symm (by assumption))).trans (by first | assumption | exact xu_eq _ _ _))))) rfl ?_
  refine g_isubn dX3_selectedSize_12 rfl (by omega) ?_
  first | refine g_aload_n dX3_selectedSize_13 rfl rfl rfl ?_ | refine g_aload_nR dX3_selectedSize_13 rfl rfl rfl ?_ | refine g_aload_nN dX3_selectedSize_13 rfl rfl rfl ?_
  refine g_get fl_X3_38_X3 dX3_selectedSize_14 rfl (Or.inl (by first | assumption | exact xu_eq _ _ _ | exact (xu_ne (by first | assumption | exact Ne.symm (by assumption))).trans (by first | assumption | exact xu_eq _ _ _) | exact (xu_ne (by first | assumption | exact Ne.symm (by assumption))).trans ((xu_ne (by first | assumption | exact Ne.symm (by assumption))).trans (by first | assumption | exact xu_eq _ _ _)) | exact (xu_ne (by first | assumption | exact Ne.symm (by assumption))).trans ((xu_ne (by first | assumption | exact Ne.symm (by assumption))).trans ((xu_ne (by first | assumption | exact Ne.symm (by assumption))).trans (by first | assumption | exact xu_eq _ _ _))))) rfl ?_
  refine g_virtualP iV_X4_sizeOf q2022 (hc) (Or.inl (by first | assumption | exact xu_eq _ _ _ | exact (xu_ne (by first | assumption | exact Ne.symm (by assumption))).trans (by first | assumption | exact xu_eq _ _ _) | exact (xu_ne (by first | assumption | exact Ne.symm (by assumption))).trans ((xu_ne (by first | assumption | exact Ne.symm (by assumption))).trans (by first | assumption | exact xu_eq _ _ _)) | exact (xu_ne (by first | assumption | exact Ne.symm (by assumption))).trans ((xu_ne (by first | assumption | exact Ne.symm (by assumption))).trans ((xu_ne (by first | assumption | exact Ne.symm (by assumption))).trans (by first | assumption | exact xu_eq _ _ _))))) rfl (by decide) dX3_selectedSize_17 rfl rfl rfl (by first | exact Nat.le_of_ble_eq_true rfl | simp [Value.category, rf_cat]) (by omega) xN_no ?_
  refine g_ireturn dX3_selectedSize_20 rfl ?_
  exact ⟨by first | rfl | simp [*], rfl⟩
end DOC
