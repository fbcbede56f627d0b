/-! ROWS: copies of items -/
set_option maxRecDepth 100000
/-- an element without addresses -/
def shE : XE → Nat ⊕ (Nat ⊕ Bool)
  | .inl (c, _, _) => .inl c
  | .inr (.inl (k, _, _, _, _)) => .inr (.inl k)
  | .inr (.inr b) => .inr (.inr b)
theorem drs_len (r : Nat) (L : List XE) : (drs r L).length ≤ L.length := by
  induction L with
  | nil => exact Nat.le_refl _
  | cons x L ih =>
    obtain ⟨c, i, r'⟩ | ⟨k, i, r', o, p⟩ | b := x
    · simp only [drs, List.length_cons]; split <;> (try simp only [List.length_cons]) <;> omega
    · simp only [drs, List.length_cons]; split <;> (try simp only [List.length_cons]) <;> omega
    · simp only [drs, List.length_cons]; omega
theorem sh_sI (k i r o p : Nat) (A B : List XE) : (sI k i r o p A B).map shE = .inr (.inl k) :: (A.map shE ++ ((if k = 1 then .inr (.inr false) :: B.map shE else []) ++ [.inr (.inr true)])) := by
  unfold sI
  by_cases hk : k = 1
  · simp [hk, shE]
  · simp [hk, shE]
section COPY
variable {w : XW} {id jd : Nat} {T2 : XT}
def cpP (w : XW) (g : XG) (m : XM) (id : Nat) (T : XT) (t : Nat) (own : Option Nat) (sl : Nat) (is : List Nat) (r : Nat) (N0 : List XE) : Option Value → XM → Prop := fun v m' => ∃ N g' T' cap', none = v ∧ SM w g' m' id T' ∧ Fr id g m g' m' ∧ FT m T T' t N ∧ T'.1 t = some (own, sl, cap', is ++ drs t N) ∧ N.map shE = N0.map shE ∧ (drs t N).length = (drs r N0).length
/-- copies of items of a row with tree M, all that is smaller than n -/
def cpH (w : XW) (id jd : Nat) (T2 : XT) (n : Nat) : Prop := ∀ (M : List XE) (r : Nat), M.length ≤ n → DT T2 r M → ∀ (X N0 Y : List XE), M = X ++ (N0 ++ Y) → Bd r X → Bd r N0 → Bd r Y → ∀ (g : XG) (m : XM) (T : XT) (t i j sl cap d kc ks : Nat) (own : Option Nat) (is : List Nat), SM w g m jd T2 → SM w g m id T → T.1 t = some (own, sl, cap, is) → is.length + N0.length ≤ 250 → i = (drs r X).length → j = (drs r X).length + (drs r N0).length → 10 + 2 * hts M ≤ d → 7 * cnt N0 ≤ kc → 176 * cnt N0 + Psi is.length cap ≤ 2 * ks →
  CT w MX4_addCopies d kc ks [.ref t, .ref r, .int (nI i), .int (nI j)] m (cpP w g m id T t own sl is r N0) xN
def scP (w : XW) (g : XG) (m : XM) (id : Nat) (T : XT) (k : Nat) (A B : List XE) : Option Value → XM → Prop := fun v m' => ∃ a o p NA NB g' T3, some (.ref a) = v ∧ SM w g' m' id T3 ∧ Fr id g m g' m' ∧ T3.2.1 a ≠ none ∧ (∀ t v T4, m t ≠ none → T4 = (uF T3.1 t (some v), T3.2.1, uF T3.2.2 a (some t)) → FT m T T4 t (sI k a t o p NA NB)) ∧ (∀ t, m t ≠ none → T3.1 t = T.1 t) ∧ NA.map shE = A.map shE ∧ (k = 1 → NB.map shE = B.map shE) ∧ Bd o NA ∧ (k = 1 → Bd p NB)
theorem sm_Rm {g : XG} {m : XM} {T : XT} (h : SM w g m id T) {s : Nat} {v : XR} (hs : T.1 s = some v) : m s ≠ none := fun e => by rw [sm_Rnone h e] at hs; cases hs
theorem sm_Km {g : XG} {m : XM} {T : XT} (h : SM w g m id T) {s : Nat} {v : XI} (hs : T.2.1 s = some v) : m s ≠ none := fun e => by rw [sm_Knone h e] at hs; cases hs
theorem sh_cnt : ∀ {A B : List XE}, A.map shE = B.map shE → cnt A = cnt B ∧ A.length = B.length := by
  intro A
  induction A with
  | nil => intro B h; cases B with
    | nil => exact ⟨rfl, rfl⟩
    | cons y B => simp at h
  | cons x A ih =>
    intro B h
    cases B with
    | nil => simp at h
    | cons y B =>
      rw [List.map_cons, List.map_cons] at h
      obtain ⟨h1, h2⟩ := List.cons.inj h
      obtain ⟨i1, i2⟩ := ih h2
      refine ⟨?_, by simp [i2]⟩
      obtain ⟨c, i, r⟩ | ⟨k, i, r, o, p⟩ | b := x <;> obtain ⟨c', i', r'⟩ | ⟨k', i', r', o', p'⟩ | b' := y <;> simp [shE] at h1 <;> simp [cnt, i1]
theorem ek_itm {T : XT} {N : List XE} (h : ∀ x ∈ N, EK T x) : ∀ i ∈ itm N, ∃ v, T.2.1 i = some v := by
  induction N with
  | nil => intro i hi; simp [itm] at hi
  | cons x N ih =>
    have ih := ih (fun y hy => h y (List.mem_cons_of_mem _ hy))
    have h0 := h x List.mem_cons_self
    intro i hi
    obtain ⟨c, j, r⟩ | ⟨k, j, r, o, p⟩ | b := x
    · rcases List.mem_cons.mp hi with rfl | hi
      · exact ⟨_, h0.1⟩
      · exact ih i hi
    · rcases List.mem_cons.mp hi with rfl | hi
      · obtain ⟨⟨rs, rd, e⟩, -⟩ := h0
        exact ⟨_, e⟩
      · exact ih i hi
    · exact ih i hi
theorem l_scopy1 {n : Nat} (ihn : cpH w id jd T2 n) (hij : id ≠ jd) {g : XG} {m : XM} {T : XT} {k x o p d rs rd : Nat} {A B : List XE} (h2 : SM w g m jd T2) (h : SM w g m id T) (hk : k ≠ 1) (hx : T2.2.1 x = some (.inr (k, o, p, rs, rd))) (hA : DT T2 o A) (hl : A.length ≤ n) (hl2 : A.length ≤ 250) (hd : 11 + 2 * hts A ≤ d) :
    CT w MX9_copy d (6 + 7 * (cnt A + if k = 1 then cnt B else 0)) (82 + 88 * (cnt A + if k = 1 then cnt B else 0)) [.ref x] m (scP w g m id T k A B) xN := by
  refine ct_intro (lv := [some (.ref x), none, none]) 2 (by decide) rfl (Nat.le_of_ble_eq_true rfl) rfl ?_
  simp only [if_neg hk, Nat.add_zero]
  obtain ⟨sa, bx, f, hx1, hsa, hfp, hfq, -, -, hk1, hk2, -⟩ := sm_str h2 hx
  rw [if_neg hk] at hsa
  first | refine g_aload_n dX9_copy_0 rfl rfl rfl ?_ | refine g_aload_nR dX9_copy_0 rfl rfl rfl ?_ | refine g_aload_nN dX9_copy_0 rfl rfl rfl ?_
  refine g_get fl_X9_9_X9 dX9_copy_1 rfl (Or.inl (by first | assumption | exact xu_eq _ _ _ | exact (xu_ne (by first | assumption | exact Ne.symm (by assumption))).trans (by first | assumption | exact xu_eq _ _ _) | exact (xu_ne (by first | assumption | exact Ne.symm (by assumption))).trans ((xu_ne (by first | assumption | exact Ne.symm (by assumption))).trans (by first | assumption | exact xu_eq _ _ _)) | exact (xu_ne (by first | assumption | exact Ne.symm (by assumption))).trans ((xu_ne (by first | assumption | exact Ne.symm (by assumption))).trans ((xu_ne (by first | assumption | exact Ne.symm (by assumption))).trans (by first | assumption | exact xu_eq _ _ _))))) rfl ?_
  refine g_static iS_X9_empty q2104 (c_empty1 (d := d - 1) o (by omega) h hk hk1 hk2) dX9_copy_4 rfl rfl rfl (by first | exact Nat.le_of_ble_eq_true rfl | simp [Value.category, rf_cat]) (by omega) (by omega) (by omega) xN_no (fun v_4 m_4 h_4 => ?_)
  obtain ⟨a, q, g1, rfl, ha, hq, haq, hS1, hF1⟩ := h_4
  have h21 := SM_fr hF1 hij.symm h2
  obtain ⟨sa, bx, f, hx1, hsa, hfp, hfq, -⟩ := sm_str h21 hx
  rw [if_neg hk] at hsa
  obtain ⟨sb, by1, fb, hy1, hsb, hgp, -⟩ := sm_str hS1 (uF_eq _ _ _)
  rw [if_neg hk] at hsb
  obtain ⟨ow3, s3, c3, e3⟩ := dt_row hA
  obtain ⟨lo, ao, bo, mo, ho, klo, hAo, -⟩ := sm_row h21 e3
  obtain ⟨lq, aq, bq, mq, hq1, -⟩ := sm_row hS1 (uF_eq _ _ _)
  first | refine g_ast1 dX9_copy_7 rfl (by decide) (k := ?_) | refine g_astR1 dX9_copy_7 rfl (by decide) (k := ?_) | refine g_astN1 dX9_copy_7 rfl (by decide) (k := ?_)
  refine g_iconst (v := (nI 0)) dX9_copy_8 rfl rfl ?_
  refine g_ist2 dX9_copy_9 rfl (by decide) (k := ?_)
  refine g_iload_n dX9_copy_10 rfl rfl rfl ?_
  first | refine g_aload_n dX9_copy_11 rfl rfl rfl ?_ | refine g_aload_nR dX9_copy_11 rfl rfl rfl ?_ | refine g_aload_nN dX9_copy_11 rfl rfl rfl ?_
  refine g_get fl_X9_15_X9 dX9_copy_12 rfl (Or.inl (by first | assumption | exact xu_eq _ _ _ | exact (xu_ne (by first | assumption | exact Ne.symm (by assumption))).trans (by first | assumption | exact xu_eq _ _ _) | exact (xu_ne (by first | assumption | exact Ne.symm (by assumption))).trans ((xu_ne (by first | assumption | exact Ne.symm (by assumption))).trans (by first | assumption | exact xu_eq _ _ _)) | exact (xu_ne (by first | assumption | exact Ne.symm (by assumption))).trans ((xu_ne (by first | assumption | exact Ne.symm (by assumption))).trans ((xu_ne (by first | assumption | exact Ne.symm (by assumption))).trans (by first | assumption | exact xu_eq _ _ _))))) rfl ?_
  refine g_alenq (t := 6) rfl dX9_copy_15 rfl (by first | assumption | exact Or.inl (by first | assumption | exact xu_eq _ _ _ | exact (xu_ne (by first | assumption | exact Ne.symm (by assumption))).trans (by first | assumption | exact xu_eq _ _ _) | exact (xu_ne (by first | assumption | exact Ne.symm (by assumption))).trans ((xu_ne (by first | assumption | exact Ne.symm (by assumption))).trans (by first | assumption | exact xu_eq _ _ _)) | exact (xu_ne (by first | assumption | exact Ne.symm (by assumption))).trans ((xu_ne (by first | assumption | exact Ne.symm (by assumption))).trans ((xu_ne (by first | assumption | exact Ne.symm (by assumption))).trans (by first | assumption | exact xu_eq _ _ _))))) ?_
  refine g_icmpn_ge (tgt := 55) dX9_copy_16 (by decide) rfl (by omega) (by omega) (fun c_16 => by omega) (fun c_16 => ?_)
  first | refine g_aload_n dX9_copy_19 rfl rfl rfl ?_ | refine g_aload_nR dX9_copy_19 rfl rfl rfl ?_ | refine g_aload_nN dX9_copy_19 rfl rfl rfl ?_
  refine g_get fl_X9_15_X9 dX9_copy_20 rfl (Or.inl (by first | assumption | exact xu_eq _ _ _ | exact (xu_ne (by first | assumption | exact Ne.symm (by assumption))).trans (by first | assumption | exact xu_eq _ _ _) | exact (xu_ne (by first | assumption | exact Ne.symm (by assumption))).trans ((xu_ne (by first | assumption | exact Ne.symm (by assumption))).trans (by first | assumption | exact xu_eq _ _ _)) | exact (xu_ne (by first | assumption | exact Ne.symm (by assumption))).trans ((xu_ne (by first | assumption | exact Ne.symm (by assumption))).trans ((xu_ne (by first | assumption | exact Ne.symm (by assumption))).trans (by first | assumption | exact xu_eq _ _ _))))) rfl ?_
  refine g_iload_n dX9_copy_23 rfl rfl rfl ?_
  refine g_aaldn (t := 6) rfl dX9_copy_24 rfl (by first | assumption | exact Or.inl (by first | assumption | exact xu_eq _ _ _ | exact (xu_ne (by first | assumption | exact Ne.symm (by assumption))).trans (by first | assumption | exact xu_eq _ _ _) | exact (xu_ne (by first | assumption | exact Ne.symm (by assumption))).trans ((xu_ne (by first | assumption | exact Ne.symm (by assumption))).trans (by first | assumption | exact xu_eq _ _ _)) | exact (xu_ne (by first | assumption | exact Ne.symm (by assumption))).trans ((xu_ne (by first | assumption | exact Ne.symm (by assumption))).trans ((xu_ne (by first | assumption | exact Ne.symm (by assumption))).trans (by first | assumption | exact xu_eq _ _ _))))) (by omega) (by omega) ?_
  rw [hgp]
  first | refine g_aload_n dX9_copy_25 rfl rfl rfl ?_ | refine g_aload_nR dX9_copy_25 rfl rfl rfl ?_ | refine g_aload_nN dX9_copy_25 rfl rfl rfl ?_
  refine g_get fl_X9_15_X9 dX9_copy_26 rfl (Or.inl (by first | assumption | exact xu_eq _ _ _ | exact (xu_ne (by first | assumption | exact Ne.symm (by assumption))).trans (by first | assumption | exact xu_eq _ _ _) | exact (xu_ne (by first | assumption | exact Ne.symm (by assumption))).trans ((xu_ne (by first | assumption | exact Ne.symm (by assumption))).trans (by first | assumption | exact xu_eq _ _ _)) | exact (xu_ne (by first | assumption | exact Ne.symm (by assumption))).trans ((xu_ne (by first | assumption | exact Ne.symm (by assumption))).trans ((xu_ne (by first | assumption | exact Ne.symm (by assumption))).trans (by first | assumption | exact xu_eq _ _ _))))) rfl ?_
  refine g_iload_n dX9_copy_29 rfl rfl rfl ?_
  refine g_aaldn (t := 6) rfl dX9_copy_30 rfl (by first | assumption | exact Or.inl (by first | assumption | exact xu_eq _ _ _ | exact (xu_ne (by first | assumption | exact Ne.symm (by assumption))).trans (by first | assumption | exact xu_eq _ _ _) | exact (xu_ne (by first | assumption | exact Ne.symm (by assumption))).trans ((xu_ne (by first | assumption | exact Ne.symm (by assumption))).trans (by first | assumption | exact xu_eq _ _ _)) | exact (xu_ne (by first | assumption | exact Ne.symm (by assumption))).trans ((xu_ne (by first | assumption | exact Ne.symm (by assumption))).trans ((xu_ne (by first | assumption | exact Ne.symm (by assumption))).trans (by first | assumption | exact xu_eq _ _ _))))) (by omega) (by omega) ?_
  rw [hfp]
  refine g_iconst (v := (nI 0)) dX9_copy_31 rfl rfl ?_
  first | refine g_aload_n dX9_copy_32 rfl rfl rfl ?_ | refine g_aload_nR dX9_copy_32 rfl rfl rfl ?_ | refine g_aload_nN dX9_copy_32 rfl rfl rfl ?_
  refine g_get fl_X9_15_X9 dX9_copy_33 rfl (Or.inl (by first | assumption | exact xu_eq _ _ _ | exact (xu_ne (by first | assumption | exact Ne.symm (by assumption))).trans (by first | assumption | exact xu_eq _ _ _) | exact (xu_ne (by first | assumption | exact Ne.symm (by assumption))).trans ((xu_ne (by first | assumption | exact Ne.symm (by assumption))).trans (by first | assumption | exact xu_eq _ _ _)) | exact (xu_ne (by first | assumption | exact Ne.symm (by assumption))).trans ((xu_ne (by first | assumption | exact Ne.symm (by assumption))).trans ((xu_ne (by first | assumption | exact Ne.symm (by assumption))).trans (by first | assumption | exact xu_eq _ _ _))))) rfl ?_
  refine g_iload_n dX9_copy_36 rfl rfl rfl ?_
  refine g_aaldn (t := 6) rfl dX9_copy_37 rfl (by first | assumption | exact Or.inl (by first | assumption | exact xu_eq _ _ _ | exact (xu_ne (by first | assumption | exact Ne.symm (by assumption))).trans (by first | assumption | exact xu_eq _ _ _) | exact (xu_ne (by first | assumption | exact Ne.symm (by assumption))).trans ((xu_ne (by first | assumption | exact Ne.symm (by assumption))).trans (by first | assumption | exact xu_eq _ _ _)) | exact (xu_ne (by first | assumption | exact Ne.symm (by assumption))).trans ((xu_ne (by first | assumption | exact Ne.symm (by assumption))).trans ((xu_ne (by first | assumption | exact Ne.symm (by assumption))).trans (by first | assumption | exact xu_eq _ _ _))))) (by omega) (by omega) ?_
  rw [hfp]
  refine g_get fl_X9_49_X4 dX9_copy_38 rfl (Or.inl (by first | assumption | exact xu_eq _ _ _ | exact (xu_ne (by first | assumption | exact Ne.symm (by assumption))).trans (by first | assumption | exact xu_eq _ _ _) | exact (xu_ne (by first | assumption | exact Ne.symm (by assumption))).trans ((xu_ne (by first | assumption | exact Ne.symm (by assumption))).trans (by first | assumption | exact xu_eq _ _ _)) | exact (xu_ne (by first | assumption | exact Ne.symm (by assumption))).trans ((xu_ne (by first | assumption | exact Ne.symm (by assumption))).trans ((xu_ne (by first | assumption | exact Ne.symm (by assumption))).trans (by first | assumption | exact xu_eq _ _ _))))) rfl ?_
  refine g_ifaceP iI_J26_size_J26 q2112 (c_size (d := d - 1) (by omega) hAo) (Or.inl (by first | assumption | exact xu_eq _ _ _ | exact (xu_ne (by first | assumption | exact Ne.symm (by assumption))).trans (by first | assumption | exact xu_eq _ _ _) | exact (xu_ne (by first | assumption | exact Ne.symm (by assumption))).trans ((xu_ne (by first | assumption | exact Ne.symm (by assumption))).trans (by first | assumption | exact xu_eq _ _ _)) | exact (xu_ne (by first | assumption | exact Ne.symm (by assumption))).trans ((xu_ne (by first | assumption | exact Ne.symm (by assumption))).trans ((xu_ne (by first | assumption | exact Ne.symm (by assumption))).trans (by first | assumption | exact xu_eq _ _ _))))) rfl (by decide) dX9_copy_41 rfl rfl rfl (by first | exact Nat.le_of_ble_eq_true rfl | simp [Value.category, rf_cat]) (by omega) xN_no ?_
  refine g_virtual iV_X4_addCopies q2113 (ihn A o hl hA [] A [] (by simp) (bd_nil o) hA.1 (bd_nil o) g1 _ _ q 0 _ 0 0 (d - 1) (7 * cnt A) (88 * cnt A + 30) (some a) [] h21 hS1 (uF_eq _ _ _) (by simpa using hl2) rfl (by simp [drs]) (by omega) (by omega) (by simp [Psi]; omega)) (Or.inl (by first | assumption | exact xu_eq _ _ _ | exact (xu_ne (by first | assumption | exact Ne.symm (by assumption))).trans (by first | assumption | exact xu_eq _ _ _) | exact (xu_ne (by first | assumption | exact Ne.symm (by assumption))).trans ((xu_ne (by first | assumption | exact Ne.symm (by assumption))).trans (by first | assumption | exact xu_eq _ _ _)) | exact (xu_ne (by first | assumption | exact Ne.symm (by assumption))).trans ((xu_ne (by first | assumption | exact Ne.symm (by assumption))).trans ((xu_ne (by first | assumption | exact Ne.symm (by assumption))).trans (by first | assumption | exact xu_eq _ _ _))))) rfl (by decide) dX9_copy_46 rfl rfl rfl (by first | exact Nat.le_of_ble_eq_true rfl | simp [Value.category, rf_cat]) (by omega) (by omega) (by omega) xN_no (fun v_46 m_46 h_46 => ?_)
  obtain ⟨NA, g2, T3, cq, rfl, hS2, hF2, hFT, hTq, hsh, -⟩ := h_46
  have h22 := SM_fr hF2 hij.symm h21
  obtain ⟨sa, bx, f, hx1, hsa, hfp, hfq, -⟩ := sm_str h22 hx
  rw [if_neg hk] at hsa
  refine g_incn2 dX9_copy_49 rfl (by decide) (k := ?_)
  refine g_goto (tgt := 10) dX9_copy_52 (by decide) ?_
  refine g_iload_n dX9_copy_10 rfl rfl rfl ?_
  first | refine g_aload_n dX9_copy_11 rfl rfl rfl ?_ | refine g_aload_nR dX9_copy_11 rfl rfl rfl ?_ | refine g_aload_nN dX9_copy_11 rfl rfl rfl ?_
  refine g_get fl_X9_15_X9 dX9_copy_12 rfl (Or.inl (by first | assumption | exact xu_eq _ _ _ | exact (xu_ne (by first | assumption | exact Ne.symm (by assumption))).trans (by first | assumption | exact xu_eq _ _ _) | exact (xu_ne (by first | assumption | exact Ne.symm (by assumption))).trans ((xu_ne (by first | assumption | exact Ne.symm (by assumption))).trans (by first | assumption | exact xu_eq _ _ _)) | exact (xu_ne (by first | assumption | exact Ne.symm (by assumption))).trans ((xu_ne (by first | assumption | exact Ne.symm (by assumption))).trans ((xu_ne (by first | assumption | exact Ne.symm (by assumption))).trans (by first | assumption | exact xu_eq _ _ _))))) rfl ?_
  refine g_alenq (t := 6) rfl dX9_copy_15 rfl (by first | assumption | exact Or.inl (by first | assumption | exact xu_eq _ _ _ | exact (xu_ne (by first | assumption | exact Ne.symm (by assumption))).trans (by first | assumption | exact xu_eq _ _ _) | exact (xu_ne (by first | assumption | exact Ne.symm (by assumption))).trans ((xu_ne (by first | assumption | exact Ne.symm (by assumption))).trans (by first | assumption | exact xu_eq _ _ _)) | exact (xu_ne (by first | assumption | exact Ne.symm (by assumption))).trans ((xu_ne (by first | assumption | exact Ne.symm (by assumption))).trans ((xu_ne (by first | assumption | exact Ne.symm (by assumption))).trans (by first | assumption | exact xu_eq _ _ _))))) ?_
  refine g_icmpn_ge (tgt := 55) dX9_copy_16 (by decide) rfl (by omega) (by omega) (fun c_16 => ?_) (fun c_16 => by omega)
  first | refine g_aload_n dX9_copy_55 rfl rfl rfl ?_ | refine g_aload_nR dX9_copy_55 rfl rfl rfl ?_ | refine g_aload_nN dX9_copy_55 rfl rfl rfl ?_
  refine g_areturn dX9_copy_56 rfl (Or.inl ⟨_, rfl⟩) (Or.inr ⟨_, rfl⟩) ⟨a, q, o, NA, [], g2, T3, rfl, hS2, Fr_tr hF1 hF2, ?_, fun t v T4 ht e4 => ?_, fun t ht => ?_, hsh, fun h => absurd h hk, hFT.1, fun h => absurd h hk⟩
  · have := (hFT.2.2.2.2.2.2.2.2 a (sm_Km hS1 (uF_eq _ _ _))).1
    rw [this]; show uF T.2.1 a _ a ≠ none; rw [uF_eq]; exact fun h => by cases h
  · refine ft_str (m1 := m_4) (m2 := m_46) (T1 := (uF T.1 q (some (some a, 0, 0, [])), uF T.2.1 a (some (.inr (k, q, o, 1, 1))), uF T.2.2 a none)) (T2 := T3) (T3 := T3) ha hq (fun h => absurd h hk) ht (fun s hs => uF_ne (fun e => by subst e; exact hs hq)) (fun i hi => ?_) ⟨1, 1, uF_eq _ _ _⟩ (fun h => absurd h hk) hFT (fun b hb => (hF1.1 b hb).2.1) (sm_Km hS1 (uF_eq _ _ _)) (sm_Rm hS1 (uF_eq _ _ _)) (fun h => absurd h hk) ⟨cq, hTq⟩ (fun h => absurd h hk) (fun _ => rfl) (fun b hb => (hF2.1 b hb).2.1) (fun s hs => ?_) (fun i hi => ?_) (fun h => absurd h hk) e4
    · have : i ≠ a := fun e => by subst e; exact hi ha
      exact ⟨uF_ne this, uF_ne this⟩
    · obtain ⟨ow, sl, cap, e⟩ := hFT.2.2.2.2.2.1 s hs
      exact sm_Rm hS2 e
    · obtain ⟨v, e⟩ := ek_itm hFT.2.2.2.2.2.2.1 i hi
      exact sm_Km hS2 e
  · have hm1 := (hF1.1 t ht).2.1
    have n1 : t ≠ q := fun e => by subst e; exact ht hq
    rw [hFT.2.2.2.2.2.2.2.1 t hm1 n1]; exact uF_ne n1
theorem l_scopy2 {n : Nat} (ihn : cpH w id jd T2 n) (hij : id ≠ jd) {g : XG} {m : XM} {T : XT} {x o p d rs rd : Nat} {A B : List XE} (h2 : SM w g m jd T2) (h : SM w g m id T) (hx : T2.2.1 x = some (.inr (1, o, p, rs, rd))) (hA : DT T2 o A) (hB : DT T2 p B) (hl : A.length ≤ n) (hlB : B.length ≤ n) (hl2 : A.length ≤ 250) (hl3 : B.length ≤ 250) (hd : 11 + 2 * hts A ≤ d) (hdB : 11 + 2 * hts B ≤ d) :
    CT w MX9_copy d (6 + 7 * (cnt A + if 1 = 1 then cnt B else 0)) (82 + 88 * (cnt A + if 1 = 1 then cnt B else 0)) [.ref x] m (scP w g m id T 1 A B) xN := by
  refine ct_intro (lv := [some (.ref x), none, none]) 2 (by decide) rfl (Nat.le_of_ble_eq_true rfl) rfl ?_
  simp only [if_pos]
  obtain ⟨sa, bx, f, hx1, hsa, hfp, hfq, -⟩ := sm_str h2 hx
  rw [if_pos rfl] at hsa
  first | refine g_aload_n dX9_copy_0 rfl rfl rfl ?_ | refine g_aload_nR dX9_copy_0 rfl rfl rfl ?_ | refine g_aload_nN dX9_copy_0 rfl rfl rfl ?_
  refine g_get fl_X9_9_X9 dX9_copy_1 rfl (Or.inl (by first | assumption | exact xu_eq _ _ _ | exact (xu_ne (by first | assumption | exact Ne.symm (by assumption))).trans (by first | assumption | exact xu_eq _ _ _) | exact (xu_ne (by first | assumption | exact Ne.symm (by assumption))).trans ((xu_ne (by first | assumption | exact Ne.symm (by assumption))).trans (by first | assumption | exact xu_eq _ _ _)) | exact (xu_ne (by first | assumption | exact Ne.symm (by assumption))).trans ((xu_ne (by first | assumption | exact Ne.symm (by assumption))).trans ((xu_ne (by first | assumption | exact Ne.symm (by assumption))).trans (by first | assumption | exact xu_eq _ _ _))))) rfl ?_
  refine g_static iS_X9_empty q2104 (c_empty2 (d := d - 1) (by omega) h) dX9_copy_4 rfl rfl rfl (by first | exact Nat.le_of_ble_eq_true rfl | simp [Value.category, rf_cat]) (by omega) (by omega) (by omega) xN_no (fun v_4 m_4 h_4 => ?_)
  obtain ⟨a, q, q2, g1, rfl, ha, hq, hq2, haq, haq2, hqq, hS1, hF1⟩ := h_4
  have h21 := SM_fr hF1 hij.symm h2
  have hRq : (uF (uF T.1 q (some (some a, 0, 0, []))) q2 (some (some a, 1, 0, []))) q = some (some a, 0, 0, []) := (uF_ne hqq.symm).trans (uF_eq _ _ _)
  obtain ⟨sa, bx, f, hx1, hsa, hfp, hfq, -⟩ := sm_str h21 hx
  rw [if_pos rfl] at hsa
  obtain ⟨sb, by1, fb, hy1, hsb, hgp, -⟩ := sm_str hS1 (uF_eq _ _ _)
  rw [if_pos rfl] at hsb
  obtain ⟨ow3, s3, c3, e3⟩ := dt_row hA
  obtain ⟨lo, ao, bo, mo, ho, klo, hAo, -⟩ := sm_row h21 e3
  obtain ⟨lq, aq, bq, mq, hq1, -⟩ := sm_row hS1 hRq
  first | refine g_ast1 dX9_copy_7 rfl (by decide) (k := ?_) | refine g_astR1 dX9_copy_7 rfl (by decide) (k := ?_) | refine g_astN1 dX9_copy_7 rfl (by decide) (k := ?_)
  refine g_iconst (v := (nI 0)) dX9_copy_8 rfl rfl ?_
  refine g_ist2 dX9_copy_9 rfl (by decide) (k := ?_)
  refine g_iload_n dX9_copy_10 rfl rfl rfl ?_
  first | refine g_aload_n dX9_copy_11 rfl rfl rfl ?_ | refine g_aload_nR dX9_copy_11 rfl rfl rfl ?_ | refine g_aload_nN dX9_copy_11 rfl rfl rfl ?_
  refine g_get fl_X9_15_X9 dX9_copy_12 rfl (Or.inl (by first | assumption | exact xu_eq _ _ _ | exact (xu_ne (by first | assumption | exact Ne.symm (by assumption))).trans (by first | assumption | exact xu_eq _ _ _) | exact (xu_ne (by first | assumption | exact Ne.symm (by assumption))).trans ((xu_ne (by first | assumption | exact Ne.symm (by assumption))).trans (by first | assumption | exact xu_eq _ _ _)) | exact (xu_ne (by first | assumption | exact Ne.symm (by assumption))).trans ((xu_ne (by first | assumption | exact Ne.symm (by assumption))).trans ((xu_ne (by first | assumption | exact Ne.symm (by assumption))).trans (by first | assumption | exact xu_eq _ _ _))))) rfl ?_
  refine g_alenq (t := 6) rfl dX9_copy_15 rfl (by first | assumption | exact Or.inl (by first | assumption | exact xu_eq _ _ _ | exact (xu_ne (by first | assumption | exact Ne.symm (by assumption))).trans (by first | assumption | exact xu_eq _ _ _) | exact (xu_ne (by first | assumption | exact Ne.symm (by assumption))).trans ((xu_ne (by first | assumption | exact Ne.symm (by assumption))).trans (by first | assumption | exact xu_eq _ _ _)) | exact (xu_ne (by first | assumption | exact Ne.symm (by assumption))).trans ((xu_ne (by first | assumption | exact Ne.symm (by assumption))).trans ((xu_ne (by first | assumption | exact Ne.symm (by assumption))).trans (by first | assumption | exact xu_eq _ _ _))))) ?_
  refine g_icmpn_ge (tgt := 55) dX9_copy_16 (by decide) rfl (by omega) (by omega) (fun c_16 => by omega) (fun c_16 => ?_)
  first | refine g_aload_n dX9_copy_19 rfl rfl rfl ?_ | refine g_aload_nR dX9_copy_19 rfl rfl rfl ?_ | refine g_aload_nN dX9_copy_19 rfl rfl rfl ?_
  refine g_get fl_X9_15_X9 dX9_copy_20 rfl (Or.inl (by first | assumption | exact xu_eq _ _ _ | exact (xu_ne (by first | assumption | exact Ne.symm (by assumption))).trans (by first | assumption | exact xu_eq _ _ _) | exact (xu_ne (by first | assumption | exact Ne.symm (by assumption))).trans ((xu_ne (by first | assumption | exact Ne.symm (by assumption))).trans (by first | assumption | exact xu_eq _ _ _)) | exact (xu_ne (by first | assumption | exact Ne.symm (by assumption))).trans ((xu_ne (by first | assumption | exact Ne.symm (by assumption))).trans ((xu_ne (by first | assumption | exact Ne.symm (by assumption))).trans (by first | assumption | exact xu_eq _ _ _))))) rfl ?_
  refine g_iload_n dX9_copy_23 rfl rfl rfl ?_
  refine g_aaldn (t := 6) rfl dX9_copy_24 rfl (by first | assumption | exact Or.inl (by first | assumption | exact xu_eq _ _ _ | exact (xu_ne (by first | assumption | exact Ne.symm (by assumption))).trans (by first | assumption | exact xu_eq _ _ _) | exact (xu_ne (by first | assumption | exact Ne.symm (by assumption))).trans ((xu_ne (by first | assumption | exact Ne.symm (by assumption))).trans (by first | assumption | exact xu_eq _ _ _)) | exact (xu_ne (by first | assumption | exact Ne.symm (by assumption))).trans ((xu_ne (by first | assumption | exact Ne.symm (by assumption))).trans ((xu_ne (by first | assumption | exact Ne.symm (by assumption))).trans (by first | assumption | exact xu_eq _ _ _))))) (by omega) (by omega) ?_
  rw [hgp]
  first | refine g_aload_n dX9_copy_25 rfl rfl rfl ?_ | refine g_aload_nR dX9_copy_25 rfl rfl rfl ?_ | refine g_aload_nN dX9_copy_25 rfl rfl rfl ?_
  refine g_get fl_X9_15_X9 dX9_copy_26 rfl (Or.inl (by first | assumption | exact xu_eq _ _ _ | exact (xu_ne (by first | assumption | exact Ne.symm (by assumption))).trans (by first | assumption | exact xu_eq _ _ _) | exact (xu_ne (by first | assumption | exact Ne.symm (by assumption))).trans ((xu_ne (by first | assumption | exact Ne.symm (by assumption))).trans (by first | assumption | exact xu_eq _ _ _)) | exact (xu_ne (by first | assumption | exact Ne.symm (by assumption))).trans ((xu_ne (by first | assumption | exact Ne.symm (by assumption))).trans ((xu_ne (by first | assumption | exact Ne.symm (by assumption))).trans (by first | assumption | exact xu_eq _ _ _))))) rfl ?_
  refine g_iload_n dX9_copy_29 rfl rfl rfl ?_
  refine g_aaldn (t := 6) rfl dX9_copy_30 rfl (by first | assumption | exact Or.inl (by first | assumption | exact xu_eq _ _ _ | exact (xu_ne (by first | assumption | exact Ne.symm (by assumption))).trans (by first | assumption | exact xu_eq _ _ _) | exact (xu_ne (by first | assumption | exact Ne.symm (by assumption))).trans ((xu_ne (by first | assumption | exact Ne.symm (by assumption))).trans (by first | assumption | exact xu_eq _ _ _)) | exact (xu_ne (by first | assumption | exact Ne.symm (by assumption))).trans ((xu_ne (by first | assumption | exact Ne.symm (by assumption))).trans ((xu_ne (by first | assumption | exact Ne.symm (by assumption))).trans (by first | assumption | exact xu_eq _ _ _))))) (by omega) (by omega) ?_
  rw [hfp]
  refine g_iconst (v := (nI 0)) dX9_copy_31 rfl rfl ?_
  first | refine g_aload_n dX9_copy_32 rfl rfl rfl ?_ | refine g_aload_nR dX9_copy_32 rfl rfl rfl ?_ | refine g_aload_nN dX9_copy_32 rfl rfl rfl ?_
  refine g_get fl_X9_15_X9 dX9_copy_33 rfl (Or.inl (by first | assumption | exact xu_eq _ _ _ | exact (xu_ne (by first | assumption | exact Ne.symm (by assumption))).trans (by first | assumption | exact xu_eq _ _ _) | exact (xu_ne (by first | assumption | exact Ne.symm (by assumption))).trans ((xu_ne (by first | assumption | exact Ne.symm (by assumption))).trans (by first | assumption | exact xu_eq _ _ _)) | exact (xu_ne (by first | assumption | exact Ne.symm (by assumption))).trans ((xu_ne (by first | assumption | exact Ne.symm (by assumption))).trans ((xu_ne (by first | assumption | exact Ne.symm (by assumption))).trans (by first | assumption | exact xu_eq _ _ _))))) rfl ?_
  refine g_iload_n dX9_copy_36 rfl rfl rfl ?_
  refine g_aaldn (t := 6) rfl dX9_copy_37 rfl (by first | assumption | exact Or.inl (by first | assumption | exact xu_eq _ _ _ | exact (xu_ne (by first | assumption | exact Ne.symm (by assumption))).trans (by first | assumption | exact xu_eq _ _ _) | exact (xu_ne (by first | assumption | exact Ne.symm (by assumption))).trans ((xu_ne (by first | assumption | exact Ne.symm (by assumption))).trans (by first | assumption | exact xu_eq _ _ _)) | exact (xu_ne (by first | assumption | exact Ne.symm (by assumption))).trans ((xu_ne (by first | assumption | exact Ne.symm (by assumption))).trans ((xu_ne (by first | assumption | exact Ne.symm (by assumption))).trans (by first | assumption | exact xu_eq _ _ _))))) (by omega) (by omega) ?_
  rw [hfp]
  refine g_get fl_X9_49_X4 dX9_copy_38 rfl (Or.inl (by first | assumption | exact xu_eq _ _ _ | exact (xu_ne (by first | assumption | exact Ne.symm (by assumption))).trans (by first | assumption | exact xu_eq _ _ _) | exact (xu_ne (by first | assumption | exact Ne.symm (by assumption))).trans ((xu_ne (by first | assumption | exact Ne.symm (by assumption))).trans (by first | assumption | exact xu_eq _ _ _)) | exact (xu_ne (by first | assumption | exact Ne.symm (by assumption))).trans ((xu_ne (by first | assumption | exact Ne.symm (by assumption))).trans ((xu_ne (by first | assumption | exact Ne.symm (by assumption))).trans (by first | assumption | exact xu_eq _ _ _))))) rfl ?_
  refine g_ifaceP iI_J26_size_J26 q2112 (c_size (d := d - 1) (by omega) hAo) (Or.inl (by first | assumption | exact xu_eq _ _ _ | exact (xu_ne (by first | assumption | exact Ne.symm (by assumption))).trans (by first | assumption | exact xu_eq _ _ _) | exact (xu_ne (by first | assumption | exact Ne.symm (by assumption))).trans ((xu_ne (by first | assumption | exact Ne.symm (by assumption))).trans (by first | assumption | exact xu_eq _ _ _)) | exact (xu_ne (by first | assumption | exact Ne.symm (by assumption))).trans ((xu_ne (by first | assumption | exact Ne.symm (by assumption))).trans ((xu_ne (by first | assumption | exact Ne.symm (by assumption))).trans (by first | assumption | exact xu_eq _ _ _))))) rfl (by decide) dX9_copy_41 rfl rfl rfl (by first | exact Nat.le_of_ble_eq_true rfl | simp [Value.category, rf_cat]) (by omega) xN_no ?_
  refine g_virtual iV_X4_addCopies q2113 (ihn A o hl hA [] A [] (by simp) (bd_nil o) hA.1 (bd_nil o) g1 _ _ q 0 _ 0 0 (d - 1) (7 * cnt A) (88 * cnt A + 30) (some a) [] h21 hS1 hRq (by simpa using hl2) rfl (by simp [drs]) (by omega) (by omega) (by simp [Psi]; omega)) (Or.inl (by first | assumption | exact xu_eq _ _ _ | exact (xu_ne (by first | assumption | exact Ne.symm (by assumption))).trans (by first | assumption | exact xu_eq _ _ _) | exact (xu_ne (by first | assumption | exact Ne.symm (by assumption))).trans ((xu_ne (by first | assumption | exact Ne.symm (by assumption))).trans (by first | assumption | exact xu_eq _ _ _)) | exact (xu_ne (by first | assumption | exact Ne.symm (by assumption))).trans ((xu_ne (by first | assumption | exact Ne.symm (by assumption))).trans ((xu_ne (by first | assumption | exact Ne.symm (by assumption))).trans (by first | assumption | exact xu_eq _ _ _))))) rfl (by decide) dX9_copy_46 rfl rfl rfl (by first | exact Nat.le_of_ble_eq_true rfl | simp [Value.category, rf_cat]) (by omega) (by omega) (by omega) xN_no (fun v_46 m_46 h_46 => ?_)
  obtain ⟨NA, g2, T3, cq, rfl, hS2, hF2, hFT, hTq, hsh, -⟩ := h_46
  have h22 := SM_fr hF2 hij.symm h21
  obtain ⟨sa, bx, f, hx1, hsa, hfp, hfq, -⟩ := sm_str h22 hx
  rw [if_pos rfl] at hsa
  have hfq := hfq rfl
  have k3a : T3.2.1 a = some (.inr (1, q, q2, 1, 1)) := (hFT.2.2.2.2.2.2.2.2 a (sm_Km hS1 (uF_eq _ _ _))).1.trans (uF_eq _ _ _)
  have r3p : T3.1 q2 = some (some a, 1, 0, []) := (hFT.2.2.2.2.2.2.2.1 q2 (sm_Rm hS1 (uF_eq _ _ _)) hqq).trans (uF_eq _ _ _)
  obtain ⟨sb, by1, fb, hy1, hsb, hgp, hgq, -⟩ := sm_str hS2 k3a
  rw [if_pos rfl] at hsb
  have hgq := hgq rfl
  obtain ⟨ow4, s4, c4, e4⟩ := dt_row hB
  obtain ⟨lo, ao, bo, mo, ho, klo, hAo, -⟩ := sm_row h22 e4
  obtain ⟨lq, aq, bq, mq, hq1, -⟩ := sm_row hS2 r3p
  have hS2m : ∀ i, ∀ v, T3.2.1 i = some v → m_46 i ≠ none := fun i v e => sm_Km hS2 e
  have hS2r : ∀ i, ∀ v, T3.1 i = some v → m_46 i ≠ none := fun i v e => sm_Rm hS2 e
  generalize m_46 = m5 at *
  refine g_incn2 dX9_copy_49 rfl (by decide) (k := ?_)
  refine g_goto (tgt := 10) dX9_copy_52 (by decide) ?_
  refine g_iload_n dX9_copy_10 rfl rfl rfl ?_
  first | refine g_aload_n dX9_copy_11 rfl rfl rfl ?_ | refine g_aload_nR dX9_copy_11 rfl rfl rfl ?_ | refine g_aload_nN dX9_copy_11 rfl rfl rfl ?_
  refine g_get fl_X9_15_X9 dX9_copy_12 rfl (Or.inl (by first | assumption | exact xu_eq _ _ _ | exact (xu_ne (by first | assumption | exact Ne.symm (by assumption))).trans (by first | assumption | exact xu_eq _ _ _) | exact (xu_ne (by first | assumption | exact Ne.symm (by assumption))).trans ((xu_ne (by first | assumption | exact Ne.symm (by assumption))).trans (by first | assumption | exact xu_eq _ _ _)) | exact (xu_ne (by first | assumption | exact Ne.symm (by assumption))).trans ((xu_ne (by first | assumption | exact Ne.symm (by assumption))).trans ((xu_ne (by first | assumption | exact Ne.symm (by assumption))).trans (by first | assumption | exact xu_eq _ _ _))))) rfl ?_
  refine g_alenq (t := 6) rfl dX9_copy_15 rfl (by first | assumption | exact Or.inl (by first | assumption | exact xu_eq _ _ _ | exact (xu_ne (by first | assumption | exact Ne.symm (by assumption))).trans (by first | assumption | exact xu_eq _ _ _) | exact (xu_ne (by first | assumption | exact Ne.symm (by assumption))).trans ((xu_ne (by first | assumption | exact Ne.symm (by assumption))).trans (by first | assumption | exact xu_eq _ _ _)) | exact (xu_ne (by first | assumption | exact Ne.symm (by assumption))).trans ((xu_ne (by first | assumption | exact Ne.symm (by assumption))).trans ((xu_ne (by first | assumption | exact Ne.symm (by assumption))).trans (by first | assumption | exact xu_eq _ _ _))))) ?_
  refine g_icmpn_ge (tgt := 55) dX9_copy_16 (by decide) rfl (by omega) (by omega) (fun c_16 => by omega) (fun c_16 => ?_)
  first | refine g_aload_n dX9_copy_19 rfl rfl rfl ?_ | refine g_aload_nR dX9_copy_19 rfl rfl rfl ?_ | refine g_aload_nN dX9_copy_19 rfl rfl rfl ?_
  refine g_get fl_X9_15_X9 dX9_copy_20 rfl (Or.inl (by first | assumption | exact xu_eq _ _ _ | exact (xu_ne (by first | assumption | exact Ne.symm (by assumption))).trans (by first | assumption | exact xu_eq _ _ _) | exact (xu_ne (by first | assumption | exact Ne.symm (by assumption))).trans ((xu_ne (by first | assumption | exact Ne.symm (by assumption))).trans (by first | assumption | exact xu_eq _ _ _)) | exact (xu_ne (by first | assumption | exact Ne.symm (by assumption))).trans ((xu_ne (by first | assumption | exact Ne.symm (by assumption))).trans ((xu_ne (by first | assumption | exact Ne.symm (by assumption))).trans (by first | assumption | exact xu_eq _ _ _))))) rfl ?_
  refine g_iload_n dX9_copy_23 rfl rfl rfl ?_
  refine g_aaldn (t := 6) rfl dX9_copy_24 rfl (by first | assumption | exact Or.inl (by first | assumption | exact xu_eq _ _ _ | exact (xu_ne (by first | assumption | exact Ne.symm (by assumption))).trans (by first | assumption | exact xu_eq _ _ _) | exact (xu_ne (by first | assumption | exact Ne.symm (by assumption))).trans ((xu_ne (by first | assumption | exact Ne.symm (by assumption))).trans (by first | assumption | exact xu_eq _ _ _)) | exact (xu_ne (by first | assumption | exact Ne.symm (by assumption))).trans ((xu_ne (by first | assumption | exact Ne.symm (by assumption))).trans ((xu_ne (by first | assumption | exact Ne.symm (by assumption))).trans (by first | assumption | exact xu_eq _ _ _))))) (by omega) (by omega) ?_
  rw [hgq]
  first | refine g_aload_n dX9_copy_25 rfl rfl rfl ?_ | refine g_aload_nR dX9_copy_25 rfl rfl rfl ?_ | refine g_aload_nN dX9_copy_25 rfl rfl rfl ?_
  refine g_get fl_X9_15_X9 dX9_copy_26 rfl (Or.inl (by first | assumption | exact xu_eq _ _ _ | exact (xu_ne (by first | assumption | exact Ne.symm (by assumption))).trans (by first | assumption | exact xu_eq _ _ _) | exact (xu_ne (by first | assumption | exact Ne.symm (by assumption))).trans ((xu_ne (by first | assumption | exact Ne.symm (by assumption))).trans (by first | assumption | exact xu_eq _ _ _)) | exact (xu_ne (by first | assumption | exact Ne.symm (by assumption))).trans ((xu_ne (by first | assumption | exact Ne.symm (by assumption))).trans ((xu_ne (by first | assumption | exact Ne.symm (by assumption))).trans (by first | assumption | exact xu_eq _ _ _))))) rfl ?_
  refine g_iload_n dX9_copy_29 rfl rfl rfl ?_
  refine g_aaldn (t := 6) rfl dX9_copy_30 rfl (by first | assumption | exact Or.inl (by first | assumption | exact xu_eq _ _ _ | exact (xu_ne (by first | assumption | exact Ne.symm (by assumption))).trans (by first | assumption | exact xu_eq _ _ _) | exact (xu_ne (by first | assumption | exact Ne.symm (by assumption))).trans ((xu_ne (by first | assumption | exact Ne.symm (by assumption))).trans (by first | assumption | exact xu_eq _ _ _)) | exact (xu_ne (by first | assumption | exact Ne.symm (by assumption))).trans ((xu_ne (by first | assumption | exact Ne.symm (by assumption))).trans ((xu_ne (by first | assumption | exact Ne.symm (by assumption))).trans (by first | assumption | exact xu_eq _ _ _))))) (by omega) (by omega) ?_
  rw [hfq]
  refine g_iconst (v := (nI 0)) dX9_copy_31 rfl rfl ?_
  first | refine g_aload_n dX9_copy_32 rfl rfl rfl ?_ | refine g_aload_nR dX9_copy_32 rfl rfl rfl ?_ | refine g_aload_nN dX9_copy_32 rfl rfl rfl ?_
  refine g_get fl_X9_15_X9 dX9_copy_33 rfl (Or.inl (by first | assumption | exact xu_eq _ _ _ | exact (xu_ne (by first | assumption | exact Ne.symm (by assumption))).trans (by first | assumption | exact xu_eq _ _ _) | exact (xu_ne (by first | assumption | exact Ne.symm (by assumption))).trans ((xu_ne (by first | assumption | exact Ne.symm (by assumption))).trans (by first | assumption | exact xu_eq _ _ _)) | exact (xu_ne (by first | assumption | exact Ne.symm (by assumption))).trans ((xu_ne (by first | assumption | exact Ne.symm (by assumption))).trans ((xu_ne (by first | assumption | exact Ne.symm (by assumption))).trans (by first | assumption | exact xu_eq _ _ _))))) rfl ?_
  refine g_iload_n dX9_copy_36 rfl rfl rfl ?_
  refine g_aaldn (t := 6) rfl dX9_copy_37 rfl (by first | assumption | exact Or.inl (by first | assumption | exact xu_eq _ _ _ | exact (xu_ne (by first | assumption | exact Ne.symm (by assumption))).trans (by first | assumption | exact xu_eq _ _ _) | exact (xu_ne (by first | assumption | exact Ne.symm (by assumption))).trans ((xu_ne (by first | assumption | exact Ne.symm (by assumption))).trans (by first | assumption | exact xu_eq _ _ _)) | exact (xu_ne (by first | assumption | exact Ne.symm (by assumption))).trans ((xu_ne (by first | assumption | exact Ne.symm (by assumption))).trans ((xu_ne (by first | assumption | exact Ne.symm (by assumption))).trans (by first | assumption | exact xu_eq _ _ _))))) (by omega) (by omega) ?_
  rw [hfq]
  refine g_get fl_X9_49_X4 dX9_copy_38 rfl (Or.inl (by first | assumption | exact xu_eq _ _ _ | exact (xu_ne (by first | assumption | exact Ne.symm (by assumption))).trans (by first | assumption | exact xu_eq _ _ _) | exact (xu_ne (by first | assumption | exact Ne.symm (by assumption))).trans ((xu_ne (by first | assumption | exact Ne.symm (by assumption))).trans (by first | assumption | exact xu_eq _ _ _)) | exact (xu_ne (by first | assumption | exact Ne.symm (by assumption))).trans ((xu_ne (by first | assumption | exact Ne.symm (by assumption))).trans ((xu_ne (by first | assumption | exact Ne.symm (by assumption))).trans (by first | assumption | exact xu_eq _ _ _))))) rfl ?_
  refine g_ifaceP iI_J26_size_J26 q2112 (c_size (d := d - 1) (by omega) hAo) (Or.inl (by first | assumption | exact xu_eq _ _ _ | exact (xu_ne (by first | assumption | exact Ne.symm (by assumption))).trans (by first | assumption | exact xu_eq _ _ _) | exact (xu_ne (by first | assumption | exact Ne.symm (by assumption))).trans ((xu_ne (by first | assumption | exact Ne.symm (by assumption))).trans (by first | assumption | exact xu_eq _ _ _)) | exact (xu_ne (by first | assumption | exact Ne.symm (by assumption))).trans ((xu_ne (by first | assumption | exact Ne.symm (by assumption))).trans ((xu_ne (by first | assumption | exact Ne.symm (by assumption))).trans (by first | assumption | exact xu_eq _ _ _))))) rfl (by decide) dX9_copy_41 rfl rfl rfl (by first | exact Nat.le_of_ble_eq_true rfl | simp [Value.category, rf_cat]) (by omega) xN_no ?_
  refine g_virtual iV_X4_addCopies q2113 (ihn B p hlB hB [] B [] (by simp) (bd_nil p) hB.1 (bd_nil p) g2 _ _ q2 0 _ 1 0 (d - 1) (7 * cnt B) (88 * cnt B + 30) (some a) [] h22 hS2 r3p (by simpa using hl3) rfl (by simp [drs]) (by omega) (by omega) (by simp [Psi]; omega)) (Or.inl (by first | assumption | exact xu_eq _ _ _ | exact (xu_ne (by first | assumption | exact Ne.symm (by assumption))).trans (by first | assumption | exact xu_eq _ _ _) | exact (xu_ne (by first | assumption | exact Ne.symm (by assumption))).trans ((xu_ne (by first | assumption | exact Ne.symm (by assumption))).trans (by first | assumption | exact xu_eq _ _ _)) | exact (xu_ne (by first | assumption | exact Ne.symm (by assumption))).trans ((xu_ne (by first | assumption | exact Ne.symm (by assumption))).trans ((xu_ne (by first | assumption | exact Ne.symm (by assumption))).trans (by first | assumption | exact xu_eq _ _ _))))) rfl (by decide) dX9_copy_46 rfl rfl rfl (by first | exact Nat.le_of_ble_eq_true rfl | simp [Value.category, rf_cat]) (by omega) (by omega) (by omega) xN_no (fun v_46 m_46 h_46 => ?_)
  obtain ⟨NB, g3, T5, cq5, rfl, hS3, hF3, hFT3, hTq3, hsh3, -⟩ := h_46
  have h23 := SM_fr hF3 hij.symm h22
  obtain ⟨sa, bx, f, hx1, hsa, -⟩ := sm_str h23 hx
  rw [if_pos rfl] at hsa
  refine g_incn2 dX9_copy_49 rfl (by decide) (k := ?_)
  refine g_goto (tgt := 10) dX9_copy_52 (by decide) ?_
  refine g_iload_n dX9_copy_10 rfl rfl rfl ?_
  first | refine g_aload_n dX9_copy_11 rfl rfl rfl ?_ | refine g_aload_nR dX9_copy_11 rfl rfl rfl ?_ | refine g_aload_nN dX9_copy_11 rfl rfl rfl ?_
  refine g_get fl_X9_15_X9 dX9_copy_12 rfl (Or.inl (by first | assumption | exact xu_eq _ _ _ | exact (xu_ne (by first | assumption | exact Ne.symm (by assumption))).trans (by first | assumption | exact xu_eq _ _ _) | exact (xu_ne (by first | assumption | exact Ne.symm (by assumption))).trans ((xu_ne (by first | assumption | exact Ne.symm (by assumption))).trans (by first | assumption | exact xu_eq _ _ _)) | exact (xu_ne (by first | assumption | exact Ne.symm (by assumption))).trans ((xu_ne (by first | assumption | exact Ne.symm (by assumption))).trans ((xu_ne (by first | assumption | exact Ne.symm (by assumption))).trans (by first | assumption | exact xu_eq _ _ _))))) rfl ?_
  refine g_alenq (t := 6) rfl dX9_copy_15 rfl (by first | assumption | exact Or.inl (by first | assumption | exact xu_eq _ _ _ | exact (xu_ne (by first | assumption | exact Ne.symm (by assumption))).trans (by first | assumption | exact xu_eq _ _ _) | exact (xu_ne (by first | assumption | exact Ne.symm (by assumption))).trans ((xu_ne (by first | assumption | exact Ne.symm (by assumption))).trans (by first | assumption | exact xu_eq _ _ _)) | exact (xu_ne (by first | assumption | exact Ne.symm (by assumption))).trans ((xu_ne (by first | assumption | exact Ne.symm (by assumption))).trans ((xu_ne (by first | assumption | exact Ne.symm (by assumption))).trans (by first | assumption | exact xu_eq _ _ _))))) ?_
  refine g_icmpn_ge (tgt := 55) dX9_copy_16 (by decide) rfl (by omega) (by omega) (fun c_16 => ?_) (fun c_16 => by omega)
  first | refine g_aload_n dX9_copy_55 rfl rfl rfl ?_ | refine g_aload_nR dX9_copy_55 rfl rfl rfl ?_ | refine g_aload_nN dX9_copy_55 rfl rfl rfl ?_
  refine g_areturn dX9_copy_56 rfl (Or.inl ⟨_, rfl⟩) (Or.inr ⟨_, rfl⟩) ⟨a, q, q2, NA, NB, g3, T5, rfl, hS3, Fr_tr hF1 (Fr_tr hF2 hF3), ?_, fun t v T4 ht e4 => ?_, fun t ht => ?_, hsh, fun _ => hsh3, hFT.1, fun _ => hFT3.1⟩
  · have := (hFT3.2.2.2.2.2.2.2.2 a (hS2m a _ k3a)).1
    rw [this, k3a]; exact fun h => by cases h
  · refine ft_str (m1 := m_4) (m2 := m5) (T1 := (uF (uF T.1 q (some (some a, 0, 0, []))) q2 (some (some a, 1, 0, [])), uF T.2.1 a (some (.inr (1, q, q2, 1, 1))), uF T.2.2 a none)) (T2 := T3) (T3 := T5) ha hq (fun _ => ⟨hq2, hqq⟩) ht (fun s hs => ?_) (fun i hi => ?_) ⟨1, 1, uF_eq _ _ _⟩ (fun _ => ⟨_, _, uF_eq _ _ _⟩) hFT (fun b hb => (hF1.1 b hb).2.1) (sm_Km hS1 (uF_eq _ _ _)) (sm_Rm hS1 hRq) (fun _ => sm_Rm hS1 (uF_eq _ _ _)) ⟨cq, hTq⟩ (fun _ => hFT3) (fun h => absurd rfl h) (fun b hb => (hF2.1 b hb).2.1) (fun s hs => ?_) (fun i hi => ?_) (fun _ => ⟨cq5, hTq3⟩) e4
    · exact (uF_ne (fun e => by subst e; exact hs hq2)).trans (uF_ne (fun e => by subst e; exact hs hq))
    · have : i ≠ a := fun e => by subst e; exact hi ha
      exact ⟨uF_ne this, uF_ne this⟩
    · obtain ⟨ow, sl, cap, e⟩ := hFT.2.2.2.2.2.1 s hs
      exact hS2r s _ e
    · obtain ⟨v, e⟩ := ek_itm hFT.2.2.2.2.2.2.1 i hi
      exact hS2m i v e
  · have hm1 := (hF1.1 t ht).2.1
    have hm2 := (hF2.1 t hm1).2.1
    have n1 : t ≠ q := fun e => by subst e; exact ht hq
    have n2 : t ≠ q2 := fun e => by subst e; exact ht hq2
    rw [hFT3.2.2.2.2.2.2.2.1 t hm2 n2, hFT.2.2.2.2.2.2.2.1 t hm1 n1]
    exact (uF_ne n2).trans (uF_ne n1)
theorem c_addCopies (hij : id ≠ jd) : ∀ n, cpH w id jd T2 n := by
  intro n
  induction n with
  | zero =>
    intro M r hM hT X N0 Y hMe hX hN hY g m T t i j sl cap d kc ks own is h2 h hR hlen hi hj hd hkc hks
    obtain rfl : M = [] := List.eq_nil_of_length_eq_zero (by omega)
    have hl0 := congrArg List.length hMe
    rw [List.length_append, List.length_append] at hl0
    simp only [List.length_nil] at hl0
    obtain rfl : N0 = [] := List.eq_nil_of_length_eq_zero (by omega)
    obtain rfl : X = [] := List.eq_nil_of_length_eq_zero (by omega)
    subst hi; subst hj
    refine ct_intro (lv := [some (.ref t), some (.ref r), some (.int (nI 0)), some (.int (nI 0)), none]) 1 (by decide) rfl (Nat.le_of_ble_eq_true rfl) rfl ?_
    refine g_iload_n dX4_addCopies_0 rfl rfl rfl ?_
    refine g_ist4 dX4_addCopies_1 rfl (by decide) (k := ?_)
    refine g_iload dX4_addCopies_3 rfl rfl ?_
    refine g_iload_n dX4_addCopies_5 rfl rfl rfl ?_
    refine g_icmpn_ge (tgt := 36) dX4_addCopies_6 (by decide) rfl (by omega) (by omega) (fun c_6 => ?_) (fun c_6 => by omega)
    exact g_return dX4_addCopies_36 rfl ⟨[], g, T, cap, rfl, h, Fr_rf _ _ _, ft_nil _ _ _, by rw [show drs t [] = [] from rfl, List.append_nil]; exact hR, rfl, rfl⟩
  | succ n ih =>
    intro M r hM hT X N0 Y hMe hX hN hY g m T t i j sl cap d kc ks own is h2 h hR hlen hi hj hd hkc hks
    subst hi; subst hj
    have hmt := sm_Rm h hR
    obtain ⟨ow0, sl0, cap0, hR0⟩ := dt_row hT
    have hdl : drs r M = drs r X ++ (drs r N0 ++ drs r Y) := by rw [hMe, drs_app, drs_app]
    have hll : (drs r X).length + ((drs r N0).length + (drs r Y).length) ≤ 400 := by
      have := sm_len h2 hR0
      rw [hdl] at this; simp at this; omega
    refine ct_intro (lv := [some (.ref t), some (.ref r), some (.int (nI (drs r X).length)), some (.int (nI ((drs r X).length + (drs r N0).length))), none]) 1 (by decide) rfl (Nat.le_of_ble_eq_true rfl) rfl ?_
    have loop : ∀ (l : Nat) (N2 : List XE), N2.length ≤ l → ∀ (N1 C1 : List XE) (g1 : XG) (m1 : XM) (T1 : XT) (cap1 kc ks : Nat), N0 = N1 ++ N2 → Bd r N1 → Bd r N2 → SM w g1 m1 id T1 → Fr id g m g1 m1 → FT m T T1 t C1 → T1.1 t = some (own, sl, cap1, is ++ drs t C1) → C1.map shE = N1.map shE → (drs t C1).length = (drs r N1).length → 7 * cnt N2 ≤ kc → 176 * cnt N2 + Psi (is ++ drs t C1).length cap1 ≤ 2 * ks →
        G w MX4_addCopies (xZ w (cpP w g m id T t own sl is r N0) xN) d kc ks 3 [some (.ref t), some (.ref r), some (.int (nI (drs r X).length)), some (.int (nI ((drs r X).length + (drs r N0).length))), some (.int (nI ((drs r X).length + (drs r N1).length)))] [] m1 := by
      intro l
      induction l with
      | zero =>
        intro N2 hl N1 C1 g1 m1 T1 cap1 kc ks hNe hN1 hN2 hS hF hFT hRt hsh hdd hkc hks
        obtain rfl : N2 = [] := List.eq_nil_of_length_eq_zero (by omega)
        rw [List.append_nil] at hNe; subst hNe
        refine g_iload dX4_addCopies_3 rfl rfl ?_
        refine g_iload_n dX4_addCopies_5 rfl rfl rfl ?_
        refine g_icmpn_ge (tgt := 36) dX4_addCopies_6 (by decide) rfl (by omega) (by omega) (fun c_6 => ?_) (fun c_6 => by omega)
        exact g_return dX4_addCopies_36 rfl ⟨C1, g1, T1, cap1, rfl, hS, hF, hFT, hRt, hsh, hdd⟩
      | succ l il =>
        intro N2 hl N1 C1 g1 m1 T1 cap1 kc ks hNe hN1 hN2 hS hF hFT hRt hsh hdd hkc hks
        have h21 := SM_fr hF hij.symm h2
        obtain ⟨la, ar, bx, mc, h1, k1, hA, h3, h4, h5, hz⟩ := sm_row h21 hR0
        obtain ⟨lt, at1, bt, mt, ht1, kt1, hAt, -⟩ := sm_row hS hRt
        have hle := (al_len hAt).1
        have hp := al_pot hle
        have hN0l : N0.length = N1.length + N2.length := by rw [hNe]; simp
        have hd1 := drs_len r N1
        have hcl : (is ++ drs t C1).length = is.length + (drs r N1).length := by rw [List.length_append, hdd]
        rcases bd_cases hN2 with rfl | ⟨c, x, N3, rfl, hb⟩ | ⟨k, x, o, p, A, B, N3, rfl, hbA, hbB, hb⟩
        · rw [List.append_nil] at hNe; subst hNe
          refine g_iload dX4_addCopies_3 rfl rfl ?_
          refine g_iload_n dX4_addCopies_5 rfl rfl rfl ?_
          refine g_icmpn_ge (tgt := 36) dX4_addCopies_6 (by decide) rfl (by omega) (by omega) (fun c_6 => ?_) (fun c_6 => by omega)
          exact g_return dX4_addCopies_36 rfl ⟨C1, g1, T1, cap1, rfl, hS, hF, hFT, hRt, hsh, hdd⟩
        · have hMe2 : M = (X ++ N1) ++ eS c x r :: (N3 ++ Y) := by rw [hMe, hNe]; simp
          obtain ⟨e1, e2, e3, e4, hx1, hcc, hci⟩ := dt_C h21 hT hMe2
          rw [drs_app, List.length_append] at e1
          have hln : (drs r N0).length = (drs r N1).length + ((drs r N3).length + 1) := by rw [hNe, drs_app, drs_sS]; simp
          rw [List.length_cons] at hl hN0l
          simp only [cnt] at hkc hks
          refine g_iload dX4_addCopies_3 rfl rfl ?_
          refine g_iload_n dX4_addCopies_5 rfl rfl rfl ?_
          refine g_icmpn_ge (tgt := 36) dX4_addCopies_6 (by decide) rfl (by omega) (by omega) (fun c_6 => by omega) (fun c_6 => ?_)
          first | refine g_aload_n dX4_addCopies_9 rfl rfl rfl ?_ | refine g_aload_nR dX4_addCopies_9 rfl rfl rfl ?_ | refine g_aload_nN dX4_addCopies_9 rfl rfl rfl ?_
          first | refine g_aload_n dX4_addCopies_10 rfl rfl rfl ?_ | refine g_aload_nR dX4_addCopies_10 rfl rfl rfl ?_ | refine g_aload_nN dX4_addCopies_10 rfl rfl rfl ?_
          refine g_get fl_X4_12_X4 dX4_addCopies_11 rfl (Or.inl (by first | assumption | exact xu_eq _ _ _ | exact (xu_ne (by first | assumption | exact Ne.symm (by assumption))).trans (by first | assumption | exact xu_eq _ _ _) | exact (xu_ne (by first | assumption | exact Ne.symm (by assumption))).trans ((xu_ne (by first | assumption | exact Ne.symm (by assumption))).trans (by first | assumption | exact xu_eq _ _ _)) | exact (xu_ne (by first | assumption | exact Ne.symm (by assumption))).trans ((xu_ne (by first | assumption | exact Ne.symm (by assumption))).trans ((xu_ne (by first | assumption | exact Ne.symm (by assumption))).trans (by first | assumption | exact xu_eq _ _ _))))) rfl ?_
          refine g_iload dX4_addCopies_14 rfl rfl ?_
          refine g_ifaceP iI_J26_get_J26 q1552 (c_get (d := d - 1) (by omega) hA e1) (Or.inl (by first | assumption | exact xu_eq _ _ _ | exact (xu_ne (by first | assumption | exact Ne.symm (by assumption))).trans (by first | assumption | exact xu_eq _ _ _) | exact (xu_ne (by first | assumption | exact Ne.symm (by assumption))).trans ((xu_ne (by first | assumption | exact Ne.symm (by assumption))).trans (by first | assumption | exact xu_eq _ _ _)) | exact (xu_ne (by first | assumption | exact Ne.symm (by assumption))).trans ((xu_ne (by first | assumption | exact Ne.symm (by assumption))).trans ((xu_ne (by first | assumption | exact Ne.symm (by assumption))).trans (by first | assumption | exact xu_eq _ _ _))))) rfl (by decide) dX4_addCopies_16 rfl rfl rfl (by first | exact Nat.le_of_ble_eq_true rfl | simp [Value.category, rf_cat]) (by omega) xN_no ?_
          refine g_castI q1473 dX4_addCopies_21 rfl (by assumption) ?_
          refine g_virtualA iU_X11_copy_X11 q2098 (c_symcopy (d := d - 1) (by omega) hS hx1 hcc) (Or.inl (by first | assumption | exact xu_eq _ _ _ | exact (xu_ne (by first | assumption | exact Ne.symm (by assumption))).trans (by first | assumption | exact xu_eq _ _ _) | exact (xu_ne (by first | assumption | exact Ne.symm (by assumption))).trans ((xu_ne (by first | assumption | exact Ne.symm (by assumption))).trans (by first | assumption | exact xu_eq _ _ _)) | exact (xu_ne (by first | assumption | exact Ne.symm (by assumption))).trans ((xu_ne (by first | assumption | exact Ne.symm (by assumption))).trans ((xu_ne (by first | assumption | exact Ne.symm (by assumption))).trans (by first | assumption | exact xu_eq _ _ _))))) rfl (by decide) dX4_addCopies_24 rfl rfl rfl (by first | exact Nat.le_of_ble_eq_true rfl | simp [Value.category, rf_cat]) (by omega) (by omega) (by omega) xN_no (fun v_24 m_24 h_24 => ?_)
          obtain ⟨a, g2, rfl, ha, hS2, hF2⟩ := h_24
          have hmt1 := (hF.1 t hmt).2.1
          obtain ⟨lt, at1, bt, mt, ht1, kt1, hAt, -⟩ := sm_row hS2 hRt
          show G w _ _ _ _ _ _ _ (.ref a :: .ref t :: []) _
          refine g_virtual iV_X4_add q1474 (c_radd (d := d - 1) (by omega) hS2 hRt (by omega) (x := a) (fun hn => by have hn2 := (uF_eq T1.2.1 a (some (.inl c))).symm.trans hn; cases hn2)) (Or.inl (by first | assumption | exact xu_eq _ _ _ | exact (xu_ne (by first | assumption | exact Ne.symm (by assumption))).trans (by first | assumption | exact xu_eq _ _ _) | exact (xu_ne (by first | assumption | exact Ne.symm (by assumption))).trans ((xu_ne (by first | assumption | exact Ne.symm (by assumption))).trans (by first | assumption | exact xu_eq _ _ _)) | exact (xu_ne (by first | assumption | exact Ne.symm (by assumption))).trans ((xu_ne (by first | assumption | exact Ne.symm (by assumption))).trans ((xu_ne (by first | assumption | exact Ne.symm (by assumption))).trans (by first | assumption | exact xu_eq _ _ _))))) rfl (by decide) dX4_addCopies_27 rfl rfl rfl (by first | exact Nat.le_of_ble_eq_true rfl | simp [Value.category, rf_cat]) (by omega) (by omega) (by omega) xN_no (fun v_27 m_27 h_27 => ?_)
          obtain ⟨rfl, g3, hS3, hF3⟩ := h_27
          have hFs := ft_sym (T := T1) (c := c) (v := (own, sl, alN (is ++ drs t C1).length cap1, is ++ drs t C1 ++ [a])) ha hmt1
          have hFT3 := ft_app hFT hFs (fun b hb => (hF.1 b hb).2.1) hmt (fun s hs => by
            obtain ⟨ow, sl, cap, e⟩ := hFT.2.2.2.2.2.1 s hs
            exact sm_Rm hS e) (fun i hi => by
            obtain ⟨v, e⟩ := ek_itm hFT.2.2.2.2.2.2.1 i hi
            exact sm_Km hS e)
          refine g_incn4 dX4_addCopies_30 rfl (by decide) (k := ?_)
          refine g_goto (tgt := 3) dX4_addCopies_33 (by decide) ?_
          have hal : (is ++ drs t C1 ++ [a]).length = (is ++ drs t C1).length + 1 := by rw [List.length_append]; rfl
          have hdc : drs t (C1 ++ [eS c a t]) = drs t C1 ++ [a] := by rw [drs_app, drs_sS]; rfl
          have := il N3 (by omega) (N1 ++ [eS c x r]) (C1 ++ [eS c a t]) g3 _ _ (alN (is ++ drs t C1).length cap1) (kc - 1 - 1) (ks - 2 - alS (is ++ drs t C1).length cap1) (by rw [hNe]; simp) (bd_app hN1 (bd_sym c x (bd_nil r))) hb hS3 (Fr_tr hF (Fr_tr hF2 hF3)) hFT3 (by rw [hdc, ← List.append_assoc]; exact uF_eq _ _ _) (by rw [List.map_append, List.map_append, hsh]; rfl) (by rw [hdc, drs_app, drs_sS, List.length_append, List.length_append, hdd]; rfl) (by omega) (by rw [hdc, ← List.append_assoc, hal]; omega)
          rw [drs_app, drs_sS] at this
          simp only [drs, List.length_append, List.length_cons, List.length_nil] at this
          simp only [List.length_append]
          exact this
        · have hMe2 : M = (X ++ N1) ++ (sI k x r o p A B ++ (N3 ++ Y)) := by rw [hMe, hNe]; simp
          obtain ⟨e1, e2, e3, eA, eB, ⟨ca, e5⟩, e6, hlen2, hht, ⟨sa, bx2, f, rs, rd, fo, fp, hx1, hsa, hfp, hfq, ho, hpp, e8, -, -⟩, e7, hci⟩ := dt_S h21 hT hMe2 (bd_app hX hN1) hbA hbB (bd_app hb hY)
          rw [drs_app, List.length_append] at e1
          have hln : (drs r N0).length = (drs r N1).length + ((drs r N3).length + 1) := by rw [hNe, drs_app, drs_app, e3]; simp
          rw [List.length_append, sI_len] at hN0l
          have hcp : CT w MX9_copy (d - 1) (6 + 7 * (cnt A + if k = 1 then cnt B else 0)) (82 + 88 * (cnt A + if k = 1 then cnt B else 0)) [.ref x] m1 (scP w g1 m1 id T1 k A B) xN := by
            by_cases hk : k = 1
            · subst hk
              rw [if_pos rfl] at hlen2 hht hN0l
              exact l_scopy2 ih hij h21 hS e8 eA (eB rfl) (by omega) (by omega) (by omega) (by omega) (by omega) (by omega)
            · exact l_scopy1 ih hij h21 hS hk e8 eA (by omega) (by omega) (by omega)
          have hcs : cnt (sI k x r o p A B ++ N3) = 1 + (cnt A + if k = 1 then cnt B else 0) + cnt N3 := by rw [cnt_app, cnt_sI]
          rw [hcs] at hkc hks
          have hlN : N3.length ≤ l := by rw [List.length_append, sI_len] at hl; omega
          have hN0l2 : N1.length + 1 ≤ N0.length := by omega
          generalize hu : (cnt A + if k = 1 then cnt B else 0) = u at *
          clear hht hlen2 hN0l hl hcs hpp hfq hsa
          refine g_iload dX4_addCopies_3 rfl rfl ?_
          refine g_iload_n dX4_addCopies_5 rfl rfl rfl ?_
          refine g_icmpn_ge (tgt := 36) dX4_addCopies_6 (by decide) rfl (by omega) (by omega) (fun c_6 => by omega) (fun c_6 => ?_)
          first | refine g_aload_n dX4_addCopies_9 rfl rfl rfl ?_ | refine g_aload_nR dX4_addCopies_9 rfl rfl rfl ?_ | refine g_aload_nN dX4_addCopies_9 rfl rfl rfl ?_
          first | refine g_aload_n dX4_addCopies_10 rfl rfl rfl ?_ | refine g_aload_nR dX4_addCopies_10 rfl rfl rfl ?_ | refine g_aload_nN dX4_addCopies_10 rfl rfl rfl ?_
          refine g_get fl_X4_12_X4 dX4_addCopies_11 rfl (Or.inl (by first | assumption | exact xu_eq _ _ _ | exact (xu_ne (by first | assumption | exact Ne.symm (by assumption))).trans (by first | assumption | exact xu_eq _ _ _) | exact (xu_ne (by first | assumption | exact Ne.symm (by assumption))).trans ((xu_ne (by first | assumption | exact Ne.symm (by assumption))).trans (by first | assumption | exact xu_eq _ _ _)) | exact (xu_ne (by first | assumption | exact Ne.symm (by assumption))).trans ((xu_ne (by first | assumption | exact Ne.symm (by assumption))).trans ((xu_ne (by first | assumption | exact Ne.symm (by assumption))).trans (by first | assumption | exact xu_eq _ _ _))))) rfl ?_
          refine g_iload dX4_addCopies_14 rfl rfl ?_
          refine g_ifaceP iI_J26_get_J26 q1552 (c_get (d := d - 1) (by omega) hA e1) (Or.inl (by first | assumption | exact xu_eq _ _ _ | exact (xu_ne (by first | assumption | exact Ne.symm (by assumption))).trans (by first | assumption | exact xu_eq _ _ _) | exact (xu_ne (by first | assumption | exact Ne.symm (by assumption))).trans ((xu_ne (by first | assumption | exact Ne.symm (by assumption))).trans (by first | assumption | exact xu_eq _ _ _)) | exact (xu_ne (by first | assumption | exact Ne.symm (by assumption))).trans ((xu_ne (by first | assumption | exact Ne.symm (by assumption))).trans ((xu_ne (by first | assumption | exact Ne.symm (by assumption))).trans (by first | assumption | exact xu_eq _ _ _))))) rfl (by decide) dX4_addCopies_16 rfl rfl rfl (by first | exact Nat.le_of_ble_eq_true rfl | simp [Value.category, rf_cat]) (by omega) xN_no ?_
          refine g_castI q1473 dX4_addCopies_21 rfl (by assumption) ?_
          refine g_virtualA iU_X9_copy_X9 q2098 (hcp) (Or.inl (by first | assumption | exact xu_eq _ _ _ | exact (xu_ne (by first | assumption | exact Ne.symm (by assumption))).trans (by first | assumption | exact xu_eq _ _ _) | exact (xu_ne (by first | assumption | exact Ne.symm (by assumption))).trans ((xu_ne (by first | assumption | exact Ne.symm (by assumption))).trans (by first | assumption | exact xu_eq _ _ _)) | exact (xu_ne (by first | assumption | exact Ne.symm (by assumption))).trans ((xu_ne (by first | assumption | exact Ne.symm (by assumption))).trans ((xu_ne (by first | assumption | exact Ne.symm (by assumption))).trans (by first | assumption | exact xu_eq _ _ _))))) rfl (by decide) dX4_addCopies_24 rfl rfl rfl (by first | exact Nat.le_of_ble_eq_true rfl | simp [Value.category, rf_cat]) (by omega) (by omega) (by omega) xN_no (fun v_24 m_24 h_24 => ?_)
          obtain ⟨a, o', p', NA, NB, g2, T3, rfl, hS2, hF2, hKa, hmk, hrt, hshA, hshB, hNA, hNB⟩ := h_24
          have hmt1 := (hF.1 t hmt).2.1
          have hRt3 := (hrt t hmt1).trans hRt
          obtain ⟨lt, at1, bt, mt, ht1, kt1, hAt, -⟩ := sm_row hS2 hRt3
          show G w _ _ _ _ _ _ _ (.ref a :: .ref t :: []) _
          refine g_virtual iV_X4_add q1474 (c_radd (d := d - 1) (by omega) hS2 hRt3 (by omega) (x := a) hKa) (Or.inl (by first | assumption | exact xu_eq _ _ _ | exact (xu_ne (by first | assumption | exact Ne.symm (by assumption))).trans (by first | assumption | exact xu_eq _ _ _) | exact (xu_ne (by first | assumption | exact Ne.symm (by assumption))).trans ((xu_ne (by first | assumption | exact Ne.symm (by assumption))).trans (by first | assumption | exact xu_eq _ _ _)) | exact (xu_ne (by first | assumption | exact Ne.symm (by assumption))).trans ((xu_ne (by first | assumption | exact Ne.symm (by assumption))).trans ((xu_ne (by first | assumption | exact Ne.symm (by assumption))).trans (by first | assumption | exact xu_eq _ _ _))))) rfl (by decide) dX4_addCopies_27 rfl rfl rfl (by first | exact Nat.le_of_ble_eq_true rfl | simp [Value.category, rf_cat]) (by omega) (by omega) (by omega) xN_no (fun v_27 m_27 h_27 => ?_)
          obtain ⟨rfl, g3, hS3, hF3⟩ := h_27
          have hFs := hmk t (own, sl, alN (is ++ drs t C1).length cap1, is ++ drs t C1 ++ [a]) _ hmt1 rfl
          have hto : t ∉ opn (sI k a t o' p' NA NB) := fun ht => hmt1 (hFs.2.2.2.1 t ht)
          have hdo := drs_own hNA hNB hto
          have hFT3 := ft_app hFT hFs (fun b hb => (hF.1 b hb).2.1) hmt (fun s hs => by
            obtain ⟨ow, sl, cap, e⟩ := hFT.2.2.2.2.2.1 s hs
            exact sm_Rm hS e) (fun i hi => by
            obtain ⟨v, e⟩ := ek_itm hFT.2.2.2.2.2.2.1 i hi
            exact sm_Km hS e)
          refine g_incn4 dX4_addCopies_30 rfl (by decide) (k := ?_)
          refine g_goto (tgt := 3) dX4_addCopies_33 (by decide) ?_
          have hal : (is ++ drs t C1 ++ [a]).length = (is ++ drs t C1).length + 1 := by rw [List.length_append]; rfl
          have hdc : drs t (C1 ++ sI k a t o' p' NA NB) = drs t C1 ++ [a] := by rw [drs_app, hdo]
          have hsq : (sI k a t o' p' NA NB).map shE = (sI k x r o p A B).map shE := by
            rw [sh_sI, sh_sI, hshA]
            by_cases hk : k = 1
            · rw [if_pos hk, if_pos hk, hshB hk]
            · rw [if_neg hk, if_neg hk]
          have := il N3 hlN (N1 ++ sI k x r o p A B) (C1 ++ sI k a t o' p' NA NB) g3 _ _ (alN (is ++ drs t C1).length cap1) (kc - (6 + 7 * u) - 1) (ks - (82 + 88 * u) - alS (is ++ drs t C1).length cap1) (by rw [hNe]; simp) (bd_app hN1 (bd_sI hbA hbB)) hb hS3 (Fr_tr hF (Fr_tr hF2 hF3)) hFT3 (by rw [hdc, ← List.append_assoc]; exact uF_eq _ _ _) (by rw [List.map_append, List.map_append, hsh, hsq]) (by rw [hdc, drs_app, e3, List.length_append, List.length_append, hdd]; rfl) (by omega) (by rw [hdc, ← List.append_assoc, hal]; omega)
          rw [drs_app, e3] at this
          simp only [List.length_append, List.length_cons, List.length_nil] at this
          simp only [List.length_append]
          exact this
    refine g_iload_n dX4_addCopies_0 rfl rfl rfl ?_
    refine g_ist4 dX4_addCopies_1 rfl (by decide) (k := ?_)
    exact loop N0.length N0 (Nat.le_refl _) [] [] g m T cap kc ks rfl (bd_nil r) hN h (Fr_rf _ _ _) (ft_nil _ _ _) (by rw [show drs t [] = [] from rfl, List.append_nil]; exact hR) rfl rfl hkc (by rw [show drs t [] = [] from rfl, List.append_nil]; exact hks)
end COPY
