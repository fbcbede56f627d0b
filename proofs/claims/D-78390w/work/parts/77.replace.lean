/-! TREES: symbols replaced -/
set_option maxRecDepth 100000
def uR (K : Nat → Option XI) (c e : Nat) (l : List Nat) : Nat → Option XI := fun i => if i ∈ l ∧ K i = some (.inl c) then some (.inl e) else K i
theorem uR_nil (K : Nat → Option XI) (c e : Nat) : uR K c e [] = K := by funext i; simp [uR]
theorem uR_uR (K : Nat → Option XI) (c e : Nat) (l1 l2 : List Nat) : uR (uR K c e l1) c e l2 = uR K c e (l1 ++ l2) := by
  funext i
  unfold uR
  by_cases h1 : i ∈ l1 ∧ K i = some (.inl c)
  · rw [if_pos h1, if_pos (show i ∈ l1 ++ l2 ∧ K i = some (.inl c) from ⟨List.mem_append_left _ h1.1, h1.2⟩)]
    split <;> rfl
  · rw [if_neg h1]
    by_cases h2 : i ∈ l2 ∧ K i = some (.inl c)
    · rw [if_pos h2, if_pos (show i ∈ l1 ++ l2 ∧ K i = some (.inl c) from ⟨List.mem_append_right _ h2.1, h2.2⟩)]
    · rw [if_neg h2, if_neg]
      rintro ⟨h3, h4⟩
      rcases List.mem_append.mp h3 with h3 | h3
      · exact h1 ⟨h3, h4⟩
      · exact h2 ⟨h3, h4⟩
theorem uR_out {K : Nat → Option XI} {c e : Nat} {l : List Nat} {i : Nat} (h : i ∉ l) : uR K c e l i = K i := by
  unfold uR; rw [if_neg (fun hh => h hh.1)]
theorem uR_1y {K : Nat → Option XI} {c e i : Nat} (h : K i = some (.inl c)) : uF K i (some (.inl e)) = uR K c e [i] := by
  funext q
  unfold uF uR
  by_cases hq : q = i
  · subst hq; simp [h]
  · simp [hq]
theorem uR_1n {K : Nat → Option XI} {c e i : Nat} {v : XI} (h : K i = some v) (hv : v ≠ .inl c) : uR K c e [i] = K := by
  funext q
  unfold uR
  by_cases hq : q = i
  · subst hq; simp [h, hv]
  · simp [hq]
theorem uR_skip {K : Nat → Option XI} {c e x : Nat} (l1 l2 : List Nat) {v : Nat × Nat × Nat × Nat × Nat} (h : K x = some (.inr v)) : uR K c e (l1 ++ x :: l2) = uR K c e (l1 ++ l2) := by
  funext q
  unfold uR
  by_cases hq : q = x
  · subst hq; rw [h, if_neg (fun hh => by cases hh.2), if_neg (fun hh => by cases hh.2)]
  · have : (q ∈ l1 ++ x :: l2 ∧ K q = some (.inl c)) = (q ∈ l1 ++ l2 ∧ K q = some (.inl c)) := by simp [hq]
    simp only [this]
theorem uF_same {α : Type} {K : Nat → α} {i : Nat} {v : α} (h : K i = v) : uF K i v = K := by
  funext q
  unfold uF
  by_cases hq : q = i
  · subst hq; simp [h]
  · simp [hq]
/-- how many symbols c there are -/
def cnC (c : Nat) : List XE → Nat
  | [] => 0
  | .inl (c', _, _) :: L => (if c' = c then 1 else 0) + cnC c L
  | .inr _ :: L => cnC c L
theorem cnC_app (c : Nat) (A B : List XE) : cnC c (A ++ B) = cnC c A + cnC c B := by
  induction A with
  | nil => simp [cnC]
  | cons x A ih =>
    obtain ⟨c', i, r'⟩ | y := x
    · simp only [List.cons_append, cnC, ih]; omega
    · simp only [List.cons_append, cnC, ih]
theorem cnC_sI (c k i r o p : Nat) (A B : List XE) : cnC c (sI k i r o p A B) = cnC c A + if k = 1 then cnC c B else 0 := by
  by_cases hk : k = 1
  · subst hk; rw [sI_1]; simp [cnC, cnC_app]
  · rw [sI_n hk]; simp [cnC, cnC_app, hk]
theorem dt_K {T : XT} {r : Nat} {M : List XE} {K : Nat → Option XI} (h : DT T r M) (hk : ∀ i ∈ itm M, K i = T.2.1 i) : DT (T.1, K, T.2.2) r M := by
  obtain ⟨h1, h2, h3, h4, h5⟩ := h
  refine ⟨h1, h2, h3, h4, fun x hx => ?_⟩
  have e0 := h5 x hx
  have hin : ∀ i, i ∈ itm [x] → i ∈ itm M := by
    intro i hi
    obtain ⟨A, B, rfl⟩ := List.append_of_mem hx
    rw [itm_app, show x :: B = [x] ++ B from rfl, itm_app]
    exact List.mem_append_right _ (List.mem_append_left _ hi)
  obtain ⟨c, i, r'⟩ | ⟨k, i, r', o, p⟩ | b := x
  · exact ⟨(hk i (hin i (by simp [itm]))).trans e0.1, e0.2⟩
  · obtain ⟨⟨rs, rd, a1⟩, a2⟩ := e0
    exact ⟨⟨rs, rd, (hk i (hin i (by simp [itm]))).trans a1⟩, a2⟩
  · trivial
section REPL
variable {w : XW} {id : Nat} {g : XG}
/-- what replace leaves -/
def rpP (w : XW) (g : XG) (id : Nat) (T : XT) (c e : Nat) (M : List XE) (m : XM) : Option Value → XM → Prop := fun v m' => some (.int (nI (cnC c M))) = v ∧ SM w g m' id (T.1, uR T.2.1 c e (itm M), T.2.2) ∧ Fr id g m g m'
theorem l_rsl {Z : XZ} {d : Nat} {m : XM} {T : XT} {r x k sa s j n c e i v : Nat} {f : Nat → Option Nat} {ro rs rd bx : Value} {fo : List Value} {A : List XE} {o5 o6 : Option Value} (hd : 1 ≤ d) (hx : m x = some (.inr (7, [ro, .int (nI k), .ref sa, rs, rd, bx]))) (hsa : m sa = some (rA 6 n f)) (hj : j < n) (hn : n ≤ 2) (hf : f j = some s) (hs : m s = some (.inr (3, fo))) (hc : CT w MX4_replace (d - 1) 0 0 [.ref s, .int (nI c), .int (nI e)] m (rpP w g id T c e A m) xN)
    (kk : ∀ m', SM w g m' id (T.1, uR T.2.1 c e (itm A), T.2.2) → Fr id g m g m' → G w MX4_replace Z d 0 0 111 [some (.ref r), some (.int (nI c)), some (.int (nI e)), some (.int (nI (v + cnC c A))), some (.int (nI i)), o5, o6, some (.ref x), some (.int (nI (j + 1)))] [] m') : G w MX4_replace Z d 0 0 111 [some (.ref r), some (.int (nI c)), some (.int (nI e)), some (.int (nI v)), some (.int (nI i)), o5, o6, some (.ref x), some (.int (nI j))] [] m := by
  refine g_iload dX4_replace_111 rfl rfl ?_
  first | refine g_aload dX4_replace_113 rfl rfl ?_ | refine g_aloadR dX4_replace_113 rfl rfl ?_ | refine g_aloadN dX4_replace_113 rfl rfl ?_
  refine g_get fl_X4_89_X9 dX4_replace_115 rfl (Or.inl (by first | assumption | exact xu_eq _ _ _ | exact (xu_ne (by first | assumption | exact Ne.symm (by assumption))).trans (by first | assumption | exact xu_eq _ _ _) | exact (xu_ne (by first | assumption | exact Ne.symm (by assumption))).trans ((xu_ne (by first | assumption | exact Ne.symm (by assumption))).trans (by first | assumption | exact xu_eq _ _ _)) | exact (xu_ne (by first | assumption | exact Ne.symm (by assumption))).trans ((xu_ne (by first | assumption | exact Ne.symm (by assumption))).trans ((xu_ne (by first | assumption | exact Ne.symm (by assumption))).trans (by first | assumption | exact xu_eq _ _ _))))) rfl ?_
  refine g_alenq (t := 6) rfl dX4_replace_118 rfl (by first | assumption | exact Or.inl (by first | assumption | exact xu_eq _ _ _ | exact (xu_ne (by first | assumption | exact Ne.symm (by assumption))).trans (by first | assumption | exact xu_eq _ _ _) | exact (xu_ne (by first | assumption | exact Ne.symm (by assumption))).trans ((xu_ne (by first | assumption | exact Ne.symm (by assumption))).trans (by first | assumption | exact xu_eq _ _ _)) | exact (xu_ne (by first | assumption | exact Ne.symm (by assumption))).trans ((xu_ne (by first | assumption | exact Ne.symm (by assumption))).trans ((xu_ne (by first | assumption | exact Ne.symm (by assumption))).trans (by first | assumption | exact xu_eq _ _ _))))) ?_
  refine g_icmpn_ge (tgt := 144) dX4_replace_119 (by decide) rfl (by omega) (by omega) (fun c_119 => by omega) (fun c_119 => ?_)
  refine g_iload_n dX4_replace_122 rfl rfl rfl ?_
  first | refine g_aload dX4_replace_123 rfl rfl ?_ | refine g_aloadR dX4_replace_123 rfl rfl ?_ | refine g_aloadN dX4_replace_123 rfl rfl ?_
  refine g_get fl_X4_89_X9 dX4_replace_125 rfl (Or.inl (by first | assumption | exact xu_eq _ _ _ | exact (xu_ne (by first | assumption | exact Ne.symm (by assumption))).trans (by first | assumption | exact xu_eq _ _ _) | exact (xu_ne (by first | assumption | exact Ne.symm (by assumption))).trans ((xu_ne (by first | assumption | exact Ne.symm (by assumption))).trans (by first | assumption | exact xu_eq _ _ _)) | exact (xu_ne (by first | assumption | exact Ne.symm (by assumption))).trans ((xu_ne (by first | assumption | exact Ne.symm (by assumption))).trans ((xu_ne (by first | assumption | exact Ne.symm (by assumption))).trans (by first | assumption | exact xu_eq _ _ _))))) rfl ?_
  refine g_iload dX4_replace_128 rfl rfl ?_
  refine g_aaldn (t := 6) rfl dX4_replace_130 rfl (by first | assumption | exact Or.inl (by first | assumption | exact xu_eq _ _ _ | exact (xu_ne (by first | assumption | exact Ne.symm (by assumption))).trans (by first | assumption | exact xu_eq _ _ _) | exact (xu_ne (by first | assumption | exact Ne.symm (by assumption))).trans ((xu_ne (by first | assumption | exact Ne.symm (by assumption))).trans (by first | assumption | exact xu_eq _ _ _)) | exact (xu_ne (by first | assumption | exact Ne.symm (by assumption))).trans ((xu_ne (by first | assumption | exact Ne.symm (by assumption))).trans ((xu_ne (by first | assumption | exact Ne.symm (by assumption))).trans (by first | assumption | exact xu_eq _ _ _))))) (by omega) (by omega) ?_
  refine g_iload_n dX4_replace_131 rfl rfl rfl ?_
  refine g_iload_n dX4_replace_132 rfl rfl rfl ?_
  rw [hf]
  refine g_virtual iV_X4_replace q2266 (hc) (Or.inl (by first | assumption | exact xu_eq _ _ _ | exact (xu_ne (by first | assumption | exact Ne.symm (by assumption))).trans (by first | assumption | exact xu_eq _ _ _) | exact (xu_ne (by first | assumption | exact Ne.symm (by assumption))).trans ((xu_ne (by first | assumption | exact Ne.symm (by assumption))).trans (by first | assumption | exact xu_eq _ _ _)) | exact (xu_ne (by first | assumption | exact Ne.symm (by assumption))).trans ((xu_ne (by first | assumption | exact Ne.symm (by assumption))).trans ((xu_ne (by first | assumption | exact Ne.symm (by assumption))).trans (by first | assumption | exact xu_eq _ _ _))))) rfl (by decide) dX4_replace_133 rfl rfl rfl (by first | exact Nat.le_of_ble_eq_true rfl | simp [Value.category, rf_cat]) (by omega) (by omega) (by omega) xN_no (fun v_133 m_133 h_133 => ?_)
  obtain ⟨rfl, hS1, hF1⟩ := h_133
  refine g_iaddn dX4_replace_136 rfl ?_
  refine g_ist3 dX4_replace_137 rfl (by decide) (k := ?_)
  refine g_incn8 dX4_replace_138 rfl (by decide) (k := ?_)
  refine g_goto (tgt := 111) dX4_replace_141 (by decide) ?_
  exact kk _ hS1 hF1
theorem l_rsx {Z : XZ} {d : Nat} {m : XM} {r x k sa n c e i v : Nat} {f : Nat → Option Nat} {ro rs rd bx : Value} {o5 o6 : Option Value} (hx : m x = some (.inr (7, [ro, .int (nI k), .ref sa, rs, rd, bx]))) (hsa : m sa = some (rA 6 n f)) (hn : n ≤ 2) (kk : G w MX4_replace Z d 0 0 144 [some (.ref r), some (.int (nI c)), some (.int (nI e)), some (.int (nI v)), some (.int (nI i)), none, none, none, none] [] m) : G w MX4_replace Z d 0 0 111 [some (.ref r), some (.int (nI c)), some (.int (nI e)), some (.int (nI v)), some (.int (nI i)), o5, o6, some (.ref x), some (.int (nI n))] [] m := by
  refine g_iload dX4_replace_111 rfl rfl ?_
  first | refine g_aload dX4_replace_113 rfl rfl ?_ | refine g_aloadR dX4_replace_113 rfl rfl ?_ | refine g_aloadN dX4_replace_113 rfl rfl ?_
  refine g_get fl_X4_89_X9 dX4_replace_115 rfl (Or.inl (by first | assumption | exact xu_eq _ _ _ | exact (xu_ne (by first | assumption | exact Ne.symm (by assumption))).trans (by first | assumption | exact xu_eq _ _ _) | exact (xu_ne (by first | assumption | exact Ne.symm (by assumption))).trans ((xu_ne (by first | assumption | exact Ne.symm (by assumption))).trans (by first | assumption | exact xu_eq _ _ _)) | exact (xu_ne (by first | assumption | exact Ne.symm (by assumption))).trans ((xu_ne (by first | assumption | exact Ne.symm (by assumption))).trans ((xu_ne (by first | assumption | exact Ne.symm (by assumption))).trans (by first | assumption | exact xu_eq _ _ _))))) rfl ?_
  refine g_alenq (t := 6) rfl dX4_replace_118 rfl (by first | assumption | exact Or.inl (by first | assumption | exact xu_eq _ _ _ | exact (xu_ne (by first | assumption | exact Ne.symm (by assumption))).trans (by first | assumption | exact xu_eq _ _ _) | exact (xu_ne (by first | assumption | exact Ne.symm (by assumption))).trans ((xu_ne (by first | assumption | exact Ne.symm (by assumption))).trans (by first | assumption | exact xu_eq _ _ _)) | exact (xu_ne (by first | assumption | exact Ne.symm (by assumption))).trans ((xu_ne (by first | assumption | exact Ne.symm (by assumption))).trans ((xu_ne (by first | assumption | exact Ne.symm (by assumption))).trans (by first | assumption | exact xu_eq _ _ _))))) ?_
  refine g_icmpn_ge (tgt := 144) dX4_replace_119 (by decide) rfl (by omega) (by omega) (fun c_119 => ?_) (fun c_119 => by omega)
  refine g_fg _ ?_ kk
  exact ⟨rfl, rfl, rfl, rfl, rfl, trivial⟩
theorem c_replace {c e : Nat} (hc : c < 65536) (he : e < 65536) : ∀ (n : Nat) (M : List XE) (r : Nat) (m : XM) (T : XT), M.length ≤ n → SM w g m id T → DT T r M → ∀ d, 4 + hts M ≤ d → CT w MX4_replace d 0 0 [.ref r, .int (nI c), .int (nI e)] m (rpP w g id T c e M m) xN := by
  intro n
  induction n with
  | zero =>
    intro M r m T hM h hT d hd
    obtain rfl : M = [] := List.eq_nil_of_length_eq_zero (by omega)
    obtain ⟨own, sl, cap, hR⟩ := dt_row hT
    obtain ⟨la, ar, bx, mc, h1, k1, hA, h3, h4, h5, hz⟩ := sm_row h hR
    refine ct_intro (lv := [some (.ref r), some (.int (nI c)), some (.int (nI e)), none, none, none, none, none, none]) 6 (by decide) rfl (Nat.le_of_ble_eq_true rfl) rfl ?_
    have hl : (drs r ([] : List XE)).length = 0 := rfl
    refine g_iconst (v := (nI 0)) dX4_replace_0 rfl rfl ?_
    refine g_ist3 dX4_replace_1 rfl (by decide) (k := ?_)
    refine g_iconst (v := (nI 0)) dX4_replace_2 rfl rfl ?_
    refine g_ist4 dX4_replace_3 rfl (by decide) (k := ?_)
    refine g_iload dX4_replace_5 rfl rfl ?_
    first | refine g_aload_n dX4_replace_7 rfl rfl rfl ?_ | refine g_aload_nR dX4_replace_7 rfl rfl rfl ?_ | refine g_aload_nN dX4_replace_7 rfl rfl rfl ?_
    refine g_get fl_X4_12_X4 dX4_replace_8 rfl (Or.inl (by first | assumption | exact xu_eq _ _ _ | exact (xu_ne (by first | assumption | exact Ne.symm (by assumption))).trans (by first | assumption | exact xu_eq _ _ _) | exact (xu_ne (by first | assumption | exact Ne.symm (by assumption))).trans ((xu_ne (by first | assumption | exact Ne.symm (by assumption))).trans (by first | assumption | exact xu_eq _ _ _)) | exact (xu_ne (by first | assumption | exact Ne.symm (by assumption))).trans ((xu_ne (by first | assumption | exact Ne.symm (by assumption))).trans ((xu_ne (by first | assumption | exact Ne.symm (by assumption))).trans (by first | assumption | exact xu_eq _ _ _))))) rfl ?_
    refine g_ifaceP iI_J26_size_J26 q1479 (c_size (d := d - 1) (by omega) hA) (Or.inl (by first | assumption | exact xu_eq _ _ _ | exact (xu_ne (by first | assumption | exact Ne.symm (by assumption))).trans (by first | assumption | exact xu_eq _ _ _) | exact (xu_ne (by first | assumption | exact Ne.symm (by assumption))).trans ((xu_ne (by first | assumption | exact Ne.symm (by assumption))).trans (by first | assumption | exact xu_eq _ _ _)) | exact (xu_ne (by first | assumption | exact Ne.symm (by assumption))).trans ((xu_ne (by first | assumption | exact Ne.symm (by assumption))).trans ((xu_ne (by first | assumption | exact Ne.symm (by assumption))).trans (by first | assumption | exact xu_eq _ _ _))))) rfl (by decide) dX4_replace_11 rfl rfl rfl (by first | exact Nat.le_of_ble_eq_true rfl | simp [Value.category, rf_cat]) (by omega) xN_no ?_
    refine g_icmpn_ge (tgt := 150) dX4_replace_16 (by decide) rfl (by omega) (by omega) (fun c_16 => ?_) (fun c_16 => by omega)
    refine g_iload_n dX4_replace_150 rfl rfl rfl ?_
    exact g_ireturn dX4_replace_151 rfl ⟨rfl, by rw [show itm [] = [] from rfl, uR_nil]; exact h, Fr_rf _ _ _⟩
  | succ n ih =>
    intro M r m T hM h hT d hd
    refine ct_intro (lv := [some (.ref r), some (.int (nI c)), some (.int (nI e)), none, none, none, none, none, none]) 6 (by decide) rfl (Nat.le_of_ble_eq_true rfl) rfl ?_
    obtain ⟨own, sl, cap, hR⟩ := dt_row hT
    have loop : ∀ (l : Nat) (N2 : List XE), N2.length ≤ l → ∀ (N1 : List XE) (s : Nat) (m1 : XM), M = N1 ++ N2 → Bd r N1 → Bd r N2 → s + cnC c N2 = cnC c M → SM w g m1 id (T.1, uR T.2.1 c e (itm N1), T.2.2) → Fr id g m g m1 → G w MX4_replace (xZ w (rpP w g id T c e M m) xN) d 0 0 5 [some (.ref r), some (.int (nI c)), some (.int (nI e)), some (.int (nI s)), some (.int (nI (drs r N1).length)), none, none, none, none] [] m1 := by
      intro l
      induction l with
      | zero =>
        intro N2 hl N1 s m1 hNe hN1 hN2 hs hS hF
        obtain rfl : N2 = [] := List.eq_nil_of_length_eq_zero (by omega)
        rw [List.append_nil] at hNe; subst hNe
        obtain ⟨la, ar, bx, mc, h1, k1, hA, h3, h4, h5, hz⟩ := sm_row hS hR
        have hlen := al_len hA
        refine g_iload dX4_replace_5 rfl rfl ?_
        first | refine g_aload_n dX4_replace_7 rfl rfl rfl ?_ | refine g_aload_nR dX4_replace_7 rfl rfl rfl ?_ | refine g_aload_nN dX4_replace_7 rfl rfl rfl ?_
        refine g_get fl_X4_12_X4 dX4_replace_8 rfl (Or.inl (by first | assumption | exact xu_eq _ _ _ | exact (xu_ne (by first | assumption | exact Ne.symm (by assumption))).trans (by first | assumption | exact xu_eq _ _ _) | exact (xu_ne (by first | assumption | exact Ne.symm (by assumption))).trans ((xu_ne (by first | assumption | exact Ne.symm (by assumption))).trans (by first | assumption | exact xu_eq _ _ _)) | exact (xu_ne (by first | assumption | exact Ne.symm (by assumption))).trans ((xu_ne (by first | assumption | exact Ne.symm (by assumption))).trans ((xu_ne (by first | assumption | exact Ne.symm (by assumption))).trans (by first | assumption | exact xu_eq _ _ _))))) rfl ?_
        refine g_ifaceP iI_J26_size_J26 q1479 (c_size (d := d - 1) (by omega) hA) (Or.inl (by first | assumption | exact xu_eq _ _ _ | exact (xu_ne (by first | assumption | exact Ne.symm (by assumption))).trans (by first | assumption | exact xu_eq _ _ _) | exact (xu_ne (by first | assumption | exact Ne.symm (by assumption))).trans ((xu_ne (by first | assumption | exact Ne.symm (by assumption))).trans (by first | assumption | exact xu_eq _ _ _)) | exact (xu_ne (by first | assumption | exact Ne.symm (by assumption))).trans ((xu_ne (by first | assumption | exact Ne.symm (by assumption))).trans ((xu_ne (by first | assumption | exact Ne.symm (by assumption))).trans (by first | assumption | exact xu_eq _ _ _))))) rfl (by decide) dX4_replace_11 rfl rfl rfl (by first | exact Nat.le_of_ble_eq_true rfl | simp [Value.category, rf_cat]) (by omega) xN_no ?_
        refine g_icmpn_ge (tgt := 150) dX4_replace_16 (by decide) rfl (by omega) (by omega) (fun c_16 => ?_) (fun c_16 => by omega)
        refine g_iload_n dX4_replace_150 rfl rfl rfl ?_
        exact g_ireturn dX4_replace_151 rfl ⟨by rw [← hs]; rfl, hS, hF⟩
      | succ l il =>
        intro N2 hl N1 s m1 hNe hN1 hN2 hs hS hF
        obtain ⟨la, ar, bx, mc, h1, k1, hA, h3, h4, h5, hz⟩ := sm_row hS hR
        have hlen := al_len hA
        have hit := hT.2.2.1
        rw [hNe, itm_app, List.nodup_append] at hit
        have hT1 : DT T r M := hT
        rcases bd_cases hN2 with rfl | ⟨c0, x, N3, rfl, hb⟩ | ⟨k, x, o, p, A, B, N3, rfl, hbA, hbB, hb⟩
        · rw [List.append_nil] at hNe; subst hNe
          refine g_iload dX4_replace_5 rfl rfl ?_
          first | refine g_aload_n dX4_replace_7 rfl rfl rfl ?_ | refine g_aload_nR dX4_replace_7 rfl rfl rfl ?_ | refine g_aload_nN dX4_replace_7 rfl rfl rfl ?_
          refine g_get fl_X4_12_X4 dX4_replace_8 rfl (Or.inl (by first | assumption | exact xu_eq _ _ _ | exact (xu_ne (by first | assumption | exact Ne.symm (by assumption))).trans (by first | assumption | exact xu_eq _ _ _) | exact (xu_ne (by first | assumption | exact Ne.symm (by assumption))).trans ((xu_ne (by first | assumption | exact Ne.symm (by assumption))).trans (by first | assumption | exact xu_eq _ _ _)) | exact (xu_ne (by first | assumption | exact Ne.symm (by assumption))).trans ((xu_ne (by first | assumption | exact Ne.symm (by assumption))).trans ((xu_ne (by first | assumption | exact Ne.symm (by assumption))).trans (by first | assumption | exact xu_eq _ _ _))))) rfl ?_
          refine g_ifaceP iI_J26_size_J26 q1479 (c_size (d := d - 1) (by omega) hA) (Or.inl (by first | assumption | exact xu_eq _ _ _ | exact (xu_ne (by first | assumption | exact Ne.symm (by assumption))).trans (by first | assumption | exact xu_eq _ _ _) | exact (xu_ne (by first | assumption | exact Ne.symm (by assumption))).trans ((xu_ne (by first | assumption | exact Ne.symm (by assumption))).trans (by first | assumption | exact xu_eq _ _ _)) | exact (xu_ne (by first | assumption | exact Ne.symm (by assumption))).trans ((xu_ne (by first | assumption | exact Ne.symm (by assumption))).trans ((xu_ne (by first | assumption | exact Ne.symm (by assumption))).trans (by first | assumption | exact xu_eq _ _ _))))) rfl (by decide) dX4_replace_11 rfl rfl rfl (by first | exact Nat.le_of_ble_eq_true rfl | simp [Value.category, rf_cat]) (by omega) xN_no ?_
          refine g_icmpn_ge (tgt := 150) dX4_replace_16 (by decide) rfl (by omega) (by omega) (fun c_16 => ?_) (fun c_16 => by omega)
          refine g_iload_n dX4_replace_150 rfl rfl rfl ?_
          exact g_ireturn dX4_replace_151 rfl ⟨by rw [← hs]; rfl, hS, hF⟩
        · have hxN : x ∉ itm N1 := fun hx => hit.2.2 x hx x (by simp [itm]) rfl
          obtain ⟨e1, e2, e3, e4, -⟩ := dt_C h hT hNe
          rw [List.length_cons] at hl
          have e3' : uR T.2.1 c e (itm N1) x = some (.inl c0) := (uR_out hxN).trans e3
          obtain ⟨hx1, hc0⟩ := sm_sym (T := (T.1, uR T.2.1 c e (itm N1), T.2.2)) hS e3'
          have hci := sm_castI (T := (T.1, uR T.2.1 c e (itm N1), T.2.2)) hS (i := x) (fun hn => by have hn2 := e3'.symm.trans hn; cases hn2)
          have ei : itm (N1 ++ [eS c0 x r]) = itm N1 ++ [x] := by rw [itm_app]; rfl
          have go : ∀ m2, SM w g m2 id (T.1, uR T.2.1 c e (itm N1 ++ [x]), T.2.2) → Fr id g m1 g m2 → G w MX4_replace (xZ w (rpP w g id T c e M m) xN) d 0 0 144 [some (.ref r), some (.int (nI c)), some (.int (nI e)), some (.int (nI (s + if c0 = c then 1 else 0))), some (.int (nI (drs r N1).length)), none, none, none, none] [] m2 := by
            intro m2 hS2 hF2
            generalize hu : (if c0 = c then 1 else 0) = u at *
            refine g_incn4 dX4_replace_144 rfl (by decide) (k := ?_)
            refine g_goto (tgt := 5) dX4_replace_147 (by decide) ?_
            have := il N3 (by omega) (N1 ++ [eS c0 x r]) (s + u) m2 (by rw [hNe]; simp) (bd_app hN1 (bd_sym c0 x (bd_nil r))) hb (by rw [← hs, ← hu]; simp only [cnC]; omega) (by rw [ei]; exact hS2) (Fr_tr hF hF2)
            rw [drs_app, drs_sS] at this
            simp only [drs, List.length_append, List.length_cons, List.length_nil] at this
            exact this
          by_cases hcc : c0 = c
          · rw [if_pos hcc] at go
            subst hcc
            obtain ⟨hS2, hF2⟩ := sm_sign (c' := e) hS e3' hx1 he
            rw [show ((T.1, uR T.2.1 c0 e (itm N1), T.2.2) : XT).2.1 = uR T.2.1 c0 e (itm N1) from rfl, uR_1y (e := e) e3', uR_uR] at hS2
            refine g_iload dX4_replace_5 rfl rfl ?_
            first | refine g_aload_n dX4_replace_7 rfl rfl rfl ?_ | refine g_aload_nR dX4_replace_7 rfl rfl rfl ?_ | refine g_aload_nN dX4_replace_7 rfl rfl rfl ?_
            refine g_get fl_X4_12_X4 dX4_replace_8 rfl (Or.inl (by first | assumption | exact xu_eq _ _ _ | exact (xu_ne (by first | assumption | exact Ne.symm (by assumption))).trans (by first | assumption | exact xu_eq _ _ _) | exact (xu_ne (by first | assumption | exact Ne.symm (by assumption))).trans ((xu_ne (by first | assumption | exact Ne.symm (by assumption))).trans (by first | assumption | exact xu_eq _ _ _)) | exact (xu_ne (by first | assumption | exact Ne.symm (by assumption))).trans ((xu_ne (by first | assumption | exact Ne.symm (by assumption))).trans ((xu_ne (by first | assumption | exact Ne.symm (by assumption))).trans (by first | assumption | exact xu_eq _ _ _))))) rfl ?_
            refine g_ifaceP iI_J26_size_J26 q1479 (c_size (d := d - 1) (by omega) hA) (Or.inl (by first | assumption | exact xu_eq _ _ _ | exact (xu_ne (by first | assumption | exact Ne.symm (by assumption))).trans (by first | assumption | exact xu_eq _ _ _) | exact (xu_ne (by first | assumption | exact Ne.symm (by assumption))).trans ((xu_ne (by first | assumption | exact Ne.symm (by assumption))).trans (by first | assumption | exact xu_eq _ _ _)) | exact (xu_ne (by first | assumption | exact Ne.symm (by assumption))).trans ((xu_ne (by first | assumption | exact Ne.symm (by assumption))).trans ((xu_ne (by first | assumption | exact Ne.symm (by assumption))).trans (by first | assumption | exact xu_eq _ _ _))))) rfl (by decide) dX4_replace_11 rfl rfl rfl (by first | exact Nat.le_of_ble_eq_true rfl | simp [Value.category, rf_cat]) (by omega) xN_no ?_
            refine g_icmpn_ge (tgt := 150) dX4_replace_16 (by decide) rfl (by omega) (by omega) (fun c_16 => by omega) (fun c_16 => ?_)
            first | refine g_aload_n dX4_replace_19 rfl rfl rfl ?_ | refine g_aload_nR dX4_replace_19 rfl rfl rfl ?_ | refine g_aload_nN dX4_replace_19 rfl rfl rfl ?_
            refine g_get fl_X4_12_X4 dX4_replace_20 rfl (Or.inl (by first | assumption | exact xu_eq _ _ _ | exact (xu_ne (by first | assumption | exact Ne.symm (by assumption))).trans (by first | assumption | exact xu_eq _ _ _) | exact (xu_ne (by first | assumption | exact Ne.symm (by assumption))).trans ((xu_ne (by first | assumption | exact Ne.symm (by assumption))).trans (by first | assumption | exact xu_eq _ _ _)) | exact (xu_ne (by first | assumption | exact Ne.symm (by assumption))).trans ((xu_ne (by first | assumption | exact Ne.symm (by assumption))).trans ((xu_ne (by first | assumption | exact Ne.symm (by assumption))).trans (by first | assumption | exact xu_eq _ _ _))))) rfl ?_
            refine g_iload dX4_replace_23 rfl rfl ?_
            refine g_ifaceP iI_J26_get_J26 q1552 (c_get (d := d - 1) (by omega) hA e1) (Or.inl (by first | assumption | exact xu_eq _ _ _ | exact (xu_ne (by first | assumption | exact Ne.symm (by assumption))).trans (by first | assumption | exact xu_eq _ _ _) | exact (xu_ne (by first | assumption | exact Ne.symm (by assumption))).trans ((xu_ne (by first | assumption | exact Ne.symm (by assumption))).trans (by first | assumption | exact xu_eq _ _ _)) | exact (xu_ne (by first | assumption | exact Ne.symm (by assumption))).trans ((xu_ne (by first | assumption | exact Ne.symm (by assumption))).trans ((xu_ne (by first | assumption | exact Ne.symm (by assumption))).trans (by first | assumption | exact xu_eq _ _ _))))) rfl (by decide) dX4_replace_25 rfl rfl rfl (by first | exact Nat.le_of_ble_eq_true rfl | simp [Value.category, rf_cat]) (by omega) xN_no ?_
            refine g_castI q1473 dX4_replace_30 rfl (by assumption) ?_
            first | refine g_ast5 dX4_replace_33 rfl (by decide) (k := ?_) | refine g_astR5 dX4_replace_33 rfl (by decide) (k := ?_) | refine g_astN5 dX4_replace_33 rfl (by decide) (k := ?_)
            first | refine g_aload dX4_replace_35 rfl rfl ?_ | refine g_aloadR dX4_replace_35 rfl rfl ?_ | refine g_aloadN dX4_replace_35 rfl rfl ?_
            refine g_instY q2265 xc_X11.1 (by decide) rfl dX4_replace_37 rfl (by first | assumption | exact Or.inl (by first | assumption | exact xu_eq _ _ _ | exact (xu_ne (by first | assumption | exact Ne.symm (by assumption))).trans (by first | assumption | exact xu_eq _ _ _) | exact (xu_ne (by first | assumption | exact Ne.symm (by assumption))).trans ((xu_ne (by first | assumption | exact Ne.symm (by assumption))).trans (by first | assumption | exact xu_eq _ _ _)) | exact (xu_ne (by first | assumption | exact Ne.symm (by assumption))).trans ((xu_ne (by first | assumption | exact Ne.symm (by assumption))).trans ((xu_ne (by first | assumption | exact Ne.symm (by assumption))).trans (by first | assumption | exact xu_eq _ _ _))))) ?_
            refine g_ifn_eq (tgt := 93) dX4_replace_40 (by decide) rfl (by omega) (fun c_40 => by omega) (fun _ => ?_)
            first | refine g_aload dX4_replace_43 rfl rfl ?_ | refine g_aloadR dX4_replace_43 rfl rfl ?_ | refine g_aloadN dX4_replace_43 rfl rfl ?_
            refine g_castO q2265 xc_X11.1 (by decide) (Or.inl rfl) dX4_replace_45 rfl (by first | assumption | exact Or.inl (by first | assumption | exact xu_eq _ _ _ | exact (xu_ne (by first | assumption | exact Ne.symm (by assumption))).trans (by first | assumption | exact xu_eq _ _ _) | exact (xu_ne (by first | assumption | exact Ne.symm (by assumption))).trans ((xu_ne (by first | assumption | exact Ne.symm (by assumption))).trans (by first | assumption | exact xu_eq _ _ _)) | exact (xu_ne (by first | assumption | exact Ne.symm (by assumption))).trans ((xu_ne (by first | assumption | exact Ne.symm (by assumption))).trans ((xu_ne (by first | assumption | exact Ne.symm (by assumption))).trans (by first | assumption | exact xu_eq _ _ _))))) ?_
            first | refine g_ast6 dX4_replace_48 rfl (by decide) (k := ?_) | refine g_astR6 dX4_replace_48 rfl (by decide) (k := ?_) | refine g_astN6 dX4_replace_48 rfl (by decide) (k := ?_)
            refine g_iload_n dX4_replace_50 rfl rfl rfl ?_
            first | refine g_aload dX4_replace_51 rfl rfl ?_ | refine g_aloadR dX4_replace_51 rfl rfl ?_ | refine g_aloadN dX4_replace_51 rfl rfl ?_
            refine g_get fl_X4_102_X11 dX4_replace_53 rfl (Or.inl (by first | assumption | exact xu_eq _ _ _ | exact (xu_ne (by first | assumption | exact Ne.symm (by assumption))).trans (by first | assumption | exact xu_eq _ _ _) | exact (xu_ne (by first | assumption | exact Ne.symm (by assumption))).trans ((xu_ne (by first | assumption | exact Ne.symm (by assumption))).trans (by first | assumption | exact xu_eq _ _ _)) | exact (xu_ne (by first | assumption | exact Ne.symm (by assumption))).trans ((xu_ne (by first | assumption | exact Ne.symm (by assumption))).trans ((xu_ne (by first | assumption | exact Ne.symm (by assumption))).trans (by first | assumption | exact xu_eq _ _ _))))) rfl ?_
            refine g_iload_n dX4_replace_56 rfl rfl rfl ?_
            refine g_icmpn_ne (tgt := 64) dX4_replace_57 (by decide) rfl (by omega) (by omega) (fun c_57 => by omega) (fun c_57 => ?_)
            refine g_iconst (v := (nI 1)) dX4_replace_60 rfl rfl ?_
            refine g_goto (tgt := 65) dX4_replace_61 (by decide) ?_
            refine g_iaddn dX4_replace_65 rfl ?_
            refine g_ist3 dX4_replace_66 rfl (by decide) (k := ?_)
            first | refine g_aload dX4_replace_67 rfl rfl ?_ | refine g_aloadR dX4_replace_67 rfl rfl ?_ | refine g_aloadN dX4_replace_67 rfl rfl ?_
            first | refine g_aload dX4_replace_69 rfl rfl ?_ | refine g_aloadR dX4_replace_69 rfl rfl ?_ | refine g_aloadN dX4_replace_69 rfl rfl ?_
            refine g_get fl_X4_102_X11 dX4_replace_71 rfl (Or.inl (by first | assumption | exact xu_eq _ _ _ | exact (xu_ne (by first | assumption | exact Ne.symm (by assumption))).trans (by first | assumption | exact xu_eq _ _ _) | exact (xu_ne (by first | assumption | exact Ne.symm (by assumption))).trans ((xu_ne (by first | assumption | exact Ne.symm (by assumption))).trans (by first | assumption | exact xu_eq _ _ _)) | exact (xu_ne (by first | assumption | exact Ne.symm (by assumption))).trans ((xu_ne (by first | assumption | exact Ne.symm (by assumption))).trans ((xu_ne (by first | assumption | exact Ne.symm (by assumption))).trans (by first | assumption | exact xu_eq _ _ _))))) rfl ?_
            refine g_iload_n dX4_replace_74 rfl rfl rfl ?_
            refine g_icmpn_ne (tgt := 82) dX4_replace_75 (by decide) rfl (by omega) (by omega) (fun c_75 => by omega) (fun c_75 => ?_)
            refine g_iload_n dX4_replace_78 rfl rfl rfl ?_
            refine g_goto (tgt := 87) dX4_replace_79 (by decide) ?_
            refine g_put1 fl_X4_102_X11 dX4_replace_87 rfl hx1 (nI_nch he) (nI_fch he) ?_
            refine g_goto (tgt := 144) dX4_replace_90 (by decide) ?_
            refine g_fg _ ?_ (go _ hS2 hF2)
            exact ⟨rfl, rfl, rfl, rfl, rfl, trivial⟩
          · rw [if_neg hcc] at go
            obtain ⟨hS2, hF2⟩ := sm_sign (c' := c0) hS e3' hx1 hc0
            rw [show ((T.1, uR T.2.1 c e (itm N1), T.2.2) : XT).2.1 = uR T.2.1 c e (itm N1) from rfl, uF_same e3', ← uR_1n (c := c) (e := e) e3' (fun h => hcc (by simpa using h)), uR_uR] at hS2
            refine g_iload dX4_replace_5 rfl rfl ?_
            first | refine g_aload_n dX4_replace_7 rfl rfl rfl ?_ | refine g_aload_nR dX4_replace_7 rfl rfl rfl ?_ | refine g_aload_nN dX4_replace_7 rfl rfl rfl ?_
            refine g_get fl_X4_12_X4 dX4_replace_8 rfl (Or.inl (by first | assumption | exact xu_eq _ _ _ | exact (xu_ne (by first | assumption | exact Ne.symm (by assumption))).trans (by first | assumption | exact xu_eq _ _ _) | exact (xu_ne (by first | assumption | exact Ne.symm (by assumption))).trans ((xu_ne (by first | assumption | exact Ne.symm (by assumption))).trans (by first | assumption | exact xu_eq _ _ _)) | exact (xu_ne (by first | assumption | exact Ne.symm (by assumption))).trans ((xu_ne (by first | assumption | exact Ne.symm (by assumption))).trans ((xu_ne (by first | assumption | exact Ne.symm (by assumption))).trans (by first | assumption | exact xu_eq _ _ _))))) rfl ?_
            refine g_ifaceP iI_J26_size_J26 q1479 (c_size (d := d - 1) (by omega) hA) (Or.inl (by first | assumption | exact xu_eq _ _ _ | exact (xu_ne (by first | assumption | exact Ne.symm (by assumption))).trans (by first | assumption | exact xu_eq _ _ _) | exact (xu_ne (by first | assumption | exact Ne.symm (by assumption))).trans ((xu_ne (by first | assumption | exact Ne.symm (by assumption))).trans (by first | assumption | exact xu_eq _ _ _)) | exact (xu_ne (by first | assumption | exact Ne.symm (by assumption))).trans ((xu_ne (by first | assumption | exact Ne.symm (by assumption))).trans ((xu_ne (by first | assumption | exact Ne.symm (by assumption))).trans (by first | assumption | exact xu_eq _ _ _))))) rfl (by decide) dX4_replace_11 rfl rfl rfl (by first | exact Nat.le_of_ble_eq_true rfl | simp [Value.category, rf_cat]) (by omega) xN_no ?_
            refine g_icmpn_ge (tgt := 150) dX4_replace_16 (by decide) rfl (by omega) (by omega) (fun c_16 => by omega) (fun c_16 => ?_)
            first | refine g_aload_n dX4_replace_19 rfl rfl rfl ?_ | refine g_aload_nR dX4_replace_19 rfl rfl rfl ?_ | refine g_aload_nN dX4_replace_19 rfl rfl rfl ?_
            refine g_get fl_X4_12_X4 dX4_replace_20 rfl (Or.inl (by first | assumption | exact xu_eq _ _ _ | exact (xu_ne (by first | assumption | exact Ne.symm (by assumption))).trans (by first | assumption | exact xu_eq _ _ _) | exact (xu_ne (by first | assumption | exact Ne.symm (by assumption))).trans ((xu_ne (by first | assumption | exact Ne.symm (by assumption))).trans (by first | assumption | exact xu_eq _ _ _)) | exact (xu_ne (by first | assumption | exact Ne.symm (by assumption))).trans ((xu_ne (by first | assumption | exact Ne.symm (by assumption))).trans ((xu_ne (by first | assumption | exact Ne.symm (by assumption))).trans (by first | assumption | exact xu_eq _ _ _))))) rfl ?_
            refine g_iload dX4_replace_23 rfl rfl ?_
            refine g_ifaceP iI_J26_get_J26 q1552 (c_get (d := d - 1) (by omega) hA e1) (Or.inl (by first | assumption | exact xu_eq _ _ _ | exact (xu_ne (by first | assumption | exact Ne.symm (by assumption))).trans (by first | assumption | exact xu_eq _ _ _) | exact (xu_ne (by first | assumption | exact Ne.symm (by assumption))).trans ((xu_ne (by first | assumption | exact Ne.symm (by assumption))).trans (by first | assumption | exact xu_eq _ _ _)) | exact (xu_ne (by first | assumption | exact Ne.symm (by assumption))).trans ((xu_ne (by first | assumption | exact Ne.symm (by assumption))).trans ((xu_ne (by first | assumption | exact Ne.symm (by assumption))).trans (by first | assumption | exact xu_eq _ _ _))))) rfl (by decide) dX4_replace_25 rfl rfl rfl (by first | exact Nat.le_of_ble_eq_true rfl | simp [Value.category, rf_cat]) (by omega) xN_no ?_
            refine g_castI q1473 dX4_replace_30 rfl (by assumption) ?_
            first | refine g_ast5 dX4_replace_33 rfl (by decide) (k := ?_) | refine g_astR5 dX4_replace_33 rfl (by decide) (k := ?_) | refine g_astN5 dX4_replace_33 rfl (by decide) (k := ?_)
            first | refine g_aload dX4_replace_35 rfl rfl ?_ | refine g_aloadR dX4_replace_35 rfl rfl ?_ | refine g_aloadN dX4_replace_35 rfl rfl ?_
            refine g_instY q2265 xc_X11.1 (by decide) rfl dX4_replace_37 rfl (by first | assumption | exact Or.inl (by first | assumption | exact xu_eq _ _ _ | exact (xu_ne (by first | assumption | exact Ne.symm (by assumption))).trans (by first | assumption | exact xu_eq _ _ _) | exact (xu_ne (by first | assumption | exact Ne.symm (by assumption))).trans ((xu_ne (by first | assumption | exact Ne.symm (by assumption))).trans (by first | assumption | exact xu_eq _ _ _)) | exact (xu_ne (by first | assumption | exact Ne.symm (by assumption))).trans ((xu_ne (by first | assumption | exact Ne.symm (by assumption))).trans ((xu_ne (by first | assumption | exact Ne.symm (by assumption))).trans (by first | assumption | exact xu_eq _ _ _))))) ?_
            refine g_ifn_eq (tgt := 93) dX4_replace_40 (by decide) rfl (by omega) (fun c_40 => by omega) (fun _ => ?_)
            first | refine g_aload dX4_replace_43 rfl rfl ?_ | refine g_aloadR dX4_replace_43 rfl rfl ?_ | refine g_aloadN dX4_replace_43 rfl rfl ?_
            refine g_castO q2265 xc_X11.1 (by decide) (Or.inl rfl) dX4_replace_45 rfl (by first | assumption | exact Or.inl (by first | assumption | exact xu_eq _ _ _ | exact (xu_ne (by first | assumption | exact Ne.symm (by assumption))).trans (by first | assumption | exact xu_eq _ _ _) | exact (xu_ne (by first | assumption | exact Ne.symm (by assumption))).trans ((xu_ne (by first | assumption | exact Ne.symm (by assumption))).trans (by first | assumption | exact xu_eq _ _ _)) | exact (xu_ne (by first | assumption | exact Ne.symm (by assumption))).trans ((xu_ne (by first | assumption | exact Ne.symm (by assumption))).trans ((xu_ne (by first | assumption | exact Ne.symm (by assumption))).trans (by first | assumption | exact xu_eq _ _ _))))) ?_
            first | refine g_ast6 dX4_replace_48 rfl (by decide) (k := ?_) | refine g_astR6 dX4_replace_48 rfl (by decide) (k := ?_) | refine g_astN6 dX4_replace_48 rfl (by decide) (k := ?_)
            refine g_iload_n dX4_replace_50 rfl rfl rfl ?_
            first | refine g_aload dX4_replace_51 rfl rfl ?_ | refine g_aloadR dX4_replace_51 rfl rfl ?_ | refine g_aloadN dX4_replace_51 rfl rfl ?_
            refine g_get fl_X4_102_X11 dX4_replace_53 rfl (Or.inl (by first | assumption | exact xu_eq _ _ _ | exact (xu_ne (by first | assumption | exact Ne.symm (by assumption))).trans (by first | assumption | exact xu_eq _ _ _) | exact (xu_ne (by first | assumption | exact Ne.symm (by assumption))).trans ((xu_ne (by first | assumption | exact Ne.symm (by assumption))).trans (by first | assumption | exact xu_eq _ _ _)) | exact (xu_ne (by first | assumption | exact Ne.symm (by assumption))).trans ((xu_ne (by first | assumption | exact Ne.symm (by assumption))).trans ((xu_ne (by first | assumption | exact Ne.symm (by assumption))).trans (by first | assumption | exact xu_eq _ _ _))))) rfl ?_
            refine g_iload_n dX4_replace_56 rfl rfl rfl ?_
            refine g_icmpn_ne (tgt := 64) dX4_replace_57 (by decide) rfl (by omega) (by omega) (fun c_57 => ?_) (fun c_57 => by omega)
            refine g_iconst (v := (nI 0)) dX4_replace_64 rfl rfl ?_
            refine g_iaddn dX4_replace_65 rfl ?_
            refine g_ist3 dX4_replace_66 rfl (by decide) (k := ?_)
            first | refine g_aload dX4_replace_67 rfl rfl ?_ | refine g_aloadR dX4_replace_67 rfl rfl ?_ | refine g_aloadN dX4_replace_67 rfl rfl ?_
            first | refine g_aload dX4_replace_69 rfl rfl ?_ | refine g_aloadR dX4_replace_69 rfl rfl ?_ | refine g_aloadN dX4_replace_69 rfl rfl ?_
            refine g_get fl_X4_102_X11 dX4_replace_71 rfl (Or.inl (by first | assumption | exact xu_eq _ _ _ | exact (xu_ne (by first | assumption | exact Ne.symm (by assumption))).trans (by first | assumption | exact xu_eq _ _ _) | exact (xu_ne (by first | assumption | exact Ne.symm (by assumption))).trans ((xu_ne (by first | assumption | exact Ne.symm (by assumption))).trans (by first | assumption | exact xu_eq _ _ _)) | exact (xu_ne (by first | assumption | exact Ne.symm (by assumption))).trans ((xu_ne (by first | assumption | exact Ne.symm (by assumption))).trans ((xu_ne (by first | assumption | exact Ne.symm (by assumption))).trans (by first | assumption | exact xu_eq _ _ _))))) rfl ?_
            refine g_iload_n dX4_replace_74 rfl rfl rfl ?_
            refine g_icmpn_ne (tgt := 82) dX4_replace_75 (by decide) rfl (by omega) (by omega) (fun c_75 => ?_) (fun c_75 => by omega)
            first | refine g_aload dX4_replace_82 rfl rfl ?_ | refine g_aloadR dX4_replace_82 rfl rfl ?_ | refine g_aloadN dX4_replace_82 rfl rfl ?_
            refine g_get fl_X4_102_X11 dX4_replace_84 rfl (Or.inl (by first | assumption | exact xu_eq _ _ _ | exact (xu_ne (by first | assumption | exact Ne.symm (by assumption))).trans (by first | assumption | exact xu_eq _ _ _) | exact (xu_ne (by first | assumption | exact Ne.symm (by assumption))).trans ((xu_ne (by first | assumption | exact Ne.symm (by assumption))).trans (by first | assumption | exact xu_eq _ _ _)) | exact (xu_ne (by first | assumption | exact Ne.symm (by assumption))).trans ((xu_ne (by first | assumption | exact Ne.symm (by assumption))).trans ((xu_ne (by first | assumption | exact Ne.symm (by assumption))).trans (by first | assumption | exact xu_eq _ _ _))))) rfl ?_
            refine g_put1 fl_X4_102_X11 dX4_replace_87 rfl hx1 (nI_nch hc0) (nI_fch hc0) ?_
            refine g_goto (tgt := 144) dX4_replace_90 (by decide) ?_
            refine g_fg _ ?_ (go _ hS2 hF2)
            exact ⟨rfl, rfl, rfl, rfl, rfl, trivial⟩
        · have hNe2 : M = N1 ++ (sI k x r o p A B ++ N3) := hNe
          have hT2 := hT; rw [hNe2] at hT2
          obtain ⟨e1, e2, eA, eB, ⟨rs, rd, e3⟩, e4, ⟨ca, e5⟩, e6⟩ := dt_str hT2 hN1 hbA hbB hb
          have hht : hts M = max (hts N1) (max (1 + max (hts A) (if k = 1 then hts B else 0)) (hts N3)) := by
            rw [hNe2, hts_app hN1 (bd_app (bd_sI hbA hbB) hb), hts_app (bd_sI hbA hbB) hb, hts_sI hbA hbB]
          have hlen2 : M.length = N1.length + (A.length + 2 + (if k = 1 then B.length + 1 else 0)) + N3.length := by
            rw [hNe2, List.length_append, List.length_append, sI_len]; omega
          have hgt : (drs r M)[(drs r N1).length]? = some x := by rw [hNe2, e1]; exact at_mid _ _ _
          have hdl : (drs r M).length = (drs r N1).length + ((drs r N3).length + 1) := by rw [hNe2, e1]; simp
          have esi : itm (sI k x r o p A B) = x :: (itm A ++ if k = 1 then itm B else []) := itm_sI ..
          have hdA : ∀ i ∈ itm A, i ∉ itm N1 := fun i hi hx => hit.2.2 i hx i (by rw [itm_app, esi]; simp [hi]) rfl
          have hxN : x ∉ itm N1 := fun hx => hit.2.2 x hx x (by rw [itm_app, esi]; simp) rfl
          have e3' : uR T.2.1 c e (itm N1) x = some (.inr (k, o, p, rs, rd)) := (uR_out hxN).trans e3
          have hci := sm_castI (T := (T.1, uR T.2.1 c e (itm N1), T.2.2)) hS (i := x) (fun hn => by have hn2 := e3'.symm.trans hn; cases hn2)
          obtain ⟨sa, bx2, f, hx1, hsa, hfp, hfq, -⟩ := sm_str (T := (T.1, uR T.2.1 c e (itm N1), T.2.2)) hS e3'
          obtain ⟨lo, ao, bo, mo, ho, -⟩ := sm_row (T := (T.1, uR T.2.1 c e (itm N1), T.2.2)) hS e5
          have hcA := ih A o m1 _ (by omega) hS (dt_K (K := uR T.2.1 c e (itm N1)) eA (fun i hi => uR_out (hdA i hi))) (d - 1) (by omega)
          have fin : ∀ m2, SM w g m2 id (T.1, uR T.2.1 c e (itm N1 ++ (itm A ++ if k = 1 then itm B else [])), T.2.2) → Fr id g m1 g m2 → G w MX4_replace (xZ w (rpP w g id T c e M m) xN) d 0 0 144 [some (.ref r), some (.int (nI c)), some (.int (nI e)), some (.int (nI (s + (cnC c A + if k = 1 then cnC c B else 0)))), some (.int (nI (drs r N1).length)), none, none, none, none] [] m2 := by
            intro m2 hS2 hF2
            have hcs : s + (cnC c A + if k = 1 then cnC c B else 0) + cnC c N3 = cnC c M := by rw [← hs, cnC_app, cnC_sI]; omega
            have hlN : N3.length ≤ l := by rw [List.length_append, sI_len] at hl; omega
            have hes : drs r (N1 ++ sI k x r o p A B) = drs r N1 ++ [x] := by rw [drs_app, e2]
            generalize hu : (cnC c A + if k = 1 then cnC c B else 0) = u at *
            clear hht hlen2 hl
            refine g_incn4 dX4_replace_144 rfl (by decide) (k := ?_)
            refine g_goto (tgt := 5) dX4_replace_147 (by decide) ?_
            have := il N3 hlN (N1 ++ sI k x r o p A B) (s + u) m2 (by rw [hNe]; simp) (bd_app hN1 (bd_sI hbA hbB)) hb hcs (by rw [itm_app, esi, uR_skip _ _ e3]; exact hS2) (Fr_tr hF hF2)
            rw [hes] at this
            simp only [List.length_append, List.length_cons, List.length_nil] at this
            exact this
          have hB1 : k = 1 → (∀ i ∈ itm B, i ∉ itm N1 ++ itm A) ∧ B.length ≤ n ∧ 4 + hts B ≤ d - 1 := by
            intro hk
            rw [if_pos hk] at hht hlen2 esi
            refine ⟨fun i hi hx => ?_, by omega, by omega⟩
            rcases List.mem_append.mp hx with hx | hx
            · exact hit.2.2 i hx i (by rw [itm_app, esi]; simp [hi]) rfl
            · have hn := hit.2.1
              rw [itm_app, esi, List.nodup_append, List.nodup_cons, List.nodup_append] at hn
              exact hn.1.2.2.2 i hx i hi rfl
          clear hht hlen2 hl
          refine g_iload dX4_replace_5 rfl rfl ?_
          first | refine g_aload_n dX4_replace_7 rfl rfl rfl ?_ | refine g_aload_nR dX4_replace_7 rfl rfl rfl ?_ | refine g_aload_nN dX4_replace_7 rfl rfl rfl ?_
          refine g_get fl_X4_12_X4 dX4_replace_8 rfl (Or.inl (by first | assumption | exact xu_eq _ _ _ | exact (xu_ne (by first | assumption | exact Ne.symm (by assumption))).trans (by first | assumption | exact xu_eq _ _ _) | exact (xu_ne (by first | assumption | exact Ne.symm (by assumption))).trans ((xu_ne (by first | assumption | exact Ne.symm (by assumption))).trans (by first | assumption | exact xu_eq _ _ _)) | exact (xu_ne (by first | assumption | exact Ne.symm (by assumption))).trans ((xu_ne (by first | assumption | exact Ne.symm (by assumption))).trans ((xu_ne (by first | assumption | exact Ne.symm (by assumption))).trans (by first | assumption | exact xu_eq _ _ _))))) rfl ?_
          refine g_ifaceP iI_J26_size_J26 q1479 (c_size (d := d - 1) (by omega) hA) (Or.inl (by first | assumption | exact xu_eq _ _ _ | exact (xu_ne (by first | assumption | exact Ne.symm (by assumption))).trans (by first | assumption | exact xu_eq _ _ _) | exact (xu_ne (by first | assumption | exact Ne.symm (by assumption))).trans ((xu_ne (by first | assumption | exact Ne.symm (by assumption))).trans (by first | assumption | exact xu_eq _ _ _)) | exact (xu_ne (by first | assumption | exact Ne.symm (by assumption))).trans ((xu_ne (by first | assumption | exact Ne.symm (by assumption))).trans ((xu_ne (by first | assumption | exact Ne.symm (by assumption))).trans (by first | assumption | exact xu_eq _ _ _))))) rfl (by decide) dX4_replace_11 rfl rfl rfl (by first | exact Nat.le_of_ble_eq_true rfl | simp [Value.category, rf_cat]) (by omega) xN_no ?_
          refine g_icmpn_ge (tgt := 150) dX4_replace_16 (by decide) rfl (by omega) (by omega) (fun c_16 => by omega) (fun c_16 => ?_)
          first | refine g_aload_n dX4_replace_19 rfl rfl rfl ?_ | refine g_aload_nR dX4_replace_19 rfl rfl rfl ?_ | refine g_aload_nN dX4_replace_19 rfl rfl rfl ?_
          refine g_get fl_X4_12_X4 dX4_replace_20 rfl (Or.inl (by first | assumption | exact xu_eq _ _ _ | exact (xu_ne (by first | assumption | exact Ne.symm (by assumption))).trans (by first | assumption | exact xu_eq _ _ _) | exact (xu_ne (by first | assumption | exact Ne.symm (by assumption))).trans ((xu_ne (by first | assumption | exact Ne.symm (by assumption))).trans (by first | assumption | exact xu_eq _ _ _)) | exact (xu_ne (by first | assumption | exact Ne.symm (by assumption))).trans ((xu_ne (by first | assumption | exact Ne.symm (by assumption))).trans ((xu_ne (by first | assumption | exact Ne.symm (by assumption))).trans (by first | assumption | exact xu_eq _ _ _))))) rfl ?_
          refine g_iload dX4_replace_23 rfl rfl ?_
          refine g_ifaceP iI_J26_get_J26 q1552 (c_get (d := d - 1) (by omega) hA hgt) (Or.inl (by first | assumption | exact xu_eq _ _ _ | exact (xu_ne (by first | assumption | exact Ne.symm (by assumption))).trans (by first | assumption | exact xu_eq _ _ _) | exact (xu_ne (by first | assumption | exact Ne.symm (by assumption))).trans ((xu_ne (by first | assumption | exact Ne.symm (by assumption))).trans (by first | assumption | exact xu_eq _ _ _)) | exact (xu_ne (by first | assumption | exact Ne.symm (by assumption))).trans ((xu_ne (by first | assumption | exact Ne.symm (by assumption))).trans ((xu_ne (by first | assumption | exact Ne.symm (by assumption))).trans (by first | assumption | exact xu_eq _ _ _))))) rfl (by decide) dX4_replace_25 rfl rfl rfl (by first | exact Nat.le_of_ble_eq_true rfl | simp [Value.category, rf_cat]) (by omega) xN_no ?_
          refine g_castI q1473 dX4_replace_30 rfl (by assumption) ?_
          first | refine g_ast5 dX4_replace_33 rfl (by decide) (k := ?_) | refine g_astR5 dX4_replace_33 rfl (by decide) (k := ?_) | refine g_astN5 dX4_replace_33 rfl (by decide) (k := ?_)
          first | refine g_aload dX4_replace_35 rfl rfl ?_ | refine g_aloadR dX4_replace_35 rfl rfl ?_ | refine g_aloadN dX4_replace_35 rfl rfl ?_
          refine g_instN q2265 xc_X9.1 (by decide) (xnc (by decide)) dX4_replace_37 rfl (by first | assumption | exact Or.inl (by first | assumption | exact xu_eq _ _ _ | exact (xu_ne (by first | assumption | exact Ne.symm (by assumption))).trans (by first | assumption | exact xu_eq _ _ _) | exact (xu_ne (by first | assumption | exact Ne.symm (by assumption))).trans ((xu_ne (by first | assumption | exact Ne.symm (by assumption))).trans (by first | assumption | exact xu_eq _ _ _)) | exact (xu_ne (by first | assumption | exact Ne.symm (by assumption))).trans ((xu_ne (by first | assumption | exact Ne.symm (by assumption))).trans ((xu_ne (by first | assumption | exact Ne.symm (by assumption))).trans (by first | assumption | exact xu_eq _ _ _))))) ?_
          refine g_ifn_eq (tgt := 93) dX4_replace_40 (by decide) rfl (by omega) (fun _ => ?_) (fun c_40 => by omega)
          first | refine g_aload dX4_replace_93 rfl rfl ?_ | refine g_aloadR dX4_replace_93 rfl rfl ?_ | refine g_aloadN dX4_replace_93 rfl rfl ?_
          refine g_instY q1553 xc_X9.1 (by decide) rfl dX4_replace_95 rfl (by first | assumption | exact Or.inl (by first | assumption | exact xu_eq _ _ _ | exact (xu_ne (by first | assumption | exact Ne.symm (by assumption))).trans (by first | assumption | exact xu_eq _ _ _) | exact (xu_ne (by first | assumption | exact Ne.symm (by assumption))).trans ((xu_ne (by first | assumption | exact Ne.symm (by assumption))).trans (by first | assumption | exact xu_eq _ _ _)) | exact (xu_ne (by first | assumption | exact Ne.symm (by assumption))).trans ((xu_ne (by first | assumption | exact Ne.symm (by assumption))).trans ((xu_ne (by first | assumption | exact Ne.symm (by assumption))).trans (by first | assumption | exact xu_eq _ _ _))))) ?_
          refine g_ifn_eq (tgt := 144) dX4_replace_98 (by decide) rfl (by omega) (fun c_98 => by omega) (fun _ => ?_)
          first | refine g_aload dX4_replace_101 rfl rfl ?_ | refine g_aloadR dX4_replace_101 rfl rfl ?_ | refine g_aloadN dX4_replace_101 rfl rfl ?_
          refine g_castO q1553 xc_X9.1 (by decide) (Or.inl rfl) dX4_replace_103 rfl (by first | assumption | exact Or.inl (by first | assumption | exact xu_eq _ _ _ | exact (xu_ne (by first | assumption | exact Ne.symm (by assumption))).trans (by first | assumption | exact xu_eq _ _ _) | exact (xu_ne (by first | assumption | exact Ne.symm (by assumption))).trans ((xu_ne (by first | assumption | exact Ne.symm (by assumption))).trans (by first | assumption | exact xu_eq _ _ _)) | exact (xu_ne (by first | assumption | exact Ne.symm (by assumption))).trans ((xu_ne (by first | assumption | exact Ne.symm (by assumption))).trans ((xu_ne (by first | assumption | exact Ne.symm (by assumption))).trans (by first | assumption | exact xu_eq _ _ _))))) ?_
          first | refine g_ast7 dX4_replace_106 rfl (by decide) (k := ?_) | refine g_astR7 dX4_replace_106 rfl (by decide) (k := ?_) | refine g_astN7 dX4_replace_106 rfl (by decide) (k := ?_)
          refine g_iconst (v := (nI 0)) dX4_replace_108 rfl rfl ?_
          refine g_ist8 dX4_replace_109 rfl (by decide) (k := ?_)
          refine l_rsl (by omega) hx1 hsa (by split <;> omega) (by split <;> omega) hfp ho hcA (fun m2 hS2 hF2 => ?_)
          replace hS2 : SM w g m2 id (T.1, uR (uR T.2.1 c e (itm N1)) c e (itm A), T.2.2) := hS2
          rw [uR_uR] at hS2
          by_cases hk : k = 1
          · simp only [if_pos hk] at fin
            obtain ⟨b1, b2, b3⟩ := hB1 hk
            obtain ⟨-, cb, e8⟩ := e6 hk
            have e3a : uR T.2.1 c e (itm N1 ++ itm A) x = some (.inr (k, o, p, rs, rd)) := by
              unfold uR; rw [e3, if_neg (fun hh => by cases hh.2)]
            obtain ⟨sa2, bx3, f2, hx2, hsa2, hfp2, hfq2, -⟩ := sm_str (T := (T.1, uR T.2.1 c e (itm N1 ++ itm A), T.2.2)) hS2 e3a
            obtain ⟨lo2, ao2, bo2, mo2, ho2, -⟩ := sm_row (T := (T.1, uR T.2.1 c e (itm N1 ++ itm A), T.2.2)) hS2 e8
            have hcB := ih B p m2 _ b2 hS2 (dt_K (K := uR T.2.1 c e (itm N1 ++ itm A)) (eB hk) (fun i hi => uR_out (b1 i hi))) (d - 1) b3
            rw [if_pos hk] at hsa2
            refine l_rsl (by omega) hx2 hsa2 (by omega) (by omega) (hfq2 hk) ho2 hcB (fun m3 hS3 hF3 => ?_)
            replace hS3 : SM w g m3 id (T.1, uR (uR T.2.1 c e (itm N1 ++ itm A)) c e (itm B), T.2.2) := hS3
            rw [uR_uR, List.append_assoc] at hS3
            obtain ⟨sa3, bx4, f3, hx3, hsa3, -⟩ := sm_str (T := (T.1, uR T.2.1 c e (itm N1 ++ (itm A ++ itm B)), T.2.2)) hS3 (i := x) (by
              show uR T.2.1 c e (itm N1 ++ (itm A ++ itm B)) x = some (.inr (k, o, p, rs, rd))
              unfold uR; rw [e3, if_neg (fun hh => by cases hh.2)])
            rw [if_pos hk] at hsa3
            refine l_rsx (n := 0 + 1 + 1) hx3 hsa3 (by omega) ?_
            rw [Nat.add_assoc s]
            exact fin m3 hS3 (Fr_tr hF2 hF3)
          · simp only [if_neg hk, Nat.add_zero, List.append_nil] at fin
            have e3a : uR T.2.1 c e (itm N1 ++ itm A) x = some (.inr (k, o, p, rs, rd)) := by
              unfold uR; rw [e3, if_neg (fun hh => by cases hh.2)]
            obtain ⟨sa2, bx3, f2, hx2, hsa2, hfp2, hfq2, -⟩ := sm_str (T := (T.1, uR T.2.1 c e (itm N1 ++ itm A), T.2.2)) hS2 e3a
            rw [if_neg hk] at hsa2
            refine l_rsx (n := 0 + 1) hx2 hsa2 (by omega) ?_
            exact fin m2 hS2 hF2
    refine g_iconst (v := (nI 0)) dX4_replace_0 rfl rfl ?_
    refine g_ist3 dX4_replace_1 rfl (by decide) (k := ?_)
    refine g_iconst (v := (nI 0)) dX4_replace_2 rfl rfl ?_
    refine g_ist4 dX4_replace_3 rfl (by decide) (k := ?_)
    refine g_fg _ ?_ (loop M.length M (Nat.le_refl _) [] 0 m rfl (bd_nil r) hT.1 (by omega) (by rw [show itm [] = [] from rfl, uR_nil]; exact h) (Fr_rf _ _ _))
    exact ⟨rfl, rfl, rfl, rfl, rfl, trivial⟩
/-- an element replaced -/
def rpE (c e : Nat) : XE → XE
  | .inl (c', i, r) => .inl (if c' = c then e else c', i, r)
  | x => x
theorem rp_stp (c e : Nat) (S : XK) (x : XE) : stp S (rpE c e x) = stp S x := by
  obtain ⟨c', i, r⟩ | y := x
  · cases S <;> rfl
  · rfl
theorem rp_scn (c e : Nat) (S : XK) (L : List XE) : scn S (L.map (rpE c e)) = scn S L := by
  induction L generalizing S with
  | nil => rfl
  | cons x L ih =>
    rw [List.map_cons, scn_cons, scn_cons, rp_stp]
    cases stp S x with
    | none => rfl
    | some S' => exact ih S'
theorem rp_opn (c e : Nat) (L : List XE) : opn (L.map (rpE c e)) = opn L := by
  induction L with
  | nil => rfl
  | cons x L ih =>
    obtain ⟨c', i, r⟩ | ⟨k, i, r, o, p⟩ | b := x
    · exact ih
    · show (if k = 1 then o :: p :: opn (L.map (rpE c e)) else o :: opn (L.map (rpE c e))) = _
      rw [ih]; rfl
    · exact ih
theorem rp_itm (c e : Nat) (L : List XE) : itm (L.map (rpE c e)) = itm L := by
  induction L with
  | nil => rfl
  | cons x L ih =>
    obtain ⟨c', i, r⟩ | ⟨k, i, r, o, p⟩ | b := x
    · show i :: itm (L.map (rpE c e)) = i :: itm L; rw [ih]
    · show i :: itm (L.map (rpE c e)) = i :: itm L; rw [ih]
    · exact ih
theorem rp_drs (c e s : Nat) (L : List XE) : drs s (L.map (rpE c e)) = drs s L := by
  induction L with
  | nil => rfl
  | cons x L ih =>
    obtain ⟨c', i, r⟩ | ⟨k, i, r, o, p⟩ | b := x
    · show (if r = s then i :: drs s (L.map (rpE c e)) else drs s (L.map (rpE c e))) = _
      rw [ih]; rfl
    · show (if r = s then i :: drs s (L.map (rpE c e)) else drs s (L.map (rpE c e))) = _
      rw [ih]; rfl
    · exact ih
theorem dt_rep {T : XT} {r c e : Nat} {M : List XE} (h : DT T r M) : DT (T.1, uR T.2.1 c e (itm M), T.2.2) r (M.map (rpE c e)) := by
  obtain ⟨h1, h2, h3, h4, h5⟩ := h
  refine ⟨by unfold Bd; rw [rp_scn]; exact h1, by rw [rp_opn]; exact h2, by rw [rp_itm]; exact h3, fun s hs => ?_, fun x hx => ?_⟩
  · rw [rp_opn] at hs; rw [rp_drs]; exact h4 s hs
  · obtain ⟨y, hy, rfl⟩ := List.mem_map.mp hx
    have e0 := h5 y hy
    have hin : ∀ i, i ∈ itm [y] → i ∈ itm M := by
      intro i hi
      obtain ⟨A, B, rfl⟩ := List.append_of_mem hy
      rw [itm_app, show y :: B = [y] ++ B from rfl, itm_app]
      exact List.mem_append_right _ (List.mem_append_left _ hi)
    obtain ⟨c', i, r'⟩ | ⟨k, i, r', o, p⟩ | b := y
    · refine ⟨?_, e0.2⟩
      show uR T.2.1 c e (itm M) i = some (.inl (if c' = c then e else c'))
      unfold uR
      have hi := hin i (by simp [itm])
      by_cases hc : c' = c
      · rw [if_pos hc, if_pos ⟨hi, by rw [e0.1, hc]⟩]
      · rw [if_neg hc, if_neg (fun hh => hc (by have := e0.1.symm.trans hh.2; cases this; rfl))]; exact e0.1
    · obtain ⟨⟨rs, rd, a1⟩, a2⟩ := e0
      refine ⟨⟨rs, rd, ?_⟩, a2⟩
      show uR T.2.1 c e (itm M) i = _
      unfold uR
      rw [if_neg (fun hh => by have := a1.symm.trans hh.2; cases this)]; exact a1
    · trivial
end REPL
