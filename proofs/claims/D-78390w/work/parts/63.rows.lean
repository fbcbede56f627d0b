/-! ROWS, SYMBOLS: what changes them -/
set_option maxRecDepth 100000
theorem AL_u {w : XW} {m : XM} {la ar cap b : Nat} {is : List Nat} {e : va_E} (h : AL w m la ar cap is) (h1 : b ≠ la) (h2 : cap ≠ 0 → b ≠ ar) : AL w (xu m b e) la ar cap is := by
  obtain ⟨mc, f, k1, k2, k3, k4, k5⟩ := h
  refine ⟨mc, f, (xu_ne h1.symm).trans k1, k2, k3, k4, ?_⟩
  rcases k5 with k5 | ⟨k5, k6⟩
  · exact Or.inl k5
  · exact Or.inr ⟨k5, (xu_ne (h2 (by omega)).symm).trans k6⟩
theorem sm_item {w : XW} {g : XG} {m : XM} {id : Nat} {T : XT} (h : SM w g m id T) {i : Nat} (hi : T.2.1 i ≠ none) : ∃ ci fs, m i = some (.inr (ci, va_rf (T.2.2 i) :: fs)) ∧ (ci = 7 ∨ ci = 9) := by
  cases e : T.2.1 i with
  | none => exact absurd e hi
  | some v =>
    obtain ⟨h1, h2⟩ := h.2 i v e
    cases v with
    | inl c => exact ⟨_, _, h2.1, Or.inr rfl⟩
    | inr v => obtain ⟨k, p, q, rs, rd⟩ := v; obtain ⟨sa, bx, f, a1, -⟩ := h2; exact ⟨_, _, a1, Or.inl rfl⟩
theorem al_la {w : XW} {m : XM} {la ar cap : Nat} {is : List Nat} (h : AL w m la ar cap is) : m la ≠ none := by
  obtain ⟨mc, f, k1, -⟩ := h
  rw [k1]; exact fun h => by cases h
theorem al_ar {w : XW} {m : XM} {la ar cap : Nat} {is : List Nat} (h : AL w m la ar cap is) (hc : cap ≠ 0) : m ar ≠ none := by
  obtain ⟨mc, f, k1, k2, k3, k4, k5⟩ := h
  rcases k5 with ⟨k5, -⟩ | ⟨k5, k6⟩
  · exact absurd k5 hc
  · rw [k6]; exact fun h => by cases h
theorem al_len {w : XW} {m : XM} {la ar cap : Nat} {is : List Nat} (h : AL w m la ar cap is) : is.length ≤ cap ∧ cap ≤ 400 := by
  obtain ⟨mc, f, k1, k2, k3, k4, k5⟩ := h
  exact ⟨k2, k3⟩
section ROWS
variable {w : XW} {g : XG} {m : XM} {id d : Nat} {T : XT}
theorem sm_len (h : SM w g m id T) {r : Nat} {v : XR} (hr : T.1 r = some v) : v.2.2.2.length ≤ v.2.2.1 ∧ v.2.2.1 ≤ 400 := by
  obtain ⟨⟨la, ar, bx, h1, hA, -⟩, -⟩ := h.1 r v hr
  exact al_len hA
theorem c_rinit {a : Nat} (hd : 5 ≤ d) (h : SM w g m id T) (hn : m a = none) : CT w MX4_init d 1 3 [.ref a] (xu m a (.inr (3, [.null, .null, .int 0, .null]))) (fun v m' => none = v ∧ ∃ g', SM w g' m' id (uF T.1 a (some (none, 0, 0, [])), T.2) ∧ Fr id g m g' m' ∧ m' a ≠ none ∧ ∀ b, m b ≠ none → m' b = m b) xN := by
  refine ct_intro (lv := [some (.ref a)]) 0 (by decide) rfl (Nat.le_of_ble_eq_true rfl) rfl ?_
  first | refine g_aload_n dX4_init_0 rfl rfl rfl ?_ | refine g_aload_nR dX4_init_0 rfl rfl rfl ?_ | refine g_aload_nN dX4_init_0 rfl rfl rfl ?_
  refine g_objInit q1160 q110 q111 dX4_init_1 rfl (by omega) (by first | exact Nat.le_of_ble_eq_true rfl | simp [Value.category, rf_cat]) ?_
  first | refine g_aload_n dX4_init_4 rfl rfl rfl ?_ | refine g_aload_nR dX4_init_4 rfl rfl rfl ?_ | refine g_aload_nN dX4_init_4 rfl rfl rfl ?_
  refine g_new nw_X4_9 dX4_init_5 rfl (by omega) (by omega) (fun a_5 hno_5 hb_5 => ?_)
  refine g_dup dX4_init_8 rfl (by first | rfl | exact rf_cat _) ?_
  refine g_ctor iC_J26_init q1163 (c_init (d := d - 1) (by omega) (xu_eq _ _ _)) dX4_init_9 rfl rfl rfl (by first | exact Nat.le_of_ble_eq_true rfl | simp [Value.category, rf_cat]) (by omega) (by omega) (by omega) xN_no (fun v_9 m_9 h_9 => ?_)
  obtain ⟨rfl, rfl, hA⟩ := h_9
  have hne : a_5 ≠ a := fun e => by subst e; rw [xu_eq] at hno_5; cases hno_5
  have hn5 : m a_5 = none := by rw [xu_ne hne] at hno_5; exact hno_5
  refine g_putF0 ff_X4_12_X4 rfl dX4_init_12 rfl ((xu_ne hne.symm).trans ((xu_ne hne.symm).trans (xu_eq _ _ _))) rfl rfl ?_
  refine g_return dX4_init_15 rfl ⟨rfl, uF (uF g a (id, 0, a)) a_5 (id, 1, a), sm_addR (sm_old (fun b hb => ?_) h) ⟨a_5, xad w 0, none, xu_eq _ _ _, AL_u hA hne.symm (fun h => absurd rfl h), ?_, uF_eq _ _ _, fun h => absurd rfl h⟩ (by simp), ⟨fun b hb => ?_, fun b hb h2 => ?_⟩, ?_, fun b hb => ?_⟩
  · have n1 : b ≠ a := fun e => by subst e; exact hb hn
    have n2 : b ≠ a_5 := fun e => by subst e; exact hb hn5
    exact ⟨by rw [xu_ne n1, xu_ne n2, xu_ne n2, xu_ne n1], by rw [uF_ne n2, uF_ne n1]⟩
  · rw [uF_ne hne.symm, uF_eq]
  · have n1 : b ≠ a := fun e => by subst e; exact hb hn
    have n2 : b ≠ a_5 := fun e => by subst e; exact hb hn5
    rw [xu_ne n1, xu_ne n2, xu_ne n2, xu_ne n1, uF_ne n2, uF_ne n1]
    exact ⟨rfl, hb, fun _ => rfl⟩
  · by_cases e1 : b = a_5
    · subst e1; rw [uF_eq]
    · by_cases e2 : b = a
      · subst e2; rw [uF_ne e1, uF_eq]
      · rw [xu_ne e2, xu_ne e1, xu_ne e1, xu_ne e2] at h2; exact absurd hb h2
  · rw [xu_eq]; exact fun h => by cases h
  · have n1 : b ≠ a := fun e => by subst e; exact hb hn
    have n2 : b ≠ a_5 := fun e => by subst e; exact hb hn5
    rw [xu_ne n1, xu_ne n2, xu_ne n2, xu_ne n1]
/-- insert(i, x) -/
theorem c_insert {r x i sl cap : Nat} {own : Option Nat} {is : List Nat} (hd : 8 ≤ d) (h : SM w g m id T) (hR : T.1 r = some (own, sl, cap, is)) (hi : i ≤ is.length) (hl : is.length ≤ 250) (hx : T.2.1 x ≠ none) :
    CT w MX4_insert d 1 (alS is.length cap) [.ref r, .int (nI i), .ref x] m (fun v m' => none = v ∧ ∃ g', SM w g' m' id (uF T.1 r (some (own, sl, alN is.length cap, insN is i x)), T.2.1, uF T.2.2 x (some r)) ∧ Fr id g m g' m') xN := by
  obtain ⟨⟨la, ar, bx, h1, hA, h3, h4, h5⟩, hz⟩ := h.1 r _ hR
  simp only at h1 hA h5 hz
  refine ct_intro (lv := [some (.ref r), some (.int (nI i)), some (.ref x)]) 0 (by decide) rfl (Nat.le_of_ble_eq_true rfl) rfl ?_
  have hA0 := hA
  obtain ⟨mc, f, k1, -⟩ := hA0
  first | refine g_aload_n dX4_insert_0 rfl rfl rfl ?_ | refine g_aload_nR dX4_insert_0 rfl rfl rfl ?_ | refine g_aload_nN dX4_insert_0 rfl rfl rfl ?_
  refine g_get fl_X4_12_X4 dX4_insert_1 rfl (Or.inl (by first | assumption | exact xu_eq _ _ _ | exact (xu_ne (by first | assumption | exact Ne.symm (by assumption))).trans (by first | assumption | exact xu_eq _ _ _) | exact (xu_ne (by first | assumption | exact Ne.symm (by assumption))).trans ((xu_ne (by first | assumption | exact Ne.symm (by assumption))).trans (by first | assumption | exact xu_eq _ _ _)) | exact (xu_ne (by first | assumption | exact Ne.symm (by assumption))).trans ((xu_ne (by first | assumption | exact Ne.symm (by assumption))).trans ((xu_ne (by first | assumption | exact Ne.symm (by assumption))).trans (by first | assumption | exact xu_eq _ _ _))))) rfl ?_
  refine g_iload_n dX4_insert_4 rfl rfl rfl ?_
  first | refine g_aload_n dX4_insert_5 rfl rfl rfl ?_ | refine g_aload_nR dX4_insert_5 rfl rfl rfl ?_ | refine g_aload_nN dX4_insert_5 rfl rfl rfl ?_
  refine g_iface iI_J26_add_J26 q1485 (c_add (d := d - 1) (by omega) hA hi hl (fun z hq => sm_xob h (hz z hq)) (sm_xob h hx)) (Or.inl (by first | assumption | exact xu_eq _ _ _ | exact (xu_ne (by first | assumption | exact Ne.symm (by assumption))).trans (by first | assumption | exact xu_eq _ _ _) | exact (xu_ne (by first | assumption | exact Ne.symm (by assumption))).trans ((xu_ne (by first | assumption | exact Ne.symm (by assumption))).trans (by first | assumption | exact xu_eq _ _ _)) | exact (xu_ne (by first | assumption | exact Ne.symm (by assumption))).trans ((xu_ne (by first | assumption | exact Ne.symm (by assumption))).trans ((xu_ne (by first | assumption | exact Ne.symm (by assumption))).trans (by first | assumption | exact xu_eq _ _ _))))) rfl (by decide) dX4_insert_6 rfl rfl rfl (by first | exact Nat.le_of_ble_eq_true rfl | simp [Value.category, rf_cat]) (by omega) (by omega) (by omega) xN_no (fun v_6 m_6 h_6 => ?_)
  obtain ⟨rfl, ar', hA', hK, har, hn', hob⟩ := h_6
  obtain ⟨g1, hS1, hF1⟩ := sm_list h hR h1 h4 h5 (al_la hA) hA' hK (fun a ha => by
    unfold alF at ha
    rcases List.mem_cons.mp ha with rfl | ha
    · exact Or.inl rfl
    · split at ha
      · simp at ha
      · have := (al_len hA).1
        exact Or.inr ⟨by simpa using ha, by omega⟩) (by
    rcases har with ⟨rfl, hc⟩ | har
    · exact Or.inr (Or.inl ⟨rfl, hc, al_ar hA hc⟩)
    · exact Or.inr (Or.inr har)) (fun z hq => by
    unfold insN at hq
    rcases List.mem_append.mp hq with hq | hq
    · exact hz z (List.mem_of_mem_take hq)
    · rcases List.mem_cons.mp hq with rfl | hq
      · exact hx
      · exact hz z (List.mem_of_mem_drop hq))
  obtain ⟨ci, fs, hxc, hci⟩ := sm_item hS1 hx
  first | refine g_aload_n dX4_insert_11 rfl rfl rfl ?_ | refine g_aload_nR dX4_insert_11 rfl rfl rfl ?_ | refine g_aload_nN dX4_insert_11 rfl rfl rfl ?_
  first | refine g_aload_n dX4_insert_12 rfl rfl rfl ?_ | refine g_aload_nR dX4_insert_12 rfl rfl rfl ?_ | refine g_aload_nN dX4_insert_12 rfl rfl rfl ?_
  obtain ⟨hS2, hF2⟩ := sm_setW (o := some r) hS1 hx hxc
  rcases hci with rfl | rfl
  · refine g_put0 fl_X4_24_X9 dX4_insert_13 rfl hxc rfl rfl ?_
    exact g_return dX4_insert_16 rfl ⟨rfl, g1, hS2, Fr_tr hF1 hF2⟩
  · refine g_put0 fl_X4_24_X11 dX4_insert_13 rfl hxc rfl rfl ?_
    exact g_return dX4_insert_16 rfl ⟨rfl, g1, hS2, Fr_tr hF1 hF2⟩
end ROWS
/-! several steps: updates, room -/
theorem uF_uF {α : Type} (f : Nat → α) (a : Nat) (v u : α) : uF (uF f a v) a u = uF f a u := by
  funext q
  unfold uF; split <;> rfl
theorem uF_sw {α : Type} (f : Nat → α) {a b : Nat} (h : a ≠ b) (v u : α) : uF (uF f a v) b u = uF (uF f b u) a v := by
  funext q
  unfold uF
  by_cases e1 : q = b
  · subst e1; rw [if_pos rfl, if_neg h.symm, if_pos rfl]
  · rw [if_neg e1, if_neg e1]
def uW (W : Nat → Option Nat) (l : List Nat) (t : Nat) : Nat → Option Nat := fun i => if i ∈ l then some t else W i
theorem uW_nil (W : Nat → Option Nat) (t : Nat) : uW W [] t = W := by funext q; simp [uW]
theorem uW_in {W : Nat → Option Nat} {l : List Nat} {t i : Nat} (h : i ∈ l) : uW W l t i = some t := if_pos h
theorem uW_out {W : Nat → Option Nat} {l : List Nat} {t i : Nat} (h : i ∉ l) : uW W l t i = W i := if_neg h
theorem uW_snoc (W : Nat → Option Nat) (l : List Nat) (t x : Nat) : uF (uW W l t) x (some t) = uW W (l ++ [x]) t := by
  funext q
  unfold uF uW
  by_cases e : q = x
  · subst e; simp
  · simp [e]
def Psi (len cap : Nat) : Nat := 9 * len + 60 - 6 * cap
theorem al_pot {len cap : Nat} (h : len ≤ cap) : 2 * alS len cap + Psi (len + 1) (alN len cap) ≤ Psi len cap + 12 := by
  unfold alS alN Psi
  by_cases e : len = cap
  · rw [if_pos e, if_pos e]
    by_cases e0 : cap = 0
    · rw [if_pos e0]; omega
    · rw [if_neg e0]
      have : max 1 (cap / 2) ≥ 1 ∧ max 1 (cap / 2) ≥ cap / 2 ∧ (max 1 (cap / 2) = 1 ∨ max 1 (cap / 2) = cap / 2) := by omega
      omega
  · rw [if_neg e, if_neg e]; omega
theorem Psi_le {len cap : Nat} (h : len ≤ cap) : Psi len cap ≤ 3 * len + 60 := by unfold Psi; omega
theorem insN_mid (A C : List Nat) (x : Nat) : insN (A ++ C) A.length x = A ++ x :: C := by
  unfold insN; rw [List.take_left, List.drop_left]
theorem insN_end (A : List Nat) (x : Nat) : insN A A.length x = A ++ [x] := by
  unfold insN; simp
theorem rmvN_mid (A C : List Nat) (x : Nat) : rmvN (A ++ x :: C) A.length = A ++ C := by
  unfold rmvN; rw [List.take_left, ← List.drop_drop, List.drop_left]; rfl
theorem at_mid (A C : List Nat) (x : Nat) : (A ++ x :: C)[A.length]? = some x := by
  rw [List.getElem?_append_right (Nat.le_refl _), Nat.sub_self]; rfl
section CASTI
variable {w : XW} {y : XY} {Z : XZ} {d kc ks pc q : Nat} {lv : List (Option Value)} {st : List Value} {m : XM}
theorem g_castI {index a : Nat} (hl0 : Cond.classLink y.1.cls index "FormulaEditor$Item" ∈ lw_all) (hd : decode y.2.1 pc = .ok (.checkcast index, 3)) (hq : pc + 3 = q) (hm : ∃ ci fs, m a = some (.inr (ci, fs)) ∧ (ci = 7 ∨ ci = 9)) (kk : G w y Z d kc ks q lv (.ref a :: st) m) : G w y Z d kc ks pc lv (.ref a :: st) m := by
  obtain ⟨ci, fs, h1, h2⟩ := hm
  rcases h2 with rfl | rfl
  · exact g_castO hl0 xc_X9.1 (by decide) (Or.inr q2738) hd hq (Or.inl h1) kk
  · exact g_castO hl0 xc_X11.1 (by decide) (Or.inr q2739) hd hq (Or.inl h1) kk
end CASTI
section ROWS2
variable {w : XW} {g : XG} {m : XM} {id d : Nat} {T : XT}
theorem sm_castI (h : SM w g m id T) {i : Nat} (hi : T.2.1 i ≠ none) : ∃ ci fs, m i = some (.inr (ci, fs)) ∧ (ci = 7 ∨ ci = 9) := by
  obtain ⟨ci, fs, h1, h2⟩ := sm_item h hi
  exact ⟨ci, _, h1, h2⟩
theorem sm_row (h : SM w g m id T) {r sl cap : Nat} {own : Option Nat} {is : List Nat} (hR : T.1 r = some (own, sl, cap, is)) : ∃ la ar bx mc, m r = some (.inr (3, [.ref la, va_rf own, .int (nI sl), va_rf bx])) ∧ m la = some (.inr (16, [.int mc, .ref ar, .int (nI is.length)])) ∧ AL w m la ar cap is ∧ g r = (id, 0, r) ∧ g la = (id, 1, r) ∧ (cap ≠ 0 → g ar = (id, 2, r)) ∧ ∀ z ∈ is, T.2.1 z ≠ none := by
  obtain ⟨⟨la, ar, bx, h1, hA, h3, h4, h5⟩, hz⟩ := h.1 r _ hR
  have hA0 := hA
  obtain ⟨mc, f, k1, -⟩ := hA0
  exact ⟨la, ar, bx, mc, h1, k1, hA, h3, h4, h5, hz⟩
/-- add(x) -/
theorem c_radd {r x sl cap : Nat} {own : Option Nat} {is : List Nat} (hd : 9 ≤ d) (h : SM w g m id T) (hR : T.1 r = some (own, sl, cap, is)) (hl : is.length ≤ 250) (hx : T.2.1 x ≠ none) :
    CT w MX4_add d 1 (alS is.length cap) [.ref r, .ref x] m (fun v m' => none = v ∧ ∃ g', SM w g' m' id (uF T.1 r (some (own, sl, alN is.length cap, is ++ [x])), T.2.1, uF T.2.2 x (some r)) ∧ Fr id g m g' m') xN := by
  obtain ⟨la, ar, bx, mc, h1, k1, hA, h3, h4, h5, hz⟩ := sm_row h hR
  obtain ⟨ci, fs, hxc, hci⟩ := sm_item h hx
  refine ct_intro (lv := [some (.ref r), some (.ref x)]) 0 (by decide) rfl (Nat.le_of_ble_eq_true rfl) rfl ?_
  first | refine g_aload_n dX4_add_0 rfl rfl rfl ?_ | refine g_aload_nR dX4_add_0 rfl rfl rfl ?_ | refine g_aload_nN dX4_add_0 rfl rfl rfl ?_
  first | refine g_aload_n dX4_add_1 rfl rfl rfl ?_ | refine g_aload_nR dX4_add_1 rfl rfl rfl ?_ | refine g_aload_nN dX4_add_1 rfl rfl rfl ?_
  refine g_get fl_X4_12_X4 dX4_add_2 rfl (Or.inl (by first | assumption | exact xu_eq _ _ _ | exact (xu_ne (by first | assumption | exact Ne.symm (by assumption))).trans (by first | assumption | exact xu_eq _ _ _) | exact (xu_ne (by first | assumption | exact Ne.symm (by assumption))).trans ((xu_ne (by first | assumption | exact Ne.symm (by assumption))).trans (by first | assumption | exact xu_eq _ _ _)) | exact (xu_ne (by first | assumption | exact Ne.symm (by assumption))).trans ((xu_ne (by first | assumption | exact Ne.symm (by assumption))).trans ((xu_ne (by first | assumption | exact Ne.symm (by assumption))).trans (by first | assumption | exact xu_eq _ _ _))))) rfl ?_
  refine g_ifaceP iI_J26_size_J26 q1479 (c_size (d := d - 1) (by omega) hA) (Or.inl (by first | assumption | exact xu_eq _ _ _ | exact (xu_ne (by first | assumption | exact Ne.symm (by assumption))).trans (by first | assumption | exact xu_eq _ _ _) | exact (xu_ne (by first | assumption | exact Ne.symm (by assumption))).trans ((xu_ne (by first | assumption | exact Ne.symm (by assumption))).trans (by first | assumption | exact xu_eq _ _ _)) | exact (xu_ne (by first | assumption | exact Ne.symm (by assumption))).trans ((xu_ne (by first | assumption | exact Ne.symm (by assumption))).trans ((xu_ne (by first | assumption | exact Ne.symm (by assumption))).trans (by first | assumption | exact xu_eq _ _ _))))) rfl (by decide) dX4_add_5 rfl rfl rfl (by first | exact Nat.le_of_ble_eq_true rfl | simp [Value.category, rf_cat]) (by omega) xN_no ?_
  first | refine g_aload_n dX4_add_10 rfl rfl rfl ?_ | refine g_aload_nR dX4_add_10 rfl rfl rfl ?_ | refine g_aload_nN dX4_add_10 rfl rfl rfl ?_
  refine g_virtual iV_X4_insert q1480 (c_insert (d := d - 1) (by omega) h hR (Nat.le_refl _) hl hx) (Or.inl (by first | assumption | exact xu_eq _ _ _ | exact (xu_ne (by first | assumption | exact Ne.symm (by assumption))).trans (by first | assumption | exact xu_eq _ _ _) | exact (xu_ne (by first | assumption | exact Ne.symm (by assumption))).trans ((xu_ne (by first | assumption | exact Ne.symm (by assumption))).trans (by first | assumption | exact xu_eq _ _ _)) | exact (xu_ne (by first | assumption | exact Ne.symm (by assumption))).trans ((xu_ne (by first | assumption | exact Ne.symm (by assumption))).trans ((xu_ne (by first | assumption | exact Ne.symm (by assumption))).trans (by first | assumption | exact xu_eq _ _ _))))) rfl (by decide) dX4_add_11 rfl rfl rfl (by first | exact Nat.le_of_ble_eq_true rfl | simp [Value.category, rf_cat]) (by omega) (by omega) (by omega) xN_no (fun v_11 m_11 h_11 => ?_)
  obtain ⟨rfl, g1, hS1, hF1⟩ := h_11
  rw [insN_end] at hS1
  exact g_return dX4_add_14 rfl ⟨rfl, g1, hS1, hF1⟩
/-- an item is taken out of a row's list -/
theorem sm_lst (h : SM w g m id T) {r sl cap la ar : Nat} {own bx : Option Nat} {is is' : List Nat} {m' : XM} (hR : T.1 r = some (own, sl, cap, is)) (h1 : m r = some (.inr (3, [.ref la, va_rf own, .int (nI sl), va_rf bx]))) (hA : AL w m la ar cap is) (h4 : g la = (id, 1, r)) (h5 : cap ≠ 0 → g ar = (id, 2, r)) (hA' : AL w m' la ar cap is') (hK : xKeep m m' (la :: if cap = 0 then [] else [ar])) (hz : ∀ z ∈ is', T.2.1 z ≠ none) :
    ∃ g', SM w g' m' id (uF T.1 r (some (own, sl, cap, is')), T.2) ∧ Fr id g m g' m' := by
  refine sm_list h hR h1 h4 h5 (al_la hA) hA' hK (fun a ha => ?_) ?_ hz
  · rcases List.mem_cons.mp ha with rfl | ha
    · exact Or.inl rfl
    · by_cases hc : cap = 0
      · rw [if_pos hc] at ha; simp at ha
      · rw [if_neg hc] at ha; exact Or.inr ⟨by simpa using ha, hc⟩
  · by_cases hc : cap = 0
    · exact Or.inl hc
    · exact Or.inr (Or.inl ⟨rfl, hc, al_ar hA hc⟩)
end ROWS2
